section
theorem pk_us {f : Nat → Int32} {k : Nat} {x : Int32} : upd f k x k = x := if_pos rfl
theorem pk_un {f : Nat → Int32} {k j : Nat} {x : Int32} (h : j ≠ k) : upd f k x j = f j := if_neg h
theorem pk_uLs {f : Nat → Int64} {k : Nat} {x : Int64} : vp_updL f k x k = x := if_pos rfl
theorem pk_uLn {f : Nat → Int64} {k j : Nat} {x : Int64} (h : j ≠ k) : vp_updL f k x j = f j := if_neg h
theorem pk_sub {a b : Nat} (h : b ≤ a) : nI a - nI b = nI (a - b) := by
  obtain ⟨c, rfl⟩ : ∃ c, a = c + b := ⟨a - b, by omega⟩
  rw [← nI_add, Int32.add_sub_cancel, Nat.add_sub_cancel]
theorem pk_m1 (n : Nat) : nI (n + 1) + (-1) = nI n := by
  rw [← nI_1, Int32.add_assoc, show (1 : Int32) + (-1) = 0 from rfl, Int32.add_zero]
theorem pk_mul (a b : Nat) : nI a * nI b = nI (a * b) := (Int32.ofNat_mul a b).symm
theorem pk_div {a d : Nat} (ha : a < 2 ^ 31) (h0 : 0 < d) (hd : d < 2 ^ 31) : nI a / nI d = nI (a / d) := by
  apply Int32.toInt_inj.mp
  rw [lg_idiv_nonneg (by rw [nI_toInt ha]; omega) (by rw [nI_toInt hd]; omega), nI_toInt ha, nI_toInt hd, nI_toInt (Nat.lt_of_le_of_lt (Nat.div_le_self a d) ha)]
  first | rfl | exact (Int.natCast_ediv _ _).symm
theorem pk_rem {a d : Nat} (ha : a < 2 ^ 31) (h0 : 0 < d) (hd : d < 2 ^ 31) : nI a - nI a / nI d * nI d = nI (a % d) := by
  rw [pk_div ha h0 hd, pk_mul, pk_sub (Nat.div_mul_le_self a d)]
  exact congrArg nI (by have := Nat.div_add_mod' a d; omega)
theorem pk_sub_toInt {a b : Nat} (ha : a < 2 ^ 30) (hb : b < 2 ^ 30) : (nI a - nI b).toInt = (a : Int) - b := by
  rw [Int32.toInt_sub, nI_toInt (by omega), nI_toInt (by omega)]
  exact Int.bmod_eq_of_le (by omega) (by omega)
theorem pk_sneg {a b : Nat} (hb : b < 2 ^ 30) (h : a < b) : nI a - nI b < 0 := by
  rw [Int32.lt_iff_toInt_lt, pk_sub_toInt (by omega) hb, show (0 : Int32).toInt = 0 from by decide]
  omega
theorem pk_ix (x : Int32) {n : Nat} (hn : n < 2 ^ 31) : x < 0 ∨ nI n ≤ x ∨ ∃ j : Nat, j < n ∧ x = nI j := by
  by_cases h : x < 0
  · exact Or.inl h
  · obtain ⟨j, hj, rfl⟩ := nI_of h
    by_cases h2 : j < n
    · exact Or.inr (Or.inr ⟨j, h2, rfl⟩)
    · exact Or.inr (Or.inl (nI_le (by omega) hj))
theorem pk_le {x y : Int32} {A B : Prop} (a b : Nat) (f : a ≤ b → A) (g : b < a → B) (hx : x = nI a := by rfl) (hy : y = nI b := by rfl) (ha : a < 2 ^ 31 := by omega) (hb : b < 2 ^ 31 := by omega) : (x ≤ y → A) ∧ (¬ x ≤ y → B) := by
  subst hx hy
  rw [nI_leI ha hb]
  exact ⟨f, fun z => g (by omega)⟩
theorem pk_lt {x y : Int32} {A B : Prop} (a b : Nat) (f : a < b → A) (g : b ≤ a → B) (hx : x = nI a := by rfl) (hy : y = nI b := by rfl) (ha : a < 2 ^ 31 := by omega) (hb : b < 2 ^ 31 := by omega) : (x < y → A) ∧ (¬ x < y → B) := by
  subst hx hy
  rw [nI_ltI ha hb]
  exact ⟨f, fun z => g (by omega)⟩
theorem pk_eq {x y : Int32} {A B : Prop} (a b : Nat) (f : a = b → A) (g : a ≠ b → B) (hx : x = nI a := by rfl) (hy : y = nI b := by rfl) (ha : a < 2 ^ 31 := by omega) (hb : b < 2 ^ 31 := by omega) : (x = y → A) ∧ (¬ x = y → B) := by
  subst hx hy
  rw [nI_eq ha hb]
  exact ⟨f, g⟩
theorem pk_in {x : Int32} (n N : Nat) (h : n < N) (hx : x = nI n := by rfl) (hN : N < 2 ^ 31 := by omega) : vp_in x N := by
  subst hx
  exact vp_in_nI h hN
theorem pk_cl {x : Int32} (n : Nat) (hx : x = nI n := by rfl) (h : n < 2 ^ 31 := by omega) : x.toNatClampNeg = n := by
  subst hx
  exact nI_clamp h
/-! own number rows -/
theorem nu_m1 {p : Nat} (h : 0 < p) : nI p + (-1) = nI (p - 1) := by
  obtain ⟨m, rfl⟩ : ∃ m, p = m + 1 := ⟨p - 1, by omega⟩
  exact pk_m1 m
theorem nu_s1 {p : Nat} (h : 0 < p) : nI p - 1 = nI (p - 1) := by
  obtain ⟨m, rfl⟩ : ∃ m, p = m + 1 := ⟨p - 1, by omega⟩
  exact nI_pred m
theorem nu_neg {n : Nat} (h : n < 2 ^ 31) : ¬ nI n = -1 := by
  intro e
  have := nI_pos (n := n) h
  rw [e] at this
  exact this (by decide)
theorem nu_neg' {n : Nat} (h : n < 2 ^ 31) : ¬ (-1 : Int32) = nI n := fun e => nu_neg h e.symm
theorem nu_m1lt : (-1 : Int32) < 0 := by decide
theorem nu_m1le : ¬ (0 : Int32) ≤ -1 := by decide
theorem nu_z1 : (0 : Int32) + (-1) = -1 := by decide
theorem nu_zs1 : (0 : Int32) - 1 = -1 := by decide
theorem nu_in {n N : Nat} (h : n < N) (hN : N < 2 ^ 31) : vp_in (nI n) N := vp_in_nI h hN
theorem nu_cell (n t k : Nat) : (((nI n * 7) + nI t) * 7) + nI k = nI (49 * n + 7 * t + k) := by
  rw [show (7 : Int32) = nI 7 from rfl, pk_mul, nI_add, pk_mul, nI_add]
  exact congrArg nI (by omega)
theorem nu_cellY (n t k : Nat) : ((nI n * 49) + (nI t * 7)) + nI k = nI (49 * n + 7 * t + k) := by
  rw [show (7 : Int32) = nI 7 from rfl, show (49 : Int32) = nI 49 from rfl, pk_mul, pk_mul, nI_add, nI_add]
  exact congrArg nI (by omega)
theorem nu_24 (d n : Nat) : (nI d * 24) + nI n = nI (24 * d + n) := by
  rw [show (24 : Int32) = nI 24 from rfl, pk_mul, nI_add]
  exact congrArg nI (by omega)
theorem nu_m24 (d : Nat) : nI d * 24 = nI (24 * d) := by
  rw [show (24 : Int32) = nI 24 from rfl, pk_mul]
  exact congrArg nI (by omega)
theorem nu_m49 (d : Nat) : nI d * 49 = nI (49 * d) := by
  rw [show (49 : Int32) = nI 49 from rfl, pk_mul]
  exact congrArg nI (by omega)
theorem nu_le {a b : Nat} (ha : a < 2 ^ 31) (hb : b < 2 ^ 31) : nI a ≤ nI b ↔ a ≤ b := nI_leI ha hb
theorem nu_lt0 {a : Nat} (h : a < 2 ^ 31) : ¬ nI a < 0 := nI_pos h
theorem nu_inj {a b : Nat} (h : nI a = nI b) (ha : a < 2 ^ 31) (hb : b < 2 ^ 31) : a = b := (nI_eq ha hb).mp h
theorem nu_vb0 : vp_nar .boolean 0 = 0 := by decide
theorem nu_vb1 : vp_nar .boolean 1 = 1 := by decide
theorem nu_l0 {w : Int32} : w.toInt64 ≤ 0 ↔ w ≤ 0 := by
  rw [Int64.le_iff_toInt_le, Int32.le_iff_toInt_le, Int32.toInt_toInt64]
  exact Iff.rfl
theorem nu_negw {w : Int32} (h : w.toInt ≠ -2147483648) : (-w).toInt64 = -(w.toInt64) := by
  apply Int64.toInt_inj.mp
  have a := w.le_toInt
  have b := w.toInt_lt
  rw [Int32.toInt_toInt64, Int64.toInt_neg, Int32.toInt_neg, Int32.toInt_toInt64]
  rw [Int.bmod_eq_of_le (by omega) (by omega), Int.bmod_eq_of_le (by omega) (by omega)]
end
section
/-! the forest: f p the lowest number of the tree below p; arity by kind; a stack of roots -/
def fo_ar (k : Nat) : Nat := if k ≤ 1 then 0 else if k = 5 ∨ k = 6 ∨ k = 7 then 2 else 1
def fo_ok (c : Nat) (kd f : Nat → Nat) : Prop := ∀ p, p < c → f p ≤ p ∧ ((fo_ar (kd p) = 0 ∧ f p = p) ∨ (fo_ar (kd p) = 1 ∧ 1 ≤ p ∧ f p = f (p - 1)) ∨ (fo_ar (kd p) = 2 ∧ 1 ≤ p ∧ 1 ≤ f (p - 1) ∧ f p = f (f (p - 1) - 1)))
def fo_ch (kd f : Nat → Nat) (p n : Nat) : Prop := 1 ≤ p ∧ ((fo_ar (kd p) = 1 ∧ n = p - 1) ∨ (fo_ar (kd p) = 2 ∧ (n = p - 1 ∨ n + 1 = f (p - 1))))
theorem fo_lam {c : Nat} {kd f : Nat → Nat} (h : fo_ok c kd f) : ∀ q, q < c → ∀ p, p ≤ q → f q ≤ p → f q ≤ f p := by
  intro q
  induction q using Nat.strongRecOn with
  | ind q ih =>
    intro hq p hp hf
    by_cases e : p = q
    · subst e; exact Nat.le_refl _
    · obtain ⟨hle, h1 | ⟨_, h1, h2⟩ | ⟨_, h1, h2, h3⟩⟩ := h q hq
      · omega
      · rw [h2] at hf ⊢
        exact ih (q - 1) (by omega) (by omega) p (by omega) hf
      · have hl := (h (q - 1) (by omega)).1
        by_cases g : f (q - 1) ≤ p
        · have a1 := ih (q - 1) (by omega) (by omega) p (by omega) g
          have a2 := (h (f (q - 1) - 1) (by omega)).1
          omega
        · rw [h3] at hf ⊢
          exact ih (f (q - 1) - 1) (by omega) (by omega) p (by omega) hf
theorem fo_chr {c : Nat} {kd f : Nat → Nat} (h : fo_ok c kd f) {p n : Nat} (hp : p < c) (hc : fo_ch kd f p n) : f p ≤ n ∧ n < p := by
  obtain ⟨h1, hc⟩ := hc
  obtain ⟨hle, ⟨e, h2⟩ | ⟨e, h2, h3⟩ | ⟨e, h2, h3, h4⟩⟩ := h p hp
  · omega
  · have := (h (p - 1) (by omega)).1
    omega
  · have a := (h (p - 1) (by omega)).1
    have b := (h (f (p - 1) - 1) (by omega)).1
    omega
theorem fo_u1 {c : Nat} {kd f : Nat → Nat} (h : fo_ok c kd f) {p q n : Nat} (hq : q < c) (hpq : p < q) (hp : fo_ch kd f p n) (hn : fo_ch kd f q n) : False := by
  have a := fo_chr h (by omega) hp
  obtain ⟨h1, hc⟩ := hn
  by_cases e : n = q - 1
  · omega
  · have e2 : n + 1 = f (q - 1) := by omega
    have := fo_lam h (q - 1) (by omega) p (by omega) (by omega)
    omega
theorem fo_uq {c : Nat} {kd f : Nat → Nat} (h : fo_ok c kd f) {p q n : Nat} (hp : p < c) (hq : q < c) (h1 : fo_ch kd f p n) (h2 : fo_ch kd f q n) : p = q := by
  rcases Nat.lt_trichotomy p q with e | e | e
  · exact (fo_u1 h hq e h1 h2).elim
  · exact e
  · exact (fo_u1 h hp e h2 h1).elim
theorem fo_par {c : Nat} {kd f : Nat → Nat} (h : fo_ok c kd f) {n : Nat} : ∀ q, q < c → f q ≤ n → n < q → ∃ p, n < p ∧ p ≤ q ∧ fo_ch kd f p n := by
  intro q
  induction q using Nat.strongRecOn with
  | ind q ih =>
    intro hq hf hn
    obtain ⟨hle, ⟨e, h1⟩ | ⟨e, h1, h2⟩ | ⟨e, h1, h2, h3⟩⟩ := h q hq
    · omega
    · by_cases g : n = q - 1
      · exact ⟨q, hn, Nat.le_refl _, h1, Or.inl ⟨e, g⟩⟩
      · obtain ⟨p, a, b, d⟩ := ih (q - 1) (by omega) (by omega) (by omega) (by omega)
        exact ⟨p, a, by omega, d⟩
    · have hl := (h (q - 1) (by omega)).1
      by_cases g : n = q - 1
      · exact ⟨q, hn, Nat.le_refl _, h1, Or.inr ⟨e, Or.inl g⟩⟩
      · by_cases g2 : n + 1 = f (q - 1)
        · exact ⟨q, hn, Nat.le_refl _, h1, Or.inr ⟨e, Or.inr g2⟩⟩
        · by_cases g3 : f (q - 1) ≤ n
          · obtain ⟨p, a, b, d⟩ := ih (q - 1) (by omega) (by omega) g3 (by omega)
            exact ⟨p, a, by omega, d⟩
          · obtain ⟨p, a, b, d⟩ := ih (f (q - 1) - 1) (by omega) (by omega) (by omega) (by omega)
            exact ⟨p, a, by omega, d⟩
/-- the stack: s 0 .. s (h - 1), each tree ends where the next begins -/
def fo_sk (c h : Nat) (f s : Nat → Nat) : Prop := (∀ i, i < h → s i < c) ∧ (∀ i, i + 1 < h → f (s (i + 1)) = s i + 1) ∧ (0 < h → f (s 0) = 0 ∧ s (h - 1) + 1 = c) ∧ (h = 0 → c = 0)
theorem fo_mono {c h : Nat} {kd f s : Nat → Nat} (o : fo_ok c kd f) (k : fo_sk c h f s) : ∀ j i, i < j → j < h → s i < s j := by
  intro j
  induction j with
  | zero => intro i hi; omega
  | succ j ih =>
    intro i hi hj
    have a := k.2.1 j hj
    have b := (o (s (j + 1)) (k.1 _ hj)).1
    by_cases e : i = j
    · subst e; omega
    · have := ih i (by omega) (by omega)
      omega
theorem fo_seg {c h : Nat} {kd f s : Nat → Nat} (o : fo_ok c kd f) (k : fo_sk c h f s) {p : Nat} : ∀ j, j < h → p ≤ s j → ∃ i, i ≤ j ∧ f (s i) ≤ p ∧ p ≤ s i := by
  intro j
  induction j with
  | zero => intro hj hp; exact ⟨0, Nat.le_refl _, by have := (k.2.2.1 hj).1; omega, hp⟩
  | succ j ih =>
    intro hj hp
    by_cases e : f (s (j + 1)) ≤ p
    · exact ⟨j + 1, Nat.le_refl _, e, hp⟩
    · have a := k.2.1 j hj
      obtain ⟨i, x, y⟩ := ih (by omega) (by omega)
      exact ⟨i, by omega, y⟩
theorem fo_seg' {c h : Nat} {kd f s : Nat → Nat} (o : fo_ok c kd f) (k : fo_sk c h f s) {p : Nat} (hp : p < c) : ∃ i, i < h ∧ f (s i) ≤ p ∧ p ≤ s i := by
  have h0 : 0 < h := by
    rcases Nat.eq_zero_or_pos h with e | e
    · have := k.2.2.2 e; omega
    · exact e
  have a := (k.2.2.1 h0).2
  obtain ⟨i, x, y⟩ := fo_seg o k (p := p) (h - 1) (by omega) (by omega)
  exact ⟨i, by omega, y⟩
theorem fo_top {c h : Nat} {kd f s : Nat → Nat} (o : fo_ok c kd f) (k : fo_sk c h f s) {i p : Nat} (hi : i < h) (hp : p < c) (hc : fo_ch kd f p (s i)) : False := by
  have r := fo_chr o hp hc
  obtain ⟨j, hj, x, y⟩ := fo_seg' o k hp
  have l := fo_lam o (s j) (k.1 j hj) p y x
  have hij : i < j := by
    rcases Nat.lt_trichotomy i j with e | e | e
    · exact e
    · subst e; omega
    · have := fo_mono o k i j e hi; omega
  obtain ⟨m, rfl⟩ : ∃ m, j = m + 1 := ⟨j - 1, by omega⟩
  have a := k.2.1 m hj
  have : s i ≤ s m := by
    by_cases e : i = m
    · subst e; exact Nat.le_refl _
    · exact Nat.le_of_lt (fo_mono o k m i (by omega) (by omega))
  omega
theorem fo_low {c h : Nat} {kd f s : Nat → Nat} (o : fo_ok c kd f) (k : fo_sk c h f s) {n : Nat} (hn : n < c) (hs : ∀ i, i < h → s i ≠ n) : ∃ p, n < p ∧ p < c ∧ fo_ch kd f p n := by
  obtain ⟨j, hj, x, y⟩ := fo_seg' o k hn
  have := hs j hj
  obtain ⟨p, a, b, d⟩ := fo_par o (n := n) (s j) (k.1 j hj) x (by omega)
  exact ⟨p, a, by have := k.1 j hj; omega, d⟩
/-- how the arrays show the forest -/
def fo_ti (c : Nat) (kd f : Nat → Nat) (K L R F : Nat → Int32) : Prop := ∀ p, p < c → kd p ≤ 10 ∧ K p = nI (kd p) ∧ F p = nI (f p) ∧ L p = (if fo_ar (kd p) = 0 then -1 else if fo_ar (kd p) = 1 then nI (p - 1) else nI (f (p - 1) - 1)) ∧ R p = (if fo_ar (kd p) = 2 then nI (p - 1) else -1)
theorem fo_ar3 (k : Nat) : fo_ar k = 0 ∨ fo_ar k = 1 ∨ fo_ar k = 2 := by
  unfold fo_ar
  split
  · exact Or.inl rfl
  · split
    · exact Or.inr (Or.inr rfl)
    · exact Or.inr (Or.inl rfl)
theorem fo_chi {c : Nat} {kd f : Nat → Nat} {K L R F : Nat → Int32} (o : fo_ok c kd f) (ti : fo_ti c kd f K L R F) (hc : c ≤ 24) {p n : Nat} (hp : p < c) (hn : n < 24) : (L p = nI n ∨ R p = nI n) ↔ fo_ch kd f p n := by
  obtain ⟨_, _, _, hL, hR⟩ := ti p hp
  have hp1 := (o p hp).1
  have hn31 : n < 2 ^ 31 := by omega
  unfold fo_ch
  rcases o p hp with ⟨hle, ⟨e, h1⟩ | ⟨e, h1, h2⟩ | ⟨e, h1, h2, h3⟩⟩
  · rw [e, if_pos rfl] at hL
    rw [e, if_neg (by omega)] at hR
    rw [hL, hR, e]
    constructor
    · rintro (x | x) <;> exact (nu_neg' hn31 x).elim
    · omega
  · rw [e, if_neg (by omega), if_pos rfl] at hL
    rw [e, if_neg (by omega)] at hR
    rw [hL, hR, e, nI_eq (by omega) hn31]
    constructor
    · rintro (x | x)
      · omega
      · exact (nu_neg' hn31 x).elim
    · intro x; left; omega
  · have hf := (o (p - 1) (by omega)).1
    rw [e, if_neg (by omega), if_neg (by omega)] at hL
    rw [e, if_pos rfl] at hR
    rw [hL, hR, e, nI_eq (by omega) hn31, nI_eq (by omega) hn31]
    constructor
    · intro x; omega
    · intro x; omega
end
section
/-! pure: prices, worths, what a node does at a point (t, k) -/
def dt_px (P M t k : Nat) : Int32 := nI P + (nI M * ((2 * nI k) - nI t))
def dt_vv (V : Nat → Int64) (x : Int32) (t k : Nat) : Int64 := if 0 ≤ x then V (49 * x.toNatClampNeg + 7 * t + k) else 0
def dt_ex (T : Nat) (V : Nat → Int64) (n t k : Nat) : Int64 := if t < T then (V (49 * n + 7 * (t + 1) + k) + V (49 * n + 7 * (t + 1) + (k + 1))) / 2 else 0
def dt_hp (T : Nat) (V : Nat → Int64) (n t k : Nat) : Int64 := if t < T then (V (49 * n + 7 * (t + 1) + (k + 1)) - V (49 * n + 7 * (t + 1) + k)) / 2 else 0
def dt_gt (a b : Int64) : Int64 := if a ≤ b then b else a
def dt_G (T : Nat) : Int64 := (1 : Int64) <<< ((nI T).toInt64 &&& 63)
def dt_fs (pn : Int32) (a b : Int64) : Bool := decide (pn = 1) || (decide (pn = 0) && !decide (a < b))
def dt_lo (pn : Int32) (a b : Int64) : Int64 := dt_gt a b - (if dt_fs pn a b = true then a else b)
def dt_fE (T P M : Nat) (K A L R H pn : Nat → Int32) (V : Nat → Int64) (t k : Nat) (n : Nat) : Bool := dt_fs (pn n) (dt_vv V (L n) t k) (dt_vv V (R n) t k)
def dt_fA (T P M : Nat) (K A L R H pn : Nat → Int32) (V : Nat → Int64) (t k : Nat) (n : Nat) : Bool := dt_fs (pn n) (dt_vv V (L n) t k) (dt_ex T V n t k)
def dt_st (T P M : Nat) (K A L R H pn : Nat → Int32) (V : Nat → Int64) (t k : Nat) (n : Nat) : Int32 := if nI t ≤ H n then (if K n = 8 then (if nI t ≤ A n then (if nI t = A n then 2 else 1) else 3) else if K n = 10 then (if H n ≤ nI t then 2 else if dt_fA T P M K A L R H pn V t k n = true then 2 else 1) else 2) else 3
def dt_gl (T P M : Nat) (K A L R H pn : Nat → Int32) (V : Nat → Int64) (t k : Nat) (n : Nat) : Bool := decide (nI t ≤ H n) && (if K n = 6 then dt_fE T P M K A L R H pn V t k n else if K n = 7 then !decide (dt_px P M t k < A n) else if K n = 8 then decide (nI t = A n) else if K n = 10 then (decide (H n ≤ nI t) || dt_fA T P M K A L R H pn V t k n) else if K n = 0 ∨ K n = 1 then false else true)
def dt_gr (T P M : Nat) (K A L R H pn : Nat → Int32) (V : Nat → Int64) (t k : Nat) (n : Nat) : Bool := decide (nI t ≤ H n) && (if K n = 5 then true else if K n = 6 then !dt_fE T P M K A L R H pn V t k n else if K n = 7 then decide (dt_px P M t k < A n) else false)
def dt_hw (T P M : Nat) (K A L R H pn : Nat → Int32) (V : Nat → Int64) (t k : Nat) (n : Nat) (w : Int32) : Int32 := if K n = 2 then w * A n else if K n = 3 then w * dt_px P M t k else if K n = 4 then -w else w
def dt_dC (T P M : Nat) (K A L R H pn : Nat → Int32) (V : Nat → Int64) (t k : Nat) (n : Nat) (w : Int32) : Int64 := if nI t ≤ H n ∧ K n = 1 then w.toInt64 * ((A n).toInt64 * dt_G T) else 0
def dt_ls (T P M : Nat) (K A L R H pn : Nat → Int32) (V : Nat → Int64) (t k : Nat) (n : Nat) : Int64 := if nI t ≤ H n then (if K n = 6 then dt_lo (pn n) (dt_vv V (L n) t k) (dt_vv V (R n) t k) else if K n = 10 ∧ ¬ H n ≤ nI t then dt_lo (pn n) (dt_vv V (L n) t k) (dt_ex T V n t k) else 0) else 0
def dt_dH (T P M : Nat) (K A L R H pn : Nat → Int32) (V : Nat → Int64) (t k : Nat) (n : Nat) (w : Int32) : Int64 := if w ≤ 0 then 0 else w.toInt64 * dt_ls T P M K A L R H pn V t k n
def dt_dX (T P M : Nat) (K A L R H pn : Nat → Int32) (V : Nat → Int64) (t k : Nat) (n : Nat) (w : Int32) : Int64 := if w ≤ 0 then -(w.toInt64 * dt_ls T P M K A L R H pn V t k n) else 0
/-- one hand-over: weights, due flags, pending -/
def dt_w1 (g : Bool) (x w : Int32) (a : Nat → Int32) : Nat → Int32 := if g = true ∧ 0 ≤ x then upd a x.toNatClampNeg w else a
def dt_p1 (g : Bool) (x : Int32) (pc : Nat) (a : Nat → Int32) : Nat → Int32 := if g = true ∧ 0 ≤ x then upd a pc x else a
def dt_c1 (g : Bool) (x : Int32) (pc : Nat) : Nat := if g = true ∧ 0 ≤ x then pc + 1 else pc
/-- the rule of worths -/
def vl_ru (T P M : Nat) (K A H : Nat → Int32) (n t k : Nat) (l r e : Int64) : Int64 :=
  if nI t ≤ H n then (if K n = 1 then (A n).toInt64 * dt_G T else if K n = 2 then (A n).toInt64 * l else if K n = 3 then (dt_px P M t k).toInt64 * l else if K n = 4 then -l else if K n = 5 then l + r else if K n = 6 then dt_gt l r else if K n = 7 then (if dt_px P M t k < A n then r else l) else if K n = 8 then (if nI t ≤ A n then (if nI t = A n then l else e) else 0) else if K n = 9 then l else if K n = 10 then (if nI t = H n then l else dt_gt l e) else 0) else 0
def vl_rv (T P M : Nat) (K A L R H : Nat → Int32) (V : Nat → Int64) (n t k : Nat) : Int64 := vl_ru T P M K A H n t k (dt_vv V (L n) t k) (dt_vv V (R n) t k) (dt_ex T V n t k)
/-! top down over the tree -/
def dt_pr (L R : Nat → Int32) (n : Nat) : Nat → Nat
  | 0 => 0
  | q + 1 => if L q = nI n ∨ R q = nI n then q else dt_pr L R n q
def dt_gv (L R : Nat → Int32) (gl gr : Nat → Bool) (p n : Nat) : Bool := (gl p && decide (L p = nI n)) || (gr p && decide (R p = nI n))
def dt_ac (c : Nat) (L R : Nat → Int32) (gl gr S0 : Nat → Bool) (n : Nat) : Bool :=
  S0 n || (if h : n < dt_pr L R n c ∧ dt_pr L R n c < c then dt_ac c L R gl gr S0 (dt_pr L R n c) && dt_gv L R gl gr (dt_pr L R n c) n else false)
termination_by c - n
decreasing_by omega
def dt_wt (c : Nat) (L R : Nat → Int32) (hw : Nat → Int32 → Int32) (S0 : Nat → Bool) (w0 : Nat → Int32) (n : Nat) : Int32 :=
  if S0 n = true then w0 n else if h : n < dt_pr L R n c ∧ dt_pr L R n c < c then hw (dt_pr L R n c) (dt_wt c L R hw S0 w0 (dt_pr L R n c)) else 0
termination_by c - n
decreasing_by omega
def dt_sm (f : Nat → Int64) : Nat → Int64
  | 0 => 0
  | n + 1 => dt_sm f n + f n
/-! the run -/
abbrev rn_S : Type := (Nat → Int32) × (Nat → Int32) × Int64 × Int64 × Int64 × Int64
def rn_dt (c : Nat) (T P M : Nat) (K A L R H pn : Nat → Int32) (V : Nat → Int64) (t k : Nat) (S0 : Nat → Bool) (s : rn_S) : rn_S :=
  (fun n => if dt_ac c L R (dt_gl T P M K A L R H pn V t k) (dt_gr T P M K A L R H pn V t k) S0 n = true then dt_st T P M K A L R H pn V t k n else s.1 n,
   fun n => if dt_ac c L R (dt_gl T P M K A L R H pn V t k) (dt_gr T P M K A L R H pn V t k) S0 n = true then dt_wt c L R (dt_hw T P M K A L R H pn V t k) S0 s.2.1 n else s.2.1 n,
   s.2.2.1 + dt_sm (fun n => if dt_ac c L R (dt_gl T P M K A L R H pn V t k) (dt_gr T P M K A L R H pn V t k) S0 n = true then dt_dC T P M K A L R H pn V t k n (dt_wt c L R (dt_hw T P M K A L R H pn V t k) S0 s.2.1 n) else 0) c,
   s.2.2.2.1,
   s.2.2.2.2.1 + dt_sm (fun n => if dt_ac c L R (dt_gl T P M K A L R H pn V t k) (dt_gr T P M K A L R H pn V t k) S0 n = true then dt_dH T P M K A L R H pn V t k n (dt_wt c L R (dt_hw T P M K A L R H pn V t k) S0 s.2.1 n) else 0) c,
   s.2.2.2.2.2 + dt_sm (fun n => if dt_ac c L R (dt_gl T P M K A L R H pn V t k) (dt_gr T P M K A L R H pn V t k) S0 n = true then dt_dX T P M K A L R H pn V t k n (dt_wt c L R (dt_hw T P M K A L R H pn V t k) S0 s.2.1 n) else 0) c)
def rn_up (pa : Nat → Int32) : Nat → Nat
  | 0 => 0
  | d + 1 => rn_up pa d + (if pa d = 1 then 1 else 0)
def rn_sk (c T : Nat) (V : Nat → Int64) (t k : Nat) (st wt : Nat → Int32) : Int64 := dt_sm (fun n => if st n = 1 then (wt n).toInt64 * dt_hp T V n t k else 0) c
def rn_rs (c T : Nat) (V : Nat → Int64) (t k : Nat) (st wt : Nat → Int32) : Int64 := dt_sm (fun n => if st n = 1 then (wt n).toInt64 * dt_ex T V n t k else 0) c
def rn_pn (pA : Nat → Int32) (d n : Nat) : Int32 := pA (24 * d + n)
def rn_s0 (c : Nat) : rn_S := (fun _ => 0, fun n => if n = c - 1 then 1 else 0, 0, 0, 0, 0)
def rn_ga (c T : Nat) (V : Nat → Int64) (pa : Nat → Int32) (d : Nat) (s : rn_S) : rn_S :=
  (s.1, s.2.1, s.2.2.1, (if pa d = 1 then s.2.2.2.1 + rn_sk c T V d (rn_up pa d) s.1 s.2.1 else s.2.2.2.1 + (-(rn_sk c T V d (rn_up pa d) s.1 s.2.1))), s.2.2.2.2.1, s.2.2.2.2.2)
def rn_W (s : rn_S) (n : Nat) : Bool := decide (s.1 n = 1)
def rn (c T P M : Nat) (K A L R H : Nat → Int32) (V : Nat → Int64) (pa pA : Nat → Int32) : Nat → rn_S
  | 0 => rn_dt c T P M K A L R H (rn_pn pA 0) V 0 0 (fun n => decide (n = c - 1)) (rn_s0 c)
  | d + 1 => rn_dt c T P M K A L R H (rn_pn pA (d + 1)) V (d + 1) (rn_up pa (d + 1)) (rn_W (rn c T P M K A L R H V pa pA d)) (rn_ga c T V pa d (rn c T P M K A L R H V pa pA d))
end
section
/-! sums and counts -/
theorem sm_c {f g : Nat → Int64} : ∀ c, (∀ n, n < c → f n = g n) → dt_sm f c = dt_sm g c := by
  intro c
  induction c with
  | zero => intro _; rfl
  | succ c ih =>
    intro h
    show dt_sm f c + f c = dt_sm g c + g c
    rw [ih (fun n hn => h n (by omega)), h c (by omega)]
theorem sm_z {f : Nat → Int64} : ∀ c, (∀ n, n < c → f n = 0) → dt_sm f c = 0 := by
  intro c
  induction c with
  | zero => intro _; rfl
  | succ c ih =>
    intro h
    show dt_sm f c + f c = 0
    rw [ih (fun n hn => h n (by omega)), h c (by omega)]
    rfl
theorem sm_1 {f g : Nat → Int64} {m : Nat} {v : Int64} (hm : f m = 0) (hv : g m = v) : ∀ c, m < c → (∀ n, n < c → n ≠ m → g n = f n) → dt_sm g c = dt_sm f c + v := by
  intro c
  induction c with
  | zero => intro h; omega
  | succ c ih =>
    intro hc h
    show dt_sm g c + g c = (dt_sm f c + f c) + v
    by_cases e : m = c
    · subst e
      rw [sm_c m (fun n hn => h n (by omega) (by omega)), hm, hv, Int64.add_zero]
    · rw [ih (by omega) (fun n hn hne => h n (by omega) hne), h c (by omega) (by omega), Int64.add_assoc, Int64.add_assoc, Int64.add_comm v]
def sc_cn (f : Nat → Bool) : Nat → Nat
  | 0 => 0
  | n + 1 => sc_cn f n + (if f n = true then 1 else 0)
theorem cn_c {f g : Nat → Bool} : ∀ c, (∀ n, n < c → f n = g n) → sc_cn f c = sc_cn g c := by
  intro c
  induction c with
  | zero => intro _; rfl
  | succ c ih =>
    intro h
    show sc_cn f c + _ = sc_cn g c + _
    rw [ih (fun n hn => h n (by omega)), h c (by omega)]
theorem cn_1 {f g : Nat → Bool} {m : Nat} (hm : f m = false) (hv : g m = true) : ∀ c, m < c → (∀ n, n < c → n ≠ m → g n = f n) → sc_cn g c = sc_cn f c + 1 := by
  intro c
  induction c with
  | zero => intro h; omega
  | succ c ih =>
    intro hc h
    show sc_cn g c + (if g c = true then 1 else 0) = (sc_cn f c + (if f c = true then 1 else 0)) + 1
    by_cases e : m = c
    · subst e
      rw [cn_c m (fun n hn => h n (by omega) (by omega)), hm, hv]
      simp
    · rw [ih (by omega) (fun n hn hne => h n (by omega) hne), h c (by omega) (by omega)]
      omega
theorem cn_d {f g : Nat → Bool} : ∀ c, (∀ n, n < c → f n = true → g n = false) → sc_cn f c + sc_cn g c ≤ c := by
  intro c
  induction c with
  | zero => intro _; exact Nat.le_refl _
  | succ c ih =>
    intro h
    show (sc_cn f c + (if f c = true then 1 else 0)) + (sc_cn g c + (if g c = true then 1 else 0)) ≤ c + 1
    have a := ih (fun n hn => h n (by omega))
    by_cases e : f c = true
    · rw [h c (by omega) e, e]
      simp
      omega
    · rw [if_neg e]
      split <;> omega
theorem cn_z {f : Nat → Bool} : ∀ c, sc_cn f c = 0 → ∀ n, n < c → f n = false := by
  intro c
  induction c with
  | zero => intro _ n hn; omega
  | succ c ih =>
    intro h n hn
    have h' : sc_cn f c + (if f c = true then 1 else 0) = 0 := h
    by_cases e : n = c
    · subst e
      cases g : f n with
      | false => rfl
      | true => rw [g] at h'; simp at h'
    · exact ih (by omega) n (by omega)
theorem cn_0 {f : Nat → Bool} : ∀ c, (∀ n, n < c → f n = false) → sc_cn f c = 0 := by
  intro c
  induction c with
  | zero => intro _; rfl
  | succ c ih =>
    intro h
    show sc_cn f c + (if f c = true then 1 else 0) = 0
    rw [ih (fun n hn => h n (by omega)), h c (by omega)]
    simp
/-! parents -/
theorem pr_lt {L R : Nat → Int32} {n : Nat} : ∀ c, 0 < c → dt_pr L R n c < c := by
  intro c
  induction c with
  | zero => intro h; omega
  | succ c ih =>
    intro _
    show (if L c = nI n ∨ R c = nI n then c else dt_pr L R n c) < c + 1
    split
    · omega
    · rcases Nat.eq_zero_or_pos c with e | e
      · subst e; exact Nat.zero_lt_one
      · have := ih e; omega
theorem pr_ch {L R : Nat → Int32} {n : Nat} : ∀ c, (∃ p, p < c ∧ (L p = nI n ∨ R p = nI n)) → (L (dt_pr L R n c) = nI n ∨ R (dt_pr L R n c) = nI n) := by
  intro c
  induction c with
  | zero => rintro ⟨p, h, _⟩; omega
  | succ c ih =>
    rintro ⟨p, hp, h⟩
    by_cases e : L c = nI n ∨ R c = nI n
    · have x : dt_pr L R n (c + 1) = c := if_pos e
      rw [x]; exact e
    · have x : dt_pr L R n (c + 1) = dt_pr L R n c := if_neg e
      rw [x]
      refine ih ⟨p, ?_, h⟩
      by_cases g : p = c
      · subst g; exact (e h).elim
      · omega
theorem pr_no {L R : Nat → Int32} {n : Nat} : ∀ c, (∀ p, p < c → ¬ (L p = nI n ∨ R p = nI n)) → dt_pr L R n c = 0 := by
  intro c
  induction c with
  | zero => intro _; rfl
  | succ c ih =>
    intro h
    have x : dt_pr L R n (c + 1) = dt_pr L R n c := if_neg (h c (by omega))
    rw [x]; exact ih (fun p hp => h p (by omega))
def dt_tr (c : Nat) (L R : Nat → Int32) : Prop := (∀ p, p < c → (L p = -1 ∨ ∃ l, l < p ∧ L p = nI l) ∧ (R p = -1 ∨ ∃ r, r < p ∧ R p = nI r)) ∧ (∀ p l, p < c → l < 24 → L p = nI l → R p = nI l → False) ∧ (∀ p q n, p < c → q < c → n < c → (L p = nI n ∨ R p = nI n) → (L q = nI n ∨ R q = nI n) → p = q)
theorem tr_lt {c : Nat} {L R : Nat → Int32} (h : dt_tr c L R) (h24 : c ≤ 24) {p n : Nat} (hp : p < c) (hn : n < c) (e : L p = nI n ∨ R p = nI n) : n < p := by
  obtain ⟨a, b⟩ := h.1 p hp
  rcases e with e | e
  · rcases a with a | ⟨l, hl, a⟩
    · rw [a] at e; exact (nu_neg' (by omega) e).elim
    · rw [a] at e
      have := nu_inj e (by omega) (by omega)
      omega
  · rcases b with a | ⟨l, hl, a⟩
    · rw [a] at e; exact (nu_neg' (by omega) e).elim
    · rw [a] at e
      have := nu_inj e (by omega) (by omega)
      omega
theorem pr_is {c : Nat} {L R : Nat → Int32} (h : dt_tr c L R) {p n : Nat} (hp : p < c) (hn : n < c) (e : L p = nI n ∨ R p = nI n) : dt_pr L R n c = p :=
  h.2.2 _ _ n (pr_lt c (by omega)) hp hn (pr_ch c ⟨p, hp, e⟩) e
theorem gv_ch {L R : Nat → Int32} {gl gr : Nat → Bool} {p n : Nat} (h : dt_gv L R gl gr p n = true) : L p = nI n ∨ R p = nI n := by
  unfold dt_gv at h
  simp only [Bool.or_eq_true, Bool.and_eq_true, decide_eq_true_eq] at h
  rcases h with h | h
  · exact Or.inl h.2
  · exact Or.inr h.2
section
variable {c : Nat} {L R : Nat → Int32} {gl gr S0 : Nat → Bool} {hw : Nat → Int32 → Int32} {w0 : Nat → Int32}
theorem ac_S {n : Nat} (h : S0 n = true) : dt_ac c L R gl gr S0 n = true := by
  rw [dt_ac, h, Bool.true_or]
theorem ac_p {n : Nat} (h : S0 n = false) (ha : dt_ac c L R gl gr S0 n = true) : (n < dt_pr L R n c ∧ dt_pr L R n c < c) ∧ dt_ac c L R gl gr S0 (dt_pr L R n c) = true ∧ dt_gv L R gl gr (dt_pr L R n c) n = true := by
  rw [dt_ac, h, Bool.false_or] at ha
  by_cases e : n < dt_pr L R n c ∧ dt_pr L R n c < c
  · rw [dif_pos e, Bool.and_eq_true] at ha
    exact ⟨e, ha⟩
  · rw [dif_neg e] at ha
    exact (Bool.false_ne_true ha).elim
theorem ac_g (tr : dt_tr c L R) (h24 : c ≤ 24) {p n : Nat} (hp : p < c) (hn : n < c) (ha : dt_ac c L R gl gr S0 p = true) (hg : dt_gv L R gl gr p n = true) : dt_ac c L R gl gr S0 n = true := by
  have e := pr_is tr hp hn (gv_ch hg)
  have l := tr_lt tr h24 hp hn (gv_ch hg)
  rw [dt_ac, dif_pos (by rw [e]; exact ⟨l, hp⟩), e, ha, hg]
  simp
theorem wt_S {n : Nat} (h : S0 n = true) : dt_wt c L R hw S0 w0 n = w0 n := by
  rw [dt_wt, if_pos h]
theorem wt_g (tr : dt_tr c L R) (h24 : c ≤ 24) {p n : Nat} (hp : p < c) (hn : n < c) (hS : S0 n = false) (hg : L p = nI n ∨ R p = nI n) : dt_wt c L R hw S0 w0 n = hw p (dt_wt c L R hw S0 w0 p) := by
  have e := pr_is tr hp hn hg
  have l := tr_lt tr h24 hp hn hg
  rw [dt_wt, hS, if_neg Bool.false_ne_true, dif_pos (by rw [e]; exact ⟨l, hp⟩), e]
end
/-! the scheduler: visited, pending -/
def sc_I (c : Nat) (L R : Nat → Int32) (ac : Nat → Bool) (W : Nat → Int32) (S0 : Nat → Bool) (stF st0 wt0 : Nat → Int32) (dC dH dX : Nat → Int64) (ca0 hs0 cs0 : Int64) (vis pnd : Nat → Bool) (st wt : Nat → Int32) (ca hs cs : Int64) : Prop :=
  (∀ n, n < c → vis n = true → pnd n = false ∧ ac n = true ∧ st n = stF n ∧ wt n = W n) ∧
  (∀ n, n < c → pnd n = true → ac n = true ∧ st n = st0 n ∧ wt n = W n) ∧
  (∀ n, n < c → vis n = false → pnd n = false → st n = st0 n ∧ wt n = wt0 n) ∧
  (∀ n, n < c → ac n = true → vis n = true ∨ pnd n = true ∨ (S0 n = false ∧ vis (dt_pr L R n c) = false)) ∧
  (∀ n, n < c → (vis n = true ∨ pnd n = true) → S0 n = true ∨ (n < dt_pr L R n c ∧ dt_pr L R n c < c ∧ vis (dt_pr L R n c) = true)) ∧
  ca = ca0 + dt_sm (fun n => if vis n = true then dC n else 0) c ∧
  hs = hs0 + dt_sm (fun n => if vis n = true then dH n else 0) c ∧
  cs = cs0 + dt_sm (fun n => if vis n = true then dX n else 0) c
section
variable {c : Nat} {L R : Nat → Int32} {gl gr S0 : Nat → Bool} {hw : Nat → Int32 → Int32} {stF st0 wt0 : Nat → Int32} {dC dH dX : Nat → Int64} {ca0 hs0 cs0 : Int64}
theorem sc_fresh (tr : dt_tr c L R) (hS : ∀ n, n < c → S0 n = true → n < dt_pr L R n c → dt_pr L R n c < c → dt_ac c L R gl gr S0 (dt_pr L R n c) = false) {W : Nat → Int32} {vis pnd : Nat → Bool} {st wt : Nat → Int32} {ca hs cs : Int64}
    (I : sc_I c L R (dt_ac c L R gl gr S0) W S0 stF st0 wt0 dC dH dX ca0 hs0 cs0 vis pnd st wt ca hs cs) (h24 : c ≤ 24) {n m : Nat} (hn : n < c) (hp : pnd n = true) (hm : m < c) (hg : dt_gv L R gl gr n m = true) : S0 m = false ∧ vis m = false ∧ pnd m = false ∧ dt_pr L R m c = n ∧ m < n := by
  obtain ⟨i1, i2, i3, i4, i5, _⟩ := I
  have e := pr_is tr hn hm (gv_ch hg)
  have l := tr_lt tr h24 hn hm (gv_ch hg)
  have an := (i2 n hn hp).1
  have vn : vis n = false := by
    cases g : vis n with
    | false => rfl
    | true => have := (i1 n hn g).1; rw [hp] at this; exact this
  have sm : S0 m = false := by
    cases g : S0 m with
    | false => rfl
    | true =>
      have := hS m hm g (by rw [e]; exact l) (by rw [e]; exact hn)
      rw [e, an] at this
      exact this
  have no : ¬ (vis m = true ∨ pnd m = true) := by
    intro z
    rcases i5 m hm z with z | ⟨_, _, z⟩
    · rw [sm] at z; exact Bool.false_ne_true z
    · rw [e, vn] at z; exact Bool.false_ne_true z
  refine ⟨sm, ?_, ?_, e, l⟩
  · cases g : vis m with
    | false => rfl
    | true => exact (no (Or.inl g)).elim
  · cases g : pnd m with
    | false => rfl
    | true => exact (no (Or.inr g)).elim
theorem sc_step (tr : dt_tr c L R) (h24 : c ≤ 24) (hS : ∀ n, n < c → S0 n = true → n < dt_pr L R n c → dt_pr L R n c < c → dt_ac c L R gl gr S0 (dt_pr L R n c) = false) {vis pnd : Nat → Bool} {st wt : Nat → Int32} {ca hs cs : Int64}
    (I : sc_I c L R (dt_ac c L R gl gr S0) (dt_wt c L R hw S0 wt0) S0 stF st0 wt0 dC dH dX ca0 hs0 cs0 vis pnd st wt ca hs cs) {n : Nat} (hn : n < c) (hp : pnd n = true)
    {vis' pnd' : Nat → Bool} {st' wt' : Nat → Int32} {ca' hs' cs' : Int64}
    (eV : ∀ m, m < c → vis' m = (vis m || decide (m = n))) (eP : ∀ m, m < c → pnd' m = ((pnd m && !decide (m = n)) || dt_gv L R gl gr n m))
    (es : ∀ m, m < c → st' m = if m = n then stF n else st m) (ew : ∀ m, m < c → wt' m = if dt_gv L R gl gr n m = true then hw n (wt n) else wt m)
    (ec : ca' = ca + dC n) (eh : hs' = hs + dH n) (ex : cs' = cs + dX n) :
    sc_I c L R (dt_ac c L R gl gr S0) (dt_wt c L R hw S0 wt0) S0 stF st0 wt0 dC dH dX ca0 hs0 cs0 vis' pnd' st' wt' ca' hs' cs' := by
  have fr := fun m hm hg => sc_fresh tr hS I h24 hn hp (m := m) hm hg
  obtain ⟨i1, i2, i3, i4, i5, i6, i7, i8⟩ := I
  obtain ⟨an, sn, wn⟩ := i2 n hn hp
  have vn : vis n = false := by
    cases g : vis n with
    | false => rfl
    | true => have := (i1 n hn g).1; rw [hp] at this; exact this
  have gnn : dt_gv L R gl gr n n = false := by
    cases g : dt_gv L R gl gr n n with
    | false => rfl
    | true => have := (fr n hn g).2.2.2.2; omega
  have vS : ∀ m, m < c → vis' m = true → m = n ∨ (m ≠ n ∧ vis m = true) := by
    intro m hm h
    rw [eV m hm, Bool.or_eq_true, decide_eq_true_eq] at h
    by_cases e : m = n
    · exact Or.inl e
    · rcases h with h | h
      · exact Or.inr ⟨e, h⟩
      · exact (e h).elim
  have vU : ∀ m, m < c → vis m = true → vis' m = true := by
    intro m hm h
    rw [eV m hm, h]; rfl
  have vN : vis' n = true := by rw [eV n hn]; simp
  have pS : ∀ m, m < c → pnd' m = true → dt_gv L R gl gr n m = true ∨ (dt_gv L R gl gr n m = false ∧ m ≠ n ∧ pnd m = true) := by
    intro m hm h
    rw [eP m hm] at h
    cases g : dt_gv L R gl gr n m with
    | true => exact Or.inl rfl
    | false =>
      rw [g] at h
      simp at h
      exact Or.inr ⟨rfl, h.2, h.1⟩
  refine ⟨?_, ?_, ?_, ?_, ?_, ?_, ?_, ?_⟩
  · intro m hm h
    rcases vS m hm h with e | ⟨e, h1⟩
    · subst e
      refine ⟨?_, an, ?_, ?_⟩
      · rw [eP m hm, gnn]; simp
      · rw [es m hm, if_pos rfl]
      · rw [ew m hm, gnn, if_neg Bool.false_ne_true]; exact wn
    · obtain ⟨a, b, d, f⟩ := i1 m hm h1
      have g : dt_gv L R gl gr n m = false := by
        cases g : dt_gv L R gl gr n m with
        | false => rfl
        | true => have := (fr m hm g).2.1; rw [h1] at this; exact this
      refine ⟨?_, b, ?_, ?_⟩
      · rw [eP m hm, a, g]; rfl
      · rw [es m hm, if_neg e]; exact d
      · rw [ew m hm, g, if_neg Bool.false_ne_true]; exact f
  · intro m hm h
    rcases pS m hm h with g | ⟨g, e, h1⟩
    · obtain ⟨s, v, p, e, l⟩ := fr m hm g
      refine ⟨ac_g tr h24 hn hm an g, ?_, ?_⟩
      · rw [es m hm, if_neg (by omega)]; exact (i3 m hm v p).1
      · rw [ew m hm, if_pos g, wt_g tr h24 hn hm s (gv_ch g), wn]
    · obtain ⟨a, b, d⟩ := i2 m hm h1
      refine ⟨a, ?_, ?_⟩
      · rw [es m hm, if_neg e]; exact b
      · rw [ew m hm, g, if_neg Bool.false_ne_true]; exact d
  · intro m hm hv hq
    have e : m ≠ n := by
      intro e; subst e; rw [vN] at hv; exact Bool.false_ne_true hv.symm
    have v : vis m = false := by
      cases g : vis m with
      | false => rfl
      | true => rw [vU m hm g] at hv; exact hv
    rw [eP m hm, Bool.or_eq_false_iff] at hq
    have p : pnd m = false := by
      have := hq.1
      simp [e] at this
      exact this
    obtain ⟨a, b⟩ := i3 m hm v p
    exact ⟨by rw [es m hm, if_neg e]; exact a, by rw [ew m hm, hq.2, if_neg Bool.false_ne_true]; exact b⟩
  · intro m hm ha
    by_cases e : m = n
    · subst e; exact Or.inl vN
    · rcases i4 m hm ha with h | h | ⟨h1, h2⟩
      · exact Or.inl (vU m hm h)
      · right; left
        rw [eP m hm, h]
        simp [e]
      · obtain ⟨⟨q1, q2⟩, q3, q4⟩ := ac_p h1 ha
        by_cases g : dt_pr L R m c = n
        · right; left
          rw [g] at q4
          rw [eP m hm, q4]
          simp
        · right; right
          refine ⟨h1, ?_⟩
          rw [eV _ q2, h2]
          simp [g]
  · intro m hm h
    by_cases e : m = n
    · subst e
      rcases i5 m hm (Or.inr hp) with h | ⟨a, b, d⟩
      · exact Or.inl h
      · exact Or.inr ⟨a, b, vU _ b d⟩
    · by_cases g : dt_gv L R gl gr n m = true
      · obtain ⟨s, v, p, e2, l⟩ := fr m hm g
        right
        rw [e2]
        exact ⟨l, hn, vN⟩
      · have : vis m = true ∨ pnd m = true := by
          rcases h with h | h
          · rcases vS m hm h with h | h
            · exact (e h).elim
            · exact Or.inl h.2
          · rcases pS m hm h with h | h
            · exact (g h).elim
            · exact Or.inr h.2.2
        rcases i5 m hm this with h | ⟨a, b, d⟩
        · exact Or.inl h
        · exact Or.inr ⟨a, b, vU _ b d⟩
  · rw [ec, i6, Int64.add_assoc]
    congr 1
    refine (sm_1 (m := n) (v := dC n) ?_ ?_ c hn ?_).symm
    · simp [vn]
    · simp [vN]
    · intro m hm e
      simp [eV m hm, e]
  · rw [eh, i7, Int64.add_assoc]
    congr 1
    refine (sm_1 (m := n) (v := dH n) ?_ ?_ c hn ?_).symm
    · simp [vn]
    · simp [vN]
    · intro m hm e
      simp [eV m hm, e]
  · rw [ex, i8, Int64.add_assoc]
    congr 1
    refine (sm_1 (m := n) (v := dX n) ?_ ?_ c hn ?_).symm
    · simp [vn]
    · simp [vN]
    · intro m hm e
      simp [eV m hm, e]
theorem sc_all {W : Nat → Int32} {vis pnd : Nat → Bool} {st wt : Nat → Int32} {ca hs cs : Int64}
    (I : sc_I c L R (dt_ac c L R gl gr S0) W S0 stF st0 wt0 dC dH dX ca0 hs0 cs0 vis pnd st wt ca hs cs) (he : ∀ m, m < c → pnd m = false) : ∀ j n, n < c → c - n ≤ j → vis n = dt_ac c L R gl gr S0 n := by
  obtain ⟨i1, i2, i3, i4, i5, _⟩ := I
  intro j
  induction j with
  | zero => intro n hn h; omega
  | succ j ih =>
    intro n hn h
    cases g : vis n with
    | true => exact (i1 n hn g).2.1.symm
    | false =>
      cases a : dt_ac c L R gl gr S0 n with
      | false => rfl
      | true =>
        rcases i4 n hn a with x | x | ⟨x, y⟩
        · rw [g] at x; exact x
        · rw [he n hn] at x; exact x
        · obtain ⟨⟨q1, q2⟩, q3, q4⟩ := ac_p x a
          rw [ih _ q2 (by omega), q3] at y
          exact y.symm
theorem sc_end {W : Nat → Int32} {vis pnd : Nat → Bool} {st wt : Nat → Int32} {ca hs cs : Int64}
    (I : sc_I c L R (dt_ac c L R gl gr S0) W S0 stF st0 wt0 dC dH dX ca0 hs0 cs0 vis pnd st wt ca hs cs) (he : ∀ m, m < c → pnd m = false) :
    (∀ n, n < c → st n = if dt_ac c L R gl gr S0 n = true then stF n else st0 n) ∧ (∀ n, n < c → wt n = if dt_ac c L R gl gr S0 n = true then W n else wt0 n) ∧
    ca = ca0 + dt_sm (fun n => if dt_ac c L R gl gr S0 n = true then dC n else 0) c ∧ hs = hs0 + dt_sm (fun n => if dt_ac c L R gl gr S0 n = true then dH n else 0) c ∧ cs = cs0 + dt_sm (fun n => if dt_ac c L R gl gr S0 n = true then dX n else 0) c := by
  have v := fun n hn => sc_all I he (c - n) n hn (Nat.le_refl _)
  obtain ⟨i1, i2, i3, i4, i5, i6, i7, i8⟩ := I
  refine ⟨?_, ?_, ?_, ?_, ?_⟩
  · intro n hn
    rw [← v n hn]
    cases g : vis n with
    | true => rw [if_pos rfl]; exact (i1 n hn g).2.2.1
    | false => rw [if_neg Bool.false_ne_true]; exact (i3 n hn g (he n hn)).1
  · intro n hn
    rw [← v n hn]
    cases g : vis n with
    | true => rw [if_pos rfl]; exact (i1 n hn g).2.2.2
    | false => rw [if_neg Bool.false_ne_true]; exact (i3 n hn g (he n hn)).2
  · rw [i6, sm_c c (fun n hn => by rw [v n hn])]
  · rw [i7, sm_c c (fun n hn => by rw [v n hn])]
  · rw [i8, sm_c c (fun n hn => by rw [v n hn])]
theorem sc_ini {st wt : Nat → Int32} (es : ∀ n, n < c → st n = st0 n) (ew : ∀ n, n < c → wt n = wt0 n) :
    sc_I c L R (dt_ac c L R gl gr S0) (dt_wt c L R hw S0 wt0) S0 stF st0 wt0 dC dH dX ca0 hs0 cs0 (fun _ => false) S0 st wt ca0 hs0 cs0 := by
  refine ⟨?_, ?_, ?_, ?_, ?_, ?_, ?_, ?_⟩
  · intro n _ h; exact (Bool.false_ne_true h).elim
  · intro n hn h
    exact ⟨ac_S h, es n hn, by rw [wt_S h]; exact ew n hn⟩
  · intro n hn _ _; exact ⟨es n hn, ew n hn⟩
  · intro n hn h
    cases g : S0 n with
    | true => exact Or.inr (Or.inl rfl)
    | false => exact Or.inr (Or.inr ⟨rfl, rfl⟩)
  · intro n hn h
    rcases h with h | h
    · exact (Bool.false_ne_true h).elim
    · exact Or.inl h
  · rw [sm_z c (fun n _ => by simp), Int64.add_zero]
  · rw [sm_z c (fun n _ => by simp), Int64.add_zero]
  · rw [sm_z c (fun n _ => by simp), Int64.add_zero]
end
/-- X's pending stack shows the pending set -/
def sc_stk (c : Nat) (pd : Nat → Int32) (pc : Nat) (pnd : Nat → Bool) : Prop := (∀ j, j < pc → ∃ m, m < c ∧ pd j = nI m ∧ pnd m = true) ∧ (∀ m, m < c → pnd m = true → ∃ j, j < pc ∧ pd j = nI m) ∧ (∀ i j, i < j → j < pc → pd i ≠ pd j) ∧ pc = sc_cn pnd c
theorem stk_push {c : Nat} {pd : Nat → Int32} {pc : Nat} {pnd pnd' : Nat → Bool} (h : sc_stk c pd pc pnd) (h24 : c ≤ 24) {m : Nat} (hm : m < c) (hf : pnd m = false) (e : ∀ j, j < c → pnd' j = (pnd j || decide (j = m))) : sc_stk c (upd pd pc (nI m)) (pc + 1) pnd' := by
  obtain ⟨a, b, d, f⟩ := h
  refine ⟨?_, ?_, ?_, ?_⟩
  · intro j hj
    by_cases g : j = pc
    · subst g
      exact ⟨m, hm, pk_us, by rw [e m hm]; simp⟩
    · obtain ⟨q, hq, x, y⟩ := a j (by omega)
      exact ⟨q, hq, by rw [pk_un g]; exact x, by rw [e q hq, y]; rfl⟩
  · intro q hq hp
    by_cases g : q = m
    · subst g; exact ⟨pc, by omega, pk_us⟩
    · rw [e q hq] at hp
      simp [g] at hp
      obtain ⟨j, hj, x⟩ := b q hq hp
      exact ⟨j, by omega, by rw [pk_un (by omega)]; exact x⟩
  · intro i j hij hj
    by_cases g : j = pc
    · subst g
      rw [pk_us, pk_un (by omega)]
      obtain ⟨q, hq, x, y⟩ := a i hij
      rw [x]
      intro z
      have := nu_inj z (by omega) (by omega)
      subst this
      rw [hf] at y
      exact Bool.false_ne_true y
    · rw [pk_un g, pk_un (by omega)]
      exact d i j hij (by omega)
  · rw [f]
    exact (cn_1 (m := m) hf (by rw [e m hm]; simp) c hm (fun n hn hne => by rw [e n hn]; simp [hne])).symm
theorem stk_pop {c : Nat} {pd : Nat → Int32} {pc : Nat} {pnd pnd' : Nat → Bool} (h : sc_stk c pd (pc + 1) pnd) (h24 : c ≤ 24) {m : Nat} (hm : m < c) (hp : pd pc = nI m) (e : ∀ j, j < c → pnd' j = (pnd j && !decide (j = m))) : sc_stk c pd pc pnd' := by
  obtain ⟨a, b, d, f⟩ := h
  obtain ⟨q, hq, x, y⟩ := a pc (by omega)
  rw [hp] at x
  have := nu_inj x (by omega) (by omega)
  subst this
  refine ⟨?_, ?_, ?_, ?_⟩
  · intro j hj
    obtain ⟨q, hq, x', y'⟩ := a j (by omega)
    refine ⟨q, hq, x', ?_⟩
    have : q ≠ m := by
      intro z
      exact d j pc hj (by omega) (by rw [x', hp, z])
    rw [e q hq, y']
    simp [this]
  · intro q hq hp2
    rw [e q hq] at hp2
    simp at hp2
    obtain ⟨j, hj, x⟩ := b q hq hp2.1
    refine ⟨j, ?_, x⟩
    by_cases g : j = pc
    · subst g
      rw [hp] at x
      have := nu_inj x (by omega) (by omega)
      omega
    · omega
  · intro i j hij hj
    exact d i j hij (by omega)
  · have := cn_1 (f := pnd') (g := pnd) (m := m) (by rw [e m hm]; simp) y c hm (fun n hn hne => by rw [e n hn]; simp [hne])
    omega
theorem stk_cong {c : Nat} {pd : Nat → Int32} {pc : Nat} {pnd pnd' : Nat → Bool} (h : sc_stk c pd pc pnd) (e : ∀ j, j < c → pnd' j = pnd j) : sc_stk c pd pc pnd' := by
  obtain ⟨a, b, d, f⟩ := h
  refine ⟨?_, ?_, d, ?_⟩
  · intro j hj
    obtain ⟨q, hq, x, y⟩ := a j hj
    exact ⟨q, hq, x, by rw [e q hq]; exact y⟩
  · intro m hm hp
    exact b m hm (by rw [← e m hm]; exact hp)
  · rw [f]; exact (cn_c c e).symm
end
section
/-! worths: size and evenness; weights -/
theorem nu_mul64 {x y : Int64} (h : (x.toInt * y.toInt).natAbs ≤ 4000000000000000000) : (x * y).toInt = x.toInt * y.toInt := by
  rw [Int64.toInt_mul]
  generalize x.toInt * y.toInt = z at h ⊢
  exact Int.bmod_eq_of_le (by omega) (by omega)
theorem nu_mul32 {x y : Int32} (h : (x.toInt * y.toInt).natAbs ≤ 1000000000) : (x * y).toInt = x.toInt * y.toInt := by
  rw [Int32.toInt_mul]
  generalize x.toInt * y.toInt = z at h ⊢
  exact Int.bmod_eq_of_le (by omega) (by omega)
theorem nu_2 : (2 : Int64).toInt = 2 := by decide
theorem nu_0L : (0 : Int64).toInt = 0 := by decide
theorem nu_half {x : Int64} {z : Int} (h : x.toInt = 2 * z) : (x / 2).toInt = z := by
  have a := x.le_toInt
  have b := x.toInt_lt
  rw [Int64.toInt_div_of_ne_right _ _ (by decide), nu_2, h, Int.mul_tdiv_cancel_left _ (by decide)]
def vg_ (x : Int64) (t b : Nat) : Prop := x.toInt.natAbs ≤ 64 * b ∧ ∃ z : Int, x.toInt = 2 ^ t * z
theorem vg_0 (t b : Nat) : vg_ 0 t b := ⟨by rw [nu_0L]; omega, 0, by rw [nu_0L]; omega⟩
theorem vg_m {x : Int64} {t b b' : Nat} (h : vg_ x t b) (hb : b ≤ b') : vg_ x t b' := ⟨by have := h.1; omega, h.2⟩
theorem vg_mul {a : Int32} {l : Int64} {t bl bn : Nat} (h : vg_ l t bl) (hb : a.toInt.natAbs * bl ≤ bn) (hn : bn ≤ 1000000) : vg_ (a.toInt64 * l) t bn := by
  obtain ⟨h1, z, h2⟩ := h
  have e : (a.toInt64.toInt * l.toInt).natAbs ≤ 64 * bn := by
    rw [Int32.toInt_toInt64, Int.natAbs_mul]
    calc a.toInt.natAbs * l.toInt.natAbs ≤ a.toInt.natAbs * (64 * bl) := Nat.mul_le_mul_left _ h1
      _ = 64 * (a.toInt.natAbs * bl) := by rw [Nat.mul_left_comm]
      _ ≤ 64 * bn := Nat.mul_le_mul_left _ hb
  refine ⟨?_, a.toInt * z, ?_⟩
  · rw [nu_mul64 (by omega)]; exact e
  · rw [nu_mul64 (by omega), Int32.toInt_toInt64, h2, Int.mul_left_comm]
theorem vg_neg {l : Int64} {t bl : Nat} (h : vg_ l t bl) (hn : bl ≤ 1000000) : vg_ (-l) t bl := by
  obtain ⟨h1, z, h2⟩ := h
  have e : (-l).toInt = -l.toInt := by
    rw [Int64.toInt_neg]
    exact Int.bmod_eq_of_le (by omega) (by omega)
  exact ⟨by rw [e]; omega, -z, by rw [e, h2, Int.mul_neg]⟩
theorem vg_add {l r : Int64} {t bl br bn : Nat} (h : vg_ l t bl) (g : vg_ r t br) (hb : bl + br ≤ bn) (hn : bn ≤ 1000000) : vg_ (l + r) t bn := by
  obtain ⟨h1, z, h2⟩ := h
  obtain ⟨g1, y, g2⟩ := g
  have e : (l + r).toInt = l.toInt + r.toInt := by
    rw [Int64.toInt_add]
    exact Int.bmod_eq_of_le (by omega) (by omega)
  exact ⟨by rw [e]; omega, z + y, by rw [e, h2, g2, Int.mul_add]⟩
theorem vg_gt {l r : Int64} {t b : Nat} (h : vg_ l t b) (g : vg_ r t b) : vg_ (dt_gt l r) t b := by
  unfold dt_gt
  split
  · exact g
  · exact h
theorem vg_ex {l r : Int64} {t b : Nat} (h : vg_ l (t + 1) b) (g : vg_ r (t + 1) b) (hn : b ≤ 1000000) : vg_ ((l + r) / 2) t b := by
  obtain ⟨h1, z, h2⟩ := h
  obtain ⟨g1, y, g2⟩ := g
  have e : (l + r).toInt = l.toInt + r.toInt := by
    rw [Int64.toInt_add]
    exact Int.bmod_eq_of_le (by omega) (by omega)
  have e2 : (l + r).toInt = 2 * (2 ^ t * (z + y)) := by
    rw [e, h2, g2, ← Int.mul_add, Int.pow_succ, Int.mul_comm (2 ^ t) 2, Int.mul_assoc]
  have e3 := nu_half e2
  refine ⟨?_, z + y, e3⟩
  rw [e] at e2
  rw [e3]
  omega
theorem vg_G : ∀ T, T ≤ 6 → (dt_G T).toInt = 2 ^ T := by decide +kernel
theorem nu_pw {t T : Nat} (h : t ≤ T) : (2 : Int) ^ T = 2 ^ t * 2 ^ (T - t) := by
  rw [← Int.pow_add]; congr 1; omega
theorem nu_p64 : ∀ T, T ≤ 6 → (2 : Int) ^ T ≤ 64 ∧ 0 < (2 : Int) ^ T := by decide
theorem nu_px {P M T t k : Nat} (hP : P ≤ 100) (hM : M ≤ 10) (hT : T ≤ 6) (ht : t ≤ T) (hk : k ≤ t) : (dt_px P M t k).toInt.natAbs ≤ P + T * M := by
  unfold dt_px
  have e1 : ((2 * nI k) - nI t : Int32).toInt = 2 * (k : Int) - t := by
    rw [show (2 : Int32) = nI 2 from rfl, pk_mul, pk_sub_toInt (by omega) (by omega)]
    omega
  have e2 : ((nI M).toInt * ((2 * nI k) - nI t : Int32).toInt).natAbs ≤ M * T := by
    rw [e1, nI_toInt (by omega), Int.natAbs_mul]
    exact Nat.mul_le_mul (by omega) (by omega)
  have e3 : M * T ≤ 60 := by
    calc M * T ≤ 10 * 6 := Nat.mul_le_mul hM hT
      _ = 60 := rfl
  have e4 := nu_mul32 (x := nI M) (y := (2 * nI k) - nI t) (by omega)
  rw [Int32.toInt_add, e4, nI_toInt (by omega), Nat.mul_comm T M]
  generalize (nI M).toInt * ((2 * nI k) - nI t : Int32).toInt = z at e2
  rw [Int.bmod_eq_of_le (by omega) (by omega)]
  omega
theorem vg_ru {T P M : Nat} {K A H : Nat → Int32} {n t k : Nat} {l r e : Int64} {bn bl br : Nat} (hP : P ≤ 100) (hM : M ≤ 10) (hT : T ≤ 6) (ht : t ≤ T) (hk : k ≤ t) (hn : bn ≤ 1000000)
    (h1 : K n = 1 → (A n).toInt.natAbs ≤ bn) (h2 : K n = 2 → (A n).toInt.natAbs * bl ≤ bn) (h3 : K n = 3 → (P + T * M) * bl ≤ bn) (h4 : ¬ K n = 2 → ¬ K n = 3 → bl ≤ bn) (hr : br ≤ bn) (h5 : K n = 5 → bl + br ≤ bn)
    (gl : vg_ l t bl) (gr : vg_ r t br) (ge : vg_ e t bn) : vg_ (vl_ru T P M K A H n t k l r e) t bn := by
  unfold vl_ru
  by_cases c0 : nI t ≤ H n
  · rw [if_pos c0]
    by_cases c1 : K n = 1
    · rw [if_pos c1]
      have a := h1 c1
      have p := nu_p64 T hT
      have q : ((A n).toInt64.toInt * (dt_G T).toInt).natAbs ≤ 64 * bn := by
        rw [Int32.toInt_toInt64, vg_G T hT, Int.natAbs_mul, Nat.mul_comm]
        exact Nat.mul_le_mul (by omega) a
      refine ⟨?_, (A n).toInt * 2 ^ (T - t), ?_⟩
      · rw [nu_mul64 (by omega)]; exact q
      · rw [nu_mul64 (by omega), Int32.toInt_toInt64, vg_G T hT, nu_pw ht, Int.mul_left_comm]
    · rw [if_neg c1]
      by_cases c2 : K n = 2
      · rw [if_pos c2]
        exact vg_mul gl (h2 c2) hn
      · rw [if_neg c2]
        by_cases c3 : K n = 3
        · rw [if_pos c3]
          exact vg_mul gl (Nat.le_trans (Nat.mul_le_mul_right _ (nu_px hP hM hT ht hk)) (h3 c3)) hn
        · rw [if_neg c3]
          have hl := h4 c2 c3
          by_cases c4 : K n = 4
          · rw [if_pos c4]; exact vg_m (vg_neg gl (by omega)) hl
          · rw [if_neg c4]
            by_cases c5 : K n = 5
            · rw [if_pos c5]; exact vg_add gl gr (h5 c5) hn
            · rw [if_neg c5]
              by_cases c6 : K n = 6
              · rw [if_pos c6]; exact vg_gt (vg_m gl hl) (vg_m gr hr)
              · rw [if_neg c6]
                by_cases c7 : K n = 7
                · rw [if_pos c7]
                  by_cases z : dt_px P M t k < A n
                  · rw [if_pos z]; exact vg_m gr hr
                  · rw [if_neg z]; exact vg_m gl hl
                · rw [if_neg c7]
                  by_cases c8 : K n = 8
                  · rw [if_pos c8]
                    by_cases z : nI t ≤ A n
                    · rw [if_pos z]
                      by_cases y : nI t = A n
                      · rw [if_pos y]; exact vg_m gl hl
                      · rw [if_neg y]; exact ge
                    · rw [if_neg z]; exact vg_0 _ _
                  · rw [if_neg c8]
                    by_cases c9 : K n = 9
                    · rw [if_pos c9]; exact vg_m gl hl
                    · rw [if_neg c9]
                      by_cases c10 : K n = 10
                      · rw [if_pos c10]
                        by_cases z : nI t = H n
                        · rw [if_pos z]; exact vg_m gl hl
                        · rw [if_neg z]; exact vg_gt (vg_m gl hl) ge
                      · rw [if_neg c10]; exact vg_0 _ _
  · rw [if_neg c0]; exact vg_0 _ _
def vb_ok (c T P M : Nat) (K A L R : Nat → Int32) (b : Nat → Nat) : Prop := ∀ p, p < c → 1 ≤ b p ∧ b p ≤ 1000000 ∧ (K p = 1 → (A p).toInt.natAbs ≤ b p) ∧
  (∀ l, l < 24 → L p = nI l → (K p = 2 → (A p).toInt.natAbs * b l ≤ b p) ∧ (K p = 3 → (P + T * M) * b l ≤ b p) ∧ (¬ K p = 2 → ¬ K p = 3 → b l ≤ b p)) ∧
  (∀ r, r < 24 → R p = nI r → b r ≤ b p ∧ ¬ K p = 2 ∧ ¬ K p = 3) ∧ (∀ l r, l < 24 → r < 24 → L p = nI l → R p = nI r → K p = 5 → b l + b r ≤ b p)
def vg_ok (c T : Nat) (V : Nat → Int64) (b : Nat → Nat) : Prop := ∀ n t k, n < c → t ≤ T → k ≤ t → vg_ (V (49 * n + 7 * t + k)) t (b n)
theorem vv_m1 {V : Nat → Int64} {t k : Nat} : dt_vv V (-1) t k = 0 := if_neg nu_m1le
theorem vv_nI {V : Nat → Int64} {n t k : Nat} (h : n < 24) : dt_vv V (nI n) t k = V (49 * n + 7 * t + k) := by
  unfold dt_vv
  rw [if_pos (nI_pos' (by omega)), nI_clamp (by omega)]
theorem vg_all {c T P M : Nat} {K A L R H : Nat → Int32} {V : Nat → Int64} {b : Nat → Nat} (h24 : c ≤ 24) (hP : P ≤ 100) (hM : M ≤ 10) (hT : T ≤ 6) (tr : dt_tr c L R) (hb : vb_ok c T P M K A L R b)
    (hV : ∀ n t k, n < c → t ≤ T → k ≤ t → V (49 * n + 7 * t + k) = vl_rv T P M K A L R H V n t k) : vg_ok c T V b := by
  intro n
  induction n using Nat.strongRecOn with
  | ind n ih =>
    have inner : ∀ j t k, T - t ≤ j → n < c → t ≤ T → k ≤ t → vg_ (V (49 * n + 7 * t + k)) t (b n) := by
      intro j
      induction j with
      | zero =>
        intro t k hj hn ht hk
        have e : dt_ex T V n t k = 0 := if_neg (by omega)
        rw [hV n t k hn ht hk]
        unfold vl_rv
        rw [e]
        obtain ⟨b1, b2, b3, b4, b5, b6⟩ := hb n hn
        obtain ⟨tl, tr'⟩ := tr.1 n hn
        rcases tl with tl | ⟨l, hl, tl⟩
        · rcases tr' with t2 | ⟨r, hr, t2⟩
          · rw [tl, t2, vv_m1]
            exact vg_ru (bl := 0) (br := 0) hP hM hT ht hk b2 b3 (by omega) (by omega) (by omega) (by omega) (by omega) (vg_0 _ _) (vg_0 _ _) (vg_0 _ _)
          · rw [tl, t2, vv_m1, vv_nI (by omega)]
            exact vg_ru (bl := 0) (br := b r) hP hM hT ht hk b2 b3 (by omega) (by omega) (by omega) (b5 r (by omega) t2).1 (by intro _; have := (b5 r (by omega) t2).1; omega) (vg_0 _ _) (ih r hr t k (by omega) ht hk) (vg_0 _ _)
        · obtain ⟨c2, c3, c4⟩ := b4 l (by omega) tl
          rcases tr' with t2 | ⟨r, hr, t2⟩
          · rw [tl, t2, vv_m1, vv_nI (by omega)]
            exact vg_ru (bl := b l) (br := 0) hP hM hT ht hk b2 b3 c2 c3 c4 (by omega) (by intro x; have := c4 (by rw [x]; decide) (by rw [x]; decide); omega) (ih l hl t k (by omega) ht hk) (vg_0 _ _) (vg_0 _ _)
          · rw [tl, t2, vv_nI (by omega), vv_nI (by omega)]
            exact vg_ru (bl := b l) (br := b r) hP hM hT ht hk b2 b3 c2 c3 c4 (b5 r (by omega) t2).1 (b6 l r (by omega) (by omega) tl t2) (ih l hl t k (by omega) ht hk) (ih r hr t k (by omega) ht hk) (vg_0 _ _)
      | succ j ihj =>
        intro t k hj hn ht hk
        obtain ⟨b1, b2, b3, b4, b5, b6⟩ := hb n hn
        have ge : vg_ (dt_ex T V n t k) t (b n) := by
          unfold dt_ex
          split
          · exact vg_ex (ihj (t + 1) k (by omega) hn (by omega) (by omega)) (ihj (t + 1) (k + 1) (by omega) hn (by omega) (by omega)) b2
          · exact vg_0 _ _
        rw [hV n t k hn ht hk]
        unfold vl_rv
        obtain ⟨tl, tr'⟩ := tr.1 n hn
        rcases tl with tl | ⟨l, hl, tl⟩
        · rcases tr' with t2 | ⟨r, hr, t2⟩
          · rw [tl, t2, vv_m1]
            exact vg_ru (bl := 0) (br := 0) hP hM hT ht hk b2 b3 (by omega) (by omega) (by omega) (by omega) (by omega) (vg_0 _ _) (vg_0 _ _) ge
          · rw [tl, t2, vv_m1, vv_nI (by omega)]
            exact vg_ru (bl := 0) (br := b r) hP hM hT ht hk b2 b3 (by omega) (by omega) (by omega) (b5 r (by omega) t2).1 (by intro _; have := (b5 r (by omega) t2).1; omega) (vg_0 _ _) (ih r hr t k (by omega) ht hk) ge
        · obtain ⟨c2, c3, c4⟩ := b4 l (by omega) tl
          rcases tr' with t2 | ⟨r, hr, t2⟩
          · rw [tl, t2, vv_m1, vv_nI (by omega)]
            exact vg_ru (bl := b l) (br := 0) hP hM hT ht hk b2 b3 c2 c3 c4 (by omega) (by intro x; have := c4 (by rw [x]; decide) (by rw [x]; decide); omega) (ih l hl t k (by omega) ht hk) (vg_0 _ _) ge
          · rw [tl, t2, vv_nI (by omega), vv_nI (by omega)]
            exact vg_ru (bl := b l) (br := b r) hP hM hT ht hk b2 b3 c2 c3 c4 (b5 r (by omega) t2).1 (b6 l r (by omega) (by omega) tl t2) (ih l hl t k (by omega) ht hk) (ih r hr t k (by omega) ht hk) ge
    intro t k hn ht hk
    exact inner (T - t) t k (Nat.le_refl _) hn ht hk
theorem vg_stk {w : Int32} {x y : Int64} {t b : Nat} (h : vg_ x (t + 1) b) (g : vg_ y (t + 1) b) (hb : b ≤ 1000000) (hw : w.toInt.natAbs ≤ 1000000) : (w.toInt64 * (x - y)) / 2 = w.toInt64 * ((x - y) / 2) := by
  obtain ⟨h1, z, h2⟩ := h
  obtain ⟨g1, u, g2⟩ := g
  have e : (x - y).toInt = x.toInt - y.toInt := by
    rw [Int64.toInt_sub]
    exact Int.bmod_eq_of_le (by omega) (by omega)
  have e2 : (x - y).toInt = 2 * (2 ^ t * (z - u)) := by
    rw [e, h2, g2, ← Int.mul_sub, Int.pow_succ, Int.mul_comm (2 ^ t) 2, Int.mul_assoc]
  have hv : (2 ^ t * (z - u)).natAbs ≤ 64000000 := by
    generalize 2 ^ t * (z - u) = v at e2
    omega
  generalize 2 ^ t * (z - u) = v at e2 hv
  generalize x - y = q at e e2 ⊢
  have e3 := nu_half e2
  have m1 : (w.toInt * v).natAbs ≤ 1000000 * 64000000 := by
    rw [Int.natAbs_mul]; exact Nat.mul_le_mul hw hv
  have m2 : (w.toInt64 * q).toInt = 2 * (w.toInt * v) := by
    rw [nu_mul64, Int32.toInt_toInt64, e2, Int.mul_left_comm]
    rw [Int32.toInt_toInt64, e2, Int.mul_left_comm]
    omega
  apply Int64.toInt_inj.mp
  rw [nu_half m2, nu_mul64, Int32.toInt_toInt64, e3]
  rw [Int32.toInt_toInt64, e3]
  omega
/-! weights -/
def wk_k (b : Nat → Nat) (n : Nat) (w : Int32) : Prop := w.toInt.natAbs * b n ≤ 1000000
theorem wk_lt {b : Nat → Nat} {n : Nat} {w : Int32} (h : wk_k b n w) (h1 : 1 ≤ b n) : w.toInt.natAbs ≤ 1000000 := by
  unfold wk_k at h
  calc w.toInt.natAbs = w.toInt.natAbs * 1 := (Nat.mul_one _).symm
    _ ≤ w.toInt.natAbs * b n := Nat.mul_le_mul_left _ h1
    _ ≤ 1000000 := h
theorem wk_hw {c : Nat} {T P M : Nat} {K A L R H pn : Nat → Int32} {V : Nat → Int64} {t k : Nat} {b : Nat → Nat} (hP : P ≤ 100) (hM : M ≤ 10) (hT : T ≤ 6) (ht : t ≤ T) (hk : k ≤ t) (hb : vb_ok c T P M K A L R b) {p n : Nat} (hp : p < c) (hn : n < c) (h24 : c ≤ 24) (he : L p = nI n ∨ R p = nI n) {w : Int32} (hw : wk_k b p w) : wk_k b n (dt_hw T P M K A L R H pn V t k p w) := by
  obtain ⟨b1, b2, b3, b4, b5, b6⟩ := hb p hp
  have n1 := (hb n hn).1
  have wl := wk_lt hw b1
  unfold wk_k at hw ⊢
  have key : ∀ q : Nat, q * b n ≤ b p → w.toInt.natAbs * q * b n ≤ 1000000 := by
    intro q hq
    calc w.toInt.natAbs * q * b n = w.toInt.natAbs * (q * b n) := Nat.mul_assoc _ _ _
      _ ≤ w.toInt.natAbs * b p := Nat.mul_le_mul_left _ hq
      _ ≤ 1000000 := hw
  have key1 : ∀ q : Nat, q * b n ≤ b p → w.toInt.natAbs * q ≤ 1000000 := by
    intro q hq
    calc w.toInt.natAbs * q = w.toInt.natAbs * q * 1 := (Nat.mul_one _).symm
      _ ≤ w.toInt.natAbs * q * b n := Nat.mul_le_mul_left _ n1
      _ ≤ 1000000 := key q hq
  have mulk : ∀ a : Int32, a.toInt.natAbs * b n ≤ b p → (w * a).toInt.natAbs * b n ≤ 1000000 := by
    intro a ha
    have x := key1 _ ha
    rw [nu_mul32 (by rw [Int.natAbs_mul]; omega), Int.natAbs_mul]
    exact key _ ha
  unfold dt_hw
  split
  · rename_i k2
    rcases he with he | he
    · exact mulk _ ((b4 n (by omega) he).1 k2)
    · exact ((b5 n (by omega) he).2.1 k2).elim
  · split
    · rename_i k2 k3
      rcases he with he | he
      · exact mulk _ (Nat.le_trans (Nat.mul_le_mul_right _ (nu_px hP hM hT ht hk)) ((b4 n (by omega) he).2.1 k3))
      · exact ((b5 n (by omega) he).2.2 k3).elim
    · rename_i k2 k3
      have hbn : b n ≤ b p := by
        rcases he with he | he
        · exact (b4 n (by omega) he).2.2 k2 k3
        · exact (b5 n (by omega) he).1
      have base : w.toInt.natAbs * b n ≤ 1000000 := Nat.le_trans (Nat.mul_le_mul_left _ hbn) hw
      split
      · have : (-w).toInt = -w.toInt := by
          rw [Int32.toInt_neg]
          exact Int.bmod_eq_of_le (by omega) (by omega)
        rw [this, Int.natAbs_neg]
        exact base
      · exact base
end
section
/-! the run keeps: weights of waiting nodes are small; a touched node's parent is done -/
def rg_ok (c : Nat) (L R : Nat → Int32) (b : Nat → Nat) (s : rn_S) : Prop := (∀ n, n < c → s.1 n = 1 → wk_k b n (s.2.1 n)) ∧ (∀ n, n < c → s.1 n ≠ 0 → n < dt_pr L R n c → dt_pr L R n c < c → s.1 (dt_pr L R n c) = 2)
theorem gl_2 {T P M : Nat} {K A L R H pn : Nat → Int32} {V : Nat → Int64} {t k : Nat} {p : Nat} (h : dt_gl T P M K A L R H pn V t k p = true ∨ dt_gr T P M K A L R H pn V t k p = true) : dt_st T P M K A L R H pn V t k p = 2 := by
  have ht : nI t ≤ H p := by
    rcases h with h | h
    · unfold dt_gl at h
      rw [Bool.and_eq_true, decide_eq_true_eq] at h
      exact h.1
    · unfold dt_gr at h
      rw [Bool.and_eq_true, decide_eq_true_eq] at h
      exact h.1
  unfold dt_st
  rw [if_pos ht]
  by_cases k8 : K p = 8
  · rw [if_pos k8]
    rcases h with h | h
    · unfold dt_gl at h
      rw [k8, if_neg (by decide), if_neg (by decide), if_pos rfl, Bool.and_eq_true, decide_eq_true_eq, decide_eq_true_eq] at h
      rw [if_pos (by rw [h.2]; exact Int32.le_refl _), if_pos h.2]
    · unfold dt_gr at h
      rw [k8, if_neg (by decide), if_neg (by decide), if_neg (by decide), Bool.and_false] at h
      exact (Bool.false_ne_true h).elim
  · rw [if_neg k8]
    by_cases k10 : K p = 10
    · rw [if_pos k10]
      rcases h with h | h
      · unfold dt_gl at h
        rw [k10, if_neg (by decide), if_neg (by decide), if_neg (by decide), if_pos rfl, Bool.and_eq_true, Bool.or_eq_true, decide_eq_true_eq, decide_eq_true_eq] at h
        by_cases g : H p ≤ nI t
        · rw [if_pos g]
        · rw [if_neg g]
          rcases h.2 with x | x
          · exact (g x).elim
          · rw [if_pos x]
      · unfold dt_gr at h
        rw [k10, if_neg (by decide), if_neg (by decide), if_neg (by decide), Bool.and_false] at h
        exact (Bool.false_ne_true h).elim
    · rw [if_neg k10]
theorem gv_g {L R : Nat → Int32} {gl gr : Nat → Bool} {p n : Nat} (h : dt_gv L R gl gr p n = true) : gl p = true ∨ gr p = true := by
  unfold dt_gv at h
  simp only [Bool.or_eq_true, Bool.and_eq_true, decide_eq_true_eq] at h
  rcases h with h | h
  · exact Or.inl h.1
  · exact Or.inr h.1
theorem rg_2 {c : Nat} {L R : Nat → Int32} {gl gr S0 : Nat → Bool} {st : Nat → Int32} (h2 : ∀ n, n < c → st n ≠ 0 → n < dt_pr L R n c → dt_pr L R n c < c → st (dt_pr L R n c) = 2) (hS : ∀ n, n < c → S0 n = true → st n = 1) : ∀ j m, m < c → c - m ≤ j → st m = 2 → dt_ac c L R gl gr S0 m = false := by
  intro j
  induction j with
  | zero => intro m hm h; omega
  | succ j ih =>
    intro m hm h h3
    cases a : dt_ac c L R gl gr S0 m with
    | false => rfl
    | true =>
      have s : S0 m = false := by
        cases g : S0 m with
        | false => rfl
        | true =>
          have := hS m hm g
          rw [h3] at this
          exact absurd this (by decide)
      obtain ⟨⟨q1, q2⟩, q3, q4⟩ := ac_p s a
      have := ih _ q2 (by omega) (h2 m hm (by rw [h3]; decide) q1 q2)
      rw [q3] at this
      exact this
theorem rg_S {c : Nat} {L R : Nat → Int32} {gl gr S0 : Nat → Bool} {st : Nat → Int32} (h2 : ∀ n, n < c → st n ≠ 0 → n < dt_pr L R n c → dt_pr L R n c < c → st (dt_pr L R n c) = 2) (hS : ∀ n, n < c → S0 n = true → st n = 1) : ∀ n, n < c → S0 n = true → n < dt_pr L R n c → dt_pr L R n c < c → dt_ac c L R gl gr S0 (dt_pr L R n c) = false := by
  intro n hn hs h h'
  exact rg_2 h2 hS (c - dt_pr L R n c) _ h' (Nat.le_refl _) (h2 n hn (by rw [hS n hn hs]; decide) h h')
theorem rg_W {c : Nat} {T P M : Nat} {K A L R H pn : Nat → Int32} {V : Nat → Int64} {t k : Nat} {S0 : Nat → Bool} {wt0 : Nat → Int32} {b : Nat → Nat} (hP : P ≤ 100) (hM : M ≤ 10) (hT : T ≤ 6) (ht : t ≤ T) (hk : k ≤ t) (hb : vb_ok c T P M K A L R b) (tr : dt_tr c L R) (h24 : c ≤ 24)
    (hw : ∀ n, n < c → S0 n = true → wk_k b n (wt0 n)) : ∀ j n, n < c → c - n ≤ j → dt_ac c L R (dt_gl T P M K A L R H pn V t k) (dt_gr T P M K A L R H pn V t k) S0 n = true → wk_k b n (dt_wt c L R (dt_hw T P M K A L R H pn V t k) S0 wt0 n) := by
  intro j
  induction j with
  | zero => intro n hn h; omega
  | succ j ih =>
    intro n hn h a
    cases g : S0 n with
    | true => rw [wt_S g]; exact hw n hn g
    | false =>
      obtain ⟨⟨q1, q2⟩, q3, q4⟩ := ac_p g a
      rw [wt_g tr h24 q2 hn g (gv_ch q4)]
      exact wk_hw hP hM hT ht hk hb q2 hn h24 (gv_ch q4) (ih _ q2 (by omega) q3)
theorem rg_dt {c : Nat} {T P M : Nat} {K A L R H pn : Nat → Int32} {V : Nat → Int64} {t k : Nat} {S0 : Nat → Bool} {s : rn_S} {b : Nat → Nat} (hP : P ≤ 100) (hM : M ≤ 10) (hT : T ≤ 6) (ht : t ≤ T) (hk : k ≤ t) (hb : vb_ok c T P M K A L R b) (tr : dt_tr c L R) (h24 : c ≤ 24)
    (g : rg_ok c L R b s) (hw : ∀ n, n < c → S0 n = true → wk_k b n (s.2.1 n)) (hS : ∀ n, n < c → S0 n = true → n < dt_pr L R n c → dt_pr L R n c < c → s.1 (dt_pr L R n c) = 2)
    (h2 : ∀ n, n < c → s.1 n = 2 → dt_ac c L R (dt_gl T P M K A L R H pn V t k) (dt_gr T P M K A L R H pn V t k) S0 n = false) : rg_ok c L R b (rn_dt c T P M K A L R H pn V t k S0 s) := by
  obtain ⟨g1, g2⟩ := g
  have aw := fun n hn => rg_W (pn := pn) (V := V) (H := H) hP hM hT ht hk hb tr h24 hw (c - n) n hn (Nat.le_refl _)
  constructor
  · intro n hn h
    show wk_k b n (if dt_ac c L R (dt_gl T P M K A L R H pn V t k) (dt_gr T P M K A L R H pn V t k) S0 n = true then dt_wt c L R (dt_hw T P M K A L R H pn V t k) S0 s.2.1 n else s.2.1 n)
    by_cases a : dt_ac c L R (dt_gl T P M K A L R H pn V t k) (dt_gr T P M K A L R H pn V t k) S0 n = true
    · rw [if_pos a]; exact aw n hn a
    · rw [if_neg a]
      have h' : (if dt_ac c L R (dt_gl T P M K A L R H pn V t k) (dt_gr T P M K A L R H pn V t k) S0 n = true then dt_st T P M K A L R H pn V t k n else s.1 n) = 1 := h
      rw [if_neg a] at h'
      exact g1 n hn h'
  · intro n hn h q1 q2
    show (if dt_ac c L R (dt_gl T P M K A L R H pn V t k) (dt_gr T P M K A L R H pn V t k) S0 (dt_pr L R n c) = true then dt_st T P M K A L R H pn V t k (dt_pr L R n c) else s.1 (dt_pr L R n c)) = 2
    have fin : s.1 (dt_pr L R n c) = 2 → (if dt_ac c L R (dt_gl T P M K A L R H pn V t k) (dt_gr T P M K A L R H pn V t k) S0 (dt_pr L R n c) = true then dt_st T P M K A L R H pn V t k (dt_pr L R n c) else s.1 (dt_pr L R n c)) = 2 := by
      intro z
      rw [h2 _ q2 z, if_neg Bool.false_ne_true]
      exact z
    by_cases a : dt_ac c L R (dt_gl T P M K A L R H pn V t k) (dt_gr T P M K A L R H pn V t k) S0 n = true
    · cases e : S0 n with
      | true => exact fin (hS n hn e q1 q2)
      | false =>
        obtain ⟨_, q3, q4⟩ := ac_p e a
        rw [if_pos q3]
        exact gl_2 (gv_g q4)
    · have h' : (if dt_ac c L R (dt_gl T P M K A L R H pn V t k) (dt_gr T P M K A L R H pn V t k) S0 n = true then dt_st T P M K A L R H pn V t k n else s.1 n) ≠ 0 := h
      rw [if_neg a] at h'
      exact fin (g2 n hn h' q1 q2)
theorem up_le {pa : Nat → Int32} : ∀ d, rn_up pa d ≤ d := by
  intro d
  induction d with
  | zero => exact Nat.le_refl _
  | succ d ih =>
    show rn_up pa d + (if pa d = 1 then 1 else 0) ≤ d + 1
    split <;> omega
theorem root_np {c : Nat} {L R : Nat → Int32} (tr : dt_tr c L R) (h24 : c ≤ 24) {n : Nat} (hn : n < c) (e : n = c - 1) (h : n < dt_pr L R n c) : False := by
  rw [pr_no c] at h
  · omega
  · intro p hp z
    have := tr_lt tr h24 hp hn z
    omega
theorem rg_rn {c T P M : Nat} {K A L R H : Nat → Int32} {V : Nat → Int64} {pa pA : Nat → Int32} {b : Nat → Nat} (hP : P ≤ 100) (hM : M ≤ 10) (hT : T ≤ 6) (hb : vb_ok c T P M K A L R b) (tr : dt_tr c L R) (h24 : c ≤ 24) : ∀ d, d ≤ T → rg_ok c L R b (rn c T P M K A L R H V pa pA d) := by
  intro d
  induction d with
  | zero =>
    intro _
    refine rg_dt hP hM hT (Nat.zero_le _) (Nat.le_refl _) hb tr h24 ⟨?_, ?_⟩ ?_ ?_ ?_
    · intro n _ h; exact absurd (show (0 : Int32) = 1 from h) (by decide)
    · intro n _ h; exact absurd rfl h
    · intro n hn h
      rw [decide_eq_true_eq] at h
      have : (rn_s0 c).2.1 n = 1 := if_pos h
      rw [this]
      unfold wk_k
      have := (hb n hn).2.1
      rw [show (1 : Int32).toInt.natAbs = 1 from by decide]
      omega
    · intro n hn h q1 q2
      rw [decide_eq_true_eq] at h
      exact (root_np tr h24 hn h q1).elim
    · intro n _ h; exact absurd (show (0 : Int32) = 2 from h) (by decide)
  | succ d ih =>
    intro hd
    have g := ih (by omega)
    have hs : ∀ n, n < c → rn_W (rn c T P M K A L R H V pa pA d) n = true → (rn c T P M K A L R H V pa pA d).1 n = 1 := by
      intro n _ h
      exact of_decide_eq_true h
    refine rg_dt (s := rn_ga c T V pa d (rn c T P M K A L R H V pa pA d)) hP hM hT hd (up_le _) hb tr h24 g ?_ ?_ ?_
    · intro n hn h
      exact g.1 n hn (hs n hn h)
    · intro n hn h q1 q2
      exact g.2 n hn (by rw [hs n hn h]; decide) q1 q2
    · intro n hn h
      exact rg_2 g.2 hs (c - n) n hn (Nat.le_refl _) h
end
section
/-! what a node does, kind by kind -/
def tb_is (T P M : Nat) (K A L R H pn : Nat → Int32) (V : Nat → Int64) (t k : Nat) (n : Nat) (s : Int32) (l r : Bool) (f : Int32 → Int32) (dc ls : Int32 → Int64) : Prop :=
  dt_st T P M K A L R H pn V t k n = s ∧ dt_gl T P M K A L R H pn V t k n = l ∧ dt_gr T P M K A L R H pn V t k n = r ∧ (∀ w, l = true ∨ r = true → dt_hw T P M K A L R H pn V t k n w = f w) ∧ (∀ w, dt_dC T P M K A L R H pn V t k n w = dc w) ∧ (∀ w, dt_dH T P M K A L R H pn V t k n w = if w ≤ 0 then 0 else ls w) ∧ (∀ w, dt_dX T P M K A L R H pn V t k n w = if w ≤ 0 then -(ls w) else 0)
section
variable {T P M : Nat} {K A L R H pn : Nat → Int32} {V : Nat → Int64} {t k : Nat} {n : Nat}
theorem tb_lap (ht : ¬ nI t ≤ H n) : tb_is T P M K A L R H pn V t k n 3 false false (fun w => w) (fun _ => 0) (fun _ => 0) := by
  refine ⟨?_, ?_, ?_, ?_, ?_, ?_, ?_⟩
  · simp [dt_st, ht]
  · simp [dt_gl, ht]
  · simp [dt_gr, ht]
  · intro w h; simp at h
  · intro w; simp [dt_dC, ht]
  · intro w; simp [dt_dH, dt_ls, ht]
  · intro w; simp [dt_dX, dt_ls, ht]
theorem tb_0 (hK : K n = 0) (ht : nI t ≤ H n) : tb_is T P M K A L R H pn V t k n 2 false false (fun w => w) (fun _ => 0) (fun _ => 0) := by
  refine ⟨?_, ?_, ?_, ?_, ?_, ?_, ?_⟩
  · simp [dt_st, ht, hK]
  · simp [dt_gl, ht, hK]
  · simp [dt_gr, ht, hK]
  · intro w h; simp at h
  · intro w; simp [dt_dC, ht, hK]
  · intro w; simp [dt_dH, dt_ls, ht, hK]
  · intro w; simp [dt_dX, dt_ls, ht, hK]
theorem tb_1 (hK : K n = 1) (ht : nI t ≤ H n) : tb_is T P M K A L R H pn V t k n 2 false false (fun w => w) (fun w => w.toInt64 * ((A n).toInt64 * dt_G T)) (fun _ => 0) := by
  refine ⟨?_, ?_, ?_, ?_, ?_, ?_, ?_⟩
  · simp [dt_st, ht, hK]
  · simp [dt_gl, ht, hK]
  · simp [dt_gr, ht, hK]
  · intro w h; simp at h
  · intro w; simp [dt_dC, ht, hK]
  · intro w; simp [dt_dH, dt_ls, ht, hK]
  · intro w; simp [dt_dX, dt_ls, ht, hK]
theorem tb_2 (hK : K n = 2) (ht : nI t ≤ H n) : tb_is T P M K A L R H pn V t k n 2 true false (fun w => w * A n) (fun _ => 0) (fun _ => 0) := by
  refine ⟨?_, ?_, ?_, ?_, ?_, ?_, ?_⟩
  · simp [dt_st, ht, hK]
  · simp [dt_gl, ht, hK]
  · simp [dt_gr, ht, hK]
  · intro w h; simp [dt_hw, hK]
  · intro w; simp [dt_dC, ht, hK]
  · intro w; simp [dt_dH, dt_ls, ht, hK]
  · intro w; simp [dt_dX, dt_ls, ht, hK]
theorem tb_3 (hK : K n = 3) (ht : nI t ≤ H n) : tb_is T P M K A L R H pn V t k n 2 true false (fun w => w * dt_px P M t k) (fun _ => 0) (fun _ => 0) := by
  refine ⟨?_, ?_, ?_, ?_, ?_, ?_, ?_⟩
  · simp [dt_st, ht, hK]
  · simp [dt_gl, ht, hK]
  · simp [dt_gr, ht, hK]
  · intro w h; simp [dt_hw, hK]
  · intro w; simp [dt_dC, ht, hK]
  · intro w; simp [dt_dH, dt_ls, ht, hK]
  · intro w; simp [dt_dX, dt_ls, ht, hK]
theorem tb_4 (hK : K n = 4) (ht : nI t ≤ H n) : tb_is T P M K A L R H pn V t k n 2 true false (fun w => -w) (fun _ => 0) (fun _ => 0) := by
  refine ⟨?_, ?_, ?_, ?_, ?_, ?_, ?_⟩
  · simp [dt_st, ht, hK]
  · simp [dt_gl, ht, hK]
  · simp [dt_gr, ht, hK]
  · intro w h; simp [dt_hw, hK]
  · intro w; simp [dt_dC, ht, hK]
  · intro w; simp [dt_dH, dt_ls, ht, hK]
  · intro w; simp [dt_dX, dt_ls, ht, hK]
theorem tb_5 (hK : K n = 5) (ht : nI t ≤ H n) : tb_is T P M K A L R H pn V t k n 2 true true (fun w => w) (fun _ => 0) (fun _ => 0) := by
  refine ⟨?_, ?_, ?_, ?_, ?_, ?_, ?_⟩
  · simp [dt_st, ht, hK]
  · simp [dt_gl, ht, hK]
  · simp [dt_gr, ht, hK]
  · intro w h; simp [dt_hw, hK]
  · intro w; simp [dt_dC, ht, hK]
  · intro w; simp [dt_dH, dt_ls, ht, hK]
  · intro w; simp [dt_dX, dt_ls, ht, hK]
theorem tb_6 (hK : K n = 6) (ht : nI t ≤ H n) : tb_is T P M K A L R H pn V t k n 2 (dt_fE T P M K A L R H pn V t k n) (!dt_fE T P M K A L R H pn V t k n) (fun w => w) (fun _ => 0) (fun w => w.toInt64 * dt_lo (pn n) (dt_vv V (L n) t k) (dt_vv V (R n) t k)) := by
  refine ⟨?_, ?_, ?_, ?_, ?_, ?_, ?_⟩
  · simp [dt_st, ht, hK]
  · simp [dt_gl, ht, hK]
  · simp [dt_gr, ht, hK]
  · intro w h; simp [dt_hw, hK]
  · intro w; simp [dt_dC, ht, hK]
  · intro w; simp [dt_dH, dt_ls, ht, hK]
  · intro w; simp [dt_dX, dt_ls, ht, hK]
theorem tb_7 (hK : K n = 7) (ht : nI t ≤ H n) : tb_is T P M K A L R H pn V t k n 2 (!decide (dt_px P M t k < A n)) (decide (dt_px P M t k < A n)) (fun w => w) (fun _ => 0) (fun _ => 0) := by
  refine ⟨?_, ?_, ?_, ?_, ?_, ?_, ?_⟩
  · simp [dt_st, ht, hK]
  · simp [dt_gl, ht, hK]
  · simp [dt_gr, ht, hK]
  · intro w h; simp [dt_hw, hK]
  · intro w; simp [dt_dC, ht, hK]
  · intro w; simp [dt_dH, dt_ls, ht, hK]
  · intro w; simp [dt_dX, dt_ls, ht, hK]
theorem tb_8l (hK : K n = 8) (ht : nI t ≤ H n) (ha : ¬ nI t ≤ A n) : tb_is T P M K A L R H pn V t k n 3 false false (fun w => w) (fun _ => 0) (fun _ => 0) := by
  have hb : ¬ nI t = A n := fun e => ha (by rw [e]; exact Int32.le_refl _)
  refine ⟨?_, ?_, ?_, ?_, ?_, ?_, ?_⟩
  · simp [dt_st, ht, hK, ha]
  · simp [dt_gl, ht, hK, hb]
  · simp [dt_gr, ht, hK]
  · intro w h; simp at h
  · intro w; simp [dt_dC, ht, hK]
  · intro w; simp [dt_dH, dt_ls, ht, hK]
  · intro w; simp [dt_dX, dt_ls, ht, hK]
theorem tb_8e (hK : K n = 8) (ht : nI t ≤ H n) (hb : nI t = A n) : tb_is T P M K A L R H pn V t k n 2 true false (fun w => w) (fun _ => 0) (fun _ => 0) := by
  have ha : nI t ≤ A n := by rw [hb]; exact Int32.le_refl _
  refine ⟨?_, ?_, ?_, ?_, ?_, ?_, ?_⟩
  · unfold dt_st; rw [if_pos ht, if_pos hK, if_pos ha, if_pos hb]
  · unfold dt_gl; rw [hK, decide_eq_true ht, if_neg (by decide), if_neg (by decide), if_pos rfl, decide_eq_true hb]; rfl
  · simp [dt_gr, ht, hK]
  · intro w h; simp [dt_hw, hK]
  · intro w; simp [dt_dC, ht, hK]
  · intro w; simp [dt_dH, dt_ls, ht, hK]
  · intro w; simp [dt_dX, dt_ls, ht, hK]
theorem tb_8w (hK : K n = 8) (ht : nI t ≤ H n) (ha : nI t ≤ A n) (hb : ¬ nI t = A n) : tb_is T P M K A L R H pn V t k n 1 false false (fun w => w) (fun _ => 0) (fun _ => 0) := by
  refine ⟨?_, ?_, ?_, ?_, ?_, ?_, ?_⟩
  · simp [dt_st, ht, hK, ha, hb]
  · simp [dt_gl, ht, hK, hb]
  · simp [dt_gr, ht, hK]
  · intro w h; simp at h
  · intro w; simp [dt_dC, ht, hK]
  · intro w; simp [dt_dH, dt_ls, ht, hK]
  · intro w; simp [dt_dX, dt_ls, ht, hK]
theorem tb_9 (hK : K n = 9) (ht : nI t ≤ H n) : tb_is T P M K A L R H pn V t k n 2 true false (fun w => w) (fun _ => 0) (fun _ => 0) := by
  refine ⟨?_, ?_, ?_, ?_, ?_, ?_, ?_⟩
  · simp [dt_st, ht, hK]
  · simp [dt_gl, ht, hK]
  · simp [dt_gr, ht, hK]
  · intro w h; simp [dt_hw, hK]
  · intro w; simp [dt_dC, ht, hK]
  · intro w; simp [dt_dH, dt_ls, ht, hK]
  · intro w; simp [dt_dX, dt_ls, ht, hK]
theorem tb_10e (hK : K n = 10) (ht : nI t ≤ H n) (hb : H n ≤ nI t) : tb_is T P M K A L R H pn V t k n 2 true false (fun w => w) (fun _ => 0) (fun _ => 0) := by
  refine ⟨?_, ?_, ?_, ?_, ?_, ?_, ?_⟩
  · simp [dt_st, ht, hK, hb]
  · simp [dt_gl, ht, hK, hb]
  · simp [dt_gr, ht, hK]
  · intro w h; simp [dt_hw, hK]
  · intro w; simp [dt_dC, ht, hK]
  · intro w; simp [dt_dH, dt_ls, ht, hK, hb]
  · intro w; simp [dt_dX, dt_ls, ht, hK, hb]
theorem tb_10c (hK : K n = 10) (ht : nI t ≤ H n) (hb : ¬ H n ≤ nI t) : tb_is T P M K A L R H pn V t k n (if dt_fA T P M K A L R H pn V t k n = true then 2 else 1) (dt_fA T P M K A L R H pn V t k n) false (fun w => w) (fun _ => 0) (fun w => w.toInt64 * dt_lo (pn n) (dt_vv V (L n) t k) (dt_ex T V n t k)) := by
  have el : dt_ls T P M K A L R H pn V t k n = dt_lo (pn n) (dt_vv V (L n) t k) (dt_ex T V n t k) := by
    unfold dt_ls
    rw [if_pos ht, hK, if_neg (by decide), if_pos ⟨rfl, hb⟩]
  refine ⟨?_, ?_, ?_, ?_, ?_, ?_, ?_⟩
  · unfold dt_st; rw [if_pos ht, hK, if_neg (by decide), if_pos rfl, if_neg hb]
  · unfold dt_gl; rw [hK, decide_eq_true ht, if_neg (by decide), if_neg (by decide), if_neg (by decide), if_pos rfl, decide_eq_false hb]; simp
  · simp [dt_gr, ht, hK]
  · intro w h; simp [dt_hw, hK]
  · intro w; simp [dt_dC, ht, hK]
  · intro w; unfold dt_dH; rw [el]
  · intro w; unfold dt_dX; rw [el]
end
theorem w1_f {x w : Int32} {a : Nat → Int32} : dt_w1 false x w a = a := if_neg (fun h => Bool.false_ne_true h.1)
theorem p1_f {x : Int32} {pc : Nat} {a : Nat → Int32} : dt_p1 false x pc a = a := if_neg (fun h => Bool.false_ne_true h.1)
theorem c1_f {x : Int32} {pc : Nat} : dt_c1 false x pc = pc := if_neg (fun h => Bool.false_ne_true h.1)
theorem w1_m {g : Bool} {w : Int32} {a : Nat → Int32} : dt_w1 g (-1) w a = a := if_neg (fun h => nu_m1le h.2)
theorem p1_m {g : Bool} {pc : Nat} {a : Nat → Int32} : dt_p1 g (-1) pc a = a := if_neg (fun h => nu_m1le h.2)
theorem c1_m {g : Bool} {pc : Nat} : dt_c1 g (-1) pc = pc := if_neg (fun h => nu_m1le h.2)
theorem w1_t {l : Nat} {w : Int32} {a : Nat → Int32} (h : l < 24) : dt_w1 true (nI l) w a = upd a l w := by
  unfold dt_w1
  rw [if_pos ⟨rfl, nI_pos' (by omega)⟩, nI_clamp (by omega)]
theorem p1_t {l pc : Nat} {a : Nat → Int32} (h : l < 24) : dt_p1 true (nI l) pc a = upd a pc (nI l) := if_pos ⟨rfl, nI_pos' (by omega)⟩
theorem c1_t {l pc : Nat} (h : l < 24) : dt_c1 true (nI l) pc = pc + 1 := if_pos ⟨rfl, nI_pos' (by omega)⟩
end
section
/-! X: the small methods and the visit of a node -/
section
variable {T P M C c hh d k pc : Nat} {ca ga hs cs : Int64} {sg : Int32} {K A L R B F PN H S st wt pd oS oW oU : Nat → Int32} {V oC oG oH oX : Nat → Int64}
theorem xx_acq {post : SX → Prop} {x w : Int32} (hx : x = -1 ∨ ∃ l, l < 24 ∧ x = nI l) (hp : ¬ x = -1 → pc < 24) (h : post (nI T, nI P, nI M, nI C, dt_G T, nI c, nI hh, sg, nI d, nI k, ca, ga, hs, cs, nI (dt_c1 true x pc), K, A, L, R, B, F, PN, H, S, V, st, dt_w1 true x w wt, dt_p1 true x pc pd, oS, oW, oU, oC, oG, oH, oX)) : wpX_acquire post (nI T, nI P, nI M, nI C, dt_G T, nI c, nI hh, sg, nI d, nI k, ca, ga, hs, cs, nI pc, K, A, L, R, B, F, PN, H, S, V, st, wt, pd, oS, oW, oU, oC, oG, oH, oX) x w := by
  unfold wpX_acquire
  rcases hx with rfl | ⟨l, hl, rfl⟩
  · rw [c1_m, w1_m, p1_m] at h
    exact br_t nu_m1lt h
  · have hp := hp (nu_neg (by omega))
    rw [c1_t hl, w1_t hl, p1_t hl] at h
    refine br_f (nI_pos (by omega)) (br_t (nI_lt (b := 24) hp (by decide)) ⟨vp_in_nI hl (by decide), ?_⟩)
    refine nm_r (e' := upd wt l w) (by rw [nI_clamp (by omega)]) ⟨vp_in_nI hp (by decide), ?_⟩
    refine nm_r (e' := upd pd pc (nI l)) (by rw [nI_clamp (by omega)]) ?_
    exact nm_r (nI_1 pc) h
theorem xx_val {post : Int64 → Prop} {x : Int32} {t q : Nat} (hx : x = -1 ∨ ∃ l, l < 24 ∧ x = nI l) (ht : t < 7) (hq : q < 7) (h : post (dt_vv V x t q)) : wpX_value post (nI T, nI P, nI M, nI C, dt_G T, nI c, nI hh, sg, nI d, nI k, ca, ga, hs, cs, nI pc, K, A, L, R, B, F, PN, H, S, V, st, wt, pd, oS, oW, oU, oC, oG, oH, oX) x (nI t) (nI q) := by
  unfold wpX_value
  rcases hx with rfl | ⟨l, hl, rfl⟩
  · rw [vv_m1] at h
    exact br_f nu_m1le h
  · rw [vv_nI hl] at h
    refine br_t (nI_pos' (by omega)) ?_
    unfold wpX_cellOf
    dsimp only
    rw [nu_cell]
    exact ⟨vp_in_nI (by omega) (by decide), by rw [nI_clamp (by omega)]; exact h⟩
theorem xx_exp {post : Int64 → Prop} {n t q : Nat} (hn : n < 24) (ht : t ≤ T) (hT : T ≤ 6) (hq : q ≤ t) (h : post (dt_ex T V n t q)) : wpX_expected post (nI T, nI P, nI M, nI C, dt_G T, nI c, nI hh, sg, nI d, nI k, ca, ga, hs, cs, nI pc, K, A, L, R, B, F, PN, H, S, V, st, wt, pd, oS, oW, oU, oC, oG, oH, oX) (nI n) (nI t) (nI q) := by
  unfold wpX_expected
  unfold dt_ex at h
  by_cases e : t < T
  · rw [if_pos e] at h
    refine br_t (nI_lt e (by omega)) ?_
    rw [nI_1 t, nI_1 q]
    refine xx_val (Or.inr ⟨n, hn, rfl⟩) (by omega) (by omega) ?_
    refine xx_val (Or.inr ⟨n, hn, rfl⟩) (by omega) (by omega) ?_
    rw [vv_nI hn, vv_nI hn]
    exact ⟨by decide, h⟩
  · rw [if_neg e] at h
    exact br_f (nI_nlt (by omega) (by omega)) h
theorem xx_hsp {post : Int64 → Prop} {n t q : Nat} (hn : n < 24) (ht : t ≤ T) (hT : T ≤ 6) (hq : q ≤ t) (h : post (dt_hp T V n t q)) : wpX_halfSpread post (nI T, nI P, nI M, nI C, dt_G T, nI c, nI hh, sg, nI d, nI k, ca, ga, hs, cs, nI pc, K, A, L, R, B, F, PN, H, S, V, st, wt, pd, oS, oW, oU, oC, oG, oH, oX) (nI n) (nI t) (nI q) := by
  unfold wpX_halfSpread
  unfold dt_hp at h
  by_cases e : t < T
  · rw [if_pos e] at h
    refine br_t (nI_lt e (by omega)) ?_
    rw [nI_1 t, nI_1 q]
    refine xx_val (Or.inr ⟨n, hn, rfl⟩) (by omega) (by omega) ?_
    refine xx_val (Or.inr ⟨n, hn, rfl⟩) (by omega) (by omega) ?_
    rw [vv_nI hn, vv_nI hn]
    exact ⟨by decide, h⟩
  · rw [if_neg e] at h
    exact br_f (nI_nlt (by omega) (by omega)) h
theorem xx_gt {post : Int64 → Prop} {a b : Int64} (h : post (dt_gt a b)) : wpX_greater post (nI T, nI P, nI M, nI C, dt_G T, nI c, nI hh, sg, nI d, nI k, ca, ga, hs, cs, nI pc, K, A, L, R, B, F, PN, H, S, V, st, wt, pd, oS, oW, oU, oC, oG, oH, oX) a b := by
  unfold wpX_greater
  unfold dt_gt at h
  by_cases e : a ≤ b
  · rw [if_pos e] at h; exact br_t e h
  · rw [if_neg e] at h; exact br_f e h
theorem xx_c51 {post : Int32 → SX → Prop} {n : Nat} {z : Int32} {u v : Int64} (hn : n < 24) (hz : z = 0 ∨ z = 1) (h : post z (nI T, nI P, nI M, nI C, dt_G T, nI c, nI hh, sg, nI d, nI k, ca, ga, hs + (if wt n ≤ 0 then 0 else (wt n).toInt64 * (v - u)), cs + (if wt n ≤ 0 then -((wt n).toInt64 * (v - u)) else 0), nI pc, K, A, L, R, B, F, PN, H, S, V, st, wt, pd, oS, oW, oU, oC, oG, oH, oX)) : wX_choose_51 post (nI n) z u v (nI T) (nI P) (nI M) (nI C) (dt_G T) (nI c) (nI hh) sg (nI d) (nI k) ca ga hs cs (nI pc) K A L R B F PN H S V st wt pd oS oW oU oC oG oH oX := by
  have hz' : narrow .boolean (.int z) = .int z := by rcases hz with rfl | rfl <;> rfl
  unfold wX_choose_51
  refine nm_e ⟨vp_in_nI hn (by decide), nm_r (e' := (wt n).toInt64) (by rw [nI_clamp (by omega)]) ?_⟩
  by_cases e : wt n ≤ 0
  · rw [if_pos e, if_pos e, Int64.add_zero, ← Int64.sub_eq_add_neg] at h
    exact br_t (nu_l0.mpr e) (nm_e ⟨hz', h⟩)
  · rw [if_neg e, if_neg e, Int64.add_zero] at h
    exact br_f (fun x => e (nu_l0.mp x)) (nm_e ⟨hz', h⟩)
theorem xx_c31 {post : Int32 → SX → Prop} {n : Nat} {g : Bool} {a b : Int64} (hn : n < 24) (hg : dt_fs (PN n) a b = g) (h : post (if g = true then 1 else 0) (nI T, nI P, nI M, nI C, dt_G T, nI c, nI hh, sg, nI d, nI k, ca, ga, hs + (if wt n ≤ 0 then 0 else (wt n).toInt64 * dt_lo (PN n) a b), cs + (if wt n ≤ 0 then -((wt n).toInt64 * dt_lo (PN n) a b) else 0), nI pc, K, A, L, R, B, F, PN, H, S, V, st, wt, pd, oS, oW, oU, oC, oG, oH, oX)) : wX_choose_31 post (nI n) a b (if g = true then 1 else 0) (nI T) (nI P) (nI M) (nI C) (dt_G T) (nI c) (nI hh) sg (nI d) (nI k) ca ga hs cs (nI pc) K A L R B F PN H S V st wt pd oS oW oU oC oG oH oX := by
  unfold wX_choose_31
  unfold dt_lo at h
  rw [hg] at h
  refine xx_gt ?_
  cases g with
  | true => exact br_f (by decide) (xx_c51 hn (Or.inr rfl) h)
  | false => exact br_t (by decide) (xx_c51 hn (Or.inl rfl) h)
theorem xx_cho {post : Int32 → SX → Prop} {n : Nat} {a b : Int64} (hn : n < 24) (h : post (if dt_fs (PN n) a b = true then 1 else 0) (nI T, nI P, nI M, nI C, dt_G T, nI c, nI hh, sg, nI d, nI k, ca, ga, hs + (if wt n ≤ 0 then 0 else (wt n).toInt64 * dt_lo (PN n) a b), cs + (if wt n ≤ 0 then -((wt n).toInt64 * dt_lo (PN n) a b) else 0), nI pc, K, A, L, R, B, F, PN, H, S, V, st, wt, pd, oS, oW, oU, oC, oG, oH, oX)) : wpX_choose post (nI T, nI P, nI M, nI C, dt_G T, nI c, nI hh, sg, nI d, nI k, ca, ga, hs, cs, nI pc, K, A, L, R, B, F, PN, H, S, V, st, wt, pd, oS, oW, oU, oC, oG, oH, oX) (nI n) a b := by
  unfold wpX_choose
  have i := vp_in_nI hn (N := 24) (by decide)
  have e := nI_clamp (n := n) (by omega)
  refine ⟨i, ?_⟩
  rw [e]
  by_cases h1 : PN n = 1
  · have hg : dt_fs (PN n) a b = true := by unfold dt_fs; rw [decide_eq_true h1]; rfl
    rw [hg] at h
    exact br_t h1 (xx_c31 (g := true) hn hg h)
  · refine br_f h1 ⟨i, ?_⟩
    by_cases h0 : PN n = 0
    · refine br_t h0 ?_
      by_cases hl : a < b
      · have hg : dt_fs (PN n) a b = false := by unfold dt_fs; rw [decide_eq_false h1, decide_eq_true hl, Bool.false_or]; simp
        rw [hg] at h
        exact br_t hl (xx_c31 (g := false) hn hg h)
      · have hg : dt_fs (PN n) a b = true := by unfold dt_fs; rw [decide_eq_true h0, decide_eq_false hl]; simp
        rw [hg] at h
        exact br_f hl (xx_c31 (g := true) hn hg h)
    · have hg : dt_fs (PN n) a b = false := by unfold dt_fs; rw [decide_eq_false h1, decide_eq_false h0]; simp
      rw [hg] at h
      exact br_f h0 (xx_c31 (g := false) hn hg h)
end
section
variable {T P M C c hh d k pc : Nat} {ca ga hs cs : Int64} {sg : Int32} {K A L R B F PN H S st wt pd oS oW oU : Nat → Int32} {V oC oG oH oX : Nat → Int64}
theorem xx_visit {post : SX → Prop} {n : Nat} (hn : n < 24) (hT : T ≤ 6) (hd : d ≤ T) (hk : k ≤ d) (hK : ∃ q, q ≤ 10 ∧ K n = nI q) (hL : L n = -1 ∨ ∃ l, l < 24 ∧ L n = nI l) (hR : R n = -1 ∨ ∃ l, l < 24 ∧ R n = nI l) (hp : pc < 24) (hp2 : nI d ≤ H n → K n = 5 → pc + 1 < 24)
    (h : post (nI T, nI P, nI M, nI C, dt_G T, nI c, nI hh, sg, nI d, nI k, ca + dt_dC T P M K A L R H PN V d k n (wt n), ga, hs + dt_dH T P M K A L R H PN V d k n (wt n), cs + dt_dX T P M K A L R H PN V d k n (wt n), nI (dt_c1 (dt_gr T P M K A L R H PN V d k n) (R n) (dt_c1 (dt_gl T P M K A L R H PN V d k n) (L n) pc)), K, A, L, R, B, F, PN, H, S, V, upd st n (dt_st T P M K A L R H PN V d k n), dt_w1 (dt_gr T P M K A L R H PN V d k n) (R n) (dt_hw T P M K A L R H PN V d k n (wt n)) (dt_w1 (dt_gl T P M K A L R H PN V d k n) (L n) (dt_hw T P M K A L R H PN V d k n (wt n)) wt), dt_p1 (dt_gr T P M K A L R H PN V d k n) (R n) (dt_c1 (dt_gl T P M K A L R H PN V d k n) (L n) pc) (dt_p1 (dt_gl T P M K A L R H PN V d k n) (L n) pc pd), oS, oW, oU, oC, oG, oH, oX)) : wpX_visit post (nI T, nI P, nI M, nI C, dt_G T, nI c, nI hh, sg, nI d, nI k, ca, ga, hs, cs, nI pc, K, A, L, R, B, F, PN, H, S, V, st, wt, pd, oS, oW, oU, oC, oG, oH, oX) (nI n) := by
  have i := vp_in_nI hn (N := 24) (by decide)
  have e := nI_clamp (n := n) (by omega)
  unfold wpX_visit
  refine ⟨i, ?_⟩
  rw [e]
  by_cases ht : nI d ≤ H n
  · refine br_t ht ⟨i, ?_⟩
    by_cases k8 : K n = 8
    · refine br_t k8 ?_
      unfold wpX_visitAt
      refine ⟨i, ?_⟩
      rw [e]
      by_cases ha : nI d ≤ A n
      · refine br_t ha ⟨i, ?_⟩
        by_cases hb : nI d = A n
        · obtain ⟨e1, e2, e3, e4, e5, e6, e7⟩ := tb_8e (P := P) (M := M) (L := L) (R := R) (T := T) (k := k) (V := V) (pn := PN) k8 ht hb
          simp only [e1, e2, e3, e4 _ (Or.inl rfl), e5, e6, e7, w1_f, p1_f, c1_f, Int64.add_zero, Int64.neg_zero, ite_self] at h
          exact br_t hb ⟨i, nm_e ⟨i, i, xx_acq hL (fun _ => hp) h⟩⟩
        · obtain ⟨e1, e2, e3, e4, e5, e6, e7⟩ := tb_8w (P := P) (M := M) (L := L) (R := R) (T := T) (k := k) (V := V) (pn := PN) k8 ht ha hb
          simp only [e1, e2, e3, e5, e6, e7, w1_f, p1_f, c1_f, Int64.add_zero, Int64.neg_zero, ite_self] at h
          exact br_f hb ⟨i, nm_e h⟩
      · obtain ⟨e1, e2, e3, e4, e5, e6, e7⟩ := tb_8l (P := P) (M := M) (L := L) (R := R) (T := T) (k := k) (V := V) (pn := PN) k8 ht ha
        simp only [e1, e2, e3, e5, e6, e7, w1_f, p1_f, c1_f, Int64.add_zero, Int64.neg_zero, ite_self] at h
        exact br_f ha ⟨i, nm_e h⟩
    · refine br_f k8 ⟨i, ?_⟩
      by_cases k10 : K n = 10
      · refine br_t k10 ?_
        unfold wpX_decide
        refine ⟨i, ?_⟩
        rw [e]
        by_cases hb : H n ≤ nI d
        · obtain ⟨e1, e2, e3, e4, e5, e6, e7⟩ := tb_10e (P := P) (M := M) (A := A) (L := L) (R := R) (T := T) (k := k) (V := V) (pn := PN) k10 ht hb
          simp only [e1, e2, e3, e4 _ (Or.inl rfl), e5, e6, e7, w1_f, p1_f, c1_f, Int64.add_zero, Int64.neg_zero, ite_self] at h
          refine br_t hb ?_
          unfold wX_decide_58
          refine br_f (by decide) ?_
          unfold wX_decide_72
          refine ⟨i, nm_r (e' := upd st n 2) (by rw [e]) (br_f (by decide) ⟨i, i, ?_⟩)⟩
          rw [e]
          exact xx_acq hL (fun _ => hp) h
        · obtain ⟨e1, e2, e3, e4, e5, e6, e7⟩ := tb_10c (P := P) (M := M) (A := A) (L := L) (R := R) (T := T) (k := k) (V := V) (pn := PN) k10 ht hb
          refine br_f hb ⟨i, xx_val hL (by omega) (by omega) (xx_exp hn hd hT hk (xx_cho hn ?_))⟩
          show wX_decide_58 _ _ _ _ _ _ _ _ _ _ _ _ _ _ _ _ _ _ _ _ _ _ _ _ _ _ _ _ _ _ _ _ _ _ _ _ _ _
          unfold wX_decide_58
          cases g : dt_fA T P M K A L R H PN V d k n with
          | true =>
            rw [g] at e1 e2
            simp only [e1, e2, e3, e4 _ (Or.inl g), e5, e6, e7, w1_f, p1_f, c1_f, Int64.add_zero, if_true] at h
            have g' : dt_fs (PN n) (dt_vv V (L n) d k) (dt_ex T V n d k) = true := g
            rw [g', if_pos rfl]
            refine br_f (by decide) ?_
            unfold wX_decide_72
            refine ⟨i, nm_r (e' := upd st n 2) (by rw [e]) (br_f (by decide) ⟨i, i, ?_⟩)⟩
            rw [e]
            exact xx_acq hL (fun _ => hp) h
          | false =>
            rw [g] at e1 e2
            simp only [e1, e2, e3, e5, e6, e7, w1_f, p1_f, c1_f, Int64.add_zero, Bool.false_eq_true, if_false] at h
            have g' : dt_fs (PN n) (dt_vv V (L n) d k) (dt_ex T V n d k) = false := g
            rw [g', if_neg Bool.false_ne_true]
            refine br_t (by decide) ?_
            unfold wX_decide_72
            exact ⟨i, nm_r (e' := upd st n 1) (by rw [e]) (br_t (by decide) h)⟩
      · refine br_f k10 ⟨i, nm_e ?_⟩
        unfold wpX_passOn
        refine ⟨i, nm_r (e' := wt n) (by rw [e]) ⟨i, nm_r (e' := L n) (by rw [e]) ⟨i, nm_r (e' := R n) (by rw [e]) ?_⟩⟩⟩
        show wpX_priceAt _ _ _ _
        unfold wpX_priceAt
        refine ⟨i, ?_⟩
        rw [e]
        obtain ⟨q, hq, hK⟩ := hK
        have hq' : q = 0 ∨ q = 1 ∨ q = 2 ∨ q = 3 ∨ q = 4 ∨ q = 5 ∨ q = 6 ∨ q = 7 ∨ q = 8 ∨ q = 9 ∨ q = 10 := by omega
        rcases hq' with rfl | rfl | rfl | rfl | rfl | rfl | rfl | rfl | rfl | rfl | rfl
        · have hK : K n = 0 := hK
          obtain ⟨e1, e2, e3, e4, e5, e6, e7⟩ := tb_0 (P := P) (M := M) (A := A) (L := L) (R := R) (T := T) (k := k) (V := V) (pn := PN) hK ht
          simp only [e1, e2, e3, e5, e6, e7, w1_f, p1_f, c1_f, Int64.add_zero, Int64.neg_zero, ite_self] at h
          exact nm_r hK (br_t (by decide) h)
        · have hK : K n = 1 := hK
          obtain ⟨e1, e2, e3, e4, e5, e6, e7⟩ := tb_1 (P := P) (M := M) (A := A) (L := L) (R := R) (T := T) (k := k) (V := V) (pn := PN) hK ht
          simp only [e1, e2, e3, e5, e6, e7, w1_f, p1_f, c1_f, Int64.add_zero, Int64.neg_zero, ite_self] at h
          refine nm_r hK ?_
          repeat (first | refine br_t (by decide) ?_ | refine br_f (by decide) ?_)
          exact ⟨i, nm_e h⟩
        · have hK : K n = 2 := hK
          obtain ⟨e1, e2, e3, e4, e5, e6, e7⟩ := tb_2 (P := P) (M := M) (A := A) (L := L) (R := R) (T := T) (k := k) (V := V) (pn := PN) hK ht
          simp only [e1, e2, e3, e4 _ (Or.inl rfl), e5, e6, e7, w1_f, p1_f, c1_f, Int64.add_zero, Int64.neg_zero, ite_self] at h
          refine nm_r hK ?_
          repeat (first | refine br_t (by decide) ?_ | refine br_f (by decide) ?_)
          refine ⟨i, ?_⟩
          exact xx_acq hL (fun _ => hp) h
        · have hK : K n = 3 := hK
          obtain ⟨e1, e2, e3, e4, e5, e6, e7⟩ := tb_3 (P := P) (M := M) (A := A) (L := L) (R := R) (T := T) (k := k) (V := V) (pn := PN) hK ht
          simp only [e1, e2, e3, e4 _ (Or.inl rfl), e5, e6, e7, w1_f, p1_f, c1_f, Int64.add_zero, Int64.neg_zero, ite_self] at h
          refine nm_r hK ?_
          repeat (first | refine br_t (by decide) ?_ | refine br_f (by decide) ?_)
          exact xx_acq hL (fun _ => hp) h
        · have hK : K n = 4 := hK
          obtain ⟨e1, e2, e3, e4, e5, e6, e7⟩ := tb_4 (P := P) (M := M) (A := A) (L := L) (R := R) (T := T) (k := k) (V := V) (pn := PN) hK ht
          simp only [e1, e2, e3, e4 _ (Or.inl rfl), e5, e6, e7, w1_f, p1_f, c1_f, Int64.add_zero, Int64.neg_zero, ite_self] at h
          refine nm_r hK ?_
          repeat (first | refine br_t (by decide) ?_ | refine br_f (by decide) ?_)
          exact xx_acq hL (fun _ => hp) h
        · have hK : K n = 5 := hK
          obtain ⟨e1, e2, e3, e4, e5, e6, e7⟩ := tb_5 (P := P) (M := M) (A := A) (L := L) (R := R) (T := T) (k := k) (V := V) (pn := PN) hK ht
          simp only [e1, e2, e3, e4 _ (Or.inl rfl), e5, e6, e7, Int64.add_zero, Int64.neg_zero, ite_self] at h
          have hp2 := hp2 ht hK
          refine nm_r hK ?_
          repeat (first | refine br_t (by decide) ?_ | refine br_f (by decide) ?_)
          refine xx_acq hL (fun _ => hp) ?_
          refine xx_acq hR (fun _ => ?_) h
          unfold dt_c1
          split <;> omega
        · have hK : K n = 6 := hK
          obtain ⟨e1, e2, e3, e4, e5, e6, e7⟩ := tb_6 (P := P) (M := M) (A := A) (L := L) (R := R) (T := T) (k := k) (V := V) (pn := PN) hK ht
          refine nm_r hK ?_
          repeat (first | refine br_t (by decide) ?_ | refine br_f (by decide) ?_)
          unfold wpX_passEither
          refine ⟨i, ?_⟩
          rw [e]
          refine xx_val hL (by omega) (by omega) ⟨i, xx_val hR (by omega) (by omega) (xx_cho hn ?_)⟩
          dsimp only
          cases g : dt_fE T P M K A L R H PN V d k n with
          | true =>
            rw [g] at e2 e3
            simp only [e1, e2, e3, e4 _ (Or.inl g), e5, e6, e7, Bool.not_true, w1_f, p1_f, c1_f, Int64.add_zero] at h
            have g' : dt_fs (PN n) (dt_vv V (L n) d k) (dt_vv V (R n) d k) = true := g
            rw [g', if_pos rfl]
            refine br_f (by decide) ⟨i, ?_⟩
            unfold wX_passEither_70
            refine ⟨i, ?_⟩
            rw [e]
            exact xx_acq hL (fun _ => hp) h
          | false =>
            rw [g] at e2 e3
            simp only [e1, e2, e3, e4 _ (Or.inr (by rw [g]; rfl)), e5, e6, e7, Bool.not_false, w1_f, p1_f, c1_f, Int64.add_zero] at h
            have g' : dt_fs (PN n) (dt_vv V (L n) d k) (dt_vv V (R n) d k) = false := g
            rw [g', if_neg Bool.false_ne_true]
            refine br_t (by decide) ⟨i, ?_⟩
            unfold wX_passEither_70
            refine ⟨i, ?_⟩
            rw [e]
            exact xx_acq hR (fun _ => hp) h
        · have hK : K n = 7 := hK
          obtain ⟨e1, e2, e3, e4, e5, e6, e7⟩ := tb_7 (P := P) (M := M) (A := A) (L := L) (R := R) (T := T) (k := k) (V := V) (pn := PN) hK ht
          refine nm_r hK ?_
          repeat (first | refine br_t (by decide) ?_ | refine br_f (by decide) ?_)
          refine ⟨i, ?_⟩
          by_cases g : dt_px P M d k < A n
          · rw [decide_eq_true g] at e2 e3
            simp only [e1, e2, e3, e4 _ (Or.inr (decide_eq_true g)), e5, e6, e7, Bool.not_true, w1_f, p1_f, c1_f, Int64.add_zero, Int64.neg_zero, ite_self] at h
            refine br_t g ?_
            unfold wX_passOn_199
            exact xx_acq hR (fun _ => hp) h
          · rw [decide_eq_false g] at e2 e3
            simp only [e1, e2, e3, e4 _ (Or.inl (by rw [decide_eq_false g]; rfl)), e5, e6, e7, Bool.not_false, w1_f, p1_f, c1_f, Int64.add_zero, Int64.neg_zero, ite_self] at h
            refine br_f g ?_
            unfold wX_passOn_199
            exact xx_acq hL (fun _ => hp) h
        · exact (k8 hK).elim
        · have hK : K n = 9 := hK
          obtain ⟨e1, e2, e3, e4, e5, e6, e7⟩ := tb_9 (P := P) (M := M) (A := A) (L := L) (R := R) (T := T) (k := k) (V := V) (pn := PN) hK ht
          simp only [e1, e2, e3, e4 _ (Or.inl rfl), e5, e6, e7, w1_f, p1_f, c1_f, Int64.add_zero, Int64.neg_zero, ite_self] at h
          refine nm_r hK ?_
          repeat (first | refine br_t (by decide) ?_ | refine br_f (by decide) ?_)
          exact xx_acq hL (fun _ => hp) h
        · exact (k10 hK).elim
  · obtain ⟨e1, e2, e3, e4, e5, e6, e7⟩ := tb_lap (P := P) (M := M) (K := K) (A := A) (L := L) (R := R) (T := T) (k := k) (V := V) (pn := PN) ht
    simp only [e1, e2, e3, e5, e6, e7, w1_f, p1_f, c1_f, Int64.add_zero, Int64.neg_zero, ite_self] at h
    exact br_f ht ⟨i, nm_e h⟩
end
end
section
/-! X: the pending stack is worked off -/
theorem cn_le {f : Nat → Bool} : ∀ c, sc_cn f c ≤ c := by
  intro c
  induction c with
  | zero => exact Nat.le_refl _
  | succ c ih =>
    show sc_cn f c + (if f c = true then 1 else 0) ≤ c + 1
    split <;> omega
theorem w1_at {g : Bool} {x w : Int32} {a : Nat → Int32} {j : Nat} (hx : x = -1 ∨ ∃ l, l < 24 ∧ x = nI l) (hj : j < 24) : dt_w1 g x w a j = if (g && decide (x = nI j)) = true then w else a j := by
  rcases hx with rfl | ⟨l, hl, rfl⟩
  · rw [w1_m, decide_eq_false (nu_neg' (by omega)), Bool.and_false, if_neg Bool.false_ne_true]
  · cases g with
    | false => rw [w1_f, Bool.false_and, if_neg Bool.false_ne_true]
    | true =>
      rw [w1_t hl, Bool.true_and]
      by_cases e : j = l
      · subst e; rw [pk_us, decide_eq_true rfl, if_pos rfl]
      · rw [pk_un e, decide_eq_false (fun z => e (nu_inj z (by omega) (by omega)).symm), if_neg Bool.false_ne_true]
theorem w2_at {g h : Bool} {x y w : Int32} {a : Nat → Int32} {j : Nat} (hx : x = -1 ∨ ∃ l, l < 24 ∧ x = nI l) (hy : y = -1 ∨ ∃ l, l < 24 ∧ y = nI l) (hj : j < 24) : dt_w1 h y w (dt_w1 g x w a) j = if ((g && decide (x = nI j)) || (h && decide (y = nI j))) = true then w else a j := by
  rw [w1_at hy hj, w1_at hx hj]
  cases (g && decide (x = nI j)) <;> cases (h && decide (y = nI j)) <;> rfl
theorem stk_hand {c : Nat} {pd : Nat → Int32} {pc : Nat} {pnd : Nat → Bool} {g : Bool} {x : Int32} (h : sc_stk c pd pc pnd) (h24 : c ≤ 24) (hx : x = -1 ∨ ∃ l, l < c ∧ x = nI l) (hf : ∀ l, l < c → g = true → x = nI l → pnd l = false) : sc_stk c (dt_p1 g x pc pd) (dt_c1 g x pc) (fun j => pnd j || (g && decide (x = nI j))) := by
  rcases hx with rfl | ⟨l, hl, rfl⟩
  · rw [p1_m, c1_m]
    refine stk_cong h ?_
    intro j hj
    try dsimp only
    rw [decide_eq_false (nu_neg' (by omega)), Bool.and_false, Bool.or_false]
  · cases g with
    | false =>
      rw [p1_f, c1_f]
      refine stk_cong h ?_
      intro j hj
      try dsimp only
      rw [Bool.false_and, Bool.or_false]
    | true =>
      rw [p1_t (by omega), c1_t (by omega)]
      refine stk_push h h24 hl (hf l hl rfl rfl) ?_
      intro j hj
      try dsimp only
      rw [Bool.true_and]
      congr 1
      by_cases e : j = l
      · subst e; rw [decide_eq_true rfl, decide_eq_true rfl]
      · rw [decide_eq_false e, decide_eq_false (fun z => e (nu_inj z (by omega) (by omega)).symm)]
section
variable {T P M C c hh d k pc : Nat} {ca ga hs cs : Int64} {sg : Int32} {K A L R B F PN H S st wt pd oS oW oU : Nat → Int32} {V oC oG oH oX : Nat → Int64}
theorem xx_set {post : SX → Prop} {S0 : Nat → Bool} {s : rn_S} (h24 : c ≤ 24) (hT : T ≤ 6) (hd : d ≤ T) (hk : k ≤ d) (tr : dt_tr c L R) (hKK : ∀ n, n < c → ∃ q, q ≤ 10 ∧ K n = nI q) (h5 : ∀ n, n < c → K n = 5 → (∃ l, l < n ∧ L n = nI l) ∧ (∃ r, r < n ∧ R n = nI r))
    (hS : ∀ n, n < c → S0 n = true → n < dt_pr L R n c → dt_pr L R n c < c → dt_ac c L R (dt_gl T P M K A L R H PN V d k) (dt_gr T P M K A L R H PN V d k) S0 (dt_pr L R n c) = false)
    (KK : ∀ st' wt' pd' : Nat → Int32, (∀ n, n < c → st' n = (rn_dt c T P M K A L R H PN V d k S0 s).1 n) → (∀ n, n < c → wt' n = (rn_dt c T P M K A L R H PN V d k S0 s).2.1 n) → post (nI T, nI P, nI M, nI C, dt_G T, nI c, nI hh, sg, nI d, nI k, (rn_dt c T P M K A L R H PN V d k S0 s).2.2.1, ga, (rn_dt c T P M K A L R H PN V d k S0 s).2.2.2.2.1, (rn_dt c T P M K A L R H PN V d k S0 s).2.2.2.2.2, nI 0, K, A, L, R, B, F, PN, H, S, V, st', wt', pd', oS, oW, oU, oC, oG, oH, oX)) :
    ∀ (f turn pc : Nat) (vis pnd : Nat → Bool) (st wt pd : Nat → Int32) (ca hs cs : Int64), c < f + turn → turn = sc_cn vis c → sc_I c L R (dt_ac c L R (dt_gl T P M K A L R H PN V d k) (dt_gr T P M K A L R H PN V d k) S0) (dt_wt c L R (dt_hw T P M K A L R H PN V d k) S0 s.2.1) S0 (dt_st T P M K A L R H PN V d k) s.1 s.2.1 (fun n => dt_dC T P M K A L R H PN V d k n (dt_wt c L R (dt_hw T P M K A L R H PN V d k) S0 s.2.1 n)) (fun n => dt_dH T P M K A L R H PN V d k n (dt_wt c L R (dt_hw T P M K A L R H PN V d k) S0 s.2.1 n)) (fun n => dt_dX T P M K A L R H PN V d k n (dt_wt c L R (dt_hw T P M K A L R H PN V d k) S0 s.2.1 n)) s.2.2.1 s.2.2.2.2.1 s.2.2.2.2.2 vis pnd st wt ca hs cs → sc_stk c pd pc pnd → wX_settle_2 post f (nI turn) (nI T) (nI P) (nI M) (nI C) (dt_G T) (nI c) (nI hh) sg (nI d) (nI k) ca ga hs cs (nI pc) K A L R B F PN H S V st wt pd oS oW oU oC oG oH oX := by
  intro f
  induction f with
  | zero =>
    intro turn pc vis pnd st wt pd ca hs cs hf ht I J
    have := cn_le (f := vis) c
    omega
  | succ f ih =>
    intro turn pc vis pnd st wt pd ca hs cs hf ht I J
    have dj := cn_d c (fun n hn hv => (I.1 n hn hv).1)
    have hpc := J.2.2.2
    have fin : pc = 0 → post (nI T, nI P, nI M, nI C, dt_G T, nI c, nI hh, sg, nI d, nI k, ca, ga, hs, cs, nI pc, K, A, L, R, B, F, PN, H, S, V, st, wt, pd, oS, oW, oU, oC, oG, oH, oX) := by
      intro h0
      subst h0
      have he := cn_z c hpc.symm
      obtain ⟨a, b, c1, c2, c3⟩ := sc_end I he
      rw [c1, c2, c3]
      exact KK st wt pd a b
    rw [wX_settle_2]
    by_cases t24 : 24 ≤ turn
    · exact br_t (nI_le (a := 24) t24 (by omega)) (fin (by omega))
    · refine br_f (nI_ge (b := 24) (by omega) (by decide)) ?_
      rcases Nat.eq_zero_or_pos pc with h0 | h0
      · refine br_t ?_ (fin h0)
        rw [h0]; decide
      · obtain ⟨p, rfl⟩ : ∃ p, pc = p + 1 := ⟨pc - 1, by omega⟩
        refine br_f (nI_nle (by omega) (by omega)) ?_
        refine nm_r (nI_pred p) ⟨vp_in_nI (by omega) (by decide), ?_⟩
        rw [nI_clamp (n := p) (by omega)]
        obtain ⟨m, hm, hpd, hpm⟩ := J.1 p (by omega)
        rw [hpd]
        obtain ⟨tl, tr'⟩ := tr.1 m hm
        have tl24 : L m = -1 ∨ ∃ l, l < 24 ∧ L m = nI l := by
          rcases tl with x | ⟨l, x, y⟩
          · exact Or.inl x
          · exact Or.inr ⟨l, by omega, y⟩
        have tr24 : R m = -1 ∨ ∃ l, l < 24 ∧ R m = nI l := by
          rcases tr' with x | ⟨l, x, y⟩
          · exact Or.inl x
          · exact Or.inr ⟨l, by omega, y⟩
        have tlc : L m = -1 ∨ ∃ l, l < c ∧ L m = nI l := by
          rcases tl with x | ⟨l, x, y⟩
          · exact Or.inl x
          · exact Or.inr ⟨l, by omega, y⟩
        have trc : R m = -1 ∨ ∃ l, l < c ∧ R m = nI l := by
          rcases tr' with x | ⟨l, x, y⟩
          · exact Or.inl x
          · exact Or.inr ⟨l, by omega, y⟩
        have fr := fun q hq hg => sc_fresh tr hS I h24 hm hpm (m := q) hq hg
        have wm := (I.2.1 m hm hpm).2.2
        have gL : ∀ q, dt_gl T P M K A L R H PN V d k m = true → L m = nI q → dt_gv L R (dt_gl T P M K A L R H PN V d k) (dt_gr T P M K A L R H PN V d k) m q = true := by
          intro q a b
          unfold dt_gv
          rw [a, decide_eq_true b]; rfl
        have gR : ∀ q, dt_gr T P M K A L R H PN V d k m = true → R m = nI q → dt_gv L R (dt_gl T P M K A L R H PN V d k) (dt_gr T P M K A L R H PN V d k) m q = true := by
          intro q a b
          unfold dt_gv
          rw [a, decide_eq_true b]; simp
        refine xx_visit (by omega) hT hd hk (hKK m hm) tl24 tr24 (by omega) ?_ ?_
        · intro hH hK5
          obtain ⟨⟨l, hl, el⟩, ⟨r, hr, er⟩⟩ := h5 m hm hK5
          obtain ⟨_, e2, e3, _⟩ := tb_5 (P := P) (M := M) (A := A) (L := L) (R := R) (T := T) (k := k) (V := V) (pn := PN) hK5 hH
          have f1 := fr l (by omega) (gL l e2 el)
          have f2 := fr r (by omega) (gR r e3 er)
          have hlr : r ≠ l := by
            intro z; subst z
            exact tr.2.1 m r hm (by omega) el er
          have J1 := stk_push (m := l) J h24 (by omega) f1.2.2.1 (pnd' := fun j => pnd j || decide (j = l)) (fun j _ => rfl)
          have J2 := stk_push (m := r) J1 h24 (by omega) (by rw [f2.2.2.1, decide_eq_false hlr]; rfl) (pnd' := fun j => (pnd j || decide (j = l)) || decide (j = r)) (fun j _ => rfl)
          have := cn_le (f := fun j => (pnd j || decide (j = l)) || decide (j = r)) c
          have := J2.2.2.2
          omega
        · refine nm_r (nI_1 turn) ?_
          have J1 := stk_pop (pnd' := fun j => pnd j && !decide (j = m)) J h24 hm hpd (fun j _ => rfl)
          have J2 := stk_hand (g := dt_gl T P M K A L R H PN V d k m) (x := L m) J1 h24 tlc (by
            intro l hl a b
            try dsimp only
            rw [(fr l hl (gL l a b)).2.2.1]; rfl)
          have J3 := stk_hand (g := dt_gr T P M K A L R H PN V d k m) (x := R m) J2 h24 trc (by
            intro l hl a b
            try dsimp only
            rw [(fr l hl (gR l a b)).2.2.1]
            have : ¬ L m = nI l := fun z => tr.2.1 m l hm (by omega) z b
            rw [decide_eq_false this]
            simp)
          have vm : vis m = false := by
            cases g : vis m with
            | false => rfl
            | true => have := (I.1 m hm g).1; rw [hpm] at this; exact this
          refine ih (turn + 1) _ (fun j => vis j || decide (j = m)) (fun j => (pnd j && !decide (j = m)) || dt_gv L R (dt_gl T P M K A L R H PN V d k) (dt_gr T P M K A L R H PN V d k) m j) _ _ _ _ _ _ (by omega) ?_ ?_ ?_
          · rw [ht]
            exact (cn_1 (m := m) vm (by simp) c hm (fun n hn hne => by simp [hne])).symm
          · refine sc_step tr h24 hS I hm hpm (fun j _ => rfl) (fun j _ => rfl) ?_ ?_ ?_ ?_ ?_
            · intro j hj
              by_cases e : j = m
              · subst e; rw [pk_us, if_pos rfl]
              · rw [pk_un e, if_neg e]
            · intro j hj
              rw [w2_at tl24 tr24 (by omega)]
              rfl
            · rw [wm]
            · rw [wm]
            · rw [wm]
          · refine stk_cong J3 ?_
            intro j hj
            try dsimp only
            unfold dt_gv
            rw [Bool.or_assoc]
theorem up_same {a : Nat → Int32} {n : Nat} : upd a n (a n) = a := by
  funext j
  by_cases e : j = n
  · subst e; exact pk_us
  · exact pk_un e
theorem xx_rec {post : SX → Prop} (h24 : c ≤ 24) (KK : ∀ (pd' : Nat → Int32) (pc' : Nat), sc_stk c pd' pc' (fun j => decide (st j = 1)) → post (nI T, nI P, nI M, nI C, dt_G T, nI c, nI hh, sg, nI d, nI k, ca, ga, hs, cs, nI pc', K, A, L, R, B, F, PN, H, S, V, st, wt, pd', oS, oW, oU, oC, oG, oH, oX)) :
    ∀ (f i pc : Nat) (pd : Nat → Int32), c < f + i → i ≤ c → sc_stk c pd pc (fun j => decide (j < i) && decide (st j = 1)) → wX_recallWaiting_2 post f (nI i) (nI T) (nI P) (nI M) (nI C) (dt_G T) (nI c) (nI hh) sg (nI d) (nI k) ca ga hs cs (nI pc) K A L R B F PN H S V st wt pd oS oW oU oC oG oH oX := by
  intro f
  induction f with
  | zero => intro i pc pd h h2; omega
  | succ f ih =>
    intro i pc pd hf hi J
    rw [wX_recallWaiting_2]
    by_cases e : c ≤ i
    · refine br_t (nI_le e (by omega)) (KK pd pc (stk_cong J ?_))
      intro j hj
      try dsimp only
      rw [decide_eq_true (show j < i by omega), Bool.true_and]
    · refine br_f (nI_ge (by omega) (by omega)) ⟨vp_in_nI (by omega) (by decide), ?_⟩
      rw [nI_clamp (n := i) (by omega)]
      by_cases g : st i = 1
      · refine br_t g ⟨vp_in_nI (by omega) (by decide), ?_⟩
        have J1 := stk_push (m := i) (pnd' := fun j => decide (j < i + 1) && decide (st j = 1)) J h24 (by omega) (by simp) (by
          intro j hj
          try dsimp only
          by_cases e2 : j = i
          · subst e2; simp [g]
          · by_cases e3 : j < i
            · simp [e2, e3, show j < i + 1 by omega]
            · simp [e2, e3, show ¬ j < i + 1 by omega])
        have := cn_le (f := fun j => decide (j < i + 1) && decide (st j = 1)) c
        have := J1.2.2.2
        refine xx_acq (Or.inr ⟨i, by omega, rfl⟩) (fun _ => by omega) ?_
        rw [c1_t (by omega), w1_t (by omega), p1_t (by omega), up_same]
        exact nm_r (nI_1 i) (ih (i + 1) _ _ (by omega) (by omega) J1)
      · refine br_f g (nm_r (nI_1 i) (ih (i + 1) _ _ (by omega) (by omega) (stk_cong J ?_)))
        intro j hj
        try dsimp only
        by_cases e2 : j = i
        · subst e2; simp [g]
        · by_cases e3 : j < i
          · simp [e3, show j < i + 1 by omega]
          · simp [e3, show ¬ j < i + 1 by omega]
theorem stk_0 {c : Nat} {pd : Nat → Int32} {pnd : Nat → Bool} (h : ∀ j, j < c → pnd j = false) : sc_stk c pd 0 pnd := by
  refine ⟨?_, ?_, ?_, (cn_0 c h).symm⟩
  · intro j hj; omega
  · intro m hm z; rw [h m hm] at z; exact (Bool.false_ne_true z).elim
  · intro i j _ hj; omega
end
end
section
/-! X: clearing, horizons, worths -/
def hz_f (K A H : Nat → Int32) (p : Nat) : Int32 := if K p = 9 ∧ ¬ H p ≤ A p then A p else H p
def hz_I (c T : Nat) (K A L R H : Nat → Int32) (j : Nat) : Prop := H (c - 1) = nI T ∧ ∀ p m, j ≤ p → p < c → m < c → (L p = nI m ∨ R p = nI m) → H m = hz_f K A H p
theorem hz_c {K A H H' : Nat → Int32} {p : Nat} (h : H' p = H p) : hz_f K A H' p = hz_f K A H p := by
  unfold hz_f
  rw [h]
theorem hz_step {c T j : Nat} {K A L R H : Nat → Int32} (h24 : c ≤ 24) (tr : dt_tr c L R) (hj : j < c) (I : hz_I c T K A L R H (j + 1)) : hz_I c T K A L R (dt_w1 true (R j) (hz_f K A H j) (dt_w1 true (L j) (hz_f K A H j) H)) j := by
  obtain ⟨tl, tr'⟩ := tr.1 j hj
  have tl24 : L j = -1 ∨ ∃ l, l < 24 ∧ L j = nI l := by
    rcases tl with x | ⟨l, x, y⟩
    · exact Or.inl x
    · exact Or.inr ⟨l, by omega, y⟩
  have tr24 : R j = -1 ∨ ∃ l, l < 24 ∧ R j = nI l := by
    rcases tr' with x | ⟨l, x, y⟩
    · exact Or.inl x
    · exact Or.inr ⟨l, by omega, y⟩
  have at1 : ∀ m, m < c → (dt_w1 true (R j) (hz_f K A H j) (dt_w1 true (L j) (hz_f K A H j) H)) m = if L j = nI m ∨ R j = nI m then hz_f K A H j else H m := by
    intro m hm
    rw [w2_at tl24 tr24 (by omega)]
    by_cases e : L j = nI m ∨ R j = nI m
    · rw [if_pos e, if_pos]
      rcases e with e | e
      · simp [e]
      · simp [e]
    · rw [if_neg e, if_neg]
      rw [Bool.true_and, Bool.true_and, Bool.or_eq_true, decide_eq_true_eq, decide_eq_true_eq]
      exact e
  have up : ∀ p, j ≤ p → p < c → (dt_w1 true (R j) (hz_f K A H j) (dt_w1 true (L j) (hz_f K A H j) H)) p = H p := by
    intro p h1 h2
    rw [at1 p h2, if_neg]
    intro e
    have := tr_lt tr h24 hj h2 e
    omega
  constructor
  · rw [up (c - 1) (by omega) (by omega)]; exact I.1
  · intro p m h1 h2 h3 h4
    have ef : hz_f K A (dt_w1 true (R j) (hz_f K A H j) (dt_w1 true (L j) (hz_f K A H j) H)) p = hz_f K A H p := hz_c (up p h1 h2)
    rw [ef]
    by_cases e : p = j
    · subst e
      rw [at1 m h3, if_pos h4]
    · rw [at1 m h3, if_neg]
      · exact I.2 p m (by omega) h2 h3 h4
      · intro z
        exact e (tr.2.2 p j m h2 hj h3 h4 z)
section
variable {T P M C c hh d k pc : Nat} {ca ga hs cs : Int64} {sg : Int32} {K A L R B F PN H S st wt pd oS oW oU : Nat → Int32} {V oC oG oH oX : Nat → Int64}
theorem xx_clr {post : SX → Prop} (KK : ∀ st' wt' : Nat → Int32, (∀ j, j < 24 → st' j = 0 ∧ wt' j = 0) → post (nI T, nI P, nI M, nI C, dt_G T, nI c, nI hh, sg, nI 0, nI 0, 0, 0, 0, 0, nI 0, K, A, L, R, B, F, PN, H, S, V, st', wt', pd, oS, oW, oU, oC, oG, oH, oX)) : wpX_clearRun post (nI T, nI P, nI M, nI C, dt_G T, nI c, nI hh, sg, nI d, nI k, ca, ga, hs, cs, nI pc, K, A, L, R, B, F, PN, H, S, V, st, wt, pd, oS, oW, oU, oC, oG, oH, oX) := by
  have go : ∀ (f i : Nat) (st wt : Nat → Int32), 24 < f + i → i ≤ 24 → (∀ j, j < i → st j = 0 ∧ wt j = 0) → wX_clearRun_37 post (nI T) (nI P) (nI M) (nI C) (dt_G T) (nI c) (nI hh) sg (nI 0) (nI 0) 0 0 0 0 (nI 0) f (nI i) K A L R B F PN H S V st wt pd oS oW oU oC oG oH oX := by
    intro f
    induction f with
    | zero => intro i st wt h h2; omega
    | succ f ih =>
      intro i st wt hf hi J
      rw [wX_clearRun_37]
      by_cases e : 24 ≤ i
      · refine br_t (nI_le (a := 24) e (by omega)) (KK st wt ?_)
        intro j hj; exact J j (by omega)
      · have iv := vp_in_nI (n := i) (N := 24) (by omega) (by decide)
        refine br_f (nI_ge (b := 24) (by omega) (by decide)) ⟨iv, nm_e ⟨iv, nm_e (nm_r (nI_1 i) ?_)⟩⟩
        rw [nI_clamp (n := i) (by omega)]
        refine ih (i + 1) _ _ (by omega) (by omega) ?_
        intro j hj
        by_cases g : j = i
        · subst g; exact ⟨pk_us, pk_us⟩
        · rw [pk_un g, pk_un g]; exact J j (by omega)
  exact ⟨25, go 25 0 st wt (by omega) (by omega) (fun j hj => by omega)⟩
theorem xx_s82 {post : SX → Prop} {J : _} {j : Nat} {v : Int32} (hj : j < 24) (hR : R j = -1 ∨ ∃ l, l < 24 ∧ R j = nI l) (h : J (nI j + (-1)) K A L R B F PN (dt_w1 true (R j) v H) S V st wt pd oS oW oU oC oG oH oX) : wX_spreadHorizons_82 post J (nI j) v (nI T) (nI P) (nI M) (nI C) (dt_G T) (nI c) (nI hh) sg (nI d) (nI k) ca ga hs cs (nI pc) K A L R B F PN H S V st wt pd oS oW oU oC oG oH oX := by
  have i := vp_in_nI hj (N := 24) (by decide)
  unfold wX_spreadHorizons_82
  refine ⟨i, ?_⟩
  rw [nI_clamp (n := j) (by omega)]
  rcases hR with e | ⟨l, hl, e⟩
  · rw [e, w1_m] at h
    refine br_t ?_ (nm_e h)
    rw [e]; exact nu_m1lt
  · rw [e, w1_t hl] at h
    refine br_f ?_ ⟨i, ?_, ?_⟩
    · rw [e]; exact nI_pos (by omega)
    · rw [e]; exact vp_in_nI hl (by decide)
    · rw [e, nI_clamp (n := l) (by omega)]
      exact nm_e (nm_e h)
theorem xx_s61 {post : SX → Prop} {J : _} {j : Nat} {v : Int32} (hj : j < 24) (hL : L j = -1 ∨ ∃ l, l < 24 ∧ L j = nI l) (hR : R j = -1 ∨ ∃ l, l < 24 ∧ R j = nI l) (h : J (nI j + (-1)) K A L R B F PN (dt_w1 true (R j) v (dt_w1 true (L j) v H)) S V st wt pd oS oW oU oC oG oH oX) : wX_spreadHorizons_61 post J (nI j) v (nI T) (nI P) (nI M) (nI C) (dt_G T) (nI c) (nI hh) sg (nI d) (nI k) ca ga hs cs (nI pc) K A L R B F PN H S V st wt pd oS oW oU oC oG oH oX := by
  have i := vp_in_nI hj (N := 24) (by decide)
  unfold wX_spreadHorizons_61
  refine ⟨i, ?_⟩
  rw [nI_clamp (n := j) (by omega)]
  rcases hL with e | ⟨l, hl, e⟩
  · rw [e, w1_m] at h
    refine br_t ?_ (xx_s82 hj hR h)
    rw [e]; exact nu_m1lt
  · rw [e, w1_t hl] at h
    refine br_f ?_ ⟨i, ?_, ?_⟩
    · rw [e]; exact nI_pos (by omega)
    · rw [e]; exact vp_in_nI hl (by decide)
    · rw [e, nI_clamp (n := l) (by omega)]
      exact nm_e (xx_s82 hj hR h)
theorem xx_hor {post : SX → Prop} (h1 : 1 ≤ c) (h24 : c ≤ 24) (tr : dt_tr c L R) (KK : ∀ H' : Nat → Int32, hz_I c T K A L R H' 0 → post (nI T, nI P, nI M, nI C, dt_G T, nI c, nI hh, sg, nI d, nI k, ca, ga, hs, cs, nI pc, K, A, L, R, B, F, PN, H', S, V, st, wt, pd, oS, oW, oU, oC, oG, oH, oX)) : wpX_spreadHorizons post (nI T, nI P, nI M, nI C, dt_G T, nI c, nI hh, sg, nI d, nI k, ca, ga, hs, cs, nI pc, K, A, L, R, B, F, PN, H, S, V, st, wt, pd, oS, oW, oU, oC, oG, oH, oX) := by
  have go : ∀ (j f : Nat) (H : Nat → Int32), j < f → j ≤ c → hz_I c T K A L R H j → wX_spreadHorizons_22 post (nI T) (nI P) (nI M) (nI C) (dt_G T) (nI c) (nI hh) sg (nI d) (nI k) ca ga hs cs (nI pc) f (nI j + (-1)) K A L R B F PN H S V st wt pd oS oW oU oC oG oH oX := by
    intro j
    induction j with
    | zero =>
      intro f H hf hj I
      obtain ⟨g, rfl⟩ : ∃ g, f = g + 1 := ⟨f - 1, by omega⟩
      rw [wX_spreadHorizons_22, nI_0]
      exact br_t (by decide) (KK H I)
    | succ j ih =>
      intro f H hf hj I
      obtain ⟨g, rfl⟩ : ∃ g, f = g + 1 := ⟨f - 1, by omega⟩
      have i := vp_in_nI (n := j) (N := 24) (by omega) (by decide)
      have ec := nI_clamp (n := j) (by omega)
      obtain ⟨tl, tr'⟩ := tr.1 j (by omega)
      have tl24 : L j = -1 ∨ ∃ l, l < 24 ∧ L j = nI l := by
        rcases tl with x | ⟨l, x, y⟩
        · exact Or.inl x
        · exact Or.inr ⟨l, by omega, y⟩
      have tr24 : R j = -1 ∨ ∃ l, l < 24 ∧ R j = nI l := by
        rcases tr' with x | ⟨l, x, y⟩
        · exact Or.inl x
        · exact Or.inr ⟨l, by omega, y⟩
      have nx := ih g _ (by omega) (by omega) (hz_step h24 tr (by omega) I)
      rw [wX_spreadHorizons_22, pk_m1]
      refine br_f (nI_pos (by omega)) ⟨i, nm_r (e' := H j) (by rw [ec]) ⟨i, ?_⟩⟩
      rw [ec]
      by_cases k9 : K j = 9
      · refine br_t k9 ⟨i, ?_⟩
        by_cases ha : H j ≤ A j
        · have e : hz_f K A H j = H j := if_neg (fun z => z.2 ha)
          rw [e] at nx
          exact br_t ha (xx_s61 (by omega) tl24 tr24 nx)
        · have e : hz_f K A H j = A j := if_pos ⟨k9, ha⟩
          rw [e] at nx
          exact br_f ha ⟨i, nm_e (xx_s61 (by omega) tl24 tr24 nx)⟩
      · have e : hz_f K A H j = H j := if_neg (fun z => k9 z.1)
        rw [e] at nx
        exact br_f k9 (xx_s61 (by omega) tl24 tr24 nx)
  unfold wpX_spreadHorizons
  dsimp only
  rw [nu_s1 (p := c) (by omega), nI_clamp (n := c - 1) (by omega)]
  refine ⟨vp_in_nI (by omega) (by decide), nm_e (nm_r (e' := nI c + (-1)) (by rw [nu_m1 (by omega)]) ⟨c + 1, go c (c + 1) _ (by omega) (by omega) ⟨pk_us, ?_⟩⟩)⟩
  intro p m a b
  omega
/-- the worth that X reckons for a cell -/
theorem xx_cmp {post : Int64 → Prop} {n t q : Nat} (hn : n < 24) (hT : T ≤ 6) (hd : t ≤ T) (hk : q ≤ t) (hK : ∃ q, q ≤ 10 ∧ K n = nI q) (hL : L n = -1 ∨ ∃ l, l < 24 ∧ L n = nI l) (hR : R n = -1 ∨ ∃ l, l < 24 ∧ R n = nI l)
    (h : post (vl_rv T P M K A L R H V n t q)) : wpX_compute post (nI T, nI P, nI M, nI C, dt_G T, nI c, nI hh, sg, nI d, nI k, ca, ga, hs, cs, nI pc, K, A, L, R, B, F, PN, H, S, V, st, wt, pd, oS, oW, oU, oC, oG, oH, oX) (nI n) (nI t) (nI q) := by
  have i := vp_in_nI hn (N := 24) (by decide)
  have e := nI_clamp (n := n) (by omega)
  unfold wpX_compute
  refine ⟨i, ?_⟩
  rw [e]
  by_cases ht : nI t ≤ H n
  · refine br_t ht ⟨i, xx_val hL (by omega) (by omega) ⟨i, xx_val hR (by omega) (by omega) ?_⟩⟩
    show wpX_priceAt _ _ _ _
    unfold wpX_priceAt
    refine ⟨i, ?_⟩
    obtain ⟨kq, hq, hK⟩ := hK
    have hq' : kq = 0 ∨ kq = 1 ∨ kq = 2 ∨ kq = 3 ∨ kq = 4 ∨ kq = 5 ∨ kq = 6 ∨ kq = 7 ∨ kq = 8 ∨ kq = 9 ∨ kq = 10 := by omega
    rcases hq' with rfl | rfl | rfl | rfl | rfl | rfl | rfl | rfl | rfl | rfl | rfl
    · have hK : K n = 0 := hK
      simp [vl_rv, vl_ru, hK, ht] at h
      exact nm_r hK (br_t (by decide) h)
    · have hK : K n = 1 := hK
      simp [vl_rv, vl_ru, hK, ht] at h
      refine nm_r hK ?_
      repeat (first | refine br_t (by decide) ?_ | refine br_f (by decide) ?_)
      exact ⟨i, h⟩
    · have hK : K n = 2 := hK
      simp [vl_rv, vl_ru, hK, ht] at h
      refine nm_r hK ?_
      repeat (first | refine br_t (by decide) ?_ | refine br_f (by decide) ?_)
      exact ⟨i, h⟩
    · have hK : K n = 3 := hK
      simp [vl_rv, vl_ru, hK, ht] at h
      refine nm_r hK ?_
      repeat (first | refine br_t (by decide) ?_ | refine br_f (by decide) ?_)
      exact h
    · have hK : K n = 4 := hK
      simp [vl_rv, vl_ru, hK, ht] at h
      refine nm_r hK ?_
      repeat (first | refine br_t (by decide) ?_ | refine br_f (by decide) ?_)
      exact h
    · have hK : K n = 5 := hK
      simp [vl_rv, vl_ru, hK, ht] at h
      refine nm_r hK ?_
      repeat (first | refine br_t (by decide) ?_ | refine br_f (by decide) ?_)
      exact h
    · have hK : K n = 6 := hK
      simp [vl_rv, vl_ru, hK, ht] at h
      refine nm_r hK ?_
      repeat (first | refine br_t (by decide) ?_ | refine br_f (by decide) ?_)
      exact xx_gt h
    · have hK : K n = 7 := hK
      simp [vl_rv, vl_ru, hK, ht] at h
      refine nm_r hK ?_
      repeat (first | refine br_t (by decide) ?_ | refine br_f (by decide) ?_)
      refine ⟨i, ?_⟩
      by_cases g : dt_px P M t q < A n
      · rw [if_pos g] at h
        exact br_t g h
      · rw [if_neg g] at h
        exact br_f g h
    · have hK : K n = 8 := hK
      have h8 : post (if nI t ≤ A n then (if nI t = A n then dt_vv V (L n) t q else dt_ex T V n t q) else 0) := by
        simp [vl_rv, vl_ru, hK, ht] at h
        exact h
      refine nm_r hK ?_
      repeat (first | refine br_t (by decide) ?_ | refine br_f (by decide) ?_)
      unfold wpX_computeAt
      refine ⟨i, ?_⟩
      rw [e]
      by_cases ha : nI t ≤ A n
      · rw [if_pos ha] at h8
        refine br_t ha ⟨i, ?_⟩
        by_cases hb : nI t = A n
        · rw [if_pos hb] at h8
          exact br_t hb ⟨i, xx_val hL (by omega) (by omega) h8⟩
        · rw [if_neg hb] at h8
          exact br_f hb (xx_exp hn hd hT hk h8)
      · rw [if_neg ha] at h8
        exact br_f ha h8
    · have hK : K n = 9 := hK
      simp [vl_rv, vl_ru, hK, ht] at h
      refine nm_r hK ?_
      repeat (first | refine br_t (by decide) ?_ | refine br_f (by decide) ?_)
      exact h
    · have hK : K n = 10 := hK
      have h8 : post (if nI t = H n then dt_vv V (L n) t q else dt_gt (dt_vv V (L n) t q) (dt_ex T V n t q)) := by
        simp [vl_rv, vl_ru, hK, ht] at h
        exact h
      refine nm_r hK ?_
      repeat (first | refine br_t (by decide) ?_ | refine br_f (by decide) ?_)
      unfold wpX_computeAnytime
      refine ⟨i, ?_⟩
      rw [e]
      refine xx_val hL (by omega) (by omega) ⟨i, ?_⟩
      by_cases ha : nI t = H n
      · rw [if_pos ha] at h8
        exact br_t ha h8
      · rw [if_neg ha] at h8
        exact br_f ha (xx_exp hn hd hT hk (xx_gt h8))
  · have e0 : vl_rv T P M K A L R H V n t q = 0 := if_neg ht
    rw [e0] at h
    exact br_f ht h
end
/-- cells already right -/
def vl_D (c T P M : Nat) (K A L R H : Nat → Int32) (V : Nat → Int64) (D : Nat → Nat → Nat → Prop) : Prop := ∀ m s j, m < c → s ≤ T → j ≤ s → D m s j → V (49 * m + 7 * s + j) = vl_rv T P M K A L R H V m s j
theorem vl_upd {T P M : Nat} {K A L R H : Nat → Int32} {V : Nat → Int64} {n t k m s j c : Nat} {x : Int64} (h24 : c ≤ 24) (hT : T ≤ 6) (tr : dt_tr c L R) (hm : m < c) (hs : s ≤ T) (hj : j ≤ s) (ht : t ≤ T) (hk : k ≤ t) (hD : m < n ∨ (m = n ∧ t ≤ s)) : vl_rv T P M K A L R H (vp_updL V (49 * n + 7 * t + k) x) m s j = vl_rv T P M K A L R H V m s j := by
  obtain ⟨tl, tr'⟩ := tr.1 m hm
  have a1 : dt_vv (vp_updL V (49 * n + 7 * t + k) x) (L m) s j = dt_vv V (L m) s j := by
    rcases tl with e | ⟨l, hl, e⟩
    · rw [e, vv_m1, vv_m1]
    · rw [e, vv_nI (by omega), vv_nI (by omega), pk_uLn (by omega)]
  have a2 : dt_vv (vp_updL V (49 * n + 7 * t + k) x) (R m) s j = dt_vv V (R m) s j := by
    rcases tr' with e | ⟨l, hl, e⟩
    · rw [e, vv_m1, vv_m1]
    · rw [e, vv_nI (by omega), vv_nI (by omega), pk_uLn (by omega)]
  have a3 : dt_ex T (vp_updL V (49 * n + 7 * t + k) x) m s j = dt_ex T V m s j := by
    unfold dt_ex
    by_cases e : s < T
    · rw [if_pos e, if_pos e, pk_uLn (by omega), pk_uLn (by omega)]
    · rw [if_neg e, if_neg e]
  unfold vl_rv
  rw [a1, a2, a3]
section
variable {T P M C c hh d k pc : Nat} {ca ga hs cs : Int64} {sg : Int32} {K A L R B F PN H S st wt pd oS oW oU : Nat → Int32} {V oC oG oH oX : Nat → Int64}
theorem xx_fill {post : SX → Prop} (h24 : c ≤ 24) (hT : T ≤ 6) (tr : dt_tr c L R) (hKK : ∀ n, n < c → ∃ q, q ≤ 10 ∧ K n = nI q)
    (KK : ∀ V' : Nat → Int64, (∀ n t k, n < c → t ≤ T → k ≤ t → V' (49 * n + 7 * t + k) = vl_rv T P M K A L R H V' n t k) → post (nI T, nI P, nI M, nI C, dt_G T, nI c, nI hh, sg, nI d, nI k, ca, ga, hs, cs, nI pc, K, A, L, R, B, F, PN, H, S, V', st, wt, pd, oS, oW, oU, oC, oG, oH, oX)) : wpX_fillWorths post (nI T, nI P, nI M, nI C, dt_G T, nI c, nI hh, sg, nI d, nI k, ca, ga, hs, cs, nI pc, K, A, L, R, B, F, PN, H, S, V, st, wt, pd, oS, oW, oU, oC, oG, oH, oX) := by
  have goK : ∀ (post : SX → Prop) (n t : Nat), n < c → t ≤ T → (∀ V' : Nat → Int64, vl_D c T P M K A L R H V' (fun m s j => m < n ∨ (m = n ∧ t ≤ s)) → post (nI T, nI P, nI M, nI C, dt_G T, nI c, nI hh, sg, nI d, nI k, ca, ga, hs, cs, nI pc, K, A, L, R, B, F, PN, H, S, V', st, wt, pd, oS, oW, oU, oC, oG, oH, oX)) → ∀ (f q : Nat) (V : Nat → Int64), t + 1 < f + q → q ≤ t + 1 → vl_D c T P M K A L R H V (fun m s j => m < n ∨ (m = n ∧ (t < s ∨ (s = t ∧ j < q)))) → wX_fillDate_2 post (nI n) (nI t) (nI T) (nI P) (nI M) (nI C) (dt_G T) (nI c) (nI hh) sg (nI d) (nI k) ca ga hs cs (nI pc) f (nI q) K A L R B F PN H S V st wt pd oS oW oU oC oG oH oX := by
    intro post n t hn ht KK f
    induction f with
    | zero => intro q V hf hq; omega
    | succ f ih =>
      intro q V hf hq D
      rw [wX_fillDate_2]
      by_cases e : t < q
      · refine br_t (nI_lt e (by omega)) (KK V ?_)
        intro m s j hm hs hj hD
        exact D m s j hm hs hj (by omega)
      · refine br_f (nI_nlt (by omega) (by omega)) ?_
        unfold wpX_cellOf
        dsimp only
        rw [nu_cell]
        obtain ⟨tl, tr'⟩ := tr.1 n hn
        refine xx_cmp (by omega) hT ht (by omega) (hKK n hn) ?_ ?_ ?_
        · rcases tl with x | ⟨l, x, y⟩
          · exact Or.inl x
          · exact Or.inr ⟨l, by omega, y⟩
        · rcases tr' with x | ⟨l, x, y⟩
          · exact Or.inl x
          · exact Or.inr ⟨l, by omega, y⟩
        · refine ⟨vp_in_nI (by omega) (by decide), ?_⟩
          rw [nI_clamp (n := 49 * n + 7 * t + q) (by omega)]
          refine nm_e (nm_r (nI_1 q) (ih (q + 1) _ (by omega) (by omega) ?_))
          intro m s j hm hs hj hD
          rw [vl_upd h24 hT tr hm hs hj ht (by omega) (by omega)]
          by_cases g : m = n ∧ s = t ∧ j = q
          · obtain ⟨rfl, rfl, rfl⟩ := g
            exact pk_uLs
          · rw [pk_uLn (by omega)]
            exact D m s j hm hs hj (by omega)
  have goT : ∀ (post : SX → Prop) (J : _) (n : Nat), n < c → (∀ V' : Nat → Int64, vl_D c T P M K A L R H V' (fun m s j => m < n + 1) → J (nI (n + 1)) (nI T) (nI P) (nI M) (nI C) (dt_G T) (nI c) (nI hh) sg (nI d) (nI k) ca ga hs cs (nI pc) K A L R B F PN H S V' st wt pd oS oW oU oC oG oH oX) → ∀ (i f : Nat) (V : Nat → Int64), i < f → i ≤ T + 1 → vl_D c T P M K A L R H V (fun m s j => m < n ∨ (m = n ∧ i ≤ s)) → wX_fillWorths_15 post J (nI n) f (nI i + (-1)) (nI T) (nI P) (nI M) (nI C) (dt_G T) (nI c) (nI hh) sg (nI d) (nI k) ca ga hs cs (nI pc) K A L R B F PN H S V st wt pd oS oW oU oC oG oH oX := by
    intro post J n hn KK i
    induction i with
    | zero =>
      intro f V hf hi D
      obtain ⟨g, rfl⟩ : ∃ g, f = g + 1 := ⟨f - 1, by omega⟩
      rw [wX_fillWorths_15, nI_0]
      refine br_t (by decide) (nm_r (nI_1 n) (KK V ?_))
      intro m s j hm hs hj hD
      exact D m s j hm hs hj (by omega)
    | succ i ih =>
      intro f V hf hi D
      obtain ⟨g, rfl⟩ : ∃ g, f = g + 1 := ⟨f - 1, by omega⟩
      rw [wX_fillWorths_15, pk_m1]
      refine br_f (nI_pos (by omega)) ?_
      unfold wpX_fillDate
      refine ⟨i + 3, goK _ n i hn (by omega) ?_ (i + 3) 0 V (by omega) (by omega) ?_⟩
      · intro V' D'
        exact nm_e (ih g V' (by omega) (by omega) D')
      · intro m s j hm hs hj hD
        exact D m s j hm hs hj (by omega)
  have goN : ∀ (f n : Nat) (V : Nat → Int64), c < f + n → n ≤ c → vl_D c T P M K A L R H V (fun m s j => m < n) → wX_fillWorths_2 post f (nI n) (nI T) (nI P) (nI M) (nI C) (dt_G T) (nI c) (nI hh) sg (nI d) (nI k) ca ga hs cs (nI pc) K A L R B F PN H S V st wt pd oS oW oU oC oG oH oX := by
    intro f
    induction f with
    | zero => intro n V hf hn; omega
    | succ f ih =>
      intro n V hf hn D
      rw [wX_fillWorths_2]
      by_cases e : c ≤ n
      · refine br_t (nI_le e (by omega)) (KK V ?_)
        intro m s j hm hs hj
        exact D m s j hm hs hj (by omega)
      · refine br_f (nI_ge (by omega) (by omega)) ⟨T + 2, ?_⟩
        have := goT post (wX_fillWorths_2 post f) n (by omega) (fun V' D' => ih (n + 1) V' (by omega) (by omega) D') (T + 1) (T + 2) V (by omega) (by omega) (by
          intro m s j hm hs hj hD
          exact D m s j hm hs hj (by omega))
        rw [pk_m1] at this
        exact this
  unfold wpX_fillWorths
  exact ⟨c + 1, goN (c + 1) 0 V (by omega) (by omega) (fun m s j _ _ _ hD => by omega)⟩
end
end
section
/-! X: sums over the waiting nodes, history -/
section
variable {T P M C c hh d k pc : Nat} {ca ga hs cs : Int64} {sg : Int32} {K A L R B F PN H S st wt pd oS oW oU : Nat → Int32} {V oC oG oH oX : Nat → Int64}
theorem xx_sum {post : Int64 → Prop} {z : Int32} {w : Nat → Int64} (h24 : c ≤ 24) (hT : T ≤ 6) (hd : d ≤ T) (hk : k ≤ d) (hw : (z = 0 ∧ ∀ n, w n = dt_ex T V n d k) ∨ (z = 1 ∧ ∀ n, w n = dt_hp T V n d k)) (h : post (dt_sm (fun n => if st n = 1 then (wt n).toInt64 * w n else 0) c)) : wpX_waitingSum post (nI T, nI P, nI M, nI C, dt_G T, nI c, nI hh, sg, nI d, nI k, ca, ga, hs, cs, nI pc, K, A, L, R, B, F, PN, H, S, V, st, wt, pd, oS, oW, oU, oC, oG, oH, oX) z := by
  have go : ∀ f i : Nat, c < f + i → i ≤ c → wX_waitingSum_5 post z (nI T) (nI P) (nI M) (nI C) (dt_G T) (nI c) (nI hh) sg (nI d) (nI k) ca ga hs cs (nI pc) K A L R B F PN H S V st wt pd oS oW oU oC oG oH oX f (dt_sm (fun n => if st n = 1 then (wt n).toInt64 * w n else 0) i) (nI i) := by
    intro f
    induction f with
    | zero => intro i h1 h2; omega
    | succ f ih =>
      intro i hf hi
      rw [wX_waitingSum_5]
      by_cases e : c ≤ i
      · have : i = c := by omega
        subst this
        exact br_t (nI_le e (by omega)) h
      · have iv := vp_in_nI (n := i) (N := 24) (by omega) (by decide)
        have nx := ih (i + 1) (by omega) (by omega)
        have es : dt_sm (fun n => if st n = 1 then (wt n).toInt64 * w n else 0) (i + 1) = dt_sm (fun n => if st n = 1 then (wt n).toInt64 * w n else 0) i + (if st i = 1 then (wt i).toInt64 * w i else 0) := rfl
        rw [es] at nx
        refine br_f (nI_ge (by omega) (by omega)) ⟨iv, ?_⟩
        rw [nI_clamp (n := i) (by omega)]
        by_cases g : st i = 1
        · rw [if_pos g] at nx
          have fin : ∀ v : Int64, v = w i → wX_waitingSum_60 post (wX_waitingSum_5 post z (nI T) (nI P) (nI M) (nI C) (dt_G T) (nI c) (nI hh) sg (nI d) (nI k) ca ga hs cs (nI pc) K A L R B F PN H S V st wt pd oS oW oU oC oG oH oX f) z (dt_sm (fun n => if st n = 1 then (wt n).toInt64 * w n else 0) i) (nI i) v (nI T) (nI P) (nI M) (nI C) (dt_G T) (nI c) (nI hh) sg (nI d) (nI k) ca ga hs cs (nI pc) K A L R B F PN H S V st wt pd oS oW oU oC oG oH oX := by
            intro v hv
            subst hv
            unfold wX_waitingSum_60
            refine ⟨iv, ?_⟩
            rw [nI_clamp (n := i) (by omega)]
            exact nm_e (nm_r (nI_1 i) nx)
          refine br_t g ?_
          rcases hw with ⟨rfl, hw⟩ | ⟨rfl, hw⟩
          · exact br_t rfl (xx_exp (by omega) hd hT hk (fin _ (hw i).symm))
          · exact br_f (by decide) (xx_hsp (by omega) hd hT hk (fin _ (hw i).symm))
        · rw [if_neg g, Int64.add_zero] at nx
          exact br_f g (nm_r (nI_1 i) nx)
  exact ⟨c + 1, go (c + 1) 0 (by omega) (by omega)⟩
theorem xx_save {post : SX → Prop} (h24 : c ≤ 24) (hd : d < 7) (KK : ∀ oS' oW' : Nat → Int32, (∀ n, n < c → oS' (24 * d + n) = st n ∧ oW' (24 * d + n) = wt n) → (∀ j, j < 24 * d → oS' j = oS j ∧ oW' j = oW j) → post (nI T, nI P, nI M, nI C, dt_G T, nI c, nI hh, sg, nI d, nI k, ca, ga, hs, cs, nI pc, K, A, L, R, B, F, PN, H, S, V, st, wt, pd, oS', oW', upd oU d (nI k), vp_updL oC d ca, vp_updL oG d ga, vp_updL oH d hs, vp_updL oX d cs)) : wpX_save post (nI T, nI P, nI M, nI C, dt_G T, nI c, nI hh, sg, nI d, nI k, ca, ga, hs, cs, nI pc, K, A, L, R, B, F, PN, H, S, V, st, wt, pd, oS, oW, oU, oC, oG, oH, oX) := by
  have go : ∀ (f i : Nat) (oS' oW' : Nat → Int32), c < f + i → i ≤ c → (∀ n, n < i → oS' (24 * d + n) = st n ∧ oW' (24 * d + n) = wt n) → (∀ j, j < 24 * d → oS' j = oS j ∧ oW' j = oW j) → wX_save_75 post (nI (24 * d)) (nI T) (nI P) (nI M) (nI C) (dt_G T) (nI c) (nI hh) sg (nI d) (nI k) ca ga hs cs (nI pc) f (nI i) K A L R B F PN H S V st wt pd oS' oW' (upd oU d (nI k)) (vp_updL oC d ca) (vp_updL oG d ga) (vp_updL oH d hs) (vp_updL oX d cs) := by
    intro f
    induction f with
    | zero => intro i _ _ h1 h2; omega
    | succ f ih =>
      intro i oS' oW' hf hi J1 J2
      rw [wX_save_75]
      by_cases e : c ≤ i
      · refine br_t (nI_le e (by omega)) (KK oS' oW' ?_ J2)
        intro n hn; exact J1 n (by omega)
      · have iv := vp_in_nI (n := i) (N := 24) (by omega) (by decide)
        have iw := vp_in_nI (n := 24 * d + i) (N := 168) (by omega) (by decide)
        refine br_f (nI_ge (by omega) (by omega)) ?_
        rw [nI_add, nI_clamp (n := i) (by omega), nI_clamp (n := 24 * d + i) (by omega)]
        refine ⟨iv, iw, nm_e ⟨iv, iw, nm_e (nm_r (nI_1 i) (ih (i + 1) _ _ (by omega) (by omega) ?_ ?_))⟩⟩
        · intro n hn
          by_cases g : n = i
          · subst g; exact ⟨pk_us, pk_us⟩
          · rw [pk_un (by omega), pk_un (by omega)]; exact J1 n (by omega)
        · intro j hj
          rw [pk_un (by omega), pk_un (by omega)]; exact J2 j hj
  have iv := vp_in_nI (n := d) (N := 7) hd (by decide)
  unfold wpX_save
  dsimp only
  rw [nI_clamp (n := d) (by omega), nu_m24]
  refine ⟨iv, nm_e ⟨iv, nm_e ⟨iv, nm_e ⟨iv, nm_e ⟨iv, nm_e (nm_e ⟨c + 1, go (c + 1) 0 _ _ (by omega) (by omega) (fun n hn => by omega) (fun j _ => ⟨rfl, rfl⟩)⟩)⟩⟩⟩⟩⟩
theorem xx_rst {post : SX → Prop} {k0 : Nat} (h24 : c ≤ 24) (hd : d < 7) (hk : oU d = nI k0) (KK : ∀ st' wt' : Nat → Int32, (∀ n, n < c → st' n = oS (24 * d + n) ∧ wt' n = oW (24 * d + n)) → post (nI T, nI P, nI M, nI C, dt_G T, nI c, nI hh, sg, nI d, nI k0, oC d, oG d, oH d, oX d, nI pc, K, A, L, R, B, F, PN, H, S, V, st', wt', pd, oS, oW, oU, oC, oG, oH, oX)) : wpX_restore post (nI T, nI P, nI M, nI C, dt_G T, nI c, nI hh, sg, nI d, nI k, ca, ga, hs, cs, nI pc, K, A, L, R, B, F, PN, H, S, V, st, wt, pd, oS, oW, oU, oC, oG, oH, oX) := by
  have go : ∀ (f i : Nat) (st wt : Nat → Int32), c < f + i → i ≤ c → (∀ n, n < i → st n = oS (24 * d + n) ∧ wt n = oW (24 * d + n)) → wX_restore_75 post (nI (24 * d)) (nI T) (nI P) (nI M) (nI C) (dt_G T) (nI c) (nI hh) sg (nI d) (nI k0) (oC d) (oG d) (oH d) (oX d) (nI pc) f (nI i) K A L R B F PN H S V st wt pd oS oW oU oC oG oH oX := by
    intro f
    induction f with
    | zero => intro i _ _ h1 h2; omega
    | succ f ih =>
      intro i st wt hf hi J1
      rw [wX_restore_75]
      by_cases e : c ≤ i
      · refine br_t (nI_le e (by omega)) (KK st wt ?_)
        intro n hn; exact J1 n (by omega)
      · have iv := vp_in_nI (n := i) (N := 24) (by omega) (by decide)
        have iw := vp_in_nI (n := 24 * d + i) (N := 168) (by omega) (by decide)
        refine br_f (nI_ge (by omega) (by omega)) ?_
        rw [nI_add, nI_clamp (n := i) (by omega), nI_clamp (n := 24 * d + i) (by omega)]
        refine ⟨iw, iv, nm_e ⟨iw, iv, nm_e (nm_r (nI_1 i) (ih (i + 1) _ _ (by omega) (by omega) ?_))⟩⟩
        intro n hn
        by_cases g : n = i
        · subst g; exact ⟨pk_us, pk_us⟩
        · rw [pk_un (by omega), pk_un (by omega)]; exact J1 n (by omega)
  have iv := vp_in_nI (n := d) (N := 7) hd (by decide)
  unfold wpX_restore
  dsimp only
  rw [nI_clamp (n := d) (by omega), nu_m24, hk]
  refine ⟨iv, nm_e ⟨iv, nm_e ⟨iv, nm_e ⟨iv, nm_e ⟨iv, nm_e (nm_e ⟨c + 1, go (c + 1) 0 _ _ (by omega) (by omega) (fun n hn => by omega)⟩)⟩⟩⟩⟩⟩
end
end
section
/-! X: put and twin -/
def bu_fit (T q : Nat) (a : Int32) : Bool := if q = 1 then (!decide (a < -99) && !decide (99 < a)) else if q = 2 then (!decide (a < -9) && !decide (9 < a)) else if q = 7 then (!decide (a < -999) && !decide (999 < a)) else if q = 8 ∨ q = 9 then (!decide (a < 0) && !decide (nI T < a)) else true
def bu_sa (q : Nat) (a : Int32) : Int32 := if q = 1 ∨ q = 2 ∨ q = 7 ∨ q = 8 ∨ q = 9 then a else 0
def bu_fc (a : Int32) : Int32 := if 1 ≤ (if 0 ≤ a then a else -a) then (if 0 ≤ a then a else -a) else 1
def bu_bd (T P M q : Nat) (a x y : Int32) : Int32 := if q = 1 ∨ q = 2 then bu_fc a * x else if q = 3 then (nI P + (nI T * nI M)) * x else if q = 5 then x + y else if q = 6 ∨ q = 7 then (if x ≤ y then y else x) else x
def bu_b1 (B : Nat → Int32) (x : Int32) : Int32 := if 0 ≤ x then B x.toNatClampNeg else 1
def bu_F (F : Nat → Int32) (c : Nat) (x : Int32) : Int32 := if 0 ≤ x then F x.toNatClampNeg else nI c
theorem bu_11 {P : Nat → Prop} (h0 : P 0) (h1 : P 1) (h2 : P 2) (h3 : P 3) (h4 : P 4) (h5 : P 5) (h6 : P 6) (h7 : P 7) (h8 : P 8) (h9 : P 9) (h10 : P 10) {q : Nat} (hq : q ≤ 10) : P q := by
  have hq' : q = 0 ∨ q = 1 ∨ q = 2 ∨ q = 3 ∨ q = 4 ∨ q = 5 ∨ q = 6 ∨ q = 7 ∨ q = 8 ∨ q = 9 ∨ q = 10 := by omega
  rcases hq' with rfl | rfl | rfl | rfl | rfl | rfl | rfl | rfl | rfl | rfl | rfl <;> assumption
section
variable {T P M C c hh d k pc : Nat} {ca ga hs cs : Int64} {sg : Int32} {K A L R B F PN H S st wt pd oS oW oU : Nat → Int32} {V oC oG oH oX : Nat → Int64}
theorem xx_ari {post : Int32 → Prop} {q : Nat} (hq : q ≤ 10) (h : post (nI (fo_ar q))) : wpX_arityOf post (nI T, nI P, nI M, nI C, dt_G T, nI c, nI hh, sg, nI d, nI k, ca, ga, hs, cs, nI pc, K, A, L, R, B, F, PN, H, S, V, st, wt, pd, oS, oW, oU, oC, oG, oH, oX) (nI q) := by
  have hq' : q = 0 ∨ q = 1 ∨ q = 2 ∨ q = 3 ∨ q = 4 ∨ q = 5 ∨ q = 6 ∨ q = 7 ∨ q = 8 ∨ q = 9 ∨ q = 10 := by omega
  unfold wpX_arityOf
  rcases hq' with rfl | rfl | rfl | rfl | rfl | rfl | rfl | rfl | rfl | rfl | rfl <;>
  (repeat (first | refine br_t (by decide) ?_ | refine br_f (by decide) ?_)) <;> exact h
theorem xx_hasA {post : Int32 → Prop} {q : Nat} (hq : q ≤ 10) (h1 : (q = 1 ∨ q = 2 ∨ q = 7 ∨ q = 8 ∨ q = 9) → post 1) (h2 : ¬ (q = 1 ∨ q = 2 ∨ q = 7 ∨ q = 8 ∨ q = 9) → post 0) : wpX_hasArg post (nI T, nI P, nI M, nI C, dt_G T, nI c, nI hh, sg, nI d, nI k, ca, ga, hs, cs, nI pc, K, A, L, R, B, F, PN, H, S, V, st, wt, pd, oS, oW, oU, oC, oG, oH, oX) (nI q) := by
  have hq' : q = 0 ∨ q = 1 ∨ q = 2 ∨ q = 3 ∨ q = 4 ∨ q = 5 ∨ q = 6 ∨ q = 7 ∨ q = 8 ∨ q = 9 ∨ q = 10 := by omega
  unfold wpX_hasArg
  rcases hq' with rfl | rfl | rfl | rfl | rfl | rfl | rfl | rfl | rfl | rfl | rfl <;>
  (repeat (first | refine br_t (by decide) ?_ | refine br_f (by decide) ?_)) <;> first | exact h1 (by decide) | exact h2 (by decide)
theorem xx_rng {post : Int32 → Prop} {a x y : Int32} (h1 : (!decide (a < x) && !decide (y < a)) = true → post 1) (h0 : (!decide (a < x) && !decide (y < a)) = false → post 0) : (a < x → post 0) ∧ (¬ a < x → ((y < a → post 0) ∧ (¬ y < a → post 1))) := by
  by_cases e : a < x
  · exact br_t e (h0 (by rw [decide_eq_true e]; rfl))
  · refine br_f e ?_
    by_cases g : y < a
    · exact br_t g (h0 (by rw [decide_eq_true g]; simp))
    · exact br_f g (h1 (by rw [decide_eq_false e, decide_eq_false g]; rfl))
theorem xx_fit {post : Int32 → Prop} {q : Nat} {a : Int32} (hq : q ≤ 10) (h1 : bu_fit T q a = true → post 1) (h0 : bu_fit T q a = false → post 0) : wpX_argFits post (nI T, nI P, nI M, nI C, dt_G T, nI c, nI hh, sg, nI d, nI k, ca, ga, hs, cs, nI pc, K, A, L, R, B, F, PN, H, S, V, st, wt, pd, oS, oW, oU, oC, oG, oH, oX) (nI q) a := by
  have hq' : q = 0 ∨ q = 1 ∨ q = 2 ∨ q = 3 ∨ q = 4 ∨ q = 5 ∨ q = 6 ∨ q = 7 ∨ q = 8 ∨ q = 9 ∨ q = 10 := by omega
  unfold wpX_argFits
  rcases hq' with rfl | rfl | rfl | rfl | rfl | rfl | rfl | rfl | rfl | rfl | rfl <;>
  (repeat (first | refine br_t (by decide) ?_ | refine br_f (by decide) ?_)) <;> first | exact h1 rfl | exact xx_rng h1 h0
theorem xx_fac {post : Int32 → Prop} {a : Int32} (h : post (bu_fc a)) : wpX_factor post (nI T, nI P, nI M, nI C, dt_G T, nI c, nI hh, sg, nI d, nI k, ca, ga, hs, cs, nI pc, K, A, L, R, B, F, PN, H, S, V, st, wt, pd, oS, oW, oU, oC, oG, oH, oX) a := by
  unfold wpX_factor
  unfold bu_fc at h
  by_cases e : 0 ≤ a
  · rw [if_pos e] at h
    refine br_t e ?_
    unfold wX_factor_10
    by_cases g : 1 ≤ a
    · rw [if_pos g] at h; exact br_t g h
    · rw [if_neg g] at h; exact br_f g h
  · rw [if_neg e] at h
    refine br_f e ?_
    unfold wX_factor_10
    by_cases g : 1 ≤ -a
    · rw [if_pos g] at h; exact br_t g h
    · rw [if_neg g] at h; exact br_f g h
theorem xx_b32 {post : Int32 → Prop} {q : Nat} {a x y : Int32} (hq : q ≤ 10) (h : post (bu_bd T P M q a x y)) : wX_boundOf_32 post (nI q) a x y (nI T) (nI P) (nI M) (nI C) (dt_G T) (nI c) (nI hh) sg (nI d) (nI k) ca ga hs cs (nI pc) K A L R B F PN H S V st wt pd oS oW oU oC oG oH oX := by
  have hq' : q = 0 ∨ q = 1 ∨ q = 2 ∨ q = 3 ∨ q = 4 ∨ q = 5 ∨ q = 6 ∨ q = 7 ∨ q = 8 ∨ q = 9 ∨ q = 10 := by omega
  have mx : post (if x ≤ y then y else x) → wX_boundOf_109 post x y (nI T) (nI P) (nI M) (nI C) (dt_G T) (nI c) (nI hh) sg (nI d) (nI k) ca ga hs cs (nI pc) K A L R B F PN H S V st wt pd oS oW oU oC oG oH oX := by
    intro h
    unfold wX_boundOf_109
    by_cases e : x ≤ y
    · rw [if_pos e] at h; exact br_t e h
    · rw [if_neg e] at h; exact br_f e h
  unfold wX_boundOf_32
  rcases hq' with rfl | rfl | rfl | rfl | rfl | rfl | rfl | rfl | rfl | rfl | rfl <;>
  (repeat (first | refine br_t (by decide) ?_ | refine br_f (by decide) ?_)) <;> first | exact h | exact mx h | exact xx_fac h
theorem xx_bnd {post : Int32 → Prop} {q : Nat} {a l r : Int32} (hq : q ≤ 10) (hl : l = -1 ∨ ∃ m, m < 24 ∧ l = nI m) (hr : r = -1 ∨ ∃ m, m < 24 ∧ r = nI m) (h : post (bu_bd T P M q a (bu_b1 B l) (bu_b1 B r))) : wpX_boundOf post (nI T, nI P, nI M, nI C, dt_G T, nI c, nI hh, sg, nI d, nI k, ca, ga, hs, cs, nI pc, K, A, L, R, B, F, PN, H, S, V, st, wt, pd, oS, oW, oU, oC, oG, oH, oX) (nI q) a l r := by
  have h14 : ∀ z : Int32, post (bu_bd T P M q a z (bu_b1 B r)) → wX_boundOf_14 post (nI q) a r z (nI T) (nI P) (nI M) (nI C) (dt_G T) (nI c) (nI hh) sg (nI d) (nI k) ca ga hs cs (nI pc) K A L R B F PN H S V st wt pd oS oW oU oC oG oH oX := by
    intro z h
    unfold wX_boundOf_14
    unfold bu_b1 at h
    rcases hr with rfl | ⟨m, hm, rfl⟩
    · rw [if_neg nu_m1le] at h
      exact br_f nu_m1le (xx_b32 hq h)
    · rw [if_pos (nI_pos' (by omega))] at h
      exact br_t (nI_pos' (by omega)) ⟨vp_in_nI hm (by decide), xx_b32 hq h⟩
  unfold wpX_boundOf
  rcases hl with rfl | ⟨m, hm, rfl⟩
  · have e : bu_b1 B (-1) = 1 := if_neg nu_m1le
    rw [e] at h
    exact br_f nu_m1le (h14 _ h)
  · have e : bu_b1 B (nI m) = B (nI m).toNatClampNeg := if_pos (nI_pos' (by omega))
    rw [e] at h
    exact br_t (nI_pos' (by omega)) ⟨vp_in_nI hm (by decide), h14 _ h⟩
theorem xx_push {post : SX → Prop} {x : Int32} (hh24 : hh < 24) (h : post (nI T, nI P, nI M, nI C, dt_G T, nI c, nI (hh + 1), sg, nI d, nI k, ca, ga, hs, cs, nI pc, K, A, L, R, B, F, PN, H, upd S hh x, V, st, wt, pd, oS, oW, oU, oC, oG, oH, oX)) : wpX_push post (nI T, nI P, nI M, nI C, dt_G T, nI c, nI hh, sg, nI d, nI k, ca, ga, hs, cs, nI pc, K, A, L, R, B, F, PN, H, S, V, st, wt, pd, oS, oW, oU, oC, oG, oH, oX) x := by
  unfold wpX_push
  dsimp only
  rw [nI_clamp (n := hh) (by omega)]
  exact ⟨vp_in_nI hh24 (by decide), nm_e (nm_r (nI_1 hh) h)⟩
theorem xx_p163 {post : Int32 → SX → Prop} {ar : Nat} {l r bd sa : Int32} (hc : c < 24) (ha : ar ≤ hh) (hh24 : hh ≤ c) (hl : l = -1 ∨ ∃ m, m < 24 ∧ l = nI m)
    (h : post (nI c) (nI T, nI P, nI M, nI C, dt_G T, nI (c + 1), nI (hh - ar + 1), sg, nI d, nI k, ca, ga, hs, cs, nI pc, K, upd A c sa, upd L c l, upd R c r, upd B c bd, upd F c (bu_F F c l), upd PN c 0, H, upd S (hh - ar) (nI c), V, st, wt, pd, oS, oW, oU, oC, oG, oH, oX)) : wX_put_163 post (nI ar) l r bd (nI c) sa (nI c) (nI T) (nI P) (nI M) (nI C) (dt_G T) (nI c) (nI hh) sg (nI d) (nI k) ca ga hs cs (nI pc) K A L R B F PN H S V st wt pd oS oW oU oC oG oH oX := by
  have i := vp_in_nI hc (N := 24) (by decide)
  have e := nI_clamp (n := c) (by omega)
  have g : ∀ z : Int32, z = bu_F F c l → wX_put_214 post (nI ar) (nI c) z (nI c) (nI T) (nI P) (nI M) (nI C) (dt_G T) (nI c) (nI hh) sg (nI d) (nI k) ca ga hs cs (nI pc) K (upd A c sa) (upd L c l) (upd R c r) (upd B c bd) F PN H S V st wt pd oS oW oU oC oG oH oX := by
    intro z hz
    subst hz
    unfold wX_put_214
    rw [e]
    refine ⟨i, nm_e ⟨i, nm_e (nm_r (nI_1 c) (nm_r (pk_sub ha) (xx_push (by omega) ?_)))⟩⟩
    exact h
  unfold wX_put_163
  rw [e]
  refine ⟨i, nm_e ⟨i, nm_e ⟨i, nm_e ⟨i, nm_e ?_⟩⟩⟩⟩
  rcases hl with rfl | ⟨m, hm, rfl⟩
  · exact br_f nu_m1le (g _ (if_neg nu_m1le).symm)
  · exact br_t (nI_pos' (by omega)) ⟨vp_in_nI hm (by decide), g _ (if_pos (nI_pos' (by omega))).symm⟩
theorem xx_p106 {post : Int32 → SX → Prop} {ar q : Nat} {a l r : Int32} (hq : q ≤ 10) (hc : c < 24) (ha : ar ≤ hh) (hh24 : hh ≤ c) (hl : l = -1 ∨ ∃ m, m < 24 ∧ l = nI m) (hr : r = -1 ∨ ∃ m, m < 24 ∧ r = nI m)
    (hb : ¬ bu_bd T P M q a (bu_b1 B l) (bu_b1 B r) ≤ 1000000 → post (-6) (nI T, nI P, nI M, nI C, dt_G T, nI c, nI hh, sg, nI d, nI k, ca, ga, hs, cs, nI pc, K, A, L, R, B, F, PN, H, S, V, st, wt, pd, oS, oW, oU, oC, oG, oH, oX))
    (h : bu_bd T P M q a (bu_b1 B l) (bu_b1 B r) ≤ 1000000 → post (nI c) (nI T, nI P, nI M, nI C, dt_G T, nI (c + 1), nI (hh - ar + 1), sg, nI d, nI k, ca, ga, hs, cs, nI pc, upd K c (nI q), upd A c (bu_sa q a), upd L c l, upd R c r, upd B c (bu_bd T P M q a (bu_b1 B l) (bu_b1 B r)), upd F c (bu_F F c l), upd PN c 0, H, upd S (hh - ar) (nI c), V, st, wt, pd, oS, oW, oU, oC, oG, oH, oX)) : wX_put_106 post (nI q) a (nI ar) l r (nI T) (nI P) (nI M) (nI C) (dt_G T) (nI c) (nI hh) sg (nI d) (nI k) ca ga hs cs (nI pc) K A L R B F PN H S V st wt pd oS oW oU oC oG oH oX := by
  have i := vp_in_nI hc (N := 24) (by decide)
  have e := nI_clamp (n := c) (by omega)
  unfold wX_put_106
  refine xx_bnd hq hl hr ?_
  by_cases g : bu_bd T P M q a (bu_b1 B l) (bu_b1 B r) ≤ 1000000
  · have h := h g
    refine br_t g ⟨i, nm_r (e' := upd K c (nI q)) (by rw [e]) (xx_hasA hq ?_ ?_)⟩
    · intro hs
      have e2 : bu_sa q a = a := if_pos hs
      rw [e2] at h
      exact br_f (by decide) (xx_p163 hc ha hh24 hl h)
    · intro hs
      have e2 : bu_sa q a = 0 := if_neg hs
      rw [e2] at h
      exact br_t rfl (xx_p163 hc ha hh24 hl h)
  · exact br_f g (hb g)
theorem xx_put {post : Int32 → SX → Prop} {q : Nat} {a : Int32} (hq : q ≤ 10) (hsg : sg = 0) (hC : C ≤ 24) (hcC : c ≤ C) (hh24 : hh ≤ c) (hS : ∀ i, i < hh → ∃ m, m < 24 ∧ S i = nI m)
    (hA : hh < fo_ar q → post (-3) (nI T, nI P, nI M, nI C, dt_G T, nI c, nI hh, sg, nI d, nI k, ca, ga, hs, cs, nI pc, K, A, L, R, B, F, PN, H, S, V, st, wt, pd, oS, oW, oU, oC, oG, oH, oX)) (hF : fo_ar q ≤ hh → bu_fit T q a = false → post (-4) (nI T, nI P, nI M, nI C, dt_G T, nI c, nI hh, sg, nI d, nI k, ca, ga, hs, cs, nI pc, K, A, L, R, B, F, PN, H, S, V, st, wt, pd, oS, oW, oU, oC, oG, oH, oX)) (hFu : fo_ar q ≤ hh → bu_fit T q a = true → C ≤ c → post (-5) (nI T, nI P, nI M, nI C, dt_G T, nI c, nI hh, sg, nI d, nI k, ca, ga, hs, cs, nI pc, K, A, L, R, B, F, PN, H, S, V, st, wt, pd, oS, oW, oU, oC, oG, oH, oX))
    (hb : fo_ar q ≤ hh → bu_fit T q a = true → c < C → ∀ l r, l = (if fo_ar q = 0 then -1 else S (hh - fo_ar q)) → r = (if fo_ar q = 2 then S (hh - 1) else -1) → ¬ bu_bd T P M q a (bu_b1 B l) (bu_b1 B r) ≤ 1000000 → post (-6) (nI T, nI P, nI M, nI C, dt_G T, nI c, nI hh, sg, nI d, nI k, ca, ga, hs, cs, nI pc, K, A, L, R, B, F, PN, H, S, V, st, wt, pd, oS, oW, oU, oC, oG, oH, oX))
    (h : fo_ar q ≤ hh → bu_fit T q a = true → c < C → ∀ l r, l = (if fo_ar q = 0 then -1 else S (hh - fo_ar q)) → r = (if fo_ar q = 2 then S (hh - 1) else -1) → bu_bd T P M q a (bu_b1 B l) (bu_b1 B r) ≤ 1000000 → post (nI c) (nI T, nI P, nI M, nI C, dt_G T, nI (c + 1), nI (hh - fo_ar q + 1), sg, nI d, nI k, ca, ga, hs, cs, nI pc, upd K c (nI q), upd A c (bu_sa q a), upd L c l, upd R c r, upd B c (bu_bd T P M q a (bu_b1 B l) (bu_b1 B r)), upd F c (bu_F F c l), upd PN c 0, H, upd S (hh - fo_ar q) (nI c), V, st, wt, pd, oS, oW, oU, oC, oG, oH, oX)) : wpX_put post (nI T, nI P, nI M, nI C, dt_G T, nI c, nI hh, sg, nI d, nI k, ca, ga, hs, cs, nI pc, K, A, L, R, B, F, PN, H, S, V, st, wt, pd, oS, oW, oU, oC, oG, oH, oX) (nI q) a := by
  subst hsg
  have har := fo_ar3 q
  unfold wpX_put
  refine br_t rfl (br_f (nI_pos (by omega)) (br_t (nI_le (b := 10) hq (by decide)) (xx_ari hq ?_)))
  by_cases g : fo_ar q ≤ hh
  · refine br_t (nI_le g (by omega)) (xx_fit hq ?_ ?_)
    · intro hf
      refine br_f (by decide) ?_
      by_cases e : c < C
      · refine br_t (nI_lt e (by omega)) ?_
        have p84 : ∀ l : Int32, l = (if fo_ar q = 0 then -1 else S (hh - fo_ar q)) → (l = -1 ∨ ∃ m, m < 24 ∧ l = nI m) → wX_put_84 post (nI q) a (nI (fo_ar q)) l (nI T) (nI P) (nI M) (nI C) (dt_G T) (nI c) (nI hh) 0 (nI d) (nI k) ca ga hs cs (nI pc) K A L R B F PN H S V st wt pd oS oW oU oC oG oH oX := by
          intro l hl hl2
          unfold wX_put_84
          by_cases g2 : fo_ar q = 2
          · have er : (if fo_ar q = 2 then S (hh - 1) else -1) = S (hh - 1) := if_pos g2
            refine br_t (by rw [g2]; rfl) ?_
            rw [nu_s1 (p := hh) (by omega), nI_clamp (n := hh - 1) (by omega)]
            obtain ⟨m, hm, em⟩ := hS (hh - 1) (by omega)
            exact ⟨vp_in_nI (by omega) (by decide), xx_p106 hq (by omega) g hh24 hl2 (Or.inr ⟨m, hm, em⟩) (hb g hf e _ _ hl er.symm) (h g hf e _ _ hl er.symm)⟩
          · have er : (if fo_ar q = 2 then S (hh - 1) else -1) = -1 := if_neg g2
            refine br_f ?_ (xx_p106 hq (by omega) g hh24 hl2 (Or.inl rfl) (hb g hf e _ _ hl er.symm) (h g hf e _ _ hl er.symm))
            intro z
            exact g2 (nu_inj (b := 2) z (by omega) (by omega))
        by_cases g0 : fo_ar q = 0
        · refine br_t (by rw [g0]; rfl) (p84 (-1) ?_ (Or.inl rfl))
          rw [if_pos g0]
        · refine br_f (nI_ne0 (by omega) (by omega)) ?_
          rw [pk_sub g, nI_clamp (n := hh - fo_ar q) (by omega)]
          obtain ⟨m, hm, em⟩ := hS (hh - fo_ar q) (by omega)
          refine ⟨vp_in_nI (by omega) (by decide), p84 _ ?_ (Or.inr ⟨m, hm, em⟩)⟩
          rw [if_neg g0]
      · exact br_f (nI_nlt (by omega) (by omega)) (hFu g hf (by omega))
    · intro hf
      exact br_t rfl (hF g hf)
  · exact br_f (nI_ge (by omega) (by omega)) (hA (by omega))
end
end
section
/-! X: twin -/
def tw_ (g : Int32 → Int32) (a : Nat → Int32) (lo z m : Nat) : Nat → Int32 := fun q => if lo + z ≤ q ∧ q < lo + z + m then g (a (q - z)) else a q
def tw_g (z : Nat) (x : Int32) : Int32 := if 0 ≤ x then x + nI z else -1
def tw_i (x : Int32) : Int32 := x
def tw_p (z : Nat) (x : Int32) : Int32 := x + nI z
def tw_0 (_ : Int32) : Int32 := 0
theorem tw_z {g : Int32 → Int32} {a : Nat → Int32} {lo z : Nat} : tw_ g a lo z 0 = a := by
  funext q
  unfold tw_
  rw [if_neg (by omega)]
theorem tw_s {g : Int32 → Int32} {a : Nat → Int32} {lo z m : Nat} (h : m < z) : upd (tw_ g a lo z m) (lo + m + z) (g (tw_ g a lo z m (lo + m))) = tw_ g a lo z (m + 1) := by
  funext q
  have e : tw_ g a lo z m (lo + m) = a (lo + m) := if_neg (by omega)
  by_cases h2 : q = lo + m + z
  · subst h2
    rw [pk_us, e]
    unfold tw_
    rw [if_pos (by omega)]
    congr 2
    omega
  · rw [pk_un h2]
    unfold tw_
    by_cases h3 : lo + z ≤ q ∧ q < lo + z + m
    · rw [if_pos h3, if_pos (by omega)]
    · rw [if_neg h3, if_neg (by omega)]
section
variable {T P M C c hh d k pc : Nat} {ca ga hs cs : Int64} {sg : Int32} {K A L R B F PN H S st wt pd oS oW oU : Nat → Int32} {V oC oG oH oX : Nat → Int64}
theorem xx_cpy {post : SX → Prop} {i z : Nat} (hi : i + z < 24) (h : post (nI T, nI P, nI M, nI C, dt_G T, nI c, nI hh, sg, nI d, nI k, ca, ga, hs, cs, nI pc, upd K (i + z) (tw_i (K i)), upd A (i + z) (tw_i (A i)), upd L (i + z) (tw_g z (L i)), upd R (i + z) (tw_g z (R i)), upd B (i + z) (tw_i (B i)), upd F (i + z) (tw_p z (F i)), upd PN (i + z) (tw_0 (PN i)), H, S, V, st, wt, pd, oS, oW, oU, oC, oG, oH, oX)) : wpX_copyNode post (nI T, nI P, nI M, nI C, dt_G T, nI c, nI hh, sg, nI d, nI k, ca, ga, hs, cs, nI pc, K, A, L, R, B, F, PN, H, S, V, st, wt, pd, oS, oW, oU, oC, oG, oH, oX) (nI i) (nI z) := by
  have v1 := vp_in_nI (n := i) (N := 24) (by omega) (by decide)
  have v2 := vp_in_nI (n := i + z) (N := 24) (by omega) (by decide)
  have e1 := nI_clamp (n := i) (by omega)
  have e2 := nI_clamp (n := i + z) (by omega)
  have g81 : ∀ x : Int32, x = tw_g z (R i) → wX_copyNode_81 post (nI i) (nI z) (nI (i + z)) x (nI (i + z)) (nI T) (nI P) (nI M) (nI C) (dt_G T) (nI c) (nI hh) sg (nI d) (nI k) ca ga hs cs (nI pc) (upd K (i + z) (tw_i (K i))) (upd A (i + z) (tw_i (A i))) (upd L (i + z) (tw_g z (L i))) R B F PN H S V st wt pd oS oW oU oC oG oH oX := by
    intro x hx
    subst hx
    unfold wX_copyNode_81
    rw [e1, e2]
    exact ⟨v2, nm_e ⟨v1, v2, nm_e ⟨v1, v2, nm_e ⟨v2, nm_e h⟩⟩⟩⟩
  have g54 : ∀ x : Int32, x = tw_g z (L i) → wX_copyNode_54 post (nI i) (nI z) (nI (i + z)) x (nI (i + z)) (nI T) (nI P) (nI M) (nI C) (dt_G T) (nI c) (nI hh) sg (nI d) (nI k) ca ga hs cs (nI pc) (upd K (i + z) (tw_i (K i))) (upd A (i + z) (tw_i (A i))) L R B F PN H S V st wt pd oS oW oU oC oG oH oX := by
    intro x hx
    subst hx
    unfold wX_copyNode_54
    rw [e1, e2]
    refine ⟨v2, nm_e ⟨v1, ?_⟩⟩
    by_cases g : 0 ≤ R i
    · exact br_t g ⟨v1, g81 _ (if_pos g).symm⟩
    · exact br_f g (g81 _ (if_neg g).symm)
  unfold wpX_copyNode
  dsimp only
  refine nm_r (nI_add i z) ?_
  rw [e1, e2]
  refine ⟨v1, v2, nm_e ⟨v1, v2, nm_e ⟨v1, ?_⟩⟩⟩
  by_cases g : 0 ≤ L i
  · exact br_t g ⟨v1, g54 _ (if_pos g).symm⟩
  · exact br_f g (g54 _ (if_neg g).symm)
theorem xx_twl {post : Int32 → SX → Prop} {lo z : Nat} (hz : 0 < z) (hc : lo + z = c) (hC : c + z ≤ 24) (hhc : hh ≤ c) (h : post (nI (c - 1 + z)) (nI T, nI P, nI M, nI C, dt_G T, nI (c + z), nI (hh + 1), sg, nI d, nI k, ca, ga, hs, cs, nI pc, tw_ tw_i K lo z z, tw_ tw_i A lo z z, tw_ (tw_g z) L lo z z, tw_ (tw_g z) R lo z z, tw_ tw_i B lo z z, tw_ (tw_p z) F lo z z, tw_ tw_0 PN lo z z, H, upd S hh (nI (c - 1 + z)), V, st, wt, pd, oS, oW, oU, oC, oG, oH, oX)) :
    ∀ f m : Nat, z < f + m → m ≤ z → wX_twin_60 post (nI (c - 1)) (nI z) f (nI (lo + m)) (nI T) (nI P) (nI M) (nI C) (dt_G T) (nI c) (nI hh) sg (nI d) (nI k) ca ga hs cs (nI pc) (tw_ tw_i K lo z m) (tw_ tw_i A lo z m) (tw_ (tw_g z) L lo z m) (tw_ (tw_g z) R lo z m) (tw_ tw_i B lo z m) (tw_ (tw_p z) F lo z m) (tw_ tw_0 PN lo z m) H S V st wt pd oS oW oU oC oG oH oX := by
  intro f
  induction f with
  | zero => intro m h1 h2; omega
  | succ f ih =>
    intro m hf hm
    rw [wX_twin_60]
    by_cases e : m = z
    · subst e
      refine br_t (nI_lt (by omega) (by omega)) (nm_r (nI_add c m) ?_)
      rw [nI_add]
      exact xx_push (by omega) h
    · refine br_f (nI_nlt (by omega) (by omega)) (xx_cpy (by omega) ?_)
      refine nm_r (nI_1 (lo + m)) ?_
      rw [tw_s (by omega), tw_s (by omega), tw_s (by omega), tw_s (by omega), tw_s (by omega), tw_s (by omega), tw_s (by omega)]
      exact ih (m + 1) (by omega) (by omega)
theorem xx_twin {post : Int32 → SX → Prop} {lo : Nat} (hsg : sg = 0) (hC : C ≤ 24) (hcC : c ≤ C) (hhc : hh ≤ c) (hc1 : 0 < hh → F (c - 1) = nI lo ∧ lo + 1 ≤ c)
    (h3 : hh = 0 → post (-3) (nI T, nI P, nI M, nI C, dt_G T, nI c, nI hh, sg, nI d, nI k, ca, ga, hs, cs, nI pc, K, A, L, R, B, F, PN, H, S, V, st, wt, pd, oS, oW, oU, oC, oG, oH, oX)) (h5 : 0 < hh → C < c + (c - lo) → post (-5) (nI T, nI P, nI M, nI C, dt_G T, nI c, nI hh, sg, nI d, nI k, ca, ga, hs, cs, nI pc, K, A, L, R, B, F, PN, H, S, V, st, wt, pd, oS, oW, oU, oC, oG, oH, oX))
    (h : 0 < hh → c + (c - lo) ≤ C → post (nI (c - 1 + (c - lo))) (nI T, nI P, nI M, nI C, dt_G T, nI (c + (c - lo)), nI (hh + 1), sg, nI d, nI k, ca, ga, hs, cs, nI pc, tw_ tw_i K lo (c - lo) (c - lo), tw_ tw_i A lo (c - lo) (c - lo), tw_ (tw_g (c - lo)) L lo (c - lo) (c - lo), tw_ (tw_g (c - lo)) R lo (c - lo) (c - lo), tw_ tw_i B lo (c - lo) (c - lo), tw_ (tw_p (c - lo)) F lo (c - lo) (c - lo), tw_ tw_0 PN lo (c - lo) (c - lo), H, upd S hh (nI (c - 1 + (c - lo))), V, st, wt, pd, oS, oW, oU, oC, oG, oH, oX)) : wpX_twin post (nI T, nI P, nI M, nI C, dt_G T, nI c, nI hh, sg, nI d, nI k, ca, ga, hs, cs, nI pc, K, A, L, R, B, F, PN, H, S, V, st, wt, pd, oS, oW, oU, oC, oG, oH, oX) := by
  subst hsg
  unfold wpX_twin
  refine br_t rfl ?_
  rcases Nat.eq_zero_or_pos hh with e | e
  · refine br_t ?_ (h3 e)
    rw [e]; rfl
  · obtain ⟨hF, hlo⟩ := hc1 e
    have v := vp_in_nI (n := c - 1) (N := 24) (by omega) (by decide)
    have ec := nI_clamp (n := c - 1) (by omega)
    refine br_f (nI_ne0 e (by omega)) (nm_r (nu_s1 (by omega)) ⟨v, ?_⟩)
    rw [ec, hF]
    have es : (nI (c - 1) - nI lo) + 1 = nI (c - lo) := by
      rw [pk_sub (by omega), nI_1]
      exact congrArg nI (by omega)
    refine nm_r es ?_
    rw [nI_add]
    by_cases g : c + (c - lo) ≤ C
    · refine br_t (nI_le g (by omega)) ⟨v, nm_e ⟨c - lo + 1, ?_⟩⟩
      have := xx_twl (lo := lo) (z := c - lo) (by omega) (by omega) (by omega) hhc (h e g) (c - lo + 1) 0 (by omega) (by omega)
      rw [tw_z, tw_z, tw_z, tw_z, tw_z, tw_z, tw_z] at this
      exact this
    · exact br_f (nI_ge (by omega) (by omega)) (h5 e (by omega))
end
end
section
/-! Y: the stack by search, put, twin -/
theorem bd_0 {T P M : Nat} {a x y : Int32} : bu_bd T P M 0 a x y = x := by simp [bu_bd]
theorem bd_1 {T P M : Nat} {a x y : Int32} : bu_bd T P M 1 a x y = bu_fc a * x := by simp [bu_bd]
theorem bd_2 {T P M : Nat} {a x y : Int32} : bu_bd T P M 2 a x y = bu_fc a * x := by simp [bu_bd]
theorem bd_3 {T P M : Nat} {a x y : Int32} : bu_bd T P M 3 a x y = (nI P + (nI T * nI M)) * x := by simp [bu_bd]
theorem bd_4 {T P M : Nat} {a x y : Int32} : bu_bd T P M 4 a x y = x := by simp [bu_bd]
theorem bd_5 {T P M : Nat} {a x y : Int32} : bu_bd T P M 5 a x y = x + y := by simp [bu_bd]
theorem bd_6 {T P M : Nat} {a x y : Int32} : bu_bd T P M 6 a x y = if x ≤ y then y else x := by simp [bu_bd]
theorem bd_7 {T P M : Nat} {a x y : Int32} : bu_bd T P M 7 a x y = if x ≤ y then y else x := by simp [bu_bd]
theorem bd_8 {T P M : Nat} {a x y : Int32} : bu_bd T P M 8 a x y = x := by simp [bu_bd]
theorem bd_9 {T P M : Nat} {a x y : Int32} : bu_bd T P M 9 a x y = x := by simp [bu_bd]
theorem bd_10 {T P M : Nat} {a x y : Int32} : bu_bd T P M 10 a x y = x := by simp [bu_bd]
theorem sa_1 {a : Int32} : bu_sa 1 a = a := by simp [bu_sa]
theorem sa_2 {a : Int32} : bu_sa 2 a = a := by simp [bu_sa]
section
variable {T P M C c d : Nat} {ca ga hs cs : Int64} {sg : Int32} {K A L R B PN pa pA st wt du : Nat → Int32} {ce : Nat → Int64} {hh : Nat} {kd f s : Nat → Nat} {F : Nat → Int32}
theorem yy_on {post : Int32 → Prop} {x : Int32} (h24 : c ≤ 24) (h1 : (∀ p, p < c → ¬ (L p = x ∨ R p = x)) → post 1) (h0 : (∃ p, p < c ∧ (L p = x ∨ R p = x)) → post 0) : wpY_onStack post (nI T, nI P, nI M, nI C, nI c, nI d, sg, ca, ga, hs, cs, K, A, L, R, B, PN, pa, pA, st, wt, du, ce) x := by
  have go : ∀ g i : Nat, c < g + i → i ≤ c → (∀ p, p < i → ¬ (L p = x ∨ R p = x)) → wY_onStack_2 post x (nI T) (nI P) (nI M) (nI C) (nI c) (nI d) sg ca ga hs cs K A L R B PN pa pA st wt du ce g (nI i) := by
    intro g
    induction g with
    | zero => intro i h1 h2; omega
    | succ g ih =>
      intro i hf hi J
      rw [wY_onStack_2]
      by_cases e : c ≤ i
      · refine br_t (nI_le e (by omega)) (h1 ?_)
        intro p hp; exact J p (by omega)
      · have iv := vp_in_nI (n := i) (N := 24) (by omega) (by decide)
        refine br_f (nI_ge (by omega) (by omega)) ⟨iv, ?_⟩
        rw [nI_clamp (n := i) (by omega)]
        by_cases a : L i = x
        · exact br_t a (h0 ⟨i, by omega, Or.inl a⟩)
        · refine br_f a ⟨iv, ?_⟩
          by_cases b : R i = x
          · exact br_t b (h0 ⟨i, by omega, Or.inr b⟩)
          · refine br_f b (nm_r (nI_1 i) (ih (i + 1) (by omega) (by omega) ?_))
            intro p hp
            by_cases z : p = i
            · subst z
              rintro (y | y)
              · exact a y
              · exact b y
            · exact J p (by omega)
  exact ⟨c + 1, go (c + 1) 0 (by omega) (by omega) (fun p hp => by omega)⟩
theorem yy_ons {post : Int32 → Prop} {n : Nat} (h24 : c ≤ 24) (o : fo_ok c kd f) (sk : fo_sk c hh f s) (ti : fo_ti c kd f K L R F) (hn : n < c) (h1 : (∃ i, i < hh ∧ s i = n) → post 1) (h0 : (∀ i, i < hh → s i ≠ n) → post 0) : wpY_onStack post (nI T, nI P, nI M, nI C, nI c, nI d, sg, ca, ga, hs, cs, K, A, L, R, B, PN, pa, pA, st, wt, du, ce) (nI n) := by
  refine yy_on h24 ?_ ?_
  · intro a
    refine h1 ?_
    apply Classical.byContradiction
    intro z
    obtain ⟨p, x, y, w⟩ := fo_low o sk hn (fun i hi e => z ⟨i, hi, e⟩)
    exact a p y ((fo_chi o ti h24 y (by omega)).mpr w)
  · rintro ⟨p, hp, a⟩
    refine h0 ?_
    intro i hi e
    have := (fo_chi o ti h24 hp (by omega)).mp a
    rw [← e] at this
    exact fo_top o sk hi hp this
theorem yy_dep {post : Int32 → Prop} (h24 : c ≤ 24) (hhc : hh ≤ c) (o : fo_ok c kd f) (sk : fo_sk c hh f s) (ti : fo_ti c kd f K L R F) (h : post (nI hh)) : wpY_depth post (nI T, nI P, nI M, nI C, nI c, nI d, sg, ca, ga, hs, cs, K, A, L, R, B, PN, pa, pA, st, wt, du, ce) := by
  have go : ∀ g i a : Nat, c < g + i → i ≤ c → a ≤ hh → (∀ j, j < a → s j < i) → (∀ j, a ≤ j → j < hh → i ≤ s j) → wY_depth_4 post (nI T) (nI P) (nI M) (nI C) (nI c) (nI d) sg ca ga hs cs K A L R B PN pa pA st wt du ce g (nI a) (nI i) := by
    intro g
    induction g with
    | zero => intro i a h1 h2; omega
    | succ g ih =>
      intro i a hf hi ha J1 J2
      rw [wY_depth_4]
      by_cases e : c ≤ i
      · have : a = hh := by
          by_cases z : a < hh
          · have x := J2 a (Nat.le_refl _) z
            have y := sk.1 a z
            omega
          · omega
        subst this
        exact br_t (nI_le e (by omega)) h
      · refine br_f (nI_ge (by omega) (by omega)) (yy_ons h24 o sk ti (by omega) ?_ ?_)
        · rintro ⟨j, hj, ej⟩
          have haj : a ≤ j := by
            by_cases z : j < a
            · have := J1 j z; omega
            · omega
          have hah : a < hh := by omega
          have ea : s a = i := by
            have x := J2 a (Nat.le_refl _) hah
            by_cases z : a = j
            · subst z; exact ej
            · have := fo_mono o sk j a (by omega) hj
              omega
          refine br_f (by decide) (nm_r (nI_1 a) (nm_r (nI_1 i) (ih (i + 1) (a + 1) (by omega) (by omega) (by omega) ?_ ?_)))
          · intro q hq
            by_cases z : q = a
            · subst z; omega
            · have := J1 q (by omega); omega
          · intro q hq hq2
            have := fo_mono o sk q a (by omega) hq2
            omega
        · intro z
          refine br_t rfl (nm_r (nI_1 i) (ih (i + 1) a (by omega) (by omega) ha ?_ ?_))
          · intro q hq
            have := J1 q hq; omega
          · intro q hq hq2
            have x := J2 q hq hq2
            have y := z q hq2
            omega
  exact ⟨c + 1, go (c + 1) 0 0 (by omega) (by omega) (by omega) (fun j hj => by omega) (fun j _ _ => by omega)⟩
theorem yy_und {post : Int32 → Prop} {n : Nat} (h24 : c ≤ 24) (hn : n ≤ c) (o : fo_ok c kd f) (sk : fo_sk c hh f s) (ti : fo_ti c kd f K L R F)
    (h1 : ∀ i, i < hh → s i < n → (∀ j, j < hh → s j < n → s j ≤ s i) → post (nI (s i))) (h0 : (∀ i, i < hh → n ≤ s i) → post (-1)) : wpY_under post (nI T, nI P, nI M, nI C, nI c, nI d, sg, ca, ga, hs, cs, K, A, L, R, B, PN, pa, pA, st, wt, du, ce) (nI n) := by
  have go : ∀ j g : Nat, j < g → j ≤ n → (∀ i, i < hh → s i < n → s i < j) → wY_under_4 post (nI T) (nI P) (nI M) (nI C) (nI c) (nI d) sg ca ga hs cs K A L R B PN pa pA st wt du ce g (nI j + (-1)) := by
    intro j
    induction j with
    | zero =>
      intro g hg hj J
      obtain ⟨e, rfl⟩ : ∃ e, g = e + 1 := ⟨g - 1, by omega⟩
      rw [wY_under_4, nI_0]
      refine br_t (by decide) (h0 ?_)
      intro i hi
      by_cases z : s i < n
      · have := J i hi z; omega
      · omega
    | succ j ih =>
      intro g hg hj J
      obtain ⟨e, rfl⟩ : ∃ e, g = e + 1 := ⟨g - 1, by omega⟩
      rw [wY_under_4, pk_m1]
      refine br_f (nI_pos (by omega)) (yy_ons h24 o sk ti (by omega) ?_ ?_)
      · rintro ⟨i, hi, ei⟩
        refine br_f (by decide) ?_
        rw [← ei]
        refine h1 i hi (by omega) ?_
        intro q hq hq2
        have := J q hq hq2
        omega
      · intro z
        refine br_t rfl (nm_e (ih e (by omega) (by omega) ?_))
        intro i hi hi2
        have x := J i hi hi2
        have y := z i hi
        omega
  unfold wpY_under
  refine nm_r (e' := nI n + (-1)) (Int32.sub_eq_add_neg ..) ⟨n + 1, go n (n + 1) (by omega) (by omega) (fun i _ h => h)⟩
theorem yy_top {post : Int32 → Prop} (h24 : c ≤ 24) (o : fo_ok c kd f) (sk : fo_sk c hh f s) (ti : fo_ti c kd f K L R F) (h : post (if hh = 0 then -1 else nI (s (hh - 1)))) : wpY_under post (nI T, nI P, nI M, nI C, nI c, nI d, sg, ca, ga, hs, cs, K, A, L, R, B, PN, pa, pA, st, wt, du, ce) (nI c) := by
  refine yy_und h24 (Nat.le_refl _) o sk ti ?_ ?_
  · intro i hi h2 h3
    have a := (sk.2.2.1 (by omega)).2
    have b := h3 (hh - 1) (by omega) (by omega)
    have e : s i = s (hh - 1) := by omega
    rw [if_neg (by omega)] at h
    rw [e]; exact h
  · intro z
    have : hh = 0 := by
      rcases Nat.eq_zero_or_pos hh with e | e
      · exact e
      · have x := sk.1 0 e
        have y := z 0 e
        omega
    rw [if_pos this] at h
    exact h
theorem yy_nxt {post : Int32 → Prop} (h24 : c ≤ 24) (o : fo_ok c kd f) (sk : fo_sk c hh f s) (ti : fo_ti c kd f K L R F) (h0 : 0 < hh) (h : post (if hh = 1 then -1 else nI (s (hh - 2)))) : wpY_under post (nI T, nI P, nI M, nI C, nI c, nI d, sg, ca, ga, hs, cs, K, A, L, R, B, PN, pa, pA, st, wt, du, ce) (nI (s (hh - 1))) := by
  have hc := sk.1 (hh - 1) (by omega)
  refine yy_und h24 (by omega) o sk ti ?_ ?_
  · intro i hi h2 h3
    have i1 : i < hh - 1 := by
      by_cases z : i = hh - 1
      · rw [z] at h2; omega
      · omega
    rw [if_neg (by omega)] at h
    have b := h3 (hh - 2) (by omega) (fo_mono o sk (hh - 1) (hh - 2) (by omega) (by omega))
    have e : s i = s (hh - 2) := by
      by_cases z : i = hh - 2
      · rw [z]
      · have := fo_mono o sk (hh - 2) i (by omega) (by omega)
        omega
    rw [e]; exact h
  · intro z
    have : hh = 1 := by
      by_cases e : hh = 1
      · exact e
      · have x := fo_mono o sk (hh - 1) (hh - 2) (by omega) (by omega)
        have y := z (hh - 2) (by omega)
        omega
    rw [if_pos this] at h
    exact h
theorem yy_um1 {post : Int32 → Prop} (h : post (-1)) : wpY_under post (nI T, nI P, nI M, nI C, nI c, nI d, sg, ca, ga, hs, cs, K, A, L, R, B, PN, pa, pA, st, wt, du, ce) (-1) := by
  unfold wpY_under
  refine nm_e ⟨1, ?_⟩
  rw [wY_under_4]
  exact br_t (by decide) h
theorem yy_b53 {post : Int32 → Prop} {q : Nat} {a l r : Int32} (hq : q ≤ 10) (hl0 : fo_ar q = 0 → l = -1) (hl1 : fo_ar q ≠ 0 → ∃ m, m < 24 ∧ l = nI m ∧ ¬ B m ≤ 0) (hr2 : fo_ar q = 2 → ∃ m, m < 24 ∧ r = nI m) (hr0 : fo_ar q ≠ 2 → r = -1)
    (h : post (bu_bd T P M q a (bu_b1 B l) (bu_b1 B r))) : wY_bound_53 post (nI q) (bu_fc (bu_sa q a)) (if 0 ≤ l then B l.toNatClampNeg else 0) (if 0 ≤ r then B r.toNatClampNeg else 0) (nI T) (nI P) (nI M) (nI C) (nI c) (nI d) sg ca ga hs cs K A L R B PN pa pA st wt du ce := by
  have hq' : q = 0 ∨ q = 1 ∨ q = 2 ∨ q = 3 ∨ q = 4 ∨ q = 5 ∨ q = 6 ∨ q = 7 ∨ q = 8 ∨ q = 9 ∨ q = 10 := by omega
  have lv : fo_ar q ≠ 0 → bu_b1 B l = (if 0 ≤ l then B l.toNatClampNeg else 0) := by
    intro z
    obtain ⟨m, hm, e, _⟩ := hl1 z
    subst e
    unfold bu_b1
    rw [if_pos (nI_pos' (by omega)), if_pos (nI_pos' (by omega))]
  have rv : fo_ar q = 2 → bu_b1 B r = (if 0 ≤ r then B r.toNatClampNeg else 0) := by
    intro z
    obtain ⟨m, hm, e⟩ := hr2 z
    subst e
    unfold bu_b1
    rw [if_pos (nI_pos' (by omega)), if_pos (nI_pos' (by omega))]
  have l0 : fo_ar q = 0 → bu_b1 B l = 1 := by
    intro z
    rw [hl0 z]
    exact if_neg nu_m1le
  have ln : fo_ar q ≠ 0 → ¬ (if 0 ≤ l then B l.toNatClampNeg else 0) ≤ 0 := by
    intro z
    obtain ⟨m, hm, e, e2⟩ := hl1 z
    subst e
    rw [if_pos (nI_pos' (by omega)), nI_clamp (by omega)]
    exact e2
  have r0 : fo_ar q ≠ 2 → (if 0 ≤ r then B r.toNatClampNeg else 0) = 0 := by
    intro z
    rw [hr0 z]
    exact if_neg nu_m1le
  generalize (if 0 ≤ l then B l.toNatClampNeg else 0) = x at *
  generalize (if 0 ≤ r then B r.toNatClampNeg else 0) = y at *
  generalize bu_b1 B l = x' at *
  generalize bu_b1 B r = y' at *
  unfold wY_bound_53
  rcases hq' with rfl | rfl | rfl | rfl | rfl | rfl | rfl | rfl | rfl | rfl | rfl
  · have e := l0 rfl
    subst e
    rw [bd_0] at h
    exact br_t rfl h
  · have e := l0 rfl
    subst e
    rw [bd_1, Int32.mul_one] at h
    rw [sa_1]
    exact br_f (by decide) (br_t rfl h)
  · have e := lv (by decide)
    subst e
    rw [bd_2] at h
    rw [sa_2]
    exact br_f (by decide) (br_f (by decide) (br_t rfl h))
  · have e := lv (by decide)
    subst e
    rw [bd_3] at h
    exact br_f (by decide) (br_f (by decide) (br_f (by decide) (br_t rfl h)))
  · have e := lv (by decide)
    have e2 := r0 (by decide)
    subst e e2
    rw [bd_4] at h
    exact br_f (by decide) (br_f (by decide) (br_f (by decide) (br_f (by decide) (br_f (by decide) (br_f (ln (by decide)) h)))))
  · have e := lv (by decide)
    have e2 := rv (by decide)
    subst e e2
    rw [bd_5] at h
    exact br_f (by decide) (br_f (by decide) (br_f (by decide) (br_f (by decide) (br_t rfl h))))
  · have e := lv (by decide)
    have e2 := rv (by decide)
    subst e e2
    rw [bd_6] at h
    refine br_f (by decide) (br_f (by decide) (br_f (by decide) (br_f (by decide) (br_f (by decide) ?_))))
    by_cases g : x' ≤ y'
    · rw [if_pos g] at h; exact br_t g h
    · rw [if_neg g] at h; exact br_f g h
  · have e := lv (by decide)
    have e2 := rv (by decide)
    subst e e2
    rw [bd_7] at h
    refine br_f (by decide) (br_f (by decide) (br_f (by decide) (br_f (by decide) (br_f (by decide) ?_))))
    by_cases g : x' ≤ y'
    · rw [if_pos g] at h; exact br_t g h
    · rw [if_neg g] at h; exact br_f g h
  · have e := lv (by decide)
    have e2 := r0 (by decide)
    subst e e2
    rw [bd_8] at h
    exact br_f (by decide) (br_f (by decide) (br_f (by decide) (br_f (by decide) (br_f (by decide) (br_f (ln (by decide)) h)))))
  · have e := lv (by decide)
    have e2 := r0 (by decide)
    subst e e2
    rw [bd_9] at h
    exact br_f (by decide) (br_f (by decide) (br_f (by decide) (br_f (by decide) (br_f (by decide) (br_f (ln (by decide)) h)))))
  · have e := lv (by decide)
    have e2 := r0 (by decide)
    subst e e2
    rw [bd_10] at h
    exact br_f (by decide) (br_f (by decide) (br_f (by decide) (br_f (by decide) (br_f (by decide) (br_f (ln (by decide)) h)))))
theorem yy_bnd {post : Int32 → Prop} {x a l r : Int32} (hl : l = -1 ∨ ∃ m, m < 24 ∧ l = nI m) (hr : r = -1 ∨ ∃ m, m < 24 ∧ r = nI m) (h : wY_bound_53 post x (bu_fc a) (if 0 ≤ l then B l.toNatClampNeg else 0) (if 0 ≤ r then B r.toNatClampNeg else 0) (nI T) (nI P) (nI M) (nI C) (nI c) (nI d) sg ca ga hs cs K A L R B PN pa pA st wt du ce) : wpY_bound post (nI T, nI P, nI M, nI C, nI c, nI d, sg, ca, ga, hs, cs, K, A, L, R, B, PN, pa, pA, st, wt, du, ce) x a l r := by
  have g35 : wY_bound_35 post x r (bu_fc a) (if 0 ≤ l then B l.toNatClampNeg else 0) (nI T) (nI P) (nI M) (nI C) (nI c) (nI d) sg ca ga hs cs K A L R B PN pa pA st wt du ce := by
    unfold wY_bound_35
    rcases hr with rfl | ⟨m, hm, rfl⟩
    · rw [if_neg nu_m1le] at h
      exact br_t nu_m1lt h
    · rw [if_pos (nI_pos' (n := m) (by omega))] at h
      exact br_f (nI_pos (by omega)) ⟨vp_in_nI hm (by decide), h⟩
  have g21 : wY_bound_21 post x l r (bu_fc a) (nI T) (nI P) (nI M) (nI C) (nI c) (nI d) sg ca ga hs cs K A L R B PN pa pA st wt du ce := by
    unfold wY_bound_21
    rcases hl with rfl | ⟨m, hm, rfl⟩
    · rw [if_neg nu_m1le] at g35
      exact br_t nu_m1lt g35
    · rw [if_pos (nI_pos' (n := m) (by omega))] at g35
      exact br_f (nI_pos (by omega)) ⟨vp_in_nI hm (by decide), g35⟩
  have g10 : ∀ z : Int32, bu_fc a = (if 1 ≤ z then z else 1) → wY_bound_10 post x l r z (nI T) (nI P) (nI M) (nI C) (nI c) (nI d) sg ca ga hs cs K A L R B PN pa pA st wt du ce := by
    intro z hz
    rw [hz] at g21
    unfold wY_bound_10
    by_cases e : 1 ≤ z
    · rw [if_pos e] at g21; exact br_t e g21
    · rw [if_neg e] at g21; exact br_f e g21
  unfold wpY_bound
  by_cases e : 0 ≤ a
  · refine br_t e (g10 a ?_)
    unfold bu_fc
    rw [if_pos e]
  · refine br_f e (g10 (-a) ?_)
    unfold bu_fc
    rw [if_neg e]
theorem yy_add {post : SY → Prop} {p0 p1 p2 p3 p4 : Int32} (hc : c < 24) (h : post (nI T, nI P, nI M, nI C, nI (c + 1), nI d, sg, ca, ga, hs, cs, upd K c p0, upd A c p1, upd L c p2, upd R c p3, upd B c p4, upd PN c 0, pa, pA, st, wt, du, ce)) : wpY_add post (nI T, nI P, nI M, nI C, nI c, nI d, sg, ca, ga, hs, cs, K, A, L, R, B, PN, pa, pA, st, wt, du, ce) p0 p1 p2 p3 p4 := by
  have i := vp_in_nI hc (N := 24) (by decide)
  unfold wpY_add
  refine br_t (nI_lt (b := 24) hc (by decide)) ?_
  rw [nI_clamp (n := c) (by omega)]
  exact ⟨i, nm_e ⟨i, nm_e ⟨i, nm_e ⟨i, nm_e ⟨i, nm_e ⟨i, nm_e (nm_r (nI_1 c) h)⟩⟩⟩⟩⟩⟩
theorem yy_p268 {post : Int32 → SY → Prop} {q : Nat} {a l r : Int32} (hq : q ≤ 10) (hc : c < 24) (hl0 : fo_ar q = 0 → l = -1) (hl1 : fo_ar q ≠ 0 → ∃ m, m < 24 ∧ l = nI m ∧ ¬ B m ≤ 0) (hr2 : fo_ar q = 2 → ∃ m, m < 24 ∧ r = nI m) (hr0 : fo_ar q ≠ 2 → r = -1)
    (hb : ¬ bu_bd T P M q a (bu_b1 B l) (bu_b1 B r) ≤ 1000000 → post (-6) (nI T, nI P, nI M, nI C, nI c, nI d, sg, ca, ga, hs, cs, K, A, L, R, B, PN, pa, pA, st, wt, du, ce))
    (h : bu_bd T P M q a (bu_b1 B l) (bu_b1 B r) ≤ 1000000 → post (nI c) (nI T, nI P, nI M, nI C, nI (c + 1), nI d, sg, ca, ga, hs, cs, upd K c (nI q), upd A c (bu_sa q a), upd L c l, upd R c r, upd B c (bu_bd T P M q a (bu_b1 B l) (bu_b1 B r)), upd PN c 0, pa, pA, st, wt, du, ce)) : wY_put_268 post (nI q) (bu_sa q a) l r (nI T) (nI P) (nI M) (nI C) (nI c) (nI d) sg ca ga hs cs K A L R B PN pa pA st wt du ce := by
  unfold wY_put_268
  have hl : l = -1 ∨ ∃ m, m < 24 ∧ l = nI m := by
    by_cases e : fo_ar q = 0
    · exact Or.inl (hl0 e)
    · obtain ⟨m, x, y, _⟩ := hl1 e
      exact Or.inr ⟨m, x, y⟩
  have hr : r = -1 ∨ ∃ m, m < 24 ∧ r = nI m := by
    by_cases e : fo_ar q = 2
    · exact Or.inr (hr2 e)
    · exact Or.inl (hr0 e)
  refine yy_bnd hl hr (yy_b53 hq hl0 hl1 hr2 hr0 ?_)
  by_cases g : bu_bd T P M q a (bu_b1 B l) (bu_b1 B r) ≤ 1000000
  · refine br_t g (yy_add hc ?_)
    show post (nI (c + 1) - 1) _
    rw [nI_pred]
    exact h g
  · exact br_f g (hb g)
theorem yy_p214 {post : Int32 → SY → Prop} {q : Nat} {a : Int32} (h24 : c ≤ 24) (o : fo_ok c kd f) (sk : fo_sk c hh f s) (ti : fo_ti c kd f K L R F) (ha : fo_ar q ≤ hh)
    (h : wY_put_268 post (nI q) a (if fo_ar q = 0 then -1 else nI (s (hh - fo_ar q))) (if fo_ar q = 2 then nI (s (hh - 1)) else -1) (nI T) (nI P) (nI M) (nI C) (nI c) (nI d) sg ca ga hs cs K A L R B PN pa pA st wt du ce) : wY_put_214 post (nI q) (nI (fo_ar q)) a (nI T) (nI P) (nI M) (nI C) (nI c) (nI d) sg ca ga hs cs K A L R B PN pa pA st wt du ce := by
  have fin : ∀ t2 n2 : Int32, (fo_ar q ≠ 0 → t2 = nI (s (hh - 1))) → (fo_ar q = 2 → n2 = nI (s (hh - 2))) → ((nI (fo_ar q) = 2 → (wY_put_255 post (nI q) (nI (fo_ar q)) a t2 n2 (nI T) (nI P) (nI M) (nI C) (nI c) (nI d) sg ca ga hs cs K A L R B PN pa pA st wt du ce)) ∧ (¬ nI (fo_ar q) = 2 → (((nI (fo_ar q) = 1 → (wY_put_255 post (nI q) (nI (fo_ar q)) a t2 t2 (nI T) (nI P) (nI M) (nI C) (nI c) (nI d) sg ca ga hs cs K A L R B PN pa pA st wt du ce)) ∧ (¬ nI (fo_ar q) = 1 → (wY_put_255 post (nI q) (nI (fo_ar q)) a t2 (-1) (nI T) (nI P) (nI M) (nI C) (nI c) (nI d) sg ca ga hs cs K A L R B PN pa pA st wt du ce)))))) := by
    intro t2 n2 e1 e2
    unfold wY_put_255
    rcases fo_ar3 q with e | e | e
    · rw [e] at h ⊢
      exact br_f (by decide) (br_f (by decide) (br_f (by decide) h))
    · rw [e] at h ⊢
      rw [e1 (by rw [e]; decide)]
      exact br_f (by decide) (br_t rfl (br_f (by decide) h))
    · rw [e] at h ⊢
      rw [e1 (by rw [e]; decide), e2 e]
      exact br_t rfl (br_t rfl h)
  unfold wY_put_214
  refine yy_top h24 o sk ti ?_
  by_cases e : hh = 0
  · rw [if_pos e]
    exact yy_um1 (fin _ _ (fun z => by omega) (fun z => by omega))
  · rw [if_neg e]
    refine yy_nxt h24 o sk ti (by omega) ?_
    refine fin _ _ (fun _ => rfl) ?_
    intro z
    rw [if_neg (by omega)]
theorem yy_p155 {post : Int32 → SY → Prop} {q : Nat} {a ar : Int32} (hq : q ≤ 10) (hC : C ≤ 24) (hcC : c ≤ C) (hFu : C ≤ c → post (-5) (nI T, nI P, nI M, nI C, nI c, nI d, sg, ca, ga, hs, cs, K, A, L, R, B, PN, pa, pA, st, wt, du, ce)) (h : c < C → wY_put_214 post (nI q) ar (bu_sa q a) (nI T) (nI P) (nI M) (nI C) (nI c) (nI d) sg ca ga hs cs K A L R B PN pa pA st wt du ce) : wY_put_155 post (nI q) a ar (nI T) (nI P) (nI M) (nI C) (nI c) (nI d) sg ca ga hs cs K A L R B PN pa pA st wt du ce := by
  have hq' : q = 0 ∨ q = 1 ∨ q = 2 ∨ q = 3 ∨ q = 4 ∨ q = 5 ∨ q = 6 ∨ q = 7 ∨ q = 8 ∨ q = 9 ∨ q = 10 := by omega
  unfold wY_put_155
  by_cases e : c < C
  · refine br_t (nI_lt e (by omega)) ?_
    have h := h e
    rcases hq' with rfl | rfl | rfl | rfl | rfl | rfl | rfl | rfl | rfl | rfl | rfl <;>
    (repeat (first | refine br_t (by decide) ?_ | refine br_f (by decide) ?_)) <;> exact h
  · exact br_f (nI_nlt (by omega) (by omega)) (hFu (by omega))
theorem yy_rng {A B : Prop} {a x y : Int32} (h1 : (!decide (a < x) && !decide (y < a)) = true → A) (h0 : (!decide (a < x) && !decide (y < a)) = false → B) : (a < x → B) ∧ (¬ a < x → ((a ≤ y → A) ∧ (¬ a ≤ y → B))) := by
  by_cases e : a < x
  · exact br_t e (h0 (by rw [decide_eq_true e]; rfl))
  · refine br_f e ?_
    by_cases g : y < a
    · exact br_f (Int32.not_le.mpr g) (h0 (by rw [decide_eq_true g]; simp))
    · exact br_t (Int32.not_lt.mp g) (h1 (by rw [decide_eq_false e, decide_eq_false g]; rfl))
theorem yy_p53 {post : Int32 → SY → Prop} {q : Nat} {a : Int32} (hq : q ≤ 10) (h24 : c ≤ 24) (hhc : hh ≤ c) (o : fo_ok c kd f) (sk : fo_sk c hh f s) (ti : fo_ti c kd f K L R F)
    (hA : hh < fo_ar q → post (-3) (nI T, nI P, nI M, nI C, nI c, nI d, sg, ca, ga, hs, cs, K, A, L, R, B, PN, pa, pA, st, wt, du, ce)) (hF : fo_ar q ≤ hh → bu_fit T q a = false → post (-4) (nI T, nI P, nI M, nI C, nI c, nI d, sg, ca, ga, hs, cs, K, A, L, R, B, PN, pa, pA, st, wt, du, ce)) (h : fo_ar q ≤ hh → bu_fit T q a = true → wY_put_155 post (nI q) a (nI (fo_ar q)) (nI T) (nI P) (nI M) (nI C) (nI c) (nI d) sg ca ga hs cs K A L R B PN pa pA st wt du ce) : wY_put_53 post (nI q) a (nI (fo_ar q)) (nI T) (nI P) (nI M) (nI C) (nI c) (nI d) sg ca ga hs cs K A L R B PN pa pA st wt du ce := by
  have hq' : q = 0 ∨ q = 1 ∨ q = 2 ∨ q = 3 ∨ q = 4 ∨ q = 5 ∨ q = 6 ∨ q = 7 ∨ q = 8 ∨ q = 9 ∨ q = 10 := by omega
  have har := fo_ar3 q
  unfold wY_put_53
  refine yy_dep h24 hhc o sk ti ?_
  by_cases g : fo_ar q ≤ hh
  · refine br_t (nI_le g (by omega)) ?_
    have h := h g
    have hF := hF g
    rcases hq' with rfl | rfl | rfl | rfl | rfl | rfl | rfl | rfl | rfl | rfl | rfl
    · refine br_f (by decide) ?_
      unfold wY_put_85 wY_put_105 wY_put_128
      exact br_f (by decide) (br_f (by decide) (br_f (by decide) (br_f (by decide) (h rfl))))
    · refine br_t (by decide) (yy_rng (fun z => ?_) hF)
      unfold wY_put_85 wY_put_105 wY_put_128
      exact br_f (by decide) (br_f (by decide) (br_f (by decide) (br_f (by decide) (h z))))
    · refine br_f (by decide) ?_
      unfold wY_put_85
      refine br_t (by decide) (yy_rng (fun z => ?_) hF)
      unfold wY_put_105 wY_put_128
      exact br_f (by decide) (br_f (by decide) (br_f (by decide) (h z)))
    · refine br_f (by decide) ?_
      unfold wY_put_85 wY_put_105 wY_put_128
      exact br_f (by decide) (br_f (by decide) (br_f (by decide) (br_f (by decide) (h rfl))))
    · refine br_f (by decide) ?_
      unfold wY_put_85 wY_put_105 wY_put_128
      exact br_f (by decide) (br_f (by decide) (br_f (by decide) (br_f (by decide) (h rfl))))
    · refine br_f (by decide) ?_
      unfold wY_put_85 wY_put_105 wY_put_128
      exact br_f (by decide) (br_f (by decide) (br_f (by decide) (br_f (by decide) (h rfl))))
    · refine br_f (by decide) ?_
      unfold wY_put_85 wY_put_105 wY_put_128
      exact br_f (by decide) (br_f (by decide) (br_f (by decide) (br_f (by decide) (h rfl))))
    · refine br_f (by decide) ?_
      unfold wY_put_85
      refine br_f (by decide) ?_
      unfold wY_put_105
      refine br_t (by decide) (yy_rng (fun z => ?_) hF)
      unfold wY_put_128
      exact br_f (by decide) (br_f (by decide) (h z))
    · refine br_f (by decide) ?_
      unfold wY_put_85 wY_put_105 wY_put_128
      refine br_f (by decide) (br_f (by decide) (br_t (by decide) ?_))
      unfold wY_put_140
      exact yy_rng (fun z => h z) hF
    · refine br_f (by decide) ?_
      unfold wY_put_85 wY_put_105 wY_put_128
      refine br_f (by decide) (br_f (by decide) (br_f (by decide) (br_t (by decide) ?_)))
      unfold wY_put_140
      exact yy_rng (fun z => h z) hF
    · refine br_f (by decide) ?_
      unfold wY_put_85 wY_put_105 wY_put_128
      exact br_f (by decide) (br_f (by decide) (br_f (by decide) (br_f (by decide) (h rfl))))
  · exact br_f (nI_ge (by omega) (by omega)) (hA (by omega))
theorem yy_put {post : Int32 → SY → Prop} {q : Nat} {a : Int32} (hq : q ≤ 10) (hsg : sg = 0) (hC : C ≤ 24) (hcC : c ≤ C) (hhc : hh ≤ c) (o : fo_ok c kd f) (sk : fo_sk c hh f s) (ti : fo_ti c kd f K L R F) (hB : ∀ m, m < c → ¬ B m ≤ 0)
    (hA : hh < fo_ar q → post (-3) (nI T, nI P, nI M, nI C, nI c, nI d, sg, ca, ga, hs, cs, K, A, L, R, B, PN, pa, pA, st, wt, du, ce)) (hF : fo_ar q ≤ hh → bu_fit T q a = false → post (-4) (nI T, nI P, nI M, nI C, nI c, nI d, sg, ca, ga, hs, cs, K, A, L, R, B, PN, pa, pA, st, wt, du, ce)) (hFu : fo_ar q ≤ hh → bu_fit T q a = true → C ≤ c → post (-5) (nI T, nI P, nI M, nI C, nI c, nI d, sg, ca, ga, hs, cs, K, A, L, R, B, PN, pa, pA, st, wt, du, ce))
    (hb : fo_ar q ≤ hh → bu_fit T q a = true → c < C → ∀ l r, l = (if fo_ar q = 0 then -1 else nI (s (hh - fo_ar q))) → r = (if fo_ar q = 2 then nI (s (hh - 1)) else -1) → ¬ bu_bd T P M q a (bu_b1 B l) (bu_b1 B r) ≤ 1000000 → post (-6) (nI T, nI P, nI M, nI C, nI c, nI d, sg, ca, ga, hs, cs, K, A, L, R, B, PN, pa, pA, st, wt, du, ce))
    (h : fo_ar q ≤ hh → bu_fit T q a = true → c < C → ∀ l r, l = (if fo_ar q = 0 then -1 else nI (s (hh - fo_ar q))) → r = (if fo_ar q = 2 then nI (s (hh - 1)) else -1) → bu_bd T P M q a (bu_b1 B l) (bu_b1 B r) ≤ 1000000 → post (nI c) (nI T, nI P, nI M, nI C, nI (c + 1), nI d, sg, ca, ga, hs, cs, upd K c (nI q), upd A c (bu_sa q a), upd L c l, upd R c r, upd B c (bu_bd T P M q a (bu_b1 B l) (bu_b1 B r)), upd PN c 0, pa, pA, st, wt, du, ce)) : wpY_put post (nI T, nI P, nI M, nI C, nI c, nI d, sg, ca, ga, hs, cs, K, A, L, R, B, PN, pa, pA, st, wt, du, ce) (nI q) a := by
  subst hsg
  have har := fo_ar3 q
  have p53 : wY_put_53 post (nI q) a (nI (fo_ar q)) (nI T) (nI P) (nI M) (nI C) (nI c) (nI d) 0 ca ga hs cs K A L R B PN pa pA st wt du ce := by
    refine yy_p53 hq (by omega) hhc o sk ti hA hF ?_
    intro g hf
    refine yy_p155 hq hC hcC (hFu g hf) ?_
    intro hc
    refine yy_p214 (by omega) o sk ti g ?_
    refine yy_p268 hq (by omega) ?_ ?_ ?_ ?_ (hb g hf hc _ _ rfl rfl) (h g hf hc _ _ rfl rfl)
    · intro e; rw [if_pos e]
    · intro e
      have x := sk.1 (hh - fo_ar q) (by omega)
      exact ⟨s (hh - fo_ar q), by omega, by rw [if_neg e], hB _ x⟩
    · intro e
      have x := sk.1 (hh - 1) (by omega)
      exact ⟨s (hh - 1), by omega, by rw [if_pos e]⟩
    · intro e; rw [if_neg e]
  have hq' : q = 0 ∨ q = 1 ∨ q = 2 ∨ q = 3 ∨ q = 4 ∨ q = 5 ∨ q = 6 ∨ q = 7 ∨ q = 8 ∨ q = 9 ∨ q = 10 := by omega
  unfold wpY_put
  refine br_t rfl (br_f (nI_pos (by omega)) (br_t (nI_le (b := 10) hq (by decide)) ?_))
  unfold wY_put_48
  rcases hq' with rfl | rfl | rfl | rfl | rfl | rfl | rfl | rfl | rfl | rfl | rfl <;>
  (repeat (first | refine br_t (by decide) ?_ | refine br_f (by decide) ?_)) <;> exact p53
theorem yy_twl {post : Int32 → SY → Prop} {lo z c0 : Nat} (hz : 0 < z) (hc : lo + z = c0) (hC : c0 + z ≤ 24) (h : post (nI (c0 - 1 + z)) (nI T, nI P, nI M, nI C, nI (c0 + z), nI d, sg, ca, ga, hs, cs, tw_ tw_i K lo z z, tw_ tw_i A lo z z, tw_ (tw_g z) L lo z z, tw_ (tw_g z) R lo z z, tw_ tw_i B lo z z, tw_ tw_0 PN lo z z, pa, pA, st, wt, du, ce)) :
    ∀ g m : Nat, z < g + m → m ≤ z → wY_twin_59 post (nI (c0 - 1)) (nI z) g (nI (lo + m)) (nI T) (nI P) (nI M) (nI C) (nI (c0 + m)) (nI d) sg ca ga hs cs (tw_ tw_i K lo z m) (tw_ tw_i A lo z m) (tw_ (tw_g z) L lo z m) (tw_ (tw_g z) R lo z m) (tw_ tw_i B lo z m) (tw_ tw_0 PN lo z m) pa pA st wt du ce := by
  intro g
  induction g with
  | zero => intro m h1 h2; omega
  | succ g ih =>
    intro m hf hm
    rw [wY_twin_59]
    by_cases e : m = z
    · subst e
      refine br_t (nI_lt (by omega) (by omega)) ?_
      rw [nI_add]
      exact h
    · have i := vp_in_nI (n := lo + m) (N := 24) (by omega) (by decide)
      have nx := ih (m + 1) (by omega) (by omega)
      have ei : lo + m + z = c0 + m := by omega
      refine br_f (nI_nlt (by omega) (by omega)) ⟨i, ?_⟩
      rw [nI_clamp (n := lo + m) (by omega)]
      have g113 : ∀ l r : Int32, l = tw_g z (tw_ (tw_g z) L lo z m (lo + m)) → r = tw_g z (tw_ (tw_g z) R lo z m (lo + m)) → wY_twin_113 post (wY_twin_59 post (nI (c0 - 1)) (nI z) g) (nI (c0 - 1)) (nI z) (nI (lo + m)) l r (nI T) (nI P) (nI M) (nI C) (nI (c0 + m)) (nI d) sg ca ga hs cs (tw_ tw_i K lo z m) (tw_ tw_i A lo z m) (tw_ (tw_g z) L lo z m) (tw_ (tw_g z) R lo z m) (tw_ tw_i B lo z m) (tw_ tw_0 PN lo z m) pa pA st wt du ce := by
        intro l r hl hr
        subst hl hr
        unfold wY_twin_113
        rw [nI_clamp (n := lo + m) (by omega)]
        refine ⟨i, i, i, yy_add (by omega) ?_⟩
        refine nm_r (nI_1 (lo + m)) ?_
        have a1 := tw_s (g := tw_i) (a := K) (lo := lo) (z := z) (m := m) (by omega)
        have a2 := tw_s (g := tw_i) (a := A) (lo := lo) (z := z) (m := m) (by omega)
        have a3 := tw_s (g := tw_g z) (a := L) (lo := lo) (z := z) (m := m) (by omega)
        have a4 := tw_s (g := tw_g z) (a := R) (lo := lo) (z := z) (m := m) (by omega)
        have a5 := tw_s (g := tw_i) (a := B) (lo := lo) (z := z) (m := m) (by omega)
        have a6 := tw_s (g := tw_0) (a := PN) (lo := lo) (z := z) (m := m) (by omega)
        rw [ei] at a1 a2 a3 a4 a5 a6
        rw [← a1, ← a2, ← a3, ← a4, ← a5, ← a6] at nx
        exact nx
      have g88 : ∀ l : Int32, l = tw_g z (tw_ (tw_g z) L lo z m (lo + m)) → wY_twin_88 post (wY_twin_59 post (nI (c0 - 1)) (nI z) g) (nI (c0 - 1)) (nI z) (nI (lo + m)) l (nI T) (nI P) (nI M) (nI C) (nI (c0 + m)) (nI d) sg ca ga hs cs (tw_ tw_i K lo z m) (tw_ tw_i A lo z m) (tw_ (tw_g z) L lo z m) (tw_ (tw_g z) R lo z m) (tw_ tw_i B lo z m) (tw_ tw_0 PN lo z m) pa pA st wt du ce := by
        intro l hl
        unfold wY_twin_88
        refine ⟨i, ?_⟩
        rw [nI_clamp (n := lo + m) (by omega)]
        by_cases b : 0 ≤ tw_ (tw_g z) R lo z m (lo + m)
        · exact br_t b ⟨i, g113 _ _ hl (if_pos b).symm⟩
        · exact br_f b (g113 _ _ hl (if_neg b).symm)
      by_cases b : 0 ≤ tw_ (tw_g z) L lo z m (lo + m)
      · exact br_t b ⟨i, g88 _ (if_pos b).symm⟩
      · exact br_f b (g88 _ (if_neg b).symm)
theorem yy_twin {post : Int32 → SY → Prop} {lo : Nat} (hsg : sg = 0) (hC : C ≤ 24) (hcC : c ≤ C) (hhc : hh ≤ c) (o : fo_ok c kd f) (sk : fo_sk c hh f s) (ti : fo_ti c kd f K L R F) (hlo : 0 < hh → f (c - 1) = lo ∧ lo + 1 ≤ c)
    (h3 : hh = 0 → post (-3) (nI T, nI P, nI M, nI C, nI c, nI d, sg, ca, ga, hs, cs, K, A, L, R, B, PN, pa, pA, st, wt, du, ce)) (h5 : 0 < hh → C < c + (c - lo) → post (-5) (nI T, nI P, nI M, nI C, nI c, nI d, sg, ca, ga, hs, cs, K, A, L, R, B, PN, pa, pA, st, wt, du, ce))
    (h : 0 < hh → c + (c - lo) ≤ C → post (nI (c - 1 + (c - lo))) (nI T, nI P, nI M, nI C, nI (c + (c - lo)), nI d, sg, ca, ga, hs, cs, tw_ tw_i K lo (c - lo) (c - lo), tw_ tw_i A lo (c - lo) (c - lo), tw_ (tw_g (c - lo)) L lo (c - lo) (c - lo), tw_ (tw_g (c - lo)) R lo (c - lo) (c - lo), tw_ tw_i B lo (c - lo) (c - lo), tw_ tw_0 PN lo (c - lo) (c - lo), pa, pA, st, wt, du, ce)) : wpY_twin post (nI T, nI P, nI M, nI C, nI c, nI d, sg, ca, ga, hs, cs, K, A, L, R, B, PN, pa, pA, st, wt, du, ce) := by
  subst hsg
  unfold wpY_twin
  refine br_t rfl ?_
  rcases Nat.eq_zero_or_pos hh with e | e
  · refine br_t ?_ (h3 e)
    rw [sk.2.2.2 e]; rfl
  · obtain ⟨hF, hl1⟩ := hlo e
    have et := (sk.2.2.1 e).2
    have es : s (hh - 1) = c - 1 := by omega
    refine br_f (nI_ne0 (by omega) (by omega)) (nm_r (nu_s1 (by omega)) ?_)
    have fin : ∀ r : Int32, r + 1 = nI lo → (∀ x2_28 : Int32, x2_28 = r + 1 → (∀ x3_29 : Int32, x3_29 = (nI (c - 1) - x2_28) + 1 → ((((nI c + x3_29) ≤ nI C → (∃ n59 : Nat, wY_twin_59 post (nI (c - 1)) x3_29 n59 x2_28 (nI T) (nI P) (nI M) (nI C) (nI c) (nI d) 0 ca ga hs cs K A L R B PN pa pA st wt du ce)) ∧ (¬ (nI c + x3_29) ≤ nI C → (post (-5) (nI T, nI P, nI M, nI C, nI c, nI d, 0, ca, ga, hs, cs, K, A, L, R, B, PN, pa, pA, st, wt, du, ce))))))) := by
      intro r hr
      refine nm_r hr ?_
      have es : (nI (c - 1) - nI lo) + 1 = nI (c - lo) := by
        rw [pk_sub (by omega), nI_1]
        exact congrArg nI (by omega)
      refine nm_r es ?_
      rw [nI_add]
      by_cases g : c + (c - lo) ≤ C
      · refine br_t (nI_le g (by omega)) ⟨c - lo + 1, ?_⟩
        have := yy_twl (sg := 0) (d := d) (lo := lo) (z := c - lo) (c0 := c) (by omega) (by omega) (by omega) (h e g) (c - lo + 1) 0 (by omega) (by omega)
        rw [tw_z, tw_z, tw_z, tw_z, tw_z, tw_z] at this
        exact this
      · exact br_f (nI_ge (by omega) (by omega)) (h5 e (by omega))
    rw [← es]
    refine yy_nxt (by omega) o sk ti e ?_
    rw [es]
    by_cases g : hh = 1
    · rw [if_pos g]
      refine fin _ ?_
      have x := (sk.2.2.1 e).1
      have : s 0 = c - 1 := by
        rw [g] at es
        exact es
      rw [this] at x
      have : lo = 0 := by omega
      rw [this]; rfl
    · rw [if_neg g]
      refine fin _ ?_
      rw [nI_1]
      have x := sk.2.1 (hh - 2) (by omega)
      have y : hh - 2 + 1 = hh - 1 := by omega
      rw [y, es] at x
      exact congrArg nI (by omega)
end
end
section
/-! Y: horizons by climbing, worths by repeated passes -/
theorem hz_min {K A H : Nat → Int32} {p : Nat} {h : Int32} : min (if K p = 9 ∧ ¬ h ≤ A p then A p else h).toInt (H p).toInt = min h.toInt (hz_f K A H p).toInt := by
  unfold hz_f
  by_cases k9 : K p = 9
  · by_cases a : h ≤ A p
    · rw [if_neg (fun z => z.2 a)]
      rw [Int32.le_iff_toInt_le] at a
      by_cases b : H p ≤ A p
      · rw [if_neg (fun z => z.2 b)]
      · rw [if_pos ⟨k9, b⟩]
        rw [Int32.le_iff_toInt_le] at b
        omega
    · rw [if_pos ⟨k9, a⟩]
      rw [Int32.le_iff_toInt_le] at a
      by_cases b : H p ≤ A p
      · rw [if_neg (fun z => z.2 b)]
        rw [Int32.le_iff_toInt_le] at b
        omega
      · rw [if_pos ⟨k9, b⟩]
        rw [Int32.le_iff_toInt_le] at b
        omega
  · rw [if_neg (fun z => k9 z.1), if_neg (fun z => k9 z.1)]
theorem vl_cg {c T P M n t k : Nat} {K A L R H : Nat → Int32} {V V' : Nat → Int64} (h24 : c ≤ 24) (tr : dt_tr c L R) (hn : n < c) (h1 : ∀ m, m < n → V (49 * m + 7 * t + k) = V' (49 * m + 7 * t + k)) (h2 : t < T → V (49 * n + 7 * (t + 1) + k) = V' (49 * n + 7 * (t + 1) + k) ∧ V (49 * n + 7 * (t + 1) + (k + 1)) = V' (49 * n + 7 * (t + 1) + (k + 1))) : vl_rv T P M K A L R H V n t k = vl_rv T P M K A L R H V' n t k := by
  obtain ⟨tl, tr'⟩ := tr.1 n hn
  have a1 : dt_vv V (L n) t k = dt_vv V' (L n) t k := by
    rcases tl with e | ⟨l, hl, e⟩
    · rw [e, vv_m1, vv_m1]
    · rw [e, vv_nI (by omega), vv_nI (by omega), h1 l hl]
  have a2 : dt_vv V (R n) t k = dt_vv V' (R n) t k := by
    rcases tr' with e | ⟨l, hl, e⟩
    · rw [e, vv_m1, vv_m1]
    · rw [e, vv_nI (by omega), vv_nI (by omega), h1 l hl]
  have a3 : dt_ex T V n t k = dt_ex T V' n t k := by
    unfold dt_ex
    by_cases e : t < T
    · rw [if_pos e, if_pos e, (h2 e).1, (h2 e).2]
    · rw [if_neg e, if_neg e]
  unfold vl_rv
  rw [a1, a2, a3]
theorem vl_uq {c T P M : Nat} {K A L R H : Nat → Int32} {V V' : Nat → Int64} (h24 : c ≤ 24) (tr : dt_tr c L R) (hV : ∀ n t k, n < c → t ≤ T → k ≤ t → V (49 * n + 7 * t + k) = vl_rv T P M K A L R H V n t k) (hV' : ∀ n t k, n < c → t ≤ T → k ≤ t → V' (49 * n + 7 * t + k) = vl_rv T P M K A L R H V' n t k) : ∀ n t k, n < c → t ≤ T → k ≤ t → V (49 * n + 7 * t + k) = V' (49 * n + 7 * t + k) := by
  intro n
  induction n using Nat.strongRecOn with
  | ind n ih =>
    have inner : ∀ j t k, T - t ≤ j → n < c → t ≤ T → k ≤ t → V (49 * n + 7 * t + k) = V' (49 * n + 7 * t + k) := by
      intro j
      induction j with
      | zero =>
        intro t k hj hn ht hk
        rw [hV n t k hn ht hk, hV' n t k hn ht hk]
        exact vl_cg h24 tr hn (fun m hm => ih m hm t k (by omega) ht hk) (fun z => by omega)
      | succ j ihj =>
        intro t k hj hn ht hk
        rw [hV n t k hn ht hk, hV' n t k hn ht hk]
        exact vl_cg h24 tr hn (fun m hm => ih m hm t k (by omega) ht hk) (fun z => ⟨ihj (t + 1) k (by omega) hn (by omega) (by omega), ihj (t + 1) (k + 1) (by omega) hn (by omega) (by omega)⟩)
    intro t k hn ht hk
    exact inner (T - t) t k (Nat.le_refl _) hn ht hk
theorem nu_r7 {i : Nat} (h : i < 2 ^ 31) : (nI i / 7) - (nI i / 7) / 7 * 7 = nI (i / 7 % 7) := by
  rw [show (7 : Int32) = nI 7 from rfl, pk_div h (by omega) (by omega), pk_rem (by omega) (by omega) (by omega)]
theorem nu_q7 {i : Nat} (h : i < 2 ^ 31) : nI i - nI i / 7 * 7 = nI (i % 7) := by
  rw [show (7 : Int32) = nI 7 from rfl, pk_rem h (by omega) (by omega)]
theorem nu_d49 {i : Nat} (h : i < 2 ^ 31) : nI i / 49 = nI (i / 49) := by
  rw [show (49 : Int32) = nI 49 from rfl, pk_div h (by omega) (by omega)]
theorem nu_dig {n t k i : Nat} (h : 49 * n + 7 * t + k = i) (ht : t ≤ 6) (hk : k ≤ 6) : n = i / 49 ∧ t = i / 7 % 7 ∧ k = i % 7 := by
  have b1 : i / 7 = 7 * n + t := by omega
  refine ⟨by omega, ?_, by omega⟩
  rw [b1]
  omega
theorem upL_same {a : Nat → Int64} {n : Nat} {v : Int64} (h : v = a n) : vp_updL a n v = a := by
  funext j
  by_cases e : j = n
  · subst e; rw [pk_uLs]; exact h
  · exact pk_uLn e
section
variable {T P M C c d : Nat} {ca ga hs cs : Int64} {sg : Int32} {K A L R B PN pa pA st wt du : Nat → Int32} {ce : Nat → Int64} {H : Nat → Int32} {V : Nat → Int64}
theorem yy_hor {post : Int32 → Prop} {n : Nat} (h24 : c ≤ 24) (hT : T ≤ 6) (tr : dt_tr c L R) (hz : hz_I c T K A L R H 0) (pe : ∀ n, n + 1 < c → ∃ p, p < c ∧ (L p = nI n ∨ R p = nI n)) (hn : n < c) (h : post (H n)) : wpY_horizon post (nI T, nI P, nI M, nI C, nI c, nI d, sg, ca, ga, hs, cs, K, A, L, R, B, PN, pa, pA, st, wt, du, ce) (nI n) := by
  have go : ∀ (g i a : Nat) (x : Int32), c < g + i → i ≤ c → a < i → a < c → (∀ q, a < q → q < i → ¬ (L q = nI a ∨ R q = nI a)) → min x.toInt (H a).toInt = (H n).toInt → x.toInt ≤ T → wY_horizon_12 post (nI T) (nI P) (nI M) (nI C) (nI c) (nI d) sg ca ga hs cs K A L R B PN pa pA st wt du ce g x (nI a) (nI i) := by
    intro g
    induction g with
    | zero => intro i a x h1 h2; omega
    | succ g ih =>
      intro i a x hf hi ha hac J1 J2 J3
      rw [wY_horizon_12]
      by_cases e : c ≤ i
      · have ea : a = c - 1 := by
          by_cases z : a + 1 < c
          · obtain ⟨p, hp, hq⟩ := pe a z
            exact (J1 p (tr_lt tr h24 hp hac hq) (by omega) hq).elim
          · omega
        have eH : (H a).toInt = T := by
          rw [ea, hz.1, nI_toInt (by omega)]
        have ex : x = H n := by
          apply Int32.toInt_inj.mp
          omega
        rw [ex]
        exact br_t (nI_le e (by omega)) h
      · have iv := vp_in_nI (n := i) (N := 24) (by omega) (by decide)
        refine br_f (nI_ge (by omega) (by omega)) ⟨iv, ?_⟩
        rw [nI_clamp (n := i) (by omega)]
        have up : (L i = nI a ∨ R i = nI a) → wY_horizon_43 post (wY_horizon_12 post (nI T) (nI P) (nI M) (nI C) (nI c) (nI d) sg ca ga hs cs K A L R B PN pa pA st wt du ce g) x (nI i) (nI T) (nI P) (nI M) (nI C) (nI c) (nI d) sg ca ga hs cs K A L R B PN pa pA st wt du ce := by
          intro hc
          have eh := hz.2 i a (Nat.zero_le _) (by omega) hac hc
          have nx : ∀ x' : Int32, x' = (if K i = 9 ∧ ¬ x ≤ A i then A i else x) → wY_horizon_12 post (nI T) (nI P) (nI M) (nI C) (nI c) (nI d) sg ca ga hs cs K A L R B PN pa pA st wt du ce g x' (nI i) (nI (i + 1)) := by
            intro x' hx
            refine ih (i + 1) i x' (by omega) (by omega) (by omega) (by omega) (fun q h1 h2 => by omega) ?_ ?_
            · rw [hx, hz_min, ← eh]; exact J2
            · rw [hx]
              by_cases z : K i = 9 ∧ ¬ x ≤ A i
              · rw [if_pos z]
                have := z.2
                rw [Int32.le_iff_toInt_le] at this
                omega
              · rw [if_neg z]; exact J3
          unfold wY_horizon_43
          refine ⟨iv, ?_⟩
          rw [nI_clamp (n := i) (by omega)]
          by_cases k9 : K i = 9
          · refine br_t k9 ⟨iv, ?_⟩
            by_cases z : x ≤ A i
            · exact br_t z (nm_r (nI_1 i) (nx x (if_neg (fun w => w.2 z)).symm))
            · exact br_f z ⟨iv, nm_e (nm_r (nI_1 i) (nx (A i) (if_pos ⟨k9, z⟩).symm))⟩
          · exact br_f k9 (nm_r (nI_1 i) (nx x (if_neg (fun w => k9 w.1)).symm))
        by_cases z1 : L i = nI a
        · exact br_t z1 (up (Or.inl z1))
        · refine br_f z1 ⟨iv, ?_⟩
          by_cases z2 : R i = nI a
          · exact br_t z2 (up (Or.inr z2))
          · refine br_f z2 (nm_r (nI_1 i) (ih (i + 1) a x (by omega) (by omega) (by omega) hac ?_ J2 J3))
            intro q h1 h2
            by_cases z : q = i
            · subst z
              rintro (w | w)
              · exact z1 w
              · exact z2 w
            · exact J1 q h1 (by omega)
  have hle : ∀ j m, m < c → c - m ≤ j → (H m).toInt ≤ T := by
    intro j
    induction j with
    | zero => intro m hm h; omega
    | succ j ih =>
      intro m hm hj
      by_cases e : m + 1 < c
      · obtain ⟨p, hp, hq⟩ := pe m e
        have l := tr_lt tr h24 hp hm hq
        have eh := hz.2 p m (Nat.zero_le _) hp hm hq
        have x := ih p hp (by omega)
        rw [eh]
        unfold hz_f
        by_cases z : K p = 9 ∧ ¬ H p ≤ A p
        · rw [if_pos z]
          have := z.2
          rw [Int32.le_iff_toInt_le] at this
          omega
        · rw [if_neg z]; exact x
      · have : m = c - 1 := by omega
        rw [this, hz.1, nI_toInt (by omega)]
        omega
  unfold wpY_horizon
  refine nm_r (nI_1 n) ⟨c + 1, go (c + 1) (n + 1) n _ (by omega) (by omega) (by omega) hn (fun q h1 h2 => by omega) ?_ ?_⟩
  · have := hle (c - n) n hn (Nat.le_refl _)
    rw [nI_toInt (by omega)]
    omega
  · rw [nI_toInt (by omega)]
    omega
theorem yy_val {post : Int64 → Prop} {x : Int32} {t q : Nat} (h24 : c ≤ 24) (hT : T ≤ 6) (hx : x = -1 ∨ ∃ l, l < c ∧ x = nI l) (ht : t ≤ T) (hq : q ≤ t) (h : post (dt_vv ce x t q)) : wpY_worth post (nI T, nI P, nI M, nI C, nI c, nI d, 1, ca, ga, hs, cs, K, A, L, R, B, PN, pa, pA, st, wt, du, ce) x (nI t) (nI q) := by
  unfold wpY_worth
  refine br_f (by decide) ?_
  rcases hx with rfl | ⟨l, hl, rfl⟩
  · rw [vv_m1] at h
    exact br_t nu_m1lt h
  · rw [vv_nI (by omega)] at h
    refine br_f (nI_pos (by omega)) (br_f (nI_ge hl (by omega)) (br_f (nI_pos (by omega)) (br_f (nI_nlt ht (by omega)) (br_f (nI_pos (by omega)) (br_t (nI_le hq (by omega)) ?_)))))
    rw [nu_cellY, nI_clamp (by omega)]
    exact ⟨vp_in_nI (by omega) (by decide), h⟩
theorem yy_v0 {post : Int64 → Prop} {l t q : Nat} (h24 : c ≤ 24) (hT : T ≤ 6) (hl : l < c) (ht : T < t) (ht7 : t ≤ 7) (h : post 0) : wpY_worth post (nI T, nI P, nI M, nI C, nI c, nI d, 1, ca, ga, hs, cs, K, A, L, R, B, PN, pa, pA, st, wt, du, ce) (nI l) (nI t) (nI q) := by
  unfold wpY_worth
  exact br_f (by decide) (br_f (nI_pos (by omega)) (br_f (nI_ge hl (by omega)) (br_f (nI_pos (by omega)) (br_t (nI_lt ht (by omega)) h))))
theorem yy_exp {post : Int64 → Prop} {n t q : Nat} (h24 : c ≤ 24) (hT : T ≤ 6) (hn : n < c) (ht : t ≤ T) (hq : q ≤ t) (h : post (dt_ex T ce n t q)) : wpY_expected post (nI T, nI P, nI M, nI C, nI c, nI d, 1, ca, ga, hs, cs, K, A, L, R, B, PN, pa, pA, st, wt, du, ce) (nI n) (nI t) (nI q) := by
  unfold wpY_expected
  dsimp only
  rw [nI_1 t, nI_1 q]
  unfold dt_ex at h
  by_cases e : t < T
  · rw [if_pos e] at h
    refine yy_val h24 hT (Or.inr ⟨n, hn, rfl⟩) (by omega) (by omega) (yy_val h24 hT (Or.inr ⟨n, hn, rfl⟩) (by omega) (by omega) ?_)
    rw [vv_nI (by omega), vv_nI (by omega)]
    exact ⟨by decide, h⟩
  · rw [if_neg e] at h
    refine yy_v0 h24 hT hn (by omega) (by omega) (yy_v0 h24 hT hn (by omega) (by omega) ⟨by decide, ?_⟩)
    have : ((0 : Int64) + 0) / 2 = 0 := by decide
    rw [this]
    exact h
theorem yy_rule {post : Int64 → Prop} {n t q : Nat} (h24 : c ≤ 24) (hT : T ≤ 6) (tr : dt_tr c L R) (hz : hz_I c T K A L R H 0) (pe : ∀ n, n + 1 < c → ∃ p, p < c ∧ (L p = nI n ∨ R p = nI n)) (hK : ∃ q, q ≤ 10 ∧ K n = nI q) (hn : n < c) (ht : t ≤ T) (hq : q ≤ t)
    (h : post (vl_rv T P M K A L R H ce n t q)) : wpY_rule post (nI T, nI P, nI M, nI C, nI c, nI d, 1, ca, ga, hs, cs, K, A, L, R, B, PN, pa, pA, st, wt, du, ce) (nI n) (nI t) (nI q) := by
  have i := vp_in_nI (n := n) (N := 24) (by omega) (by decide)
  obtain ⟨tl, tr'⟩ := tr.1 n hn
  have tlc : L n = -1 ∨ ∃ l, l < c ∧ L n = nI l := by
    rcases tl with x | ⟨l, x, y⟩
    · exact Or.inl x
    · exact Or.inr ⟨l, by omega, y⟩
  have trc : R n = -1 ∨ ∃ l, l < c ∧ R n = nI l := by
    rcases tr' with x | ⟨l, x, y⟩
    · exact Or.inl x
    · exact Or.inr ⟨l, by omega, y⟩
  unfold wpY_rule
  dsimp only
  rw [nI_clamp (n := n) (by omega)]
  refine yy_hor h24 hT tr hz pe hn ⟨i, nm_e ⟨i, nm_e ?_⟩⟩
  by_cases hh : nI t ≤ H n
  · refine br_f (Int32.not_lt.mpr hh) ?_
    by_cases k0 : K n = 0
    · have e0 : vl_rv T P M K A L R H ce n t q = 0 := by simp [vl_rv, vl_ru, hh, k0]
      rw [e0] at h
      exact br_t k0 h
    · refine br_f k0 ⟨i, yy_val h24 hT tlc ht hq ⟨i, yy_val h24 hT trc ht hq (yy_exp h24 hT hn ht hq ?_)⟩⟩
      obtain ⟨kq, hkq, hK⟩ := hK
      have hq' : kq = 0 ∨ kq = 1 ∨ kq = 2 ∨ kq = 3 ∨ kq = 4 ∨ kq = 5 ∨ kq = 6 ∨ kq = 7 ∨ kq = 8 ∨ kq = 9 ∨ kq = 10 := by omega
      rcases hq' with rfl | rfl | rfl | rfl | rfl | rfl | rfl | rfl | rfl | rfl | rfl
      · exact (k0 hK).elim
      · have hK : K n = 1 := hK
        simp [vl_rv, vl_ru, hK, hh] at h
        rw [hK]
        repeat (first | refine br_t (by decide) ?_ | refine br_f (by decide) ?_)
        exact h
      · have hK : K n = 2 := hK
        simp [vl_rv, vl_ru, hK, hh] at h
        rw [hK]
        repeat (first | refine br_t (by decide) ?_ | refine br_f (by decide) ?_)
        exact h
      · have hK : K n = 3 := hK
        simp [vl_rv, vl_ru, hK, hh] at h
        rw [hK]
        repeat (first | refine br_t (by decide) ?_ | refine br_f (by decide) ?_)
        exact h
      · have hK : K n = 4 := hK
        simp [vl_rv, vl_ru, hK, hh] at h
        rw [hK]
        repeat (first | refine br_t (by decide) ?_ | refine br_f (by decide) ?_)
        exact h
      · have hK : K n = 5 := hK
        simp [vl_rv, vl_ru, hK, hh] at h
        rw [hK]
        repeat (first | refine br_t (by decide) ?_ | refine br_f (by decide) ?_)
        exact h
      · have hK : K n = 6 := hK
        have h6 : post (dt_gt (dt_vv ce (L n) t q) (dt_vv ce (R n) t q)) := by
          simp [vl_rv, vl_ru, hK, hh] at h
          exact h
        rw [hK]
        repeat (first | refine br_t (by decide) ?_ | refine br_f (by decide) ?_)
        unfold dt_gt at h6
        by_cases g : dt_vv ce (L n) t q ≤ dt_vv ce (R n) t q
        · rw [if_pos g] at h6; exact br_t g h6
        · rw [if_neg g] at h6; exact br_f g h6
      · have hK : K n = 7 := hK
        have h6 : post (if dt_px P M t q < A n then dt_vv ce (R n) t q else dt_vv ce (L n) t q) := by
          simp [vl_rv, vl_ru, hK, hh] at h
          exact h
        rw [hK]
        repeat (first | refine br_t (by decide) ?_ | refine br_f (by decide) ?_)
        unfold wpY_priceAt
        by_cases g : dt_px P M t q < A n
        · rw [if_pos g] at h6; exact br_t g h6
        · rw [if_neg g] at h6; exact br_f g h6
      · have hK : K n = 8 := hK
        have h6 : post (if nI t ≤ A n then (if nI t = A n then dt_vv ce (L n) t q else dt_ex T ce n t q) else 0) := by
          simp [vl_rv, vl_ru, hK, hh] at h
          exact h
        rw [hK]
        repeat (first | refine br_t (by decide) ?_ | refine br_f (by decide) ?_)
        by_cases g : nI t ≤ A n
        · rw [if_pos g] at h6
          refine br_t g ?_
          by_cases g2 : nI t = A n
          · rw [if_pos g2] at h6; exact br_t g2 h6
          · rw [if_neg g2] at h6; exact br_f g2 h6
        · rw [if_neg g] at h6; exact br_f g h6
      · have hK : K n = 9 := hK
        simp [vl_rv, vl_ru, hK, hh] at h
        rw [hK]
        repeat (first | refine br_t (by decide) ?_ | refine br_f (by decide) ?_)
        exact h
      · have hK : K n = 10 := hK
        have h6 : post (if nI t = H n then dt_vv ce (L n) t q else dt_gt (dt_vv ce (L n) t q) (dt_ex T ce n t q)) := by
          simp [vl_rv, vl_ru, hK, hh] at h
          exact h
        rw [hK]
        repeat (first | refine br_t (by decide) ?_ | refine br_f (by decide) ?_)
        by_cases g : nI t = H n
        · rw [if_pos g] at h6; exact br_t g h6
        · rw [if_neg g] at h6
          refine br_f g ?_
          unfold dt_gt at h6
          by_cases g2 : dt_vv ce (L n) t q ≤ dt_ex T ce n t q
          · rw [if_pos g2] at h6; exact br_t g2 h6
          · rw [if_neg g2] at h6; exact br_f g2 h6
  · have e0 : vl_rv T P M K A L R H ce n t q = 0 := if_neg hh
    rw [e0] at h
    exact br_t (Int32.not_le.mp hh) h
theorem yy_settle {post : SY → Prop} (h24 : c ≤ 24) (hT : T ≤ 6) (tr : dt_tr c L R) (hz : hz_I c T K A L R H 0) (pe : ∀ n, n + 1 < c → ∃ p, p < c ∧ (L p = nI n ∨ R p = nI n)) (hKK : ∀ n, n < c → ∃ q, q ≤ 10 ∧ K n = nI q)
    (hV : ∀ n t k, n < c → t ≤ T → k ≤ t → V (49 * n + 7 * t + k) = vl_rv T P M K A L R H V n t k)
    (KK : ∀ ce' : Nat → Int64, (∀ n t k, n < c → t ≤ T → k ≤ t → ce' (49 * n + 7 * t + k) = V (49 * n + 7 * t + k)) → post (nI T, nI P, nI M, nI C, nI c, nI d, 1, ca, ga, hs, cs, K, A, L, R, B, PN, pa, pA, st, wt, du, ce')) : wpY_settle post (nI T, nI P, nI M, nI C, nI c, nI d, 1, ca, ga, hs, cs, K, A, L, R, B, PN, pa, pA, st, wt, du, ce) := by
  have pass : ∀ (J : _) (p : Nat) (ce0 : Nat → Int64), (∀ (ce' : Nat → Int64) (x : Int32), (∀ n t k, n < c → t ≤ T → k ≤ t → T ≤ t + p → ce' (49 * n + 7 * t + k) = V (49 * n + 7 * t + k)) → (x = 0 → ∀ n t k, n < c → t ≤ T → k ≤ t → ce' (49 * n + 7 * t + k) = vl_rv T P M K A L R H ce' n t k) → J x (nI (p + 1)) K A L R B PN pa pA st wt du ce') →
      ∀ (g i : Nat) (ce : Nat → Int64) (x : Int32), 49 * c < g + i → i ≤ 49 * c → (∀ n t k, n < c → t ≤ T → k ≤ t → (T < t + p ∨ (T ≤ t + p ∧ 49 * n + 7 * t + k < i)) → ce (49 * n + 7 * t + k) = V (49 * n + 7 * t + k)) → (x = 0 → ce = ce0 ∧ ∀ n t k, n < c → t ≤ T → k ≤ t → 49 * n + 7 * t + k < i → ce0 (49 * n + 7 * t + k) = vl_rv T P M K A L R H ce0 n t k) → wY_settle_18 post J (nI p) (nI T) (nI P) (nI M) (nI C) (nI c) (nI d) 1 ca ga hs cs g x (nI i) K A L R B PN pa pA st wt du ce := by
    intro J p ce0 KJ g
    induction g with
    | zero => intro i ce x h1 h2; omega
    | succ g ih =>
      intro i ce x hf hi J1 J2
      rw [wY_settle_18, nu_m49]
      by_cases e : 49 * c ≤ i
      · refine br_t (nI_le e (by omega)) (nm_r (nI_1 p) (KJ ce x ?_ ?_))
        · intro n t k hn ht hk hp
          exact J1 n t k hn ht hk (by omega)
        · intro hx n t k hn ht hk
          obtain ⟨e1, e2⟩ := J2 hx
          rw [e1]
          exact e2 n t k hn ht hk (by omega)
      · refine br_f (nI_ge (by omega) (by omega)) ⟨by decide, by decide, nm_r (nu_r7 (by omega)) ⟨by decide, nm_r (nu_q7 (by omega)) ?_⟩⟩
        have ei : 49 * (i / 49) + 7 * (i / 7 % 7) + i % 7 = i := by omega
        have skip : ¬ (i / 7 % 7 ≤ T ∧ i % 7 ≤ i / 7 % 7) → wY_settle_18 post J (nI p) (nI T) (nI P) (nI M) (nI C) (nI c) (nI d) 1 ca ga hs cs g x (nI (i + 1)) K A L R B PN pa pA st wt du ce := by
          intro z
          refine ih (i + 1) ce x (by omega) (by omega) ?_ ?_
          · intro n t k hn ht hk hp
            refine J1 n t k hn ht hk ?_
            by_cases w : 49 * n + 7 * t + k = i
            · exfalso
              apply z
              obtain ⟨a1, a2, a3⟩ := nu_dig w (by omega) (by omega)
              omega
            · omega
          · intro hx
            obtain ⟨e1, e2⟩ := J2 hx
            refine ⟨e1, ?_⟩
            intro n t k hn ht hk hp
            refine e2 n t k hn ht hk ?_
            by_cases w : 49 * n + 7 * t + k = i
            · exfalso
              apply z
              obtain ⟨a1, a2, a3⟩ := nu_dig w (by omega) (by omega)
              omega
            · omega
        by_cases z1 : T < i / 7 % 7
        · exact br_t (nI_lt z1 (by omega)) (nm_r (nI_1 i) (skip (by omega)))
        · refine br_f (nI_nlt (by omega) (by omega)) ?_
          by_cases z2 : i / 7 % 7 < i % 7
          · exact br_t (nI_lt z2 (by omega)) (nm_r (nI_1 i) (skip (by omega)))
          · refine br_f (nI_nlt (by omega) (by omega)) ⟨by decide, ?_⟩
            rw [nu_d49 (by omega)]
            have hn : i / 49 < c := by omega
            have iv := vp_in_nI (n := i) (N := 1176) (by omega) (by decide)
            refine yy_rule h24 hT tr hz pe (hKK _ hn) hn (by omega) (by omega) ⟨iv, ?_⟩
            rw [nI_clamp (n := i) (by omega)]
            have right : T ≤ i / 7 % 7 + p → vl_rv T P M K A L R H ce (i / 49) (i / 7 % 7) (i % 7) = V i := by
              intro hp
              have e1 := hV (i / 49) (i / 7 % 7) (i % 7) hn (by omega) (by omega)
              rw [ei] at e1
              rw [e1]
              refine vl_cg h24 tr hn ?_ ?_
              · intro m hm
                exact J1 m _ _ (by omega) (by omega) (by omega) (by omega)
              · intro hl
                exact ⟨J1 _ _ _ hn (by omega) (by omega) (by omega), J1 _ _ _ hn (by omega) (by omega) (by omega)⟩
            have inv1 : ∀ n t k, n < c → t ≤ T → k ≤ t → (T < t + p ∨ (T ≤ t + p ∧ 49 * n + 7 * t + k < i + 1)) → vp_updL ce i (vl_rv T P M K A L R H ce (i / 49) (i / 7 % 7) (i % 7)) (49 * n + 7 * t + k) = V (49 * n + 7 * t + k) := by
              intro n t k hn' ht hk hp
              by_cases w : 49 * n + 7 * t + k = i
              · have a2 := (nu_dig w (by omega) (by omega)).2.1
                rw [w, pk_uLs]
                exact right (by omega)
              · rw [pk_uLn w]
                exact J1 n t k hn' ht hk (by omega)
            by_cases z3 : vl_rv T P M K A L R H ce (i / 49) (i / 7 % 7) (i % 7) = ce i
            · refine br_t z3 ⟨iv, nm_e (nm_r (nI_1 i) (ih (i + 1) _ x (by omega) (by omega) inv1 ?_))⟩
              intro hx
              obtain ⟨e1, e2⟩ := J2 hx
              refine ⟨by rw [upL_same z3]; exact e1, ?_⟩
              intro n t k hn' ht hk hp
              by_cases w : 49 * n + 7 * t + k = i
              · obtain ⟨a1, a2, a3⟩ := nu_dig w (by omega) (by omega)
                rw [w, a1, a2, a3, ← e1]
                exact z3.symm
              · exact e2 n t k hn' ht hk (by omega)
            · refine br_f z3 ⟨iv, nm_e (nm_r (nI_1 i) (ih (i + 1) _ 1 (by omega) (by omega) inv1 ?_))⟩
              intro hx
              exact absurd hx (by decide)
  have go : ∀ (g p : Nat) (ce : Nat → Int64) (x : Int32), 40 < g + p → p ≤ 40 → (∀ n t k, n < c → t ≤ T → k ≤ t → T < t + p → ce (49 * n + 7 * t + k) = V (49 * n + 7 * t + k)) → (x = 0 → ∀ n t k, n < c → t ≤ T → k ≤ t → ce (49 * n + 7 * t + k) = vl_rv T P M K A L R H ce n t k) → wY_settle_4 post (nI T) (nI P) (nI M) (nI C) (nI c) (nI d) 1 ca ga hs cs g x (nI p) K A L R B PN pa pA st wt du ce := by
    intro g
    induction g with
    | zero => intro p ce x h1 h2; omega
    | succ g ih =>
      intro p ce x hf hp J1 J2
      rw [wY_settle_4]
      by_cases e : 40 ≤ p
      · refine br_t (nI_le (a := 40) e (by omega)) (KK ce ?_)
        intro n t k hn ht hk
        exact J1 n t k hn ht hk (by omega)
      · refine br_f (nI_ge (b := 40) (by omega) (by decide)) ?_
        by_cases z : x = 0
        · exact br_t z (KK ce (vl_uq h24 tr (J2 z) hV))
        · refine br_f z ⟨49 * c + 1, ?_⟩
          refine pass (wY_settle_4 post (nI T) (nI P) (nI M) (nI C) (nI c) (nI d) 1 ca ga hs cs g) p ce ?_ (49 * c + 1) 0 ce 0 (by omega) (by omega) ?_ ?_
          · intro ce' x' h1 h2
            refine ih (p + 1) ce' x' (by omega) (by omega) ?_ h2
            intro n t k hn ht hk hp
            exact h1 n t k hn ht hk (by omega)
          · intro n t k hn ht hk hp
            exact J1 n t k hn ht hk (by omega)
          · intro _
            exact ⟨rfl, fun n t k _ _ _ h => by omega⟩
  unfold wpY_settle
  exact ⟨41, go 41 0 ce 1 (by omega) (by omega) (fun n t k _ h1 _ h2 => by omega) (fun h => absurd h (by decide))⟩
end
end
section
/-! Y: the run replayed -/
theorem up_up {a : Nat → Int32} {n : Nat} {x y : Int32} : upd (upd a n x) n y = upd a n y := by
  funext j
  by_cases e : j = n
  · subst e; rw [pk_us, pk_us]
  · rw [pk_un e, pk_un e, pk_un e]
def yy_ce (c T : Nat) (ce V : Nat → Int64) : Prop := ∀ n t k, n < c → t ≤ T → k ≤ t → ce (49 * n + 7 * t + k) = V (49 * n + 7 * t + k)
theorem ce_vv {c T : Nat} {ce V : Nat → Int64} {x : Int32} {t k : Nat} (h : yy_ce c T ce V) (h24 : c ≤ 24) (hx : x = -1 ∨ ∃ l, l < c ∧ x = nI l) (ht : t ≤ T) (hk : k ≤ t) : dt_vv ce x t k = dt_vv V x t k := by
  rcases hx with rfl | ⟨l, hl, rfl⟩
  · rw [vv_m1, vv_m1]
  · rw [vv_nI (by omega), vv_nI (by omega), h l t k hl ht hk]
theorem ce_ex {c T : Nat} {ce V : Nat → Int64} {n t k : Nat} (h : yy_ce c T ce V) (hn : n < c) (hk : k ≤ t) : dt_ex T ce n t k = dt_ex T V n t k := by
  unfold dt_ex
  by_cases e : t < T
  · rw [if_pos e, if_pos e, h n (t + 1) k hn (by omega) (by omega), h n (t + 1) (k + 1) hn (by omega) (by omega)]
  · rw [if_neg e, if_neg e]
section
variable {T P M C c d : Nat} {ca ga hs cs : Int64} {sg : Int32} {K A L R B PN pa pA st wt du : Nat → Int32} {ce : Nat → Int64} {H : Nat → Int32} {V : Nat → Int64}
theorem yy_not {post : SY → Prop} (h24 : c ≤ 24) (hd : d ≤ 6) (KK : ∀ pA' : Nat → Int32, (∀ n, n < c → pA' (24 * d + n) = PN n) → (∀ j, j < 24 * d → pA' j = pA j) → post (nI T, nI P, nI M, nI C, nI c, nI d, sg, ca, ga, hs, cs, K, A, L, R, B, PN, pa, pA', st, wt, du, ce)) : wpY_notePins post (nI T, nI P, nI M, nI C, nI c, nI d, sg, ca, ga, hs, cs, K, A, L, R, B, PN, pa, pA, st, wt, du, ce) := by
  have go : ∀ (g i : Nat) (pA' : Nat → Int32), c < g + i → i ≤ c → (∀ n, n < i → pA' (24 * d + n) = PN n) → (∀ j, j < 24 * d → pA' j = pA j) → wY_notePins_2 post (nI T) (nI P) (nI M) (nI C) (nI c) (nI d) sg ca ga hs cs g (nI i) K A L R B PN pa pA' st wt du ce := by
    intro g
    induction g with
    | zero => intro i _ h1 h2; omega
    | succ g ih =>
      intro i pA' hf hi J1 J2
      rw [wY_notePins_2]
      by_cases e : c ≤ i
      · refine br_t (nI_le e (by omega)) (KK pA' ?_ J2)
        intro n hn; exact J1 n (by omega)
      · refine br_f (nI_ge (by omega) (by omega)) ?_
        rw [nu_24, nI_clamp (n := i) (by omega), nI_clamp (n := 24 * d + i) (by omega)]
        refine ⟨vp_in_nI (by omega) (by decide), vp_in_nI (by omega) (by decide), nm_e (nm_r (nI_1 i) (ih (i + 1) _ (by omega) (by omega) ?_ ?_))⟩
        · intro n hn
          by_cases g : n = i
          · subst g; exact pk_us
          · rw [pk_un (by omega)]; exact J1 n (by omega)
        · intro j hj
          rw [pk_un (by omega)]; exact J2 j hj
  exact ⟨c + 1, go (c + 1) 0 pA (by omega) (by omega) (fun n hn => by omega) (fun _ _ => rfl)⟩
theorem yy_ups {post : Int32 → Prop} {t : Nat} (ht : t ≤ 6) (h : post (nI (rn_up pa t))) : wpY_upsBy post (nI T, nI P, nI M, nI C, nI c, nI d, sg, ca, ga, hs, cs, K, A, L, R, B, PN, pa, pA, st, wt, du, ce) (nI t) := by
  have go : ∀ g i : Nat, t < g + i → i ≤ t → wY_upsBy_4 post (nI t) (nI T) (nI P) (nI M) (nI C) (nI c) (nI d) sg ca ga hs cs K A L R B PN pa pA st wt du ce g (nI (rn_up pa i)) (nI i) := by
    intro g
    induction g with
    | zero => intro i h1 h2; omega
    | succ g ih =>
      intro i hf hi
      rw [wY_upsBy_4]
      by_cases e : t ≤ i
      · have : i = t := by omega
        subst this
        exact br_t (nI_le e (by omega)) h
      · have nx := ih (i + 1) (by omega) (by omega)
        have es : rn_up pa (i + 1) = rn_up pa i + (if pa i = 1 then 1 else 0) := rfl
        rw [es] at nx
        refine br_f (nI_ge (by omega) (by omega)) (br_f (nI_ge (b := 6) (by omega) (by decide)) ⟨vp_in_nI (by omega) (by decide), ?_⟩)
        rw [nI_clamp (n := i) (by omega)]
        by_cases z : pa i = 1
        · rw [if_pos z] at nx
          exact br_t z (nm_r (nI_1 _) (nm_r (nI_1 i) nx))
        · rw [if_neg z] at nx
          exact br_f z (nm_r (nI_1 i) nx)
  exact ⟨t + 1, go (t + 1) 0 (by omega) (by omega)⟩
theorem yy_hand {post : SY → Prop} {x w : Int32} (h24 : c ≤ 24) (hx : x = -1 ∨ ∃ l, l < c ∧ x = nI l) (h : post (nI T, nI P, nI M, nI C, nI c, nI d, sg, ca, ga, hs, cs, K, A, L, R, B, PN, pa, pA, st, dt_w1 true x w wt, dt_w1 true x 1 du, ce)) : wpY_hand post (nI T, nI P, nI M, nI C, nI c, nI d, sg, ca, ga, hs, cs, K, A, L, R, B, PN, pa, pA, st, wt, du, ce) x w := by
  unfold wpY_hand
  rcases hx with rfl | ⟨l, hl, rfl⟩
  · rw [w1_m, w1_m] at h
    exact br_t nu_m1lt h
  · rw [w1_t (by omega), w1_t (by omega)] at h
    refine br_f (nI_pos (by omega)) (br_t (nI_lt hl (by omega)) ?_)
    rw [nI_clamp (n := l) (by omega), nu_vb1]
    exact ⟨vp_in_nI (by omega) (by decide), nm_e ⟨vp_in_nI (by omega) (by decide), nm_e h⟩⟩
theorem yy_c62 {post : Int32 → SY → Prop} {n : Nat} {z : Int32} {u v : Int64} (hn : n < 24) (hw : (wt n).toInt ≠ -2147483648) (hz : z = 0 ∨ z = 1) (h : post z (nI T, nI P, nI M, nI C, nI c, nI d, sg, ca, ga, hs + (if wt n ≤ 0 then 0 else (wt n).toInt64 * (v - u)), cs + (if wt n ≤ 0 then -((wt n).toInt64 * (v - u)) else 0), K, A, L, R, B, PN, pa, pA, st, wt, du, ce)) : wY_choose_62 post (nI n) z u v (nI T) (nI P) (nI M) (nI C) (nI c) (nI d) sg ca ga hs cs K A L R B PN pa pA st wt du ce := by
  have hz' : narrow .boolean (.int z) = .int z := by rcases hz with rfl | rfl <;> rfl
  have i := vp_in_nI hn (N := 24) (by decide)
  unfold wY_choose_62 wY_choose_93
  rw [nI_clamp (n := n) (by omega)]
  refine nm_e ⟨i, ?_⟩
  by_cases e : wt n ≤ 0
  · rw [if_pos e, if_pos e, Int64.add_zero] at h
    refine br_t e ⟨i, ?_⟩
    by_cases e2 : 0 ≤ wt n
    · have e0 : wt n = 0 := by
        apply Int32.toInt_inj.mp
        rw [Int32.le_iff_toInt_le] at e e2
        have : (0 : Int32).toInt = 0 := by decide
        omega
      rw [e0, show (0 : Int32).toInt64 = 0 from by decide, Int64.zero_mul, Int64.neg_zero, Int64.add_zero] at h
      exact br_t e2 ⟨hz', h⟩
    · rw [← Int64.neg_mul, ← nu_negw hw] at h
      exact br_f e2 ⟨i, nm_e ⟨hz', h⟩⟩
  · rw [if_neg e, if_neg e, Int64.add_zero] at h
    have e2 : 0 ≤ wt n := by
      rw [Int32.le_iff_toInt_le] at e ⊢
      omega
    exact br_f e ⟨i, nm_e ⟨i, br_t e2 ⟨hz', h⟩⟩⟩
theorem yy_c36 {post : Int32 → SY → Prop} {n : Nat} {pv : Int32} {g : Bool} {a b : Int64} (hn : n < 24) (hw : (wt n).toInt ≠ -2147483648) (hg : dt_fs pv a b = g) (h : post (if g = true then 1 else 0) (nI T, nI P, nI M, nI C, nI c, nI d, sg, ca, ga, hs + (if wt n ≤ 0 then 0 else (wt n).toInt64 * dt_lo pv a b), cs + (if wt n ≤ 0 then -((wt n).toInt64 * dt_lo pv a b) else 0), K, A, L, R, B, PN, pa, pA, st, wt, du, ce)) : wY_choose_36 post (nI n) a b (if g = true then 1 else 0) (nI T) (nI P) (nI M) (nI C) (nI c) (nI d) sg ca ga hs cs K A L R B PN pa pA st wt du ce := by
  unfold wY_choose_36
  unfold dt_lo at h
  rw [hg] at h
  have g51 : wY_choose_51 post (nI n) a b (if g = true then 1 else 0) (dt_gt a b) (nI T) (nI P) (nI M) (nI C) (nI c) (nI d) sg ca ga hs cs K A L R B PN pa pA st wt du ce := by
    unfold wY_choose_51
    cases g with
    | true => exact br_f (by decide) (yy_c62 hn hw (Or.inr rfl) h)
    | false => exact br_t (by decide) (yy_c62 hn hw (Or.inl rfl) h)
  unfold dt_gt at g51
  by_cases e : a ≤ b
  · rw [if_pos e] at g51; exact br_t e g51
  · rw [if_neg e] at g51; exact br_f e g51
theorem yy_cho {post : Int32 → SY → Prop} {n t : Nat} {a b : Int64} (hn : n < 24) (ht : t ≤ 6) (hw : (wt n).toInt ≠ -2147483648) (h : post (if dt_fs (rn_pn pA t n) a b = true then 1 else 0) (nI T, nI P, nI M, nI C, nI c, nI d, sg, ca, ga, hs + (if wt n ≤ 0 then 0 else (wt n).toInt64 * dt_lo (rn_pn pA t n) a b), cs + (if wt n ≤ 0 then -((wt n).toInt64 * dt_lo (rn_pn pA t n) a b) else 0), K, A, L, R, B, PN, pa, pA, st, wt, du, ce)) : wpY_choose post (nI T, nI P, nI M, nI C, nI c, nI d, sg, ca, ga, hs, cs, K, A, L, R, B, PN, pa, pA, st, wt, du, ce) (nI n) (nI t) a b := by
  unfold wpY_choose
  dsimp only
  rw [nu_24, nI_clamp (n := 24 * t + n) (by omega)]
  refine ⟨vp_in_nI (by omega) (by decide), nm_r (e' := rn_pn pA t n) rfl ?_⟩
  generalize rn_pn pA t n = pv at h ⊢
  unfold wY_choose_31 wY_choose_35
  by_cases h1 : pv = 1
  · have hg : dt_fs pv a b = true := by unfold dt_fs; rw [decide_eq_true h1]; rfl
    rw [hg] at h
    exact br_t h1 (yy_c36 (g := true) hn hw hg h)
  · refine br_f h1 ?_
    by_cases h0 : pv = 0
    · refine br_t h0 ?_
      by_cases hl : a < b
      · have hg : dt_fs pv a b = false := by unfold dt_fs; rw [decide_eq_false h1, decide_eq_true hl, Bool.false_or]; simp
        rw [hg] at h
        exact br_t hl (yy_c36 (g := false) hn hw hg h)
      · have hg : dt_fs pv a b = true := by unfold dt_fs; rw [decide_eq_true h0, decide_eq_false hl]; simp
        rw [hg] at h
        exact br_f hl (yy_c36 (g := true) hn hw hg h)
    · have hg : dt_fs pv a b = false := by unfold dt_fs; rw [decide_eq_false h1, decide_eq_false h0]; simp
      rw [hg] at h
      exact br_f h0 (yy_c36 (g := false) hn hw hg h)
theorem yy_deal {post : SY → Prop} {n t : Nat} (h24 : c ≤ 24) (hT : T ≤ 6) (tr : dt_tr c L R) (hz : hz_I c T K A L R H 0) (pe : ∀ n, n + 1 < c → ∃ p, p < c ∧ (L p = nI n ∨ R p = nI n)) (hK : ∃ q, q ≤ 10 ∧ K n = nI q) (hn : n < c) (ht : t ≤ T) (hce : yy_ce c T ce V) (hw : (wt n).toInt ≠ -2147483648)
    (h : post (nI T, nI P, nI M, nI C, nI c, nI d, 1, ca + dt_dC T P M K A L R H (rn_pn pA t) V t (rn_up pa t) n (wt n), ga, hs + dt_dH T P M K A L R H (rn_pn pA t) V t (rn_up pa t) n (wt n), cs + dt_dX T P M K A L R H (rn_pn pA t) V t (rn_up pa t) n (wt n), K, A, L, R, B, PN, pa, pA, upd st n (dt_st T P M K A L R H (rn_pn pA t) V t (rn_up pa t) n), dt_w1 (dt_gr T P M K A L R H (rn_pn pA t) V t (rn_up pa t) n) (R n) (dt_hw T P M K A L R H (rn_pn pA t) V t (rn_up pa t) n (wt n)) (dt_w1 (dt_gl T P M K A L R H (rn_pn pA t) V t (rn_up pa t) n) (L n) (dt_hw T P M K A L R H (rn_pn pA t) V t (rn_up pa t) n (wt n)) wt), dt_w1 (dt_gr T P M K A L R H (rn_pn pA t) V t (rn_up pa t) n) (R n) 1 (dt_w1 (dt_gl T P M K A L R H (rn_pn pA t) V t (rn_up pa t) n) (L n) 1 (upd du n 0)), ce)) : wpY_deal post (nI T, nI P, nI M, nI C, nI c, nI d, 1, ca, ga, hs, cs, K, A, L, R, B, PN, pa, pA, st, wt, du, ce) (nI n) (nI t) := by
  have i := vp_in_nI (n := n) (N := 24) (by omega) (by decide)
  have hk := up_le (pa := pa) t
  obtain ⟨tl, tr'⟩ := tr.1 n hn
  have hL : L n = -1 ∨ ∃ l, l < c ∧ L n = nI l := by
    rcases tl with x | ⟨l, x, y⟩
    · exact Or.inl x
    · exact Or.inr ⟨l, by omega, y⟩
  have hR : R n = -1 ∨ ∃ l, l < c ∧ R n = nI l := by
    rcases tr' with x | ⟨l, x, y⟩
    · exact Or.inl x
    · exact Or.inr ⟨l, by omega, y⟩
  unfold wpY_deal
  dsimp only
  rw [nI_clamp (n := n) (by omega)]
  refine yy_ups (by omega) ?_
  unfold wpY_priceAt
  refine yy_hor h24 hT tr hz pe hn ⟨i, nm_e ⟨i, nm_e ⟨i, nm_e ⟨i, ?_⟩⟩⟩⟩
  refine yy_val h24 hT hL ht hk ⟨i, yy_val h24 hT hR ht hk (yy_exp h24 hT hn ht hk ⟨i, ?_⟩)⟩
  rw [ce_vv hce h24 hL ht hk, ce_vv hce h24 hR ht hk, ce_ex hce hn hk, nu_vb0]
  refine nm_e ⟨i, nm_e ?_⟩
  by_cases hh : nI t ≤ H n
  · refine br_t hh ?_
    obtain ⟨q, hq, hK⟩ := hK
    have hq' : q = 0 ∨ q = 1 ∨ q = 2 ∨ q = 3 ∨ q = 4 ∨ q = 5 ∨ q = 6 ∨ q = 7 ∨ q = 8 ∨ q = 9 ∨ q = 10 := by omega
    rcases hq' with rfl | rfl | rfl | rfl | rfl | rfl | rfl | rfl | rfl | rfl | rfl
    · have hK : K n = 0 := hK
      obtain ⟨e1, e2, e3, e4, e5, e6, e7⟩ := tb_0 (P := P) (M := M) (A := A) (L := L) (R := R) (T := T) (k := rn_up pa t) (V := V) (pn := rn_pn pA t) hK hh
      simp only [e1, e2, e3, e5, e6, e7, w1_f, Int64.add_zero, Int64.neg_zero, ite_self] at h
      rw [hK]
      repeat (first | refine br_t (by decide) ?_ | refine br_f (by decide) ?_)
      exact h
    · have hK : K n = 1 := hK
      obtain ⟨e1, e2, e3, e4, e5, e6, e7⟩ := tb_1 (P := P) (M := M) (A := A) (L := L) (R := R) (T := T) (k := rn_up pa t) (V := V) (pn := rn_pn pA t) hK hh
      simp only [e1, e2, e3, e5, e6, e7, w1_f, Int64.add_zero, Int64.neg_zero, ite_self] at h
      rw [hK]
      repeat (first | refine br_t (by decide) ?_ | refine br_f (by decide) ?_)
      rw [← Int64.mul_assoc] at h
      exact nm_e h
    · have hK : K n = 2 := hK
      obtain ⟨e1, e2, e3, e4, e5, e6, e7⟩ := tb_2 (P := P) (M := M) (A := A) (L := L) (R := R) (T := T) (k := rn_up pa t) (V := V) (pn := rn_pn pA t) hK hh
      simp only [e1, e2, e3, e4 _ (Or.inl rfl), e5, e6, e7, w1_f, Int64.add_zero, Int64.neg_zero, ite_self] at h
      rw [hK]
      repeat (first | refine br_t (by decide) ?_ | refine br_f (by decide) ?_)
      exact ⟨i, yy_hand h24 hL h⟩
    · have hK : K n = 3 := hK
      obtain ⟨e1, e2, e3, e4, e5, e6, e7⟩ := tb_3 (P := P) (M := M) (A := A) (L := L) (R := R) (T := T) (k := rn_up pa t) (V := V) (pn := rn_pn pA t) hK hh
      simp only [e1, e2, e3, e4 _ (Or.inl rfl), e5, e6, e7, w1_f, Int64.add_zero, Int64.neg_zero, ite_self] at h
      rw [hK]
      repeat (first | refine br_t (by decide) ?_ | refine br_f (by decide) ?_)
      exact ⟨i, yy_hand h24 hL h⟩
    · have hK : K n = 4 := hK
      obtain ⟨e1, e2, e3, e4, e5, e6, e7⟩ := tb_4 (P := P) (M := M) (A := A) (L := L) (R := R) (T := T) (k := rn_up pa t) (V := V) (pn := rn_pn pA t) hK hh
      simp only [e1, e2, e3, e4 _ (Or.inl rfl), e5, e6, e7, w1_f, Int64.add_zero, Int64.neg_zero, ite_self] at h
      rw [hK]
      repeat (first | refine br_t (by decide) ?_ | refine br_f (by decide) ?_)
      exact ⟨i, yy_hand h24 hL h⟩
    · have hK : K n = 5 := hK
      obtain ⟨e1, e2, e3, e4, e5, e6, e7⟩ := tb_5 (P := P) (M := M) (A := A) (L := L) (R := R) (T := T) (k := rn_up pa t) (V := V) (pn := rn_pn pA t) hK hh
      simp only [e1, e2, e3, e4 _ (Or.inl rfl), e5, e6, e7, Int64.add_zero, Int64.neg_zero, ite_self] at h
      rw [hK]
      repeat (first | refine br_t (by decide) ?_ | refine br_f (by decide) ?_)
      exact ⟨i, yy_hand h24 hL ⟨i, yy_hand h24 hR h⟩⟩
    · have hK : K n = 6 := hK
      obtain ⟨e1, e2, e3, e4, e5, e6, e7⟩ := tb_6 (P := P) (M := M) (A := A) (L := L) (R := R) (T := T) (k := rn_up pa t) (V := V) (pn := rn_pn pA t) hK hh
      rw [hK]
      repeat (first | refine br_t (by decide) ?_ | refine br_f (by decide) ?_)
      refine yy_cho (by omega) (by omega) hw ?_
      dsimp only
      cases g : dt_fE T P M K A L R H (rn_pn pA t) V t (rn_up pa t) n with
      | true =>
        rw [g] at e2 e3
        simp only [e1, e2, e3, e4 _ (Or.inl g), e5, e6, e7, Bool.not_true, w1_f, Int64.add_zero] at h
        have g' : dt_fs (rn_pn pA t n) (dt_vv V (L n) t (rn_up pa t)) (dt_vv V (R n) t (rn_up pa t)) = true := g
        rw [g', if_pos rfl]
        refine br_f (by decide) ⟨i, ?_⟩
        unfold wY_deal_347
        exact yy_hand h24 hL h
      | false =>
        rw [g] at e2 e3
        simp only [e1, e2, e3, e4 _ (Or.inr (by rw [g]; rfl)), e5, e6, e7, Bool.not_false, w1_f, Int64.add_zero] at h
        have g' : dt_fs (rn_pn pA t n) (dt_vv V (L n) t (rn_up pa t)) (dt_vv V (R n) t (rn_up pa t)) = false := g
        rw [g', if_neg Bool.false_ne_true]
        refine br_t (by decide) ⟨i, ?_⟩
        unfold wY_deal_347
        exact yy_hand h24 hR h
    · have hK : K n = 7 := hK
      obtain ⟨e1, e2, e3, e4, e5, e6, e7⟩ := tb_7 (P := P) (M := M) (A := A) (L := L) (R := R) (T := T) (k := rn_up pa t) (V := V) (pn := rn_pn pA t) hK hh
      rw [hK]
      repeat (first | refine br_t (by decide) ?_ | refine br_f (by decide) ?_)
      unfold wY_deal_299
      by_cases g : dt_px P M t (rn_up pa t) < A n
      · rw [decide_eq_true g] at e2 e3
        simp only [e1, e2, e3, e4 _ (Or.inr (decide_eq_true g)), e5, e6, e7, Bool.not_true, w1_f, Int64.add_zero, Int64.neg_zero, ite_self] at h
        exact br_t g ⟨i, yy_hand h24 hR h⟩
      · rw [decide_eq_false g] at e2 e3
        simp only [e1, e2, e3, e4 _ (Or.inl (by rw [decide_eq_false g]; rfl)), e5, e6, e7, Bool.not_false, w1_f, Int64.add_zero, Int64.neg_zero, ite_self] at h
        exact br_f g ⟨i, yy_hand h24 hL h⟩
    · have hK : K n = 8 := hK
      rw [hK]
      repeat (first | refine br_t (by decide) ?_ | refine br_f (by decide) ?_)
      by_cases ha : nI t ≤ A n
      · refine br_t ha ?_
        by_cases hb : nI t = A n
        · obtain ⟨e1, e2, e3, e4, e5, e6, e7⟩ := tb_8e (P := P) (M := M) (L := L) (R := R) (T := T) (k := rn_up pa t) (V := V) (pn := rn_pn pA t) hK hh hb
          simp only [e1, e2, e3, e4 _ (Or.inl rfl), e5, e6, e7, w1_f, Int64.add_zero, Int64.neg_zero, ite_self] at h
          refine br_t ?_ ⟨i, yy_hand h24 hL h⟩
          rw [hb]; exact Int32.le_refl _
        · obtain ⟨e1, e2, e3, e4, e5, e6, e7⟩ := tb_8w (P := P) (M := M) (L := L) (R := R) (T := T) (k := rn_up pa t) (V := V) (pn := rn_pn pA t) hK hh ha hb
          simp only [e1, e2, e3, e5, e6, e7, w1_f, Int64.add_zero, Int64.neg_zero, ite_self] at h
          refine br_f ?_ ⟨i, nm_r up_up h⟩
          intro z
          exact hb (Int32.le_antisymm ha z)
      · obtain ⟨e1, e2, e3, e4, e5, e6, e7⟩ := tb_8l (P := P) (M := M) (L := L) (R := R) (T := T) (k := rn_up pa t) (V := V) (pn := rn_pn pA t) hK hh ha
        simp only [e1, e2, e3, e5, e6, e7, w1_f, Int64.add_zero, Int64.neg_zero, ite_self] at h
        exact br_f ha ⟨i, nm_r up_up h⟩
    · have hK : K n = 9 := hK
      obtain ⟨e1, e2, e3, e4, e5, e6, e7⟩ := tb_9 (P := P) (M := M) (A := A) (L := L) (R := R) (T := T) (k := rn_up pa t) (V := V) (pn := rn_pn pA t) hK hh
      simp only [e1, e2, e3, e4 _ (Or.inl rfl), e5, e6, e7, w1_f, Int64.add_zero, Int64.neg_zero, ite_self] at h
      rw [hK]
      repeat (first | refine br_t (by decide) ?_ | refine br_f (by decide) ?_)
      exact ⟨i, yy_hand h24 hL h⟩
    · have hK : K n = 10 := hK
      rw [hK]
      repeat (first | refine br_t (by decide) ?_ | refine br_f (by decide) ?_)
      unfold wY_deal_435
      by_cases hb : H n ≤ nI t
      · obtain ⟨e1, e2, e3, e4, e5, e6, e7⟩ := tb_10e (P := P) (M := M) (A := A) (L := L) (R := R) (T := T) (k := rn_up pa t) (V := V) (pn := rn_pn pA t) hK hh hb
        simp only [e1, e2, e3, e4 _ (Or.inl rfl), e5, e6, e7, w1_f, Int64.add_zero, Int64.neg_zero, ite_self] at h
        refine br_t (Int32.le_antisymm hh hb) ⟨i, ?_⟩
        rw [nI_clamp (n := n) (by omega)]
        exact yy_hand h24 hL h
      · obtain ⟨e1, e2, e3, e4, e5, e6, e7⟩ := tb_10c (P := P) (M := M) (A := A) (L := L) (R := R) (T := T) (k := rn_up pa t) (V := V) (pn := rn_pn pA t) hK hh hb
        refine br_f ?_ (yy_cho (by omega) (by omega) hw ?_)
        · intro z
          exact hb (by rw [z]; exact Int32.le_refl _)
        · dsimp only
          cases g : dt_fA T P M K A L R H (rn_pn pA t) V t (rn_up pa t) n with
          | true =>
            rw [g] at e1 e2
            simp only [e1, e2, e3, e4 _ (Or.inl g), e5, e6, e7, w1_f, Int64.add_zero, if_true] at h
            have g' : dt_fs (rn_pn pA t n) (dt_vv V (L n) t (rn_up pa t)) (dt_ex T V n t (rn_up pa t)) = true := g
            rw [g', if_pos rfl]
            refine br_f (by decide) ⟨i, ?_⟩
            rw [nI_clamp (n := n) (by omega)]
            exact yy_hand h24 hL h
          | false =>
            rw [g] at e1 e2
            simp only [e1, e2, e3, e5, e6, e7, w1_f, Int64.add_zero, Bool.false_eq_true, if_false] at h
            have g' : dt_fs (rn_pn pA t n) (dt_vv V (L n) t (rn_up pa t)) (dt_ex T V n t (rn_up pa t)) = false := g
            rw [g', if_neg Bool.false_ne_true]
            exact br_t (by decide) ⟨i, nm_r up_up h⟩
  · obtain ⟨e1, e2, e3, e4, e5, e6, e7⟩ := tb_lap (P := P) (M := M) (K := K) (A := A) (L := L) (R := R) (T := T) (k := rn_up pa t) (V := V) (pn := rn_pn pA t) hh
    simp only [e1, e2, e3, e5, e6, e7, w1_f, Int64.add_zero, Int64.neg_zero, ite_self] at h
    exact br_f hh ⟨i, nm_r up_up h⟩
end
end
section
/-! Y: sums over the waiting nodes; a day; the whole replay -/
section
variable {T P M C c d : Nat} {ca ga hs cs : Int64} {sg : Int32} {K A L R B PN pa pA st wt du : Nat → Int32} {ce : Nat → Int64} {H : Nat → Int32} {V : Nat → Int64}
theorem yy_stk {post : Int64 → Prop} {t : Nat} {b : Nat → Nat} (h24 : c ≤ 24) (hT : T ≤ 6) (ht : t ≤ T) (hce : yy_ce c T ce V) (hg : vg_ok c T V b) (hb : ∀ n, n < c → 1 ≤ b n ∧ b n ≤ 1000000) (hw : ∀ n, n < c → st n = 1 → wk_k b n (wt n)) (h : post (rn_sk c T V t (rn_up pa t) st wt)) : wpY_stake post (nI T, nI P, nI M, nI C, nI c, nI d, 1, ca, ga, hs, cs, K, A, L, R, B, PN, pa, pA, st, wt, du, ce) (nI t) := by
  have hk := up_le (pa := pa) t
  have go : ∀ g i : Nat, c < g + i → i ≤ c → wY_stake_12 post (nI t) (nI (rn_up pa t)) (nI T) (nI P) (nI M) (nI C) (nI c) (nI d) 1 ca ga hs cs K A L R B PN pa pA st wt du ce g (dt_sm (fun n => if st n = 1 then (wt n).toInt64 * dt_hp T V n t (rn_up pa t) else 0) i) (nI i) := by
    intro g
    induction g with
    | zero => intro i h1 h2; omega
    | succ g ih =>
      intro i hf hi
      rw [wY_stake_12]
      by_cases e : c ≤ i
      · have : i = c := by omega
        subst this
        exact br_t (nI_le e (by omega)) h
      · have iv := vp_in_nI (n := i) (N := 24) (by omega) (by decide)
        have nx := ih (i + 1) (by omega) (by omega)
        have es : dt_sm (fun n => if st n = 1 then (wt n).toInt64 * dt_hp T V n t (rn_up pa t) else 0) (i + 1) = dt_sm (fun n => if st n = 1 then (wt n).toInt64 * dt_hp T V n t (rn_up pa t) else 0) i + (if st i = 1 then (wt i).toInt64 * dt_hp T V i t (rn_up pa t) else 0) := rfl
        rw [es] at nx
        refine br_f (nI_ge (by omega) (by omega)) ⟨iv, ?_⟩
        rw [nI_clamp (n := i) (by omega)]
        by_cases z : st i = 1
        · rw [if_pos z] at nx
          refine br_t z ⟨iv, ?_⟩
          rw [nI_1 t, nI_1 (rn_up pa t)]
          unfold dt_hp at nx
          by_cases e2 : t < T
          · rw [if_pos e2] at nx
            refine yy_val h24 hT (Or.inr ⟨i, by omega, rfl⟩) (by omega) (by omega) (yy_val h24 hT (Or.inr ⟨i, by omega, rfl⟩) (by omega) (by omega) ?_)
            rw [vv_nI (by omega), vv_nI (by omega), hce i (t + 1) (rn_up pa t + 1) (by omega) (by omega) (by omega), hce i (t + 1) (rn_up pa t) (by omega) (by omega) (by omega)]
            have bb := hb i (by omega)
            rw [← vg_stk (hg i (t + 1) (rn_up pa t + 1) (by omega) (by omega) (by omega)) (hg i (t + 1) (rn_up pa t) (by omega) (by omega) (by omega)) bb.2 (wk_lt (hw i (by omega) z) bb.1)] at nx
            exact ⟨by decide, nm_e (nm_r (nI_1 i) nx)⟩
          · rw [if_neg e2, Int64.mul_zero, Int64.add_zero] at nx
            refine yy_v0 h24 hT (by omega) (by omega) (by omega) (yy_v0 h24 hT (by omega) (by omega) (by omega) ⟨by decide, ?_⟩)
            have ez : ((wt i).toInt64 * ((0 : Int64) - 0)) / 2 = 0 := by
              rw [show (0 : Int64) - 0 = 0 from by decide, Int64.mul_zero]
              decide
            rw [ez, Int64.add_zero]
            exact nm_e (nm_r (nI_1 i) nx)
        · rw [if_neg z, Int64.add_zero] at nx
          exact br_f z (nm_r (nI_1 i) nx)
  unfold wpY_stake
  exact yy_ups (by omega) ⟨c + 1, go (c + 1) 0 (by omega) (by omega)⟩
theorem yy_res {post : Int64 → Prop} (h24 : c ≤ 24) (hT : T ≤ 6) (hd : d ≤ T) (hce : yy_ce c T ce V) (h : post (rn_rs c T V d (rn_up pa d) st wt)) : ∃ n, wY_account_103 post (nI (rn_up pa d)) (nI T) (nI P) (nI M) (nI C) (nI c) (nI d) 1 ca ga hs cs K A L R B PN pa pA st wt du ce n 0 0 := by
  have hk := up_le (pa := pa) d
  have go : ∀ g i : Nat, c < g + i → i ≤ c → wY_account_103 post (nI (rn_up pa d)) (nI T) (nI P) (nI M) (nI C) (nI c) (nI d) 1 ca ga hs cs K A L R B PN pa pA st wt du ce g (dt_sm (fun n => if st n = 1 then (wt n).toInt64 * dt_ex T V n d (rn_up pa d) else 0) i) (nI i) := by
    intro g
    induction g with
    | zero => intro i h1 h2; omega
    | succ g ih =>
      intro i hf hi
      rw [wY_account_103]
      by_cases e : c ≤ i
      · have : i = c := by omega
        subst this
        exact br_t (nI_le e (by omega)) h
      · have iv := vp_in_nI (n := i) (N := 24) (by omega) (by decide)
        have nx := ih (i + 1) (by omega) (by omega)
        have es : dt_sm (fun n => if st n = 1 then (wt n).toInt64 * dt_ex T V n d (rn_up pa d) else 0) (i + 1) = dt_sm (fun n => if st n = 1 then (wt n).toInt64 * dt_ex T V n d (rn_up pa d) else 0) i + (if st i = 1 then (wt i).toInt64 * dt_ex T V i d (rn_up pa d) else 0) := rfl
        rw [es] at nx
        refine br_f (nI_ge (by omega) (by omega)) ⟨iv, ?_⟩
        rw [nI_clamp (n := i) (by omega)]
        by_cases z : st i = 1
        · rw [if_pos z] at nx
          refine br_t z ⟨iv, yy_exp h24 hT (by omega) hd hk ?_⟩
          rw [ce_ex hce (by omega) hk]
          exact nm_e (nm_r (nI_1 i) nx)
        · rw [if_neg z, Int64.add_zero] at nx
          exact br_f z (nm_r (nI_1 i) nx)
  exact ⟨c + 1, go (c + 1) 0 (by omega) (by omega)⟩
theorem yy_day {post : SY → Prop} {J : _} {t : Nat} {S0 : Nat → Bool} {s : rn_S} {b : Nat → Nat} (h24 : c ≤ 24) (hT : T ≤ 6) (tr : dt_tr c L R) (hz : hz_I c T K A L R H 0) (pe : ∀ n, n + 1 < c → ∃ p, p < c ∧ (L p = nI n ∨ R p = nI n)) (hKK : ∀ n, n < c → ∃ q, q ≤ 10 ∧ K n = nI q) (ht : t ≤ T) (hce : yy_ce c T ce V)
    (hb : ∀ n, n < c → 1 ≤ b n) (hS : ∀ n, n < c → S0 n = true → n < dt_pr L R n c → dt_pr L R n c < c → dt_ac c L R (dt_gl T P M K A L R H (rn_pn pA t) V t (rn_up pa t)) (dt_gr T P M K A L R H (rn_pn pA t) V t (rn_up pa t)) S0 (dt_pr L R n c) = false)
    (hW : ∀ n, n < c → dt_ac c L R (dt_gl T P M K A L R H (rn_pn pA t) V t (rn_up pa t)) (dt_gr T P M K A L R H (rn_pn pA t) V t (rn_up pa t)) S0 n = true → wk_k b n (dt_wt c L R (dt_hw T P M K A L R H (rn_pn pA t) V t (rn_up pa t)) S0 s.2.1 n))
    (KK : ∀ st' wt' du' : Nat → Int32, (∀ n, n < c → st' n = (rn_dt c T P M K A L R H (rn_pn pA t) V t (rn_up pa t) S0 s).1 n) → (∀ n, n < c → wt' n = (rn_dt c T P M K A L R H (rn_pn pA t) V t (rn_up pa t) S0 s).2.1 n) → (∀ n, n < c → du' n = 0) → J (nI (t + 1)) (nI T) (nI P) (nI M) (nI C) (nI c) (nI d) 1 ((rn_dt c T P M K A L R H (rn_pn pA t) V t (rn_up pa t) S0 s).2.2.1) ga ((rn_dt c T P M K A L R H (rn_pn pA t) V t (rn_up pa t) S0 s).2.2.2.2.1) ((rn_dt c T P M K A L R H (rn_pn pA t) V t (rn_up pa t) S0 s).2.2.2.2.2) K A L R B PN pa pA st' wt' du' ce) :
    ∀ (j g : Nat) (vis pnd : Nat → Bool) (st wt du : Nat → Int32) (ca hs cs : Int64), j < g → j ≤ c → sc_I c L R (dt_ac c L R (dt_gl T P M K A L R H (rn_pn pA t) V t (rn_up pa t)) (dt_gr T P M K A L R H (rn_pn pA t) V t (rn_up pa t)) S0) (dt_wt c L R (dt_hw T P M K A L R H (rn_pn pA t) V t (rn_up pa t)) S0 s.2.1) S0 (dt_st T P M K A L R H (rn_pn pA t) V t (rn_up pa t)) s.1 s.2.1 (fun n => dt_dC T P M K A L R H (rn_pn pA t) V t (rn_up pa t) n (dt_wt c L R (dt_hw T P M K A L R H (rn_pn pA t) V t (rn_up pa t)) S0 s.2.1 n)) (fun n => dt_dH T P M K A L R H (rn_pn pA t) V t (rn_up pa t) n (dt_wt c L R (dt_hw T P M K A L R H (rn_pn pA t) V t (rn_up pa t)) S0 s.2.1 n)) (fun n => dt_dX T P M K A L R H (rn_pn pA t) V t (rn_up pa t) n (dt_wt c L R (dt_hw T P M K A L R H (rn_pn pA t) V t (rn_up pa t)) S0 s.2.1 n)) s.2.2.1 s.2.2.2.2.1 s.2.2.2.2.2 vis pnd st wt ca hs cs →
      (∀ m, m < c → pnd m = true → m < j) → (∀ m, m < j → ((¬ du m = 0 ∨ st m = 1) ↔ pnd m = true)) → (∀ m, j ≤ m → m < c → du m = 0) → wY_replay_122 post J (nI t) g (nI j + (-1)) (nI T) (nI P) (nI M) (nI C) (nI c) (nI d) 1 ca ga hs cs K A L R B PN pa pA st wt du ce := by
  intro j
  induction j with
  | zero =>
    intro g vis pnd st wt du ca hs cs hg hj I J1 J2 J3
    obtain ⟨f, rfl⟩ : ∃ f, g = f + 1 := ⟨g - 1, by omega⟩
    rw [wY_replay_122, nI_0]
    have he : ∀ m, m < c → pnd m = false := by
      intro m hm
      cases z : pnd m with
      | false => rfl
      | true => have := J1 m hm z; omega
    obtain ⟨a, b, c1, c2, c3⟩ := sc_end I he
    rw [c1, c2, c3]
    exact br_t (by decide) (nm_r (nI_1 t) (KK st wt du a b (fun n hn => J3 n (Nat.zero_le _) hn)))
  | succ j ih =>
    intro g vis pnd st wt du ca hs cs hg hj I J1 J2 J3
    obtain ⟨f, rfl⟩ : ∃ f, g = f + 1 := ⟨g - 1, by omega⟩
    have iv := vp_in_nI (n := j) (N := 24) (by omega) (by decide)
    rw [wY_replay_122, pk_m1]
    refine br_f (nI_pos (by omega)) ⟨iv, ?_⟩
    rw [nI_clamp (n := j) (by omega)]
    have deal : pnd j = true → wY_replay_145 post J (wY_replay_122 post J (nI t) f) (nI t) (nI j) (nI T) (nI P) (nI M) (nI C) (nI c) (nI d) 1 ca ga hs cs K A L R B PN pa pA st wt du ce := by
      intro hp
      have hm : j < c := by omega
      have fr := fun q hq hg => sc_fresh tr hS I h24 hm hp (m := q) hq hg
      obtain ⟨aj, sj, wj⟩ := I.2.1 j hm hp
      have wk := hW j hm aj
      rw [← wj] at wk
      have wl := wk_lt wk (hb j hm)
      obtain ⟨tl, tr'⟩ := tr.1 j hm
      have tl24 : L j = -1 ∨ ∃ l, l < 24 ∧ L j = nI l := by
        rcases tl with x | ⟨l, x, y⟩
        · exact Or.inl x
        · exact Or.inr ⟨l, by omega, y⟩
      have tr24 : R j = -1 ∨ ∃ l, l < 24 ∧ R j = nI l := by
        rcases tr' with x | ⟨l, x, y⟩
        · exact Or.inl x
        · exact Or.inr ⟨l, by omega, y⟩
      unfold wY_replay_145
      refine yy_deal (V := V) h24 hT tr hz pe (hKK j hm) hm ht hce (by omega) ?_
      have gnn : dt_gv L R (dt_gl T P M K A L R H (rn_pn pA t) V t (rn_up pa t)) (dt_gr T P M K A L R H (rn_pn pA t) V t (rn_up pa t)) j j = false := by
        cases z : dt_gv L R (dt_gl T P M K A L R H (rn_pn pA t) V t (rn_up pa t)) (dt_gr T P M K A L R H (rn_pn pA t) V t (rn_up pa t)) j j with
        | false => rfl
        | true => have := (fr j hm z).2.2.2.2; omega
      have duat : ∀ m, m < c → dt_w1 (dt_gr T P M K A L R H (rn_pn pA t) V t (rn_up pa t) j) (R j) 1 (dt_w1 (dt_gl T P M K A L R H (rn_pn pA t) V t (rn_up pa t) j) (L j) 1 (upd du j 0)) m = if dt_gv L R (dt_gl T P M K A L R H (rn_pn pA t) V t (rn_up pa t)) (dt_gr T P M K A L R H (rn_pn pA t) V t (rn_up pa t)) j m = true then 1 else upd du j 0 m := by
        intro m hm
        rw [w2_at tl24 tr24 (by omega)]
        rfl
      refine nm_e (ih f (fun m => vis m || decide (m = j)) (fun m => (pnd m && !decide (m = j)) || dt_gv L R (dt_gl T P M K A L R H (rn_pn pA t) V t (rn_up pa t)) (dt_gr T P M K A L R H (rn_pn pA t) V t (rn_up pa t)) j m) _ _ _ _ _ _ (by omega) (by omega) ?_ ?_ ?_ ?_)
      · refine sc_step tr h24 hS I hm hp (fun m _ => rfl) (fun m _ => rfl) ?_ ?_ ?_ ?_ ?_
        · intro m hm
          by_cases e : m = j
          · subst e; rw [pk_us, if_pos rfl]
          · rw [pk_un e, if_neg e]
        · intro m hm
          rw [w2_at tl24 tr24 (by omega)]
          rfl
        · rw [wj]
        · rw [wj]
        · rw [wj]
      · intro m hm hq
        cases z : dt_gv L R (dt_gl T P M K A L R H (rn_pn pA t) V t (rn_up pa t)) (dt_gr T P M K A L R H (rn_pn pA t) V t (rn_up pa t)) j m with
        | true => exact (fr m hm z).2.2.2.2
        | false =>
          rw [z] at hq
          simp at hq
          have := J1 m hm hq.1
          omega
      · intro m hm
        have hmc : m < c := by omega
        rw [duat m hmc, pk_un (show m ≠ j by omega), pk_un (show m ≠ j by omega)]
        cases z : dt_gv L R (dt_gl T P M K A L R H (rn_pn pA t) V t (rn_up pa t)) (dt_gr T P M K A L R H (rn_pn pA t) V t (rn_up pa t)) j m with
        | true =>
          rw [if_pos rfl, Bool.or_true]
          exact ⟨fun _ => rfl, fun _ => Or.inl (by decide)⟩
        | false =>
          rw [if_neg Bool.false_ne_true, Bool.or_false, decide_eq_false (show ¬ m = j by omega), Bool.not_false, Bool.and_true]
          exact J2 m (by omega)
      · intro m hm hmc
        rw [duat m hmc]
        have z : dt_gv L R (dt_gl T P M K A L R H (rn_pn pA t) V t (rn_up pa t)) (dt_gr T P M K A L R H (rn_pn pA t) V t (rn_up pa t)) j m = false := by
          cases z : dt_gv L R (dt_gl T P M K A L R H (rn_pn pA t) V t (rn_up pa t)) (dt_gr T P M K A L R H (rn_pn pA t) V t (rn_up pa t)) j m with
          | false => rfl
          | true => have := (fr m hmc z).2.2.2.2; omega
        rw [z, if_neg Bool.false_ne_true]
        by_cases e : m = j
        · subst e; exact pk_us
        · rw [pk_un e]; exact J3 m (by omega) hmc
    have skip : pnd j = false → du j = 0 → ∀ x : Int32, x = nI j + (-1) → wY_replay_122 post J (nI t) f x (nI T) (nI P) (nI M) (nI C) (nI c) (nI d) 1 ca ga hs cs K A L R B PN pa pA st wt du ce := by
      intro hp hd x hx
      rw [hx]
      refine ih f vis pnd st wt du ca hs cs (by omega) (by omega) I ?_ ?_ ?_
      · intro m hm hq
        have := J1 m hm hq
        by_cases e : m = j
        · subst e; rw [hp] at hq; exact (Bool.false_ne_true hq).elim
        · omega
      · intro m hm
        exact J2 m (by omega)
      · intro m hm hmc
        by_cases e : m = j
        · subst e; exact hd
        · exact J3 m (by omega) hmc
    have iff := J2 j (by omega)
    by_cases z1 : du j = 0
    · refine br_t z1 ⟨iv, ?_⟩
      by_cases z2 : st j = 1
      · exact br_t z2 (deal (iff.mp (Or.inr z2)))
      · refine br_f z2 (skip ?_ z1)
        cases z : pnd j with
        | false => rfl
        | true =>
          rcases iff.mpr z with w | w
          · exact (w z1).elim
          · exact (z2 w).elim
    · exact br_f z1 (deal (iff.mp (Or.inl z1)))
theorem yy_68 {post : SY → Prop} {b : Nat → Nat} (hP : P ≤ 100) (hM : M ≤ 10) (h1 : 1 ≤ c) (h24 : c ≤ 24) (hT : T ≤ 6) (hd : d ≤ T) (tr : dt_tr c L R) (hz : hz_I c T K A L R H 0) (pe : ∀ n, n + 1 < c → ∃ p, p < c ∧ (L p = nI n ∨ R p = nI n)) (hKK : ∀ n, n < c → ∃ q, q ≤ 10 ∧ K n = nI q) (hce : yy_ce c T ce V) (hg : vg_ok c T V b) (hb : vb_ok c T P M K A L R b)
    (KK : ∀ st' wt' du' : Nat → Int32, (∀ n, n < c → st' n = (rn c T P M K A L R H V pa pA d).1 n) → (∀ n, n < c → wt' n = (rn c T P M K A L R H V pa pA d).2.1 n) → post (nI T, nI P, nI M, nI C, nI c, nI d, 1, (rn c T P M K A L R H V pa pA d).2.2.1, (rn c T P M K A L R H V pa pA d).2.2.2.1, (rn c T P M K A L R H V pa pA d).2.2.2.2.1, (rn c T P M K A L R H V pa pA d).2.2.2.2.2, K, A, L, R, B, PN, pa, pA, st', wt', du', ce)) :
    ∀ (g t : Nat) (st wt du : Nat → Int32), d + 1 < g + t → t ≤ d → (∀ n, n < c → st n = (rn c T P M K A L R H V pa pA t).1 n) → (∀ n, n < c → wt n = (rn c T P M K A L R H V pa pA t).2.1 n) → (∀ n, n < c → du n = 0) → wY_replay_68 post g (nI (t + 1)) (nI T) (nI P) (nI M) (nI C) (nI c) (nI d) 1 ((rn c T P M K A L R H V pa pA t).2.2.1) ((rn c T P M K A L R H V pa pA t).2.2.2.1) ((rn c T P M K A L R H V pa pA t).2.2.2.2.1) ((rn c T P M K A L R H V pa pA t).2.2.2.2.2) K A L R B PN pa pA st wt du ce := by
  intro g
  induction g with
  | zero => intro t st wt du h1 h2; omega
  | succ g ih =>
    intro t st wt du hf ht es ew ed
    rw [wY_replay_68]
    by_cases e : d < t + 1
    · have : t = d := by omega
      subst this
      exact br_t (nI_lt e (by omega)) (KK st wt du es ew)
    · refine br_f (nI_nlt (by omega) (by omega)) (br_f (nI_nle (by omega) (by omega)) ?_)
      have rg := rg_rn (H := H) (V := V) (pa := pa) (pA := pA) hP hM hT hb tr h24 t (by omega)
      rw [nI_pred t]
      have skq : rn_sk c T V t (rn_up pa t) st wt = rn_sk c T V t (rn_up pa t) (rn c T P M K A L R H V pa pA t).1 (rn c T P M K A L R H V pa pA t).2.1 := by
        unfold rn_sk
        refine sm_c c ?_
        intro n hn
        rw [es n hn, ew n hn]
      refine yy_stk (V := V) (b := b) h24 hT (by omega) hce hg (fun n hn => ⟨(hb n hn).1, (hb n hn).2.1⟩) ?_ ⟨vp_in_nI (by omega) (by decide), ?_⟩
      · intro n hn h
        rw [ew n hn]
        exact rg.1 n hn (by rw [← es n hn]; exact h)
      · rw [nI_clamp (n := t) (by omega), skq]
        have hs1 : ∀ n, n < c → rn_W (rn c T P M K A L R H V pa pA t) n = true → (rn c T P M K A L R H V pa pA t).1 n = 1 := by
          intro n _ h
          exact of_decide_eq_true h
        have day : ∀ ga' : Int64, ga' = (rn c T P M K A L R H V pa pA (t + 1)).2.2.2.1 → ∃ n122 : Nat, wY_replay_122 post (wY_replay_68 post g) (nI (t + 1)) n122 (nI c + (-1)) (nI T) (nI P) (nI M) (nI C) (nI c) (nI d) 1 ((rn c T P M K A L R H V pa pA t).2.2.1) ga' ((rn c T P M K A L R H V pa pA t).2.2.2.2.1) ((rn c T P M K A L R H V pa pA t).2.2.2.2.2) K A L R B PN pa pA st wt du ce := by
          intro ga' hga
          subst hga
          refine ⟨c + 1, yy_day (t := t + 1) (V := V) (H := H) (b := b) (S0 := rn_W (rn c T P M K A L R H V pa pA t)) (s := rn_ga c T V pa t (rn c T P M K A L R H V pa pA t)) h24 hT tr hz pe hKK (by omega) hce (fun n hn => (hb n hn).1) (rg_S rg.2 hs1) ?_ ?_ c (c + 1) (fun _ => false) (rn_W (rn c T P M K A L R H V pa pA t)) st wt du _ _ _ (by omega) (by omega) (sc_ini es ew) ?_ ?_ ?_⟩
          · intro n hn ha
            exact rg_W hP hM hT (by omega) (up_le _) hb tr h24 (fun n hn h => rg.1 n hn (hs1 n hn h)) (c - n) n hn (Nat.le_refl _) ha
          · intro st' wt' du' a1 a2 a3
            exact ih (t + 1) st' wt' du' (by omega) (by omega) a1 a2 a3
          · intro m hm _; exact hm
          · intro m hm
            rw [ed m hm, es m hm]
            unfold rn_W
            rw [decide_eq_true_eq]
            exact ⟨fun h => h.elim (fun z => (z rfl).elim) (fun z => z), fun h => Or.inr h⟩
          · intro m h1 h2; omega
        have ec : nI c - 1 = nI c + (-1) := Int32.sub_eq_add_neg ..
        by_cases z : pa t = 1
        · refine br_t z (nm_e (nm_r ec (day _ ?_)))
          show _ = (if pa t = 1 then _ else _)
          rw [if_pos z]
        · refine br_f z (nm_e (nm_r ec (day _ ?_)))
          show _ = (if pa t = 1 then _ else _)
          rw [if_neg z]
theorem yy_rep {post : SY → Prop} {b : Nat → Nat} (hP : P ≤ 100) (hM : M ≤ 10) (h1 : 1 ≤ c) (h24 : c ≤ 24) (hT : T ≤ 6) (hd : d ≤ T) (tr : dt_tr c L R) (hz : hz_I c T K A L R H 0) (pe : ∀ n, n + 1 < c → ∃ p, p < c ∧ (L p = nI n ∨ R p = nI n)) (hKK : ∀ n, n < c → ∃ q, q ≤ 10 ∧ K n = nI q) (hce : yy_ce c T ce V) (hg : vg_ok c T V b) (hb : vb_ok c T P M K A L R b)
    (KK : ∀ st' wt' du' : Nat → Int32, (∀ n, n < c → st' n = (rn c T P M K A L R H V pa pA d).1 n) → (∀ n, n < c → wt' n = (rn c T P M K A L R H V pa pA d).2.1 n) → post (nI T, nI P, nI M, nI C, nI c, nI d, 1, (rn c T P M K A L R H V pa pA d).2.2.1, (rn c T P M K A L R H V pa pA d).2.2.2.1, (rn c T P M K A L R H V pa pA d).2.2.2.2.1, (rn c T P M K A L R H V pa pA d).2.2.2.2.2, K, A, L, R, B, PN, pa, pA, st', wt', du', ce)) : wpY_replay post (nI T, nI P, nI M, nI C, nI c, nI d, 1, ca, ga, hs, cs, K, A, L, R, B, PN, pa, pA, st, wt, du, ce) := by
  have s0 : ∀ st wt du : Nat → Int32, (∀ n, n < c → st n = 0) → (∀ n, n < c → wt n = if n = c - 1 then 1 else 0) → (∀ n, n < c → du n = if n = c - 1 then 1 else 0) → ∃ n68 : Nat, wY_replay_68 post n68 (nI 0) (nI T) (nI P) (nI M) (nI C) (nI c) (nI d) 1 0 0 0 0 K A L R B PN pa pA st wt du ce := by
    intro st wt du e1 e2 e3
    refine ⟨d + 3, ?_⟩
    rw [wY_replay_68]
    have ec : nI c - 1 = nI c + (-1) := Int32.sub_eq_add_neg ..
    refine br_f (nI_nlt (by omega) (by omega)) (br_t (by decide) (nm_r ec ⟨c + 1, ?_⟩))
    refine yy_day (t := 0) (V := V) (H := H) (b := b) (S0 := fun n => decide (n = c - 1)) (s := rn_s0 c) h24 hT tr hz pe hKK (Nat.zero_le _) hce (fun n hn => (hb n hn).1) ?_ ?_ ?_ c (c + 1) (fun _ => false) (fun n => decide (n = c - 1)) st wt du _ _ _ (by omega) (by omega) (sc_ini e1 e2) ?_ ?_ ?_
    · intro n hn h q1 q2
      rw [decide_eq_true_eq] at h
      exact (root_np tr h24 hn h q1).elim
    · intro n hn ha
      refine rg_W hP hM hT (Nat.zero_le _) (up_le _) hb tr h24 ?_ (c - n) n hn (Nat.le_refl _) ha
      intro n hn h
      rw [decide_eq_true_eq] at h
      have : (rn_s0 c).2.1 n = 1 := if_pos h
      rw [this]
      unfold wk_k
      have := (hb n hn).2.1
      rw [show (1 : Int32).toInt.natAbs = 1 from by decide]
      omega
    · intro st' wt' du' a1 a2 a3
      exact yy_68 hP hM h1 h24 hT hd tr hz pe hKK hce hg hb KK (d + 2) 0 st' wt' du' (by omega) (Nat.zero_le _) a1 a2 a3
    · intro m hm _; exact hm
    · intro m hm
      rw [e3 m hm, e1 m hm, decide_eq_true_eq]
      by_cases z : m = c - 1
      · rw [if_pos z]
        exact ⟨fun _ => z, fun _ => Or.inl (by decide)⟩
      · rw [if_neg z]
        exact ⟨fun h => h.elim (fun w => (w rfl).elim) (fun w => absurd w (by decide)), fun h => (z h).elim⟩
    · intro m h1 h2; omega
  have go : ∀ (g i : Nat) (st wt du : Nat → Int32), 24 < g + i → i ≤ 24 → (∀ n, n < i → st n = 0 ∧ wt n = 0 ∧ du n = 0) → wY_replay_2 post (nI T) (nI P) (nI M) (nI C) (nI c) (nI d) 1 ca ga hs cs g (nI i) K A L R B PN pa pA st wt du ce := by
    intro g
    induction g with
    | zero => intro i st wt du h1 h2; omega
    | succ g ih =>
      intro i st wt du hf hi J
      rw [wY_replay_2]
      by_cases e : 24 ≤ i
      · refine br_t (nI_le (a := 24) e (by omega)) ?_
        rw [nu_s1 (by omega)]
        refine yy_hand h24 (Or.inr ⟨c - 1, by omega, rfl⟩) ?_
        rw [w1_t (by omega), w1_t (by omega)]
        refine s0 st (upd wt (c - 1) 1) (upd du (c - 1) 1) ?_ ?_ ?_
        · intro n hn; exact (J n (by omega)).1
        · intro n hn
          by_cases z : n = c - 1
          · rw [if_pos z, z]; exact pk_us
          · rw [if_neg z, pk_un z]; exact (J n (by omega)).2.1
        · intro n hn
          by_cases z : n = c - 1
          · rw [if_pos z, z]; exact pk_us
          · rw [if_neg z, pk_un z]; exact (J n (by omega)).2.2
      · have iv := vp_in_nI (n := i) (N := 24) (by omega) (by decide)
        refine br_f (nI_ge (b := 24) (by omega) (by decide)) ?_
        rw [nI_clamp (n := i) (by omega), nu_vb0]
        refine ⟨iv, nm_e ⟨iv, nm_e ⟨iv, nm_e (nm_r (nI_1 i) (ih (i + 1) _ _ _ (by omega) (by omega) ?_))⟩⟩⟩
        intro n hn
        by_cases z : n = i
        · subst z; exact ⟨pk_us, pk_us, pk_us⟩
        · rw [pk_un z, pk_un z, pk_un z]; exact J n (by omega)
  exact ⟨25, go 25 0 st wt du (by omega) (by omega) (fun n hn => by omega)⟩
end
end
section
/-! pure: the forest grows by a put or a twin -/
def nu_up (f : Nat → Nat) (k x : Nat) : Nat → Nat := fun j => if j = k then x else f j
theorem nup_s {f : Nat → Nat} {k x : Nat} : nu_up f k x k = x := if_pos rfl
theorem nup_n {f : Nat → Nat} {k j x : Nat} (h : j ≠ k) : nu_up f k x j = f j := if_neg h
def gr_f (f : Nat → Nat) (c ar : Nat) : Nat := if ar = 0 then c else if ar = 1 then f (c - 1) else f (f (c - 1) - 1)
section
variable {c hh q : Nat} {kd f s b : Nat → Nat} {K A L R B F S : Nat → Int32}
theorem gr_top (sk : fo_sk c hh f s) (h : 0 < hh) : s (hh - 1) = c - 1 ∧ 1 ≤ c := by
  have := (sk.2.2.1 h).2
  omega
theorem gr_nx (sk : fo_sk c hh f s) (h : 2 ≤ hh) : f (c - 1) = s (hh - 2) + 1 := by
  have a := gr_top sk (by omega)
  have b := sk.2.1 (hh - 2) (by omega)
  have e : hh - 2 + 1 = hh - 1 := by omega
  rw [e, a.1] at b
  exact b
theorem gr_ok (o : fo_ok c kd f) (sk : fo_sk c hh f s) (ha : fo_ar q ≤ hh) : fo_ok (c + 1) (nu_up kd c q) (nu_up f c (gr_f f c (fo_ar q))) := by
  intro p hp
  by_cases e : p = c
  · subst e
    rw [nup_s, nup_s]
    rcases fo_ar3 q with z | z | z
    · rw [z]
      exact ⟨Nat.le_refl _, Or.inl ⟨rfl, rfl⟩⟩
    · rw [z]
      have t := gr_top sk (by omega)
      have hf := (o (p - 1) (by omega)).1
      have g1 : gr_f f p 1 = f (p - 1) := rfl
      rw [g1, nup_n (show p - 1 ≠ p by omega)]
      exact ⟨by omega, Or.inr (Or.inl ⟨rfl, by omega, rfl⟩)⟩
    · rw [z]
      have t := gr_top sk (by omega)
      have n := gr_nx sk (by omega)
      have hf := (o (p - 1) (by omega)).1
      have hf2 := (o (f (p - 1) - 1) (by omega)).1
      have g1 : gr_f f p 2 = f (f (p - 1) - 1) := rfl
      rw [g1, nup_n (show p - 1 ≠ p by omega), nup_n (show f (p - 1) - 1 ≠ p by omega)]
      exact ⟨by omega, Or.inr (Or.inr ⟨rfl, by omega, by omega, rfl⟩)⟩
  · have hpc : p < c := by omega
    obtain ⟨h1, h2⟩ := o p hpc
    rw [nup_n e, nup_n e]
    refine ⟨h1, ?_⟩
    rcases h2 with h2 | ⟨z, h2, h3⟩ | ⟨z, h2, h3, h4⟩
    · exact Or.inl h2
    · refine Or.inr (Or.inl ⟨z, h2, ?_⟩)
      rw [nup_n (by omega)]; exact h3
    · have hf := (o (p - 1) (by omega)).1
      refine Or.inr (Or.inr ⟨z, h2, ?_, ?_⟩)
      · rw [nup_n (by omega)]; exact h3
      · rw [nup_n (show p - 1 ≠ c by omega), nup_n (show f (p - 1) - 1 ≠ c by omega)]; exact h4
theorem gr_sk (o : fo_ok c kd f) (sk : fo_sk c hh f s) (ha : fo_ar q ≤ hh) : fo_sk (c + 1) (hh - fo_ar q + 1) (nu_up f c (gr_f f c (fo_ar q))) (nu_up s (hh - fo_ar q) c) := by
  have a3 := fo_ar3 q
  have key : ∀ i, i + 1 = hh - fo_ar q → gr_f f c (fo_ar q) = s i + 1 := by
    intro i hi
    have t := gr_top sk (by omega)
    rcases a3 with z | z | z
    · rw [z] at hi ⊢
      show c = s i + 1
      have : i = hh - 1 := by omega
      rw [this, t.1]; omega
    · rw [z] at hi ⊢
      show f (c - 1) = s i + 1
      have e : i = hh - 2 := by omega
      rw [e]; exact gr_nx sk (by omega)
    · rw [z] at hi ⊢
      show f (f (c - 1) - 1) = s i + 1
      have n := gr_nx sk (by omega)
      have e : f (c - 1) - 1 = s (hh - 2) := by omega
      rw [e]
      have x := sk.2.1 i (by omega)
      have e2 : i + 1 = hh - 2 := by omega
      rw [e2] at x
      exact x
  have key0 : hh - fo_ar q = 0 → gr_f f c (fo_ar q) = 0 := by
    intro h0
    rcases a3 with z | z | z
    · rw [z]
      exact sk.2.2.2 (by omega)
    · rw [z]
      have t := gr_top sk (by omega)
      have x := (sk.2.2.1 (by omega)).1
      have e : hh - 1 = 0 := by omega
      rw [e] at t
      show f (c - 1) = 0
      rw [← t.1]; exact x
    · rw [z]
      have n := gr_nx sk (by omega)
      have x := (sk.2.2.1 (by omega)).1
      have e : hh - 2 = 0 := by omega
      rw [e] at n
      show f (f (c - 1) - 1) = 0
      have e2 : f (c - 1) - 1 = s 0 := by omega
      rw [e2]; exact x
  refine ⟨?_, ?_, ?_, ?_⟩
  · intro i hi
    by_cases e : i = hh - fo_ar q
    · rw [e, nup_s]; omega
    · rw [nup_n e]
      have := sk.1 i (by omega)
      omega
  · intro i hi
    by_cases e : i + 1 = hh - fo_ar q
    · rw [e, nup_s, nup_s, nup_n (by omega)]
      exact key i e
    · have x := sk.1 (i + 1) (by omega)
      rw [nup_n e, nup_n (by omega), nup_n (by omega)]
      exact sk.2.1 i (by omega)
  · intro _
    constructor
    · by_cases e : 0 = hh - fo_ar q
      · rw [← e, nup_s, nup_s]; exact key0 e.symm
      · have x := sk.1 0 (by omega)
        rw [nup_n e, nup_n (by omega)]
        exact (sk.2.2.1 (by omega)).1
    · have e : hh - fo_ar q + 1 - 1 = hh - fo_ar q := by omega
      rw [e, nup_s]
  · intro h; omega
theorem gr_l (sk : fo_sk c hh f s) (ha : fo_ar q ≤ hh) (hS : ∀ i, i < hh → S i = nI (s i)) : (if fo_ar q = 0 then (-1 : Int32) else S (hh - fo_ar q)) = (if fo_ar q = 0 then -1 else if fo_ar q = 1 then nI (c - 1) else nI (f (c - 1) - 1)) := by
  rcases fo_ar3 q with z | z | z
  · rw [z]; rfl
  · have t := gr_top sk (by omega)
    rw [z, hS _ (by omega), t.1]; rfl
  · have n := gr_nx sk (by omega)
    have e : f (c - 1) - 1 = s (hh - 2) := by omega
    rw [z, hS _ (by omega), e]; rfl
theorem gr_r (sk : fo_sk c hh f s) (ha : fo_ar q ≤ hh) (hS : ∀ i, i < hh → S i = nI (s i)) : (if fo_ar q = 2 then S (hh - 1) else (-1 : Int32)) = (if fo_ar q = 2 then nI (c - 1) else -1) := by
  by_cases z : fo_ar q = 2
  · have t := gr_top sk (by omega)
    rw [if_pos z, if_pos z, hS _ (by omega), t.1]
  · rw [if_neg z, if_neg z]
theorem gr_ti (h24 : c < 24) (hq : q ≤ 10) (o : fo_ok c kd f) (sk : fo_sk c hh f s) (ti : fo_ti c kd f K L R F) (ha : fo_ar q ≤ hh) {l r : Int32} (hl : l = (if fo_ar q = 0 then -1 else if fo_ar q = 1 then nI (c - 1) else nI (f (c - 1) - 1))) (hr : r = (if fo_ar q = 2 then nI (c - 1) else -1)) :
    fo_ti (c + 1) (nu_up kd c q) (nu_up f c (gr_f f c (fo_ar q))) (upd K c (nI q)) (upd L c l) (upd R c r) (upd F c (bu_F F c l)) := by
  intro p hp
  by_cases e : p = c
  · subst e
    rw [nup_s, nup_s, pk_us, pk_us, pk_us, pk_us]
    refine ⟨hq, rfl, ?_, ?_, hr⟩
    · subst hl
      rcases fo_ar3 q with z | z | z
      · rw [z]
        have : bu_F F p (-1) = nI p := if_neg nu_m1le
        exact this
      · have t := gr_top sk (by omega)
        rw [z]
        have : bu_F F p (nI (p - 1)) = F (p - 1) := by
          unfold bu_F
          rw [if_pos (nI_pos' (by omega)), nI_clamp (by omega)]
        show bu_F F p (nI (p - 1)) = nI (f (p - 1))
        rw [this]
        exact (ti (p - 1) (by omega)).2.2.1
      · have t := gr_top sk (by omega)
        have n := gr_nx sk (by omega)
        have hf := (o (p - 1) (by omega)).1
        rw [z]
        have : bu_F F p (nI (f (p - 1) - 1)) = F (f (p - 1) - 1) := by
          unfold bu_F
          rw [if_pos (nI_pos' (by omega)), nI_clamp (by omega)]
        show bu_F F p (nI (f (p - 1) - 1)) = nI (f (f (p - 1) - 1))
        rw [this]
        exact (ti (f (p - 1) - 1) (by omega)).2.2.1
    · rw [hl]
      by_cases e0 : fo_ar q = 0
      · rw [if_pos e0, if_pos e0]
      · have t := gr_top sk (by omega)
        rw [nup_n (show p - 1 ≠ p by omega)]
  · obtain ⟨a1, a2, a3, a4, a5⟩ := ti p (by omega)
    rw [nup_n e, nup_n e, pk_un e, pk_un e, pk_un e, pk_un e]
    refine ⟨a1, a2, a3, ?_, a5⟩
    rw [a4, nup_n (show p - 1 ≠ c by omega)]
/-- the tree as the scheduler wants it -/
theorem fo_tr (h24 : c ≤ 24) (o : fo_ok c kd f) (ti : fo_ti c kd f K L R F) : dt_tr c L R := by
  refine ⟨?_, ?_, ?_⟩
  · intro p hp
    obtain ⟨a1, a2, a3, a4, a5⟩ := ti p hp
    obtain ⟨hle, ⟨e, h1⟩ | ⟨e, h1, h2⟩ | ⟨e, h1, h2, h3⟩⟩ := o p hp
    · rw [e] at a4 a5
      exact ⟨Or.inl a4, Or.inl a5⟩
    · rw [e] at a4 a5
      exact ⟨Or.inr ⟨p - 1, by omega, a4⟩, Or.inl a5⟩
    · have hf := (o (p - 1) (by omega)).1
      rw [e] at a4 a5
      exact ⟨Or.inr ⟨f (p - 1) - 1, by omega, a4⟩, Or.inr ⟨p - 1, by omega, a5⟩⟩
  · intro p l hp hl e1 e2
    obtain ⟨a1, a2, a3, a4, a5⟩ := ti p hp
    obtain ⟨hle, ⟨e, h1⟩ | ⟨e, h1, h2⟩ | ⟨e, h1, h2, h3⟩⟩ := o p hp
    · rw [e] at a4
      rw [e1] at a4
      exact nu_neg (by omega) a4
    · rw [e] at a5
      rw [e2] at a5
      exact nu_neg (by omega) a5
    · have hf := (o (p - 1) (by omega)).1
      rw [e] at a4 a5
      rw [e1] at a4
      rw [e2] at a5
      have x := nu_inj (a := l) (b := f (p - 1) - 1) a4 (by omega) (by omega)
      have y := nu_inj (a := l) (b := p - 1) a5 (by omega) (by omega)
      omega
  · intro p q n hp hq hn e1 e2
    exact fo_uq o hp hq ((fo_chi o ti h24 hp (by omega)).mp e1) ((fo_chi o ti h24 hq (by omega)).mp e2)
theorem fo_pe (h24 : c ≤ 24) (o : fo_ok c kd f) (sk : fo_sk c hh f s) (ti : fo_ti c kd f K L R F) (h1 : hh = 1) : ∀ n, n + 1 < c → ∃ p, p < c ∧ (L p = nI n ∨ R p = nI n) := by
  intro n hn
  obtain ⟨p, a, b, d⟩ := fo_low o sk (n := n) (by omega) (by
    intro i hi e
    have t := gr_top sk (by omega)
    have : i = hh - 1 := by omega
    rw [this, t.1] at e
    omega)
  exact ⟨p, b, (fo_chi o ti h24 b (by omega)).mpr d⟩
theorem fo_kk (ti : fo_ti c kd f K L R F) : ∀ n, n < c → ∃ q, q ≤ 10 ∧ K n = nI q := fun n hn => ⟨kd n, (ti n hn).1, (ti n hn).2.1⟩
theorem fo_k5 (o : fo_ok c kd f) (ti : fo_ti c kd f K L R F) : ∀ n, n < c → K n = 5 → (∃ l, l < n ∧ L n = nI l) ∧ (∃ r, r < n ∧ R n = nI r) := by
  intro n hn h
  obtain ⟨a1, a2, a3, a4, a5⟩ := ti n hn
  have e5 : kd n = 5 := by
    rw [a2] at h
    exact nu_inj (b := 5) h (by omega) (by omega)
  have ea : fo_ar (kd n) = 2 := by rw [e5]; rfl
  rw [ea] at a4 a5
  obtain ⟨hle, ⟨e, h1⟩ | ⟨e, h1, h2⟩ | ⟨e, h1, h2, h3⟩⟩ := o n hn
  · omega
  · omega
  · have hf := (o (n - 1) (by omega)).1
    exact ⟨⟨f (n - 1) - 1, by omega, a4⟩, ⟨n - 1, by omega, a5⟩⟩
/-! the twin -/
def gr_k (kd : Nat → Nat) (c z : Nat) : Nat → Nat := fun j => if c ≤ j then kd (j - z) else kd j
def gr_s (f : Nat → Nat) (c z : Nat) : Nat → Nat := fun j => if c ≤ j then f (j - z) + z else f j
theorem grk_l {kd : Nat → Nat} {c z j : Nat} (h : j < c) : gr_k kd c z j = kd j := if_neg (by omega)
theorem grk_h {kd : Nat → Nat} {c z j : Nat} (h : c ≤ j) : gr_k kd c z j = kd (j - z) := if_pos h
theorem grs_l {f : Nat → Nat} {c z j : Nat} (h : j < c) : gr_s f c z j = f j := if_neg (by omega)
theorem grs_h {f : Nat → Nat} {c z j : Nat} (h : c ≤ j) : gr_s f c z j = f (j - z) + z := if_pos h
theorem tw_ok {z : Nat} (o : fo_ok c kd f) (h1 : 1 ≤ c) (hz : f (c - 1) + z = c) : fo_ok (c + z) (gr_k kd c z) (gr_s f c z) := by
  intro p hp
  by_cases e : c ≤ p
  · have hl := (o (c - 1) (by omega)).1
    have lam := fo_lam o (c - 1) (by omega) (p - z) (by omega) (by omega)
    obtain ⟨h1, h2⟩ := o (p - z) (by omega)
    rw [grk_h e, grs_h e]
    refine ⟨by omega, ?_⟩
    rcases h2 with ⟨a, h2⟩ | ⟨a, h2, h3⟩ | ⟨a, h2, h3, h4⟩
    · exact Or.inl ⟨a, by omega⟩
    · have hf := (o (p - z - 1) (by omega)).1
      have e1 : p - 1 - z = p - z - 1 := by omega
      refine Or.inr (Or.inl ⟨a, by omega, ?_⟩)
      rw [grs_h (by omega), e1, h3]
    · have hf := (o (p - z - 1) (by omega)).1
      have hf2 := (o (f (p - z - 1) - 1) (by omega)).1
      have e1 : p - 1 - z = p - z - 1 := by omega
      have e2 : f (p - z - 1) + z - 1 - z = f (p - z - 1) - 1 := by omega
      refine Or.inr (Or.inr ⟨a, by omega, ?_, ?_⟩)
      · rw [grs_h (by omega)]; omega
      · rw [grs_h (j := p - 1) (by omega), e1, grs_h (by omega), e2, h4]
  · have hp' : p < c := by omega
    obtain ⟨h1, h2⟩ := o p hp'
    rw [grk_l hp', grs_l hp']
    refine ⟨h1, ?_⟩
    rcases h2 with h2 | ⟨a, h2, h3⟩ | ⟨a, h2, h3, h4⟩
    · exact Or.inl h2
    · exact Or.inr (Or.inl ⟨a, h2, by rw [grs_l (by omega)]; exact h3⟩)
    · have hf := (o (p - 1) (by omega)).1
      exact Or.inr (Or.inr ⟨a, h2, by rw [grs_l (by omega)]; exact h3, by rw [grs_l (j := p - 1) (by omega), grs_l (by omega)]; exact h4⟩)
theorem tw_sk {z : Nat} (sk : fo_sk c hh f s) (h0 : 0 < hh) (hz : f (c - 1) + z = c) (hz1 : 1 ≤ z) : fo_sk (c + z) (hh + 1) (gr_s f c z) (nu_up s hh (c - 1 + z)) := by
  have t := gr_top sk h0
  refine ⟨?_, ?_, ?_, ?_⟩
  · intro i hi
    by_cases e : i = hh
    · rw [e, nup_s]; omega
    · rw [nup_n e]
      have := sk.1 i (by omega)
      omega
  · intro i hi
    by_cases e : i + 1 = hh
    · have e2 : i = hh - 1 := by omega
      have e3 : c - 1 + z - z = c - 1 := by omega
      rw [e, nup_s, nup_n (by omega), grs_h (by omega), e3, e2, t.1]
      omega
    · have x := sk.1 (i + 1) (by omega)
      rw [nup_n e, nup_n (by omega), grs_l x]
      exact sk.2.1 i (by omega)
  · intro _
    constructor
    · have x := sk.1 0 h0
      rw [nup_n (by omega), grs_l x]
      exact (sk.2.2.1 h0).1
    · have e : hh + 1 - 1 = hh := by omega
      rw [e, nup_s]; omega
  · intro h; omega
theorem tw_at {g : Int32 → Int32} {a : Nat → Int32} {lo z p : Nat} (h : lo + z ≤ p) (h2 : p < lo + z + z) : tw_ g a lo z z p = g (a (p - z)) := if_pos ⟨h, h2⟩
theorem tw_lo {g : Int32 → Int32} {a : Nat → Int32} {lo z p : Nat} (h : p < lo + z) : tw_ g a lo z z p = a p := if_neg (by omega)
theorem tw_ti {z lo : Nat} (h24 : c + z ≤ 24) (o : fo_ok c kd f) (ti : fo_ti c kd f K L R F) (h1 : 1 ≤ c) (hlo : f (c - 1) = lo) (hz : lo + z = c) : fo_ti (c + z) (gr_k kd c z) (gr_s f c z) (tw_ tw_i K lo z z) (tw_ (tw_g z) L lo z z) (tw_ (tw_g z) R lo z z) (tw_ (tw_p z) F lo z z) := by
  intro p hp
  by_cases e : c ≤ p
  · have lam := fo_lam o (c - 1) (by omega) (p - z) (by omega) (by omega)
    obtain ⟨a1, a2, a3, a4, a5⟩ := ti (p - z) (by omega)
    obtain ⟨hle, hk⟩ := o (p - z) (by omega)
    rw [grk_h e, grs_h e, tw_at (by omega) (by omega), tw_at (by omega) (by omega), tw_at (by omega) (by omega), tw_at (by omega) (by omega)]
    refine ⟨a1, a2, ?_, ?_, ?_⟩
    · unfold tw_p
      rw [a3, nI_add]
    · rw [a4]
      rcases hk with ⟨x, _⟩ | ⟨x, h2, h3⟩ | ⟨x, h2, h3, h4⟩
      · rw [x]
        exact if_neg nu_m1le
      · have e1 : p - z - 1 + z = p - 1 := by omega
        rw [x]
        show tw_g z (nI (p - z - 1)) = nI (p - 1)
        unfold tw_g
        rw [if_pos (nI_pos' (by omega)), nI_add, e1]
      · have hf := (o (p - z - 1) (by omega)).1
        have hf2 := (o (f (p - z - 1) - 1) (by omega)).1
        have e1 : p - 1 - z = p - z - 1 := by omega
        have e2 : f (p - z - 1) - 1 + z = f (p - z - 1) + z - 1 := by omega
        rw [x]
        show tw_g z (nI (f (p - z - 1) - 1)) = nI (gr_s f c z (p - 1) - 1)
        unfold tw_g
        rw [if_pos (nI_pos' (by omega)), nI_add, grs_h (by omega), e1, e2]
    · rw [a5]
      rcases hk with ⟨x, _⟩ | ⟨x, h2, h3⟩ | ⟨x, h2, h3, h4⟩
      · rw [x]
        exact if_neg nu_m1le
      · rw [x]
        exact if_neg nu_m1le
      · have e1 : p - z - 1 + z = p - 1 := by omega
        rw [x]
        show tw_g z (nI (p - z - 1)) = nI (p - 1)
        unfold tw_g
        rw [if_pos (nI_pos' (by omega)), nI_add, e1]
  · have hp' : p < c := by omega
    obtain ⟨a1, a2, a3, a4, a5⟩ := ti p hp'
    rw [grk_l hp', grs_l hp', tw_lo (by omega), tw_lo (by omega), tw_lo (by omega), tw_lo (by omega)]
    refine ⟨a1, a2, a3, ?_, a5⟩
    rw [a4, grs_l (show p - 1 < c by omega)]
end
end
section
/-! pure: bounds of new nodes -/
theorem nu_ofI {x : Int32} {j : Nat} (h : x.toInt = j) (hj : j < 2 ^ 31) : x = nI j := by
  apply Int32.toInt_inj.mp
  rw [h, nI_toInt hj]
theorem fc_nat {a : Int32} (h : a.toInt.natAbs ≤ 1000) : ∃ m, bu_fc a = nI m ∧ 1 ≤ m ∧ a.toInt.natAbs ≤ m ∧ m ≤ 1000 := by
  have key : ∀ x : Int32, x.toInt = (a.toInt.natAbs : Int) → ∃ m, (if 1 ≤ x then x else 1) = nI m ∧ 1 ≤ m ∧ a.toInt.natAbs ≤ m ∧ m ≤ 1000 := by
    intro x hx
    have e := nu_ofI hx (by omega)
    by_cases g : 1 ≤ a.toInt.natAbs
    · refine ⟨a.toInt.natAbs, ?_, g, Nat.le_refl _, h⟩
      rw [e, if_pos]
      exact nI_le (a := 1) g (by omega)
    · refine ⟨1, ?_, Nat.le_refl _, by omega, by omega⟩
      rw [e, if_neg]
      · rfl
      · exact nI_ge (b := 1) (by omega) (by decide)
  unfold bu_fc
  have z0 : (0 : Int32).toInt = 0 := by decide
  by_cases g : 0 ≤ a
  · rw [if_pos g]
    rw [Int32.le_iff_toInt_le, z0] at g
    exact key a (by omega)
  · rw [if_neg g]
    rw [Int32.le_iff_toInt_le, z0] at g
    refine key (-a) ?_
    rw [Int32.toInt_neg, Int.bmod_eq_of_le (by omega) (by omega)]
    omega
theorem bu_rng {a x y : Int32} (h : (!decide (a < x) && !decide (y < a)) = true) : x.toInt ≤ a.toInt ∧ a.toInt ≤ y.toInt := by
  simp only [Bool.and_eq_true, Bool.not_eq_true', decide_eq_false_iff_not, Int32.lt_iff_toInt_lt] at h
  omega
theorem bu_nat {T P M q bx bz : Nat} {a : Int32} (hq : q ≤ 10) (hf : bu_fit T q a = true) (hT1 : 1 ≤ T) (hT : T ≤ 6) (hP : P ≤ 100) (hM1 : 1 ≤ M) (hM : M ≤ 10) (hx1 : 1 ≤ bx) (hx : bx ≤ 1000000) (hy1 : 1 ≤ bz) (hy : bz ≤ 1000000) :
    ∃ bn, bu_bd T P M q a (nI bx) (nI bz) = nI bn ∧ 1 ≤ bn ∧ bn < 2 ^ 31 ∧ (q = 1 → a.toInt.natAbs ≤ bn) ∧ (q = 2 → a.toInt.natAbs * bx ≤ bn) ∧ (q = 3 → (P + T * M) * bx ≤ bn) ∧ (q ≠ 2 → q ≠ 3 → bx ≤ bn) ∧ (fo_ar q = 2 → bz ≤ bn) ∧ (q = 5 → bx + bz ≤ bn) := by
  have hq' : q = 0 ∨ q = 1 ∨ q = 2 ∨ q = 3 ∨ q = 4 ∨ q = 5 ∨ q = 6 ∨ q = 7 ∨ q = 8 ∨ q = 9 ∨ q = 10 := by omega
  have mx : ∀ z : Int32, z = (if nI bx ≤ nI bz then nI bz else nI bx) → ∃ bn, z = nI bn ∧ bx ≤ bn ∧ bz ≤ bn ∧ bn ≤ 1000000 := by
    intro z hz
    by_cases g : bx ≤ bz
    · rw [if_pos (nI_le g (by omega))] at hz
      exact ⟨bz, hz, g, Nat.le_refl _, hy⟩
    · rw [if_neg (nI_ge (by omega) (by omega))] at hz
      exact ⟨bx, hz, Nat.le_refl _, by omega, hx⟩
  rcases hq' with rfl | rfl | rfl | rfl | rfl | rfl | rfl | rfl | rfl | rfl | rfl
  · refine ⟨bx, bd_0, hx1, by omega, ?_⟩
    refine ⟨by omega, by omega, by omega, by omega, ?_, by omega⟩
    intro h; exact absurd h (by decide)
  · have r := bu_rng (x := -99) (y := 99) hf
    have e1 : (-99 : Int32).toInt = -99 := by decide
    have e2 : (99 : Int32).toInt = 99 := by decide
    obtain ⟨m, c1, c2, c3, c4⟩ := fc_nat (a := a) (by omega)
    have l1 : m * 1 ≤ m * bx := Nat.mul_le_mul_left _ hx1
    have l2 : 1 * bx ≤ m * bx := Nat.mul_le_mul_right _ c2
    have l3 : m * bx ≤ 1000 * 1000000 := Nat.mul_le_mul c4 hx
    refine ⟨m * bx, by rw [bd_1, c1, pk_mul], by omega, by omega, ?_⟩
    refine ⟨by omega, by omega, by omega, by omega, ?_, by omega⟩
    intro h; exact absurd h (by decide)
  · have r := bu_rng (x := -9) (y := 9) hf
    have e1 : (-9 : Int32).toInt = -9 := by decide
    have e2 : (9 : Int32).toInt = 9 := by decide
    obtain ⟨m, c1, c2, c3, c4⟩ := fc_nat (a := a) (by omega)
    have l1 : a.toInt.natAbs * bx ≤ m * bx := Nat.mul_le_mul_right _ c3
    have l2 : 1 * bx ≤ m * bx := Nat.mul_le_mul_right _ c2
    have l3 : m * bx ≤ 1000 * 1000000 := Nat.mul_le_mul c4 hx
    refine ⟨m * bx, by rw [bd_2, c1, pk_mul], by omega, by omega, ?_⟩
    refine ⟨by omega, fun _ => l1, by omega, by omega, ?_, by omega⟩
    intro h; exact absurd h (by decide)
  · have l0 : T * M ≤ 6 * 10 := Nat.mul_le_mul hT hM
    have l1 : 1 * 1 ≤ T * M := Nat.mul_le_mul hT1 hM1
    have l2 : 1 * bx ≤ (P + T * M) * bx := Nat.mul_le_mul_right _ (by omega)
    have l3 : (P + T * M) * bx ≤ 160 * 1000000 := Nat.mul_le_mul (by omega) hx
    refine ⟨(P + T * M) * bx, by rw [bd_3, pk_mul, nI_add, pk_mul], by omega, by omega, ?_⟩
    refine ⟨by omega, by omega, fun _ => Nat.le_refl _, by omega, ?_, by omega⟩
    intro h; exact absurd h (by decide)
  · refine ⟨bx, bd_4, hx1, by omega, ?_⟩
    refine ⟨by omega, by omega, by omega, by omega, ?_, by omega⟩
    intro h; exact absurd h (by decide)
  · refine ⟨bx + bz, by rw [bd_5, nI_add], by omega, by omega, ?_⟩
    exact ⟨by omega, by omega, by omega, by omega, by omega, by omega⟩
  · obtain ⟨bn, c1, c2, c3, c4⟩ := mx _ bd_6
    exact ⟨bn, c1, by omega, by omega, by omega, by omega, by omega, by omega, by omega, by omega⟩
  · obtain ⟨bn, c1, c2, c3, c4⟩ := mx _ bd_7
    exact ⟨bn, c1, by omega, by omega, by omega, by omega, by omega, by omega, by omega, by omega⟩
  · refine ⟨bx, bd_8, hx1, by omega, ?_⟩
    refine ⟨by omega, by omega, by omega, by omega, ?_, by omega⟩
    intro h; exact absurd h (by decide)
  · refine ⟨bx, bd_9, hx1, by omega, ?_⟩
    refine ⟨by omega, by omega, by omega, by omega, ?_, by omega⟩
    intro h; exact absurd h (by decide)
  · refine ⟨bx, bd_10, hx1, by omega, ?_⟩
    refine ⟨by omega, by omega, by omega, by omega, ?_, by omega⟩
    intro h; exact absurd h (by decide)
section
variable {c hh q T P M : Nat} {kd f s b : Nat → Nat} {K A L R B F S : Nat → Int32}
theorem gr_vb {bn bx bz : Nat} {a l r : Int32} (h24 : c < 24) (hq : q ≤ 10) (tr : dt_tr c L R) (hb : vb_ok c T P M K A L R b) (h1 : 1 ≤ bn) (h2 : bn ≤ 1000000) (g1 : q = 1 → a.toInt.natAbs ≤ bn) (g2 : q = 2 → a.toInt.natAbs * bx ≤ bn) (g3 : q = 3 → (P + T * M) * bx ≤ bn) (g4 : q ≠ 2 → q ≠ 3 → bx ≤ bn) (g5 : fo_ar q = 2 → bz ≤ bn) (g6 : q = 5 → bx + bz ≤ bn)
    (hl : ∀ m, m < 24 → l = nI m → m < c ∧ b m = bx) (hr : ∀ m, m < 24 → r = nI m → m < c ∧ b m = bz ∧ fo_ar q = 2) : vb_ok (c + 1) T P M (upd K c (nI q)) (upd A c (bu_sa q a)) (upd L c l) (upd R c r) (nu_up b c bn) := by
  intro p hp
  by_cases e : p = c
  · subst e
    rw [pk_us, pk_us, pk_us, pk_us, nup_s]
    have kq : ∀ i : Nat, i ≤ 10 → nI q = nI i → q = i := fun i hi h => nu_inj h (by omega) (by omega)
    have k1 : nI q = 1 → q = 1 := kq 1 (by omega)
    have k2 : nI q = 2 → q = 2 := kq 2 (by omega)
    have k3 : nI q = 3 → q = 3 := kq 3 (by omega)
    have k5 : nI q = 5 → q = 5 := kq 5 (by omega)
    refine ⟨h1, h2, ?_, ?_, ?_, ?_⟩
    · intro h
      have h := k1 h
      subst h
      rw [sa_1]; exact g1 rfl
    · intro m hm hlm
      obtain ⟨x1, x2⟩ := hl m hm hlm
      rw [nup_n (show m ≠ p by omega), x2]
      refine ⟨?_, ?_, ?_⟩
      · intro h
        have h := k2 h
        subst h
        rw [sa_2]; exact g2 rfl
      · intro h; exact g3 (k3 h)
      · intro h h'
        exact g4 (fun z => h (by rw [z]; rfl)) (fun z => h' (by rw [z]; rfl))
    · intro m hm hrm
      obtain ⟨x1, x2, x3⟩ := hr m hm hrm
      rw [nup_n (show m ≠ p by omega), x2]
      refine ⟨g5 x3, ?_, ?_⟩
      · intro h; rw [k2 h] at x3; exact absurd x3 (by decide)
      · intro h; rw [k3 h] at x3; exact absurd x3 (by decide)
    · intro m m' hm hm' hlm hrm h
      obtain ⟨x1, x2⟩ := hl m hm hlm
      obtain ⟨y1, y2, y3⟩ := hr m' hm' hrm
      rw [nup_n (show m ≠ p by omega), nup_n (show m' ≠ p by omega), x2, y2]
      exact g6 (k5 h)
  · have hpc : p < c := by omega
    obtain ⟨b1, b2, b3, b4, b5, b6⟩ := hb p hpc
    have ch : ∀ m, m < 24 → (L p = nI m ∨ R p = nI m) → m ≠ c := by
      intro m hm h
      obtain ⟨tl, tr'⟩ := tr.1 p hpc
      rcases h with h | h
      · rcases tl with z | ⟨l', z1, z2⟩
        · rw [h] at z; exact (nu_neg (by omega) z).elim
        · rw [h] at z2
          have := nu_inj z2 (by omega) (by omega)
          omega
      · rcases tr' with z | ⟨l', z1, z2⟩
        · rw [h] at z; exact (nu_neg (by omega) z).elim
        · rw [h] at z2
          have := nu_inj z2 (by omega) (by omega)
          omega
    rw [pk_un e, pk_un e, pk_un e, pk_un e, nup_n e]
    refine ⟨b1, b2, b3, ?_, ?_, ?_⟩
    · intro m hm h
      rw [nup_n (ch m hm (Or.inl h))]; exact b4 m hm h
    · intro m hm h
      rw [nup_n (ch m hm (Or.inr h))]; exact b5 m hm h
    · intro m m' hm hm' h h'
      rw [nup_n (ch m hm (Or.inl h)), nup_n (ch m' hm' (Or.inr h'))]; exact b6 m m' hm hm' h h'
theorem tw_inv {z m : Nat} {x : Int32} (hx : x = -1 ∨ ∃ l, l < 24 ∧ x = nI l) (hz : z ≤ 24) (hm : m < 24) (h : tw_g z x = nI m) : ∃ l, l < 24 ∧ x = nI l ∧ m = l + z := by
  rcases hx with rfl | ⟨l, hl, rfl⟩
  · have : tw_g z (-1) = -1 := if_neg nu_m1le
    rw [this] at h
    exact (nu_neg' (by omega) h).elim
  · have : tw_g z (nI l) = nI (l + z) := by
      unfold tw_g
      rw [if_pos (nI_pos' (by omega)), nI_add]
    rw [this] at h
    exact ⟨l, hl, rfl, (nu_inj h (by omega) (by omega)).symm⟩
theorem tw_vb {z lo : Nat} (h24 : c + z ≤ 24) (o : fo_ok c kd f) (ti : fo_ti c kd f K L R F) (h1 : 1 ≤ c) (hlo : f (c - 1) = lo) (hz : lo + z = c) (hb : vb_ok c T P M K A L R b) : vb_ok (c + z) T P M (tw_ tw_i K lo z z) (tw_ tw_i A lo z z) (tw_ (tw_g z) L lo z z) (tw_ (tw_g z) R lo z z) (gr_k b c z) := by
  have tr := fo_tr (by omega) o ti
  intro p hp
  by_cases e : c ≤ p
  · have hp0 : p - z < c := by omega
    have lam := fo_lam o (c - 1) (by omega) (p - z) (by omega) (by omega)
    obtain ⟨b1, b2, b3, b4, b5, b6⟩ := hb (p - z) hp0
    obtain ⟨tl, tr'⟩ := tr.1 (p - z) hp0
    have tl24 : L (p - z) = -1 ∨ ∃ l, l < 24 ∧ L (p - z) = nI l := by
      rcases tl with x | ⟨l, x, y⟩
      · exact Or.inl x
      · exact Or.inr ⟨l, by omega, y⟩
    have tr24 : R (p - z) = -1 ∨ ∃ l, l < 24 ∧ R (p - z) = nI l := by
      rcases tr' with x | ⟨l, x, y⟩
      · exact Or.inl x
      · exact Or.inr ⟨l, by omega, y⟩
    have ge : ∀ l, l < 24 → (L (p - z) = nI l ∨ R (p - z) = nI l) → lo ≤ l := by
      intro l hl h
      have := fo_chr o hp0 ((fo_chi o ti (by omega) hp0 hl).mp h)
      omega
    rw [tw_at (by omega) (by omega), tw_at (by omega) (by omega), tw_at (by omega) (by omega), tw_at (by omega) (by omega), grk_h e]
    refine ⟨b1, b2, b3, ?_, ?_, ?_⟩
    · intro m hm h
      obtain ⟨l, hl, x, y⟩ := tw_inv tl24 (by omega) hm h
      have g := ge l hl (Or.inl x)
      have e2 : m - z = l := by omega
      rw [grk_h (by omega), e2]
      exact b4 l hl x
    · intro m hm h
      obtain ⟨l, hl, x, y⟩ := tw_inv tr24 (by omega) hm h
      have g := ge l hl (Or.inr x)
      have e2 : m - z = l := by omega
      rw [grk_h (by omega), e2]
      exact b5 l hl x
    · intro m m' hm hm' h h'
      obtain ⟨l, hl, x, y⟩ := tw_inv tl24 (by omega) hm h
      obtain ⟨l', hl', x', y'⟩ := tw_inv tr24 (by omega) hm' h'
      have g := ge l hl (Or.inl x)
      have g' := ge l' hl' (Or.inr x')
      have e2 : m - z = l := by omega
      have e3 : m' - z = l' := by omega
      rw [grk_h (by omega), e2, grk_h (by omega), e3]
      exact b6 l l' hl hl' x x'
  · have hp' : p < c := by omega
    obtain ⟨b1, b2, b3, b4, b5, b6⟩ := hb p hp'
    have lt : ∀ m, m < 24 → (L p = nI m ∨ R p = nI m) → m < c := by
      intro m hm h
      have := fo_chr o hp' ((fo_chi o ti (by omega) hp' hm).mp h)
      omega
    rw [tw_lo (by omega), tw_lo (by omega), tw_lo (by omega), tw_lo (by omega), grk_l hp']
    refine ⟨b1, b2, b3, ?_, ?_, ?_⟩
    · intro m hm h
      rw [grk_l (lt m hm (Or.inl h))]; exact b4 m hm h
    · intro m hm h
      rw [grk_l (lt m hm (Or.inr h))]; exact b5 m hm h
    · intro m m' hm hm' h h'
      rw [grk_l (lt m hm (Or.inl h)), grk_l (lt m' hm' (Or.inr h'))]; exact b6 m m' hm hm' h h'
end
end
section
/-! pure: the run looks at the nodes below c alone, and at earlier pins and moves alone -/
def re_E (c : Nat) (s s' : rn_S) : Prop := (∀ n, n < c → s.1 n = s'.1 n) ∧ (∀ n, n < c → s.2.1 n = s'.2.1 n) ∧ s.2.2.1 = s'.2.2.1 ∧ s.2.2.2.1 = s'.2.2.2.1 ∧ s.2.2.2.2.1 = s'.2.2.2.2.1 ∧ s.2.2.2.2.2 = s'.2.2.2.2.2
theorem re_Er {c : Nat} {s : rn_S} : re_E c s s := ⟨fun _ _ => rfl, fun _ _ => rfl, rfl, rfl, rfl, rfl⟩
theorem re_Et {c : Nat} {s s' s'' : rn_S} (h : re_E c s s') (g : re_E c s' s'') : re_E c s s'' :=
  ⟨fun n hn => (h.1 n hn).trans (g.1 n hn), fun n hn => (h.2.1 n hn).trans (g.2.1 n hn), h.2.2.1.trans g.2.2.1, h.2.2.2.1.trans g.2.2.2.1, h.2.2.2.2.1.trans g.2.2.2.2.1, h.2.2.2.2.2.trans g.2.2.2.2.2⟩
theorem gv_cg {L R : Nat → Int32} {gl gr gl' gr' : Nat → Bool} {p n : Nat} (h1 : gl p = gl' p) (h2 : gr p = gr' p) : dt_gv L R gl gr p n = dt_gv L R gl' gr' p n := by
  unfold dt_gv
  rw [h1, h2]
theorem ac_eq (c : Nat) (L R : Nat → Int32) (gl gr S0 : Nat → Bool) (n : Nat) : dt_ac c L R gl gr S0 n = (S0 n || (if h : n < dt_pr L R n c ∧ dt_pr L R n c < c then dt_ac c L R gl gr S0 (dt_pr L R n c) && dt_gv L R gl gr (dt_pr L R n c) n else false)) := by
  rw [dt_ac]
theorem wt_eq (c : Nat) (L R : Nat → Int32) (hw : Nat → Int32 → Int32) (S0 : Nat → Bool) (w0 : Nat → Int32) (n : Nat) : dt_wt c L R hw S0 w0 n = (if S0 n = true then w0 n else if h : n < dt_pr L R n c ∧ dt_pr L R n c < c then hw (dt_pr L R n c) (dt_wt c L R hw S0 w0 (dt_pr L R n c)) else 0) := by
  rw [dt_wt]
theorem ac_cg {c : Nat} {L R : Nat → Int32} {gl gr S0 gl' gr' S0' : Nat → Bool} (h1 : ∀ n, n < c → gl n = gl' n) (h2 : ∀ n, n < c → gr n = gr' n) (h3 : ∀ n, n < c → S0 n = S0' n) : ∀ j n, n < c → c - n ≤ j → dt_ac c L R gl gr S0 n = dt_ac c L R gl' gr' S0' n := by
  intro j
  induction j with
  | zero => intro n hn h; omega
  | succ j ih =>
    intro n hn h
    rw [ac_eq c L R gl gr S0 n, ac_eq c L R gl' gr' S0' n, h3 n hn]
    by_cases e : n < dt_pr L R n c ∧ dt_pr L R n c < c
    · rw [dif_pos e, dif_pos e, ih _ e.2 (by omega), gv_cg (h1 _ e.2) (h2 _ e.2)]
    · rw [dif_neg e, dif_neg e]
theorem wt_cg {c : Nat} {L R : Nat → Int32} {hw : Nat → Int32 → Int32} {S0 S0' : Nat → Bool} {w0 w0' : Nat → Int32} (h1 : ∀ n, n < c → S0 n = S0' n) (h2 : ∀ n, n < c → w0 n = w0' n) : ∀ j n, n < c → c - n ≤ j → dt_wt c L R hw S0 w0 n = dt_wt c L R hw S0' w0' n := by
  intro j
  induction j with
  | zero => intro n hn h; omega
  | succ j ih =>
    intro n hn h
    rw [wt_eq c L R hw S0 w0 n, wt_eq c L R hw S0' w0' n, h1 n hn, h2 n hn]
    by_cases z : S0' n = true
    · rw [if_pos z, if_pos z]
    · rw [if_neg z, if_neg z]
      by_cases e : n < dt_pr L R n c ∧ dt_pr L R n c < c
      · rw [dif_pos e, dif_pos e, ih _ e.2 (by omega)]
      · rw [dif_neg e, dif_neg e]
theorem rn_cg {c T P M : Nat} {K A L R H : Nat → Int32} {V : Nat → Int64} {t k : Nat} {pn pn' : Nat → Int32} {S0 S0' : Nat → Bool} {s s' : rn_S} (hp : ∀ n, n < c → pn n = pn' n) (hS : ∀ n, n < c → S0 n = S0' n) (hs : re_E c s s') : re_E c (rn_dt c T P M K A L R H pn V t k S0 s) (rn_dt c T P M K A L R H pn' V t k S0' s') := by
  have fE : ∀ n, n < c → dt_fE T P M K A L R H pn V t k n = dt_fE T P M K A L R H pn' V t k n := by
    intro n hn; unfold dt_fE; rw [hp n hn]
  have fA : ∀ n, n < c → dt_fA T P M K A L R H pn V t k n = dt_fA T P M K A L R H pn' V t k n := by
    intro n hn; unfold dt_fA; rw [hp n hn]
  have gl : ∀ n, n < c → dt_gl T P M K A L R H pn V t k n = dt_gl T P M K A L R H pn' V t k n := by
    intro n hn; unfold dt_gl; rw [fE n hn, fA n hn]
  have gr : ∀ n, n < c → dt_gr T P M K A L R H pn V t k n = dt_gr T P M K A L R H pn' V t k n := by
    intro n hn; unfold dt_gr; rw [fE n hn]
  have sF : ∀ n, n < c → dt_st T P M K A L R H pn V t k n = dt_st T P M K A L R H pn' V t k n := by
    intro n hn; unfold dt_st; rw [fA n hn]
  have ls : ∀ n, n < c → dt_ls T P M K A L R H pn V t k n = dt_ls T P M K A L R H pn' V t k n := by
    intro n hn; unfold dt_ls; rw [hp n hn]
  have ac : ∀ n, n < c → dt_ac c L R (dt_gl T P M K A L R H pn V t k) (dt_gr T P M K A L R H pn V t k) S0 n = dt_ac c L R (dt_gl T P M K A L R H pn' V t k) (dt_gr T P M K A L R H pn' V t k) S0' n :=
    fun n hn => ac_cg gl gr hS (c - n) n hn (Nat.le_refl _)
  have wt : ∀ n, n < c → dt_wt c L R (dt_hw T P M K A L R H pn V t k) S0 s.2.1 n = dt_wt c L R (dt_hw T P M K A L R H pn' V t k) S0' s'.2.1 n :=
    fun n hn => wt_cg (hw := dt_hw T P M K A L R H pn V t k) hS hs.2.1 (c - n) n hn (Nat.le_refl _)
  obtain ⟨a1, a2, a3, a4, a5, a6⟩ := hs
  refine ⟨?_, ?_, ?_, a4, ?_, ?_⟩
  · intro n hn
    show (if _ = true then _ else s.1 n) = (if _ = true then _ else s'.1 n)
    rw [ac n hn, sF n hn, a1 n hn]
  · intro n hn
    show (if _ = true then _ else s.2.1 n) = (if _ = true then _ else s'.2.1 n)
    rw [ac n hn, wt n hn, a2 n hn]
  · show s.2.2.1 + dt_sm _ c = s'.2.2.1 + dt_sm _ c
    rw [a3]
    congr 1
    refine sm_c c ?_
    intro n hn
    rw [ac n hn, wt n hn]
    rfl
  · show s.2.2.2.2.1 + dt_sm _ c = s'.2.2.2.2.1 + dt_sm _ c
    rw [a5]
    congr 1
    refine sm_c c ?_
    intro n hn
    rw [ac n hn, wt n hn]
    unfold dt_dH
    rw [ls n hn]
  · show s.2.2.2.2.2 + dt_sm _ c = s'.2.2.2.2.2 + dt_sm _ c
    rw [a6]
    congr 1
    refine sm_c c ?_
    intro n hn
    rw [ac n hn, wt n hn]
    unfold dt_dX
    rw [ls n hn]
theorem up_cg {pa pa' : Nat → Int32} : ∀ e, (∀ i, i < e → pa i = pa' i) → rn_up pa e = rn_up pa' e := by
  intro e
  induction e with
  | zero => intro _; rfl
  | succ e ih =>
    intro h
    show rn_up pa e + _ = rn_up pa' e + _
    rw [ih (fun i hi => h i (by omega)), h e (by omega)]
theorem sk_cg {c T : Nat} {V : Nat → Int64} {t k : Nat} {st wt st' wt' : Nat → Int32} (h1 : ∀ n, n < c → st n = st' n) (h2 : ∀ n, n < c → wt n = wt' n) : rn_sk c T V t k st wt = rn_sk c T V t k st' wt' := by
  unfold rn_sk
  refine sm_c c ?_
  intro n hn
  rw [h1 n hn, h2 n hn]
theorem rs_cg {c T : Nat} {V : Nat → Int64} {t k : Nat} {st wt st' wt' : Nat → Int32} (h1 : ∀ n, n < c → st n = st' n) (h2 : ∀ n, n < c → wt n = wt' n) : rn_rs c T V t k st wt = rn_rs c T V t k st' wt' := by
  unfold rn_rs
  refine sm_c c ?_
  intro n hn
  rw [h1 n hn, h2 n hn]
theorem rn_E {c T P M : Nat} {K A L R H : Nat → Int32} {V : Nat → Int64} {pa pa' pA pA' : Nat → Int32} (h24 : c ≤ 24) : ∀ e, (∀ i, i < e → pa i = pa' i) → (∀ j, j < 24 * (e + 1) → pA j = pA' j) → re_E c (rn c T P M K A L R H V pa pA e) (rn c T P M K A L R H V pa' pA' e) := by
  intro e
  induction e with
  | zero =>
    intro h1 h2
    refine rn_cg ?_ (fun _ _ => rfl) re_Er
    intro n hn
    exact h2 _ (by omega)
  | succ e ih =>
    intro h1 h2
    have I := ih (fun i hi => h1 i (by omega)) (fun j hj => h2 j (by omega))
    have u1 := up_cg e (fun i hi => h1 i (by omega))
    have u2 := up_cg (e + 1) h1
    show re_E c (rn_dt c T P M K A L R H (rn_pn pA (e + 1)) V (e + 1) (rn_up pa (e + 1)) _ _) (rn_dt c T P M K A L R H (rn_pn pA' (e + 1)) V (e + 1) (rn_up pa' (e + 1)) _ _)
    rw [u2]
    refine rn_cg ?_ ?_ ?_
    · intro n hn
      exact h2 _ (by omega)
    · intro n hn
      unfold rn_W
      rw [I.1 n hn]
    · refine ⟨I.1, I.2.1, I.2.2.1, ?_, I.2.2.2.2.1, I.2.2.2.2.2⟩
      show (if pa e = 1 then _ else _) = (if pa' e = 1 then _ else _)
      rw [h1 e (by omega), u1, sk_cg I.1 I.2.1, I.2.2.2.1]
end
section
/-! the relation -/
def re_F (T P M C c hh : Nat) (K A L R B F S : Nat → Int32) (kd f s b : Nat → Nat) : Prop :=
  (1 ≤ T ∧ T ≤ 6 ∧ P ≤ 100 ∧ 1 ≤ M ∧ M ≤ 10 ∧ C ≤ 24 ∧ c ≤ C ∧ hh ≤ c) ∧ fo_ok c kd f ∧ fo_sk c hh f s ∧ fo_ti c kd f K L R F ∧ (∀ i, i < hh → S i = nI (s i)) ∧ vb_ok c T P M K A L R b ∧ (∀ p, p < c → B p = nI (b p))
def re_N (c : Nat) (s : rn_S) (st wt : Nat → Int32) (ca ga hs cs : Int64) : Prop := (∀ n, n < c → st n = s.1 n) ∧ (∀ n, n < c → wt n = s.2.1 n) ∧ ca = s.2.2.1 ∧ ga = s.2.2.2.1 ∧ hs = s.2.2.2.2.1 ∧ cs = s.2.2.2.2.2
def re_H (c d : Nat) (g : Nat → rn_S) (pa oS oW oU : Nat → Int32) (oC oG oH oX : Nat → Int64) : Prop := ∀ e, e < d → (∀ n, n < c → oS (24 * e + n) = (g e).1 n ∧ oW (24 * e + n) = (g e).2.1 n) ∧ oU e = nI (rn_up pa e) ∧ oC e = (g e).2.2.1 ∧ oG e = (g e).2.2.2.1 ∧ oH e = (g e).2.2.2.2.1 ∧ oX e = (g e).2.2.2.2.2
def re_G (T P M C c hh d k pc : Nat) (ca ga hs cs : Int64) (sg : Int32) (K A L R B F PN H S st wt pd oS oW oU : Nat → Int32) (V oC oG oH oX : Nat → Int64) (ca' ga' hs' cs' : Int64) (pa pA st' wt' du : Nat → Int32) (ce : Nat → Int64) (b : Nat → Nat) : Prop :=
  hh = 1 ∧ d ≤ T ∧ k = rn_up pa d ∧ pc = 0 ∧ hz_I c T K A L R H 0 ∧ yy_ce c T ce V ∧ vg_ok c T V b ∧ re_N c (rn c T P M K A L R H V pa pA d) st wt ca ga hs cs ∧ re_N c (rn c T P M K A L R H V pa pA d) st' wt' ca' ga' hs' cs' ∧ re_H c d (rn c T P M K A L R H V pa pA) pa oS oW oU oC oG oH oX
def re_all (T P M C c hh d k pc : Nat) (ca ga hs cs : Int64) (sg : Int32) (K A L R B F PN H S st wt pd oS oW oU : Nat → Int32) (V oC oG oH oX : Nat → Int64) (ca' ga' hs' cs' : Int64) (pa pA st' wt' du : Nat → Int32) (ce : Nat → Int64) : Prop := ∃ kd f s b : Nat → Nat, re_F T P M C c hh K A L R B F S kd f s b ∧ d ≤ 6 ∧ (sg = 0 ∨ (sg = 1 ∧ re_G T P M C c hh d k pc ca ga hs cs sg K A L R B F PN H S st wt pd oS oW oU V oC oG oH oX ca' ga' hs' cs' pa pA st' wt' du ce b))
def i_Rel (_ : Nat) (u : SX) (v : SY) : Prop := ∃ (T P M C c hh d k pc : Nat) (ca ga hs cs : Int64) (sg : Int32) (K A L R B F PN H S st wt pd oS oW oU : Nat → Int32) (V oC oG oH oX : Nat → Int64) (ca' ga' hs' cs' : Int64) (pa pA st' wt' du : Nat → Int32) (ce : Nat → Int64), u = (nI T, nI P, nI M, nI C, dt_G T, nI c, nI hh, sg, nI d, nI k, ca, ga, hs, cs, nI pc, K, A, L, R, B, F, PN, H, S, V, st, wt, pd, oS, oW, oU, oC, oG, oH, oX) ∧ v = (nI T, nI P, nI M, nI C, nI c, nI d, sg, ca', ga', hs', cs', K, A, L, R, B, PN, pa, pA, st', wt', du, ce) ∧ re_all T P M C c hh d k pc ca ga hs cs sg K A L R B F PN H S st wt pd oS oW oU V oC oG oH oX ca' ga' hs' cs' pa pA st' wt' du ce
theorem i_up {k : Nat} {u : SX} {v : SY} (h : i_Rel k u v) : i_Rel (k + 4) u v := h
theorem zz_in {k0 : Nat} {T P M C c hh d k pc : Nat} {ca ga hs cs : Int64} {sg : Int32} {K A L R B F PN H S st wt pd oS oW oU : Nat → Int32} {V oC oG oH oX : Nat → Int64} {ca' ga' hs' cs' : Int64} {pa pA st' wt' du : Nat → Int32} {ce : Nat → Int64} (h : re_all T P M C c hh d k pc ca ga hs cs sg K A L R B F PN H S st wt pd oS oW oU V oC oG oH oX ca' ga' hs' cs' pa pA st' wt' du ce) : i_Rel k0 (nI T, nI P, nI M, nI C, dt_G T, nI c, nI hh, sg, nI d, nI k, ca, ga, hs, cs, nI pc, K, A, L, R, B, F, PN, H, S, V, st, wt, pd, oS, oW, oU, oC, oG, oH, oX) (nI T, nI P, nI M, nI C, nI c, nI d, sg, ca', ga', hs', cs', K, A, L, R, B, PN, pa, pA, st', wt', du, ce) := ⟨T, P, M, C, c, hh, d, k, pc, ca, ga, hs, cs, sg, K, A, L, R, B, F, PN, H, S, st, wt, pd, oS, oW, oU, V, oC, oG, oH, oX, ca', ga', hs', cs', pa, pA, st', wt', du, ce, rfl, rfl, h⟩
theorem zz_el {k0 : Nat} {Pp : SX → SY → Prop} {u : SX} {v : SY} (h : ∀ (T P M C c hh d k pc : Nat) (ca ga hs cs : Int64) (sg : Int32) (K A L R B F PN H S st wt pd oS oW oU : Nat → Int32) (V oC oG oH oX : Nat → Int64) (ca' ga' hs' cs' : Int64) (pa pA st' wt' du : Nat → Int32) (ce : Nat → Int64), re_all T P M C c hh d k pc ca ga hs cs sg K A L R B F PN H S st wt pd oS oW oU V oC oG oH oX ca' ga' hs' cs' pa pA st' wt' du ce → Pp (nI T, nI P, nI M, nI C, dt_G T, nI c, nI hh, sg, nI d, nI k, ca, ga, hs, cs, nI pc, K, A, L, R, B, F, PN, H, S, V, st, wt, pd, oS, oW, oU, oC, oG, oH, oX) (nI T, nI P, nI M, nI C, nI c, nI d, sg, ca', ga', hs', cs', K, A, L, R, B, PN, pa, pA, st', wt', du, ce)) (I : i_Rel k0 u v) : Pp u v :=
  Exists.elim I fun T I => Exists.elim I fun P I => Exists.elim I fun M I => Exists.elim I fun C I => Exists.elim I fun c I => Exists.elim I fun hh I => Exists.elim I fun d I => Exists.elim I fun k I => Exists.elim I fun pc I => Exists.elim I fun ca I => Exists.elim I fun ga I => Exists.elim I fun hs I => Exists.elim I fun cs I => Exists.elim I fun sg I => Exists.elim I fun K I => Exists.elim I fun A I => Exists.elim I fun L I => Exists.elim I fun R I => Exists.elim I fun B I => Exists.elim I fun F I => Exists.elim I fun PN I => Exists.elim I fun H I => Exists.elim I fun S I => Exists.elim I fun st I => Exists.elim I fun wt I => Exists.elim I fun pd I => Exists.elim I fun oS I => Exists.elim I fun oW I => Exists.elim I fun oU I => Exists.elim I fun V I => Exists.elim I fun oC I => Exists.elim I fun oG I => Exists.elim I fun oH I => Exists.elim I fun oX I => Exists.elim I fun ca' I => Exists.elim I fun ga' I => Exists.elim I fun hs' I => Exists.elim I fun cs' I => Exists.elim I fun pa I => Exists.elim I fun pA I => Exists.elim I fun st' I => Exists.elim I fun wt' I => Exists.elim I fun du I => Exists.elim I fun ce I => (by
    obtain ⟨h1, h2, h3⟩ := I
    subst h1
    subst h2
    exact h T P M C c hh d k pc ca ga hs cs sg K A L R B F PN H S st wt pd oS oW oU V oC oG oH oX ca' ga' hs' cs' pa pA st' wt' du ce h3)
def re_cl (x lo hi : Int32) : Int32 := if lo ≤ x then (if x ≤ hi then x else hi) else lo
theorem cl_nat {x : Int32} {lo hi : Nat} (h : lo ≤ hi) (hh : hi < 2 ^ 31) : ∃ n, re_cl x (nI lo) (nI hi) = nI n ∧ lo ≤ n ∧ n ≤ hi := by
  unfold re_cl
  by_cases a : nI lo ≤ x
  · rw [if_pos a]
    by_cases b : x ≤ nI hi
    · rw [if_pos b]
      rw [Int32.le_iff_toInt_le, nI_toInt (by omega)] at a b
      refine ⟨x.toInt.toNat, nu_ofI (by omega) (by omega), by omega, by omega⟩
    · rw [if_neg b]
      exact ⟨hi, rfl, h, Nat.le_refl _⟩
  · rw [if_neg a]
    exact ⟨lo, rfl, Nat.le_refl _, h⟩
theorem cl_p {post : Int32 → Prop} {x lo hi : Int32} (h : post (re_cl x lo hi)) : ((lo ≤ x → (((x ≤ hi → (post x)) ∧ (¬ x ≤ hi → (post hi))))) ∧ (¬ lo ≤ x → (post lo))) := by
  unfold re_cl at h
  by_cases a : lo ≤ x
  · rw [if_pos a] at h
    refine br_t a ?_
    by_cases b : x ≤ hi
    · rw [if_pos b] at h; exact br_t b h
    · rw [if_neg b] at h; exact br_f b h
  · rw [if_neg a] at h; exact br_f a h
theorem xx_cl {post : Int32 → Prop} {u : SX} {x lo hi : Int32} (h : post (re_cl x lo hi)) : wpX_clamp post u x lo hi := by
  obtain ⟨a0, a1, a2, a3, a4, a5, a6, a7, a8, a9, a10, a11, a12, a13, a14, a15, a16, a17, a18, a19, a20, a21, a22, a23, a24, a25, a26, a27, a28, a29, a30, a31, a32, a33, a34⟩ := u
  exact cl_p h
theorem yy_cl {post : Int32 → Prop} {u : SY} {x lo hi : Int32} (h : post (re_cl x lo hi)) : wpY_clamp post u x lo hi := by
  obtain ⟨a0, a1, a2, a3, a4, a5, a6, a7, a8, a9, a10, a11, a12, a13, a14, a15, a16, a17, a18, a19, a20, a21, a22⟩ := u
  exact cl_p h
theorem i_vc0 (k0 : Int32) (k1 : Int32) (k2 : Int32) (k3 : Int32) : wpX_init (fun u => wpY_init (fun v => i_Rel 4 u v) k0 k1 k2 k3) k0 k1 k2 k3 := by
  obtain ⟨T, eT, T1, T2⟩ := cl_nat (x := k0) (lo := 1) (hi := 6) (by decide) (by decide)
  obtain ⟨P, eP, P1, P2⟩ := cl_nat (x := k1) (lo := 0) (hi := 100) (by decide) (by decide)
  obtain ⟨M, eM, M1, M2⟩ := cl_nat (x := k2) (lo := 1) (hi := 10) (by decide) (by decide)
  obtain ⟨C, eC, C1, C2⟩ := cl_nat (x := k3) (lo := 8) (hi := 24) (by decide) (by decide)
  have eT : re_cl k0 1 6 = nI T := eT
  have eP : re_cl k1 0 100 = nI P := eP
  have eM : re_cl k2 1 10 = nI M := eM
  have eC : re_cl k3 8 24 = nI C := eC
  unfold wpX_init
  refine xx_cl ?_
  rw [eT]
  refine xx_cl ?_
  rw [eP]
  refine xx_cl ?_
  rw [eM]
  refine xx_cl ?_
  rw [eC]
  refine nm_e ?_
  unfold wpY_init
  refine yy_cl ?_
  rw [eT]
  refine yy_cl ?_
  rw [eP]
  refine yy_cl ?_
  rw [eM]
  refine yy_cl ?_
  rw [eC]
  refine zz_in (T := T) (P := P) (M := M) (C := C) (c := 0) (hh := 0) (d := 0) (k := 0) (pc := 0) ⟨fun _ => 0, fun _ => 0, fun _ => 0, fun _ => 0, ⟨⟨T1, T2, P2, M1, M2, C2, by omega, by omega⟩, ?_, ?_, ?_, ?_, ?_, ?_⟩, by omega, Or.inl rfl⟩
  · intro p hp; omega
  · exact ⟨fun i hi => by omega, fun i hi => by omega, fun hi => by omega, fun _ => rfl⟩
  · intro p hp; omega
  · intro i hi; omega
  · intro p hp; omega
  · intro p hp; omega
end
section
/-! the calls that only read; pin; reset -/
theorem i_vc_nodes {k : Nat} {u : SX} {v : SY} (I : i_Rel k u v) (hk : k + 4 ≤ 2052) : wpX_nodes (fun r => wpY_nodes (fun r' => r' = r ∧ i_Rel (k + 4) u v) v) u := by
  refine zz_el (Pp := fun u v => wpX_nodes (fun r => wpY_nodes (fun r' => r' = r ∧ i_Rel (k + 4) u v) v) u) ?_ I
  intro T P M C c hh d k pc ca ga hs cs sg K A L R B F PN H S st wt pd oS oW oU V oC oG oH oX ca' ga' hs' cs' pa pA st' wt' du ce h
  exact ⟨rfl, zz_in h⟩
theorem i_vc_date {k : Nat} {u : SX} {v : SY} (I : i_Rel k u v) (hk : k + 4 ≤ 2052) : wpX_date (fun r => wpY_date (fun r' => r' = r ∧ i_Rel (k + 4) u v) v) u := by
  refine zz_el (Pp := fun u v => wpX_date (fun r => wpY_date (fun r' => r' = r ∧ i_Rel (k + 4) u v) v) u) ?_ I
  intro T P M C c hh d k pc ca ga hs cs sg K A L R B F PN H S st wt pd oS oW oU V oC oG oH oX ca' ga' hs' cs' pa pA st' wt' du ce h
  have h0 := h
  obtain ⟨kd, f, s, b, hF, hd6, hsg⟩ := h
  rcases hsg with rfl | ⟨rfl, g⟩
  · exact br_t rfl (br_t rfl ⟨rfl, zz_in h0⟩)
  · exact br_f (by decide) (br_f (by decide) ⟨rfl, zz_in h0⟩)
theorem i_vc_spot {k : Nat} {u : SX} {v : SY} (I : i_Rel k u v) (hk : k + 4 ≤ 2052) : wpX_spot (fun r => wpY_spot (fun r' => r' = r ∧ i_Rel (k + 4) u v) v) u := by
  refine zz_el (Pp := fun u v => wpX_spot (fun r => wpY_spot (fun r' => r' = r ∧ i_Rel (k + 4) u v) v) u) ?_ I
  intro T P M C c hh d k pc ca ga hs cs sg K A L R B F PN H S st wt pd oS oW oU V oC oG oH oX ca' ga' hs' cs' pa pA st' wt' du ce h
  have h0 := h
  obtain ⟨kd, f, s, b, hF, hd6, hsg⟩ := h
  rcases hsg with rfl | ⟨rfl, g⟩
  · refine br_t rfl ?_
    unfold wpY_spot
    exact yy_ups hd6 (br_t rfl ⟨rfl, zz_in h0⟩)
  · have ek := g.2.2.1
    subst ek
    refine br_f (by decide) ?_
    unfold wpX_priceAt wpY_spot
    exact yy_ups hd6 (br_f (by decide) ⟨rfl, zz_in h0⟩)
theorem i_vc_depth {k : Nat} {u : SX} {v : SY} (I : i_Rel k u v) (hk : k + 4 ≤ 2052) : wpX_depth (fun r => wpY_depth (fun r' => r' = r ∧ i_Rel (k + 4) u v) v) u := by
  refine zz_el (Pp := fun u v => wpX_depth (fun r => wpY_depth (fun r' => r' = r ∧ i_Rel (k + 4) u v) v) u) ?_ I
  intro T P M C c hh d k pc ca ga hs cs sg K A L R B F PN H S st wt pd oS oW oU V oC oG oH oX ca' ga' hs' cs' pa pA st' wt' du ce h
  have h0 := h
  obtain ⟨kd, f, s, b, ⟨⟨T1, T2, P1, M1, M2, C2, cC, hc⟩, o, sk, ti, hS, hb, hB⟩, hd6, hsg⟩ := h
  unfold wpX_depth
  exact yy_dep (by omega) hc o sk ti ⟨rfl, zz_in h0⟩
theorem i_vc_worth {k : Nat} {u : SX} {v : SY} (I : i_Rel k u v) (hk : k + 4 ≤ 2052) (v1 : Int32) (v2 : Int32) (v3 : Int32) : wpX_worth (fun r => wpY_worth (fun r' => r' = r ∧ i_Rel (k + 4) u v) v v1 v2 v3) u v1 v2 v3 := by
  refine zz_el (Pp := fun u v => wpX_worth (fun r => wpY_worth (fun r' => r' = r ∧ i_Rel (k + 4) u v) v v1 v2 v3) u v1 v2 v3) ?_ I
  intro T P M C c hh d k pc ca ga hs cs sg K A L R B F PN H S st wt pd oS oW oU V oC oG oH oX ca' ga' hs' cs' pa pA st' wt' du ce h
  have h0 := h
  obtain ⟨kd, f, s, b, ⟨⟨T1, T2, P1, M1, M2, C2, cC, hc⟩, o, sk, ti, hS, hb, hB⟩, hd6, hsg⟩ := h
  rcases hsg with rfl | ⟨rfl, g⟩
  · exact br_t rfl (br_t rfl ⟨rfl, zz_in h0⟩)
  · refine br_f (by decide) ?_
    by_cases n0 : v1 < 0
    · exact br_t n0 (br_f (by decide) (br_t n0 ⟨rfl, zz_in h0⟩))
    · obtain ⟨n, hn31, rfl⟩ := nI_of n0
      refine br_f n0 ?_
      by_cases hn : n < c
      · have y1 := nI_ge (a := n) (b := c) hn (by omega)
        refine br_t (nI_lt hn (by omega)) ?_
        by_cases t0 : v2 < 0
        · exact br_t t0 (br_f (by decide) (br_f n0 (br_f y1 (br_t t0 ⟨rfl, zz_in h0⟩))))
        · refine br_f t0 ?_
          by_cases tT : nI T < v2
          · exact br_t tT (br_f (by decide) (br_f n0 (br_f y1 (br_f t0 (br_t tT ⟨rfl, zz_in h0⟩)))))
          · refine br_f tT ?_
            by_cases q0 : v3 < 0
            · exact br_t q0 (br_f (by decide) (br_f n0 (br_f y1 (br_f t0 (br_f tT (br_t q0 ⟨rfl, zz_in h0⟩))))))
            · refine br_f q0 ?_
              by_cases qt : v3 ≤ v2
              · obtain ⟨t, ht31, rfl⟩ := nI_of t0
                obtain ⟨q, hq31, rfl⟩ := nI_of q0
                rw [nI_ltI (by omega) ht31] at tT
                rw [nI_leI hq31 ht31] at qt
                refine br_t (nI_le qt ht31) (xx_val (Or.inr ⟨n, by omega, rfl⟩) (by omega) (by omega) (yy_val (by omega) T2 (Or.inr ⟨n, hn, rfl⟩) (by omega) qt ⟨?_, zz_in h0⟩))
                rw [vv_nI (by omega), vv_nI (by omega)]
                exact g.2.2.2.2.2.1 n t q hn (by omega) qt
              · exact br_f qt (br_f (by decide) (br_f n0 (br_f y1 (br_f t0 (br_f tT (br_f q0 (br_f qt ⟨rfl, zz_in h0⟩)))))))
      · exact br_f (nI_nlt (by omega) (by omega)) (br_f (by decide) (br_f n0 (br_t (nI_le (by omega) (by omega)) ⟨rfl, zz_in h0⟩)))
theorem i_vc_fact {k : Nat} {u : SX} {v : SY} (I : i_Rel k u v) (hk : k + 4 ≤ 2052) (v1 : Int32) (v2 : Int32) : wpX_fact (fun r => wpY_fact (fun r' => r' = r ∧ i_Rel (k + 4) u v) v v1 v2) u v1 v2 := by
  refine zz_el (Pp := fun u v => wpX_fact (fun r => wpY_fact (fun r' => r' = r ∧ i_Rel (k + 4) u v) v v1 v2) u v1 v2) ?_ I
  intro T P M C c hh d k pc ca ga hs cs sg K A L R B F PN H S st wt pd oS oW oU V oC oG oH oX ca' ga' hs' cs' pa pA st' wt' du ce h
  have h0 := h
  obtain ⟨kd, f, s, b, ⟨⟨T1, T2, P1, M1, M2, C2, cC, hc⟩, o, sk, ti, hS, hb, hB⟩, hd6, hsg⟩ := h
  by_cases n0 : v1 < 0
  · exact br_t n0 (br_t n0 ⟨rfl, zz_in h0⟩)
  · obtain ⟨n, hn31, rfl⟩ := nI_of n0
    refine br_f n0 ?_
    by_cases hn : n < c
    · have hlt := nI_lt hn (b := c) (by omega)
      have iv := vp_in_nI (n := n) (N := 24) (by omega) (by decide)
      have ec := nI_clamp (n := n) (by omega)
      refine br_t hlt ?_
      by_cases e0 : v2 = 0
      · subst e0
        exact br_f (by decide) (br_f (by decide) (br_t rfl ⟨iv, br_f n0 (br_t hlt (br_t rfl ⟨iv, rfl, zz_in h0⟩))⟩))
      · by_cases e1 : v2 = 1
        · subst e1
          exact br_f (by decide) (br_f (by decide) (br_f e0 (br_t rfl ⟨iv, br_f n0 (br_t hlt (br_f e0 (br_t rfl ⟨iv, rfl, zz_in h0⟩)))⟩)))
        · by_cases e2 : v2 = 2
          · subst e2
            exact br_f (by decide) (br_f (by decide) (br_f e0 (br_f e1 (br_t rfl ⟨iv, br_f n0 (br_t hlt (br_f e0 (br_f e1 (br_t rfl ⟨iv, rfl, zz_in h0⟩))))⟩))))
          · by_cases e3 : v2 = 3
            · subst e3
              exact br_f (by decide) (br_f (by decide) (br_f e0 (br_f e1 (br_f e2 (br_t rfl ⟨iv, br_f n0 (br_t hlt (br_f e0 (br_f e1 (br_f e2 (br_t rfl ⟨iv, rfl, zz_in h0⟩)))))⟩)))))
            · by_cases e4 : v2 = 4
              · subst e4
                exact br_f (by decide) (br_f (by decide) (br_f e0 (br_f e1 (br_f e2 (br_f e3 (br_t rfl ⟨iv, br_f n0 (br_t hlt (br_f e0 (br_f e1 (br_f e2 (br_f e3 (br_t rfl ⟨iv, rfl, zz_in h0⟩))))))⟩))))))
              · by_cases e5 : v2 = 5
                · subst e5
                  refine br_f (by decide) (br_f (by decide) (br_f e0 (br_f e1 (br_f e2 (br_f e3 (br_f e4 (br_t rfl ?_)))))))
                  rcases hsg with rfl | ⟨rfl, g⟩
                  · exact br_t rfl (br_f n0 (br_t hlt (br_f e0 (br_f e1 (br_f e2 (br_f e3 (br_f e4 (br_t rfl (br_t rfl ⟨rfl, zz_in h0⟩)))))))))
                  · refine br_f (by decide) ⟨iv, br_f n0 (br_t hlt (br_f e0 (br_f e1 (br_f e2 (br_f e3 (br_f e4 (br_t rfl (br_f (by decide) ?_))))))))⟩
                    refine yy_hor (by omega) T2 (fo_tr (by omega) o ti) g.2.2.2.2.1 (fo_pe (by omega) o sk ti g.1) hn ⟨?_, zz_in h0⟩
                    rw [ec]
                · by_cases e6 : v2 = 6
                  · subst e6
                    refine br_f (by decide) (br_f (by decide) (br_f e0 (br_f e1 (br_f e2 (br_f e3 (br_f e4 (br_f e5 (br_t rfl ?_))))))))
                    rcases hsg with rfl | ⟨rfl, g⟩
                    · exact br_t rfl (br_f n0 (br_t hlt (br_f e0 (br_f e1 (br_f e2 (br_f e3 (br_f e4 (br_f e5 (br_t rfl (br_t rfl ⟨rfl, zz_in h0⟩))))))))))
                    · refine br_f (by decide) ⟨iv, br_f n0 (br_t hlt (br_f e0 (br_f e1 (br_f e2 (br_f e3 (br_f e4 (br_f e5 (br_t rfl (br_f (by decide) ⟨iv, ?_, zz_in h0⟩)))))))))⟩
                      rw [ec]
                      exact (g.2.2.2.2.2.2.2.2.1.1 n hn).trans (g.2.2.2.2.2.2.2.1.1 n hn).symm
                  · by_cases e7 : v2 = 7
                    · subst e7
                      refine br_f (by decide) (br_f (by decide) (br_f e0 (br_f e1 (br_f e2 (br_f e3 (br_f e4 (br_f e5 (br_f e6 (br_t rfl ?_)))))))))
                      rcases hsg with rfl | ⟨rfl, g⟩
                      · exact br_t rfl (br_f n0 (br_t hlt (br_f e0 (br_f e1 (br_f e2 (br_f e3 (br_f e4 (br_f e5 (br_f e6 (br_t rfl (br_t rfl ⟨rfl, zz_in h0⟩)))))))))))
                      · refine br_f (by decide) ⟨iv, br_f n0 (br_t hlt (br_f e0 (br_f e1 (br_f e2 (br_f e3 (br_f e4 (br_f e5 (br_f e6 (br_t rfl (br_f (by decide) ⟨iv, ?_, zz_in h0⟩))))))))))⟩
                        rw [ec]
                        exact (g.2.2.2.2.2.2.2.2.1.2.1 n hn).trans (g.2.2.2.2.2.2.2.1.2.1 n hn).symm
                    · by_cases m0 : v2 < 0
                      · exact br_t m0 (br_f n0 (br_t hlt (br_f e0 (br_f e1 (br_f e2 (br_f e3 (br_f e4 (br_f e5 (br_f e6 (br_f e7 ⟨rfl, zz_in h0⟩))))))))))
                      · refine br_f m0 (br_t ?_ (br_f n0 (br_t hlt (br_f e0 (br_f e1 (br_f e2 (br_f e3 (br_f e4 (br_f e5 (br_f e6 (br_f e7 ⟨rfl, zz_in h0⟩)))))))))))
                        obtain ⟨j, hj, rfl⟩ := nI_of m0
                        have z : ∀ i : Nat, i < 8 → ¬ nI j = nI i → j ≠ i := fun i _ h e => h (by rw [e])
                        have z0 := z 0 (by omega) e0
                        have z1 := z 1 (by omega) e1
                        have z2 := z 2 (by omega) e2
                        have z3 := z 3 (by omega) e3
                        have z4 := z 4 (by omega) e4
                        have z5 := z 5 (by omega) e5
                        have z6 := z 6 (by omega) e6
                        have z7 := z 7 (by omega) e7
                        exact nI_lt (a := 7) (by omega) hj
    · exact br_f (nI_nlt (by omega) (by omega)) (br_f n0 (br_f (nI_nlt (by omega) (by omega)) ⟨rfl, zz_in h0⟩))
end
section
/-! account, pin, reset, put, twin -/
theorem i_vc_account {k : Nat} {u : SX} {v : SY} (I : i_Rel k u v) (hk : k + 4 ≤ 2052) (v1 : Int32) : wpX_account (fun r => wpY_account (fun r' => r' = r ∧ i_Rel (k + 4) u v) v v1) u v1 := by
  refine zz_el (Pp := fun u v => wpX_account (fun r => wpY_account (fun r' => r' = r ∧ i_Rel (k + 4) u v) v v1) u v1) ?_ I
  intro T P M C c hh d k pc ca ga hs cs sg K A L R B F PN H S st wt pd oS oW oU V oC oG oH oX ca' ga' hs' cs' pa pA st' wt' du ce h
  have h0 := h
  obtain ⟨kd, f, s, b, ⟨⟨T1, T2, P1, M1, M2, C2, cC, hc⟩, o, sk, ti, hS, hb, hB⟩, hd6, hsg⟩ := h
  rcases hsg with rfl | ⟨rfl, g⟩
  · exact br_t rfl (br_t rfl ⟨rfl, zz_in h0⟩)
  · obtain ⟨g1, gd, gk, gpc, ghz, gce, gvg, gN, gN', gH⟩ := g
    subst gk
    have hk := up_le (pa := pa) d
    have tr := fo_tr (by omega) o ti
    have rg := rg_rn (H := H) (V := V) (pa := pa) (pA := pA) P1 M2 T2 hb tr (by omega) d gd
    refine br_f (by decide) ?_
    by_cases e0 : v1 = 0
    · subst e0
      refine br_f (by decide) (br_f (by decide) (br_t rfl ?_))
      rw [nu_s1 (by omega)]
      refine xx_val (t := 0) (q := 0) (Or.inr ⟨c - 1, by omega, rfl⟩) (by omega) (by omega) (br_f (by decide) (br_t rfl ?_))
      rw [nu_s1 (by omega)]
      refine yy_val (t := 0) (q := 0) (by omega) T2 (Or.inr ⟨c - 1, by omega, rfl⟩) (by omega) (by omega) ⟨?_, zz_in h0⟩
      rw [vv_nI (by omega), vv_nI (by omega)]
      exact gce _ _ _ (by omega) (by omega) (by omega)
    · by_cases e1 : v1 = 1
      · subst e1
        exact br_f (by decide) (br_f (by decide) (br_f e0 (br_t rfl (br_f (by decide) (br_f e0 (br_t rfl ⟨gN'.2.2.1.trans gN.2.2.1.symm, zz_in h0⟩))))))
      · by_cases e2 : v1 = 2
        · subst e2
          exact br_f (by decide) (br_f (by decide) (br_f e0 (br_f e1 (br_t rfl (br_f (by decide) (br_f e0 (br_f e1 (br_t rfl ⟨gN'.2.2.2.1.trans gN.2.2.2.1.symm, zz_in h0⟩))))))))
        · by_cases e3 : v1 = 3
          · subst e3
            refine br_f (by decide) (br_f (by decide) (br_f e0 (br_f e1 (br_f e2 (br_t rfl ?_)))))
            refine xx_sum (w := fun n => dt_ex T V n d (rn_up pa d)) (by omega) T2 gd hk (Or.inl ⟨rfl, fun _ => rfl⟩) ?_
            refine br_f (by decide) (br_f e0 (br_f e1 (br_f e2 (br_f (by decide) (br_f (by decide) (br_f (by decide) (br_t rfl ?_)))))))
            refine yy_ups hd6 (yy_res (V := V) (by omega) T2 gd gce ⟨?_, zz_in h0⟩)
            exact rs_cg (fun n hn => (gN'.1 n hn).trans (gN.1 n hn).symm) (fun n hn => (gN'.2.1 n hn).trans (gN.2.1 n hn).symm)
          · by_cases e4 : v1 = 4
            · subst e4
              refine br_f (by decide) (br_f (by decide) (br_f e0 (br_f e1 (br_f e2 (br_f e3 (br_t rfl ?_))))))
              refine xx_sum (w := fun n => dt_hp T V n d (rn_up pa d)) (by omega) T2 gd hk (Or.inr ⟨rfl, fun _ => rfl⟩) ?_
              refine br_f (by decide) (br_f e0 (br_f e1 (br_f e2 (br_t rfl ?_))))
              refine yy_stk (V := V) (b := b) (by omega) T2 gd gce gvg (fun n hn => ⟨(hb n hn).1, (hb n hn).2.1⟩) ?_ ⟨?_, zz_in h0⟩
              · intro n hn hw
                rw [gN'.2.1 n hn]
                exact rg.1 n hn (by rw [← gN'.1 n hn]; exact hw)
              · exact sk_cg (fun n hn => (gN'.1 n hn).trans (gN.1 n hn).symm) (fun n hn => (gN'.2.1 n hn).trans (gN.2.1 n hn).symm)
            · by_cases e5 : v1 = 5
              · subst e5
                exact br_f (by decide) (br_f (by decide) (br_f e0 (br_f e1 (br_f e2 (br_f e3 (br_f e4 (br_t rfl (br_f (by decide) (br_f e0 (br_f e1 (br_f e2 (br_f e4 (br_t rfl ⟨gN'.2.2.2.2.1.trans gN.2.2.2.2.1.symm, zz_in h0⟩)))))))))))))
              · by_cases e6 : v1 = 6
                · subst e6
                  exact br_f (by decide) (br_f (by decide) (br_f e0 (br_f e1 (br_f e2 (br_f e3 (br_f e4 (br_f e5 (br_t rfl (br_f (by decide) (br_f e0 (br_f e1 (br_f e2 (br_f e4 (br_f e5 (br_t rfl ⟨gN'.2.2.2.2.2.trans gN.2.2.2.2.2.symm, zz_in h0⟩)))))))))))))))
                · by_cases m0 : v1 < 0
                  · exact br_t m0 (br_f (by decide) (br_f e0 (br_f e1 (br_f e2 (br_f e4 (br_f e5 (br_f e6 (br_f e3 ⟨rfl, zz_in h0⟩))))))))
                  · refine br_f m0 (br_t ?_ (br_f (by decide) (br_f e0 (br_f e1 (br_f e2 (br_f e4 (br_f e5 (br_f e6 (br_f e3 ⟨rfl, zz_in h0⟩)))))))))
                    obtain ⟨j, hj, rfl⟩ := nI_of m0
                    have z : ∀ i : Nat, i < 7 → ¬ nI j = nI i → j ≠ i := fun i _ h e => h (by rw [e])
                    have z0 := z 0 (by omega) e0
                    have z1 := z 1 (by omega) e1
                    have z2 := z 2 (by omega) e2
                    have z3 := z 3 (by omega) e3
                    have z4 := z 4 (by omega) e4
                    have z5 := z 5 (by omega) e5
                    have z6 := z 6 (by omega) e6
                    exact nI_lt (a := 6) (by omega) hj
theorem i_vc_pin {k : Nat} {u : SX} {v : SY} (I : i_Rel k u v) (hk : k + 4 ≤ 2052) (v1 : Int32) (v2 : Int32) : wpX_pin (fun r u' => wpY_pin (fun r' v' => r' = r ∧ i_Rel (k + 4) u' v') v v1 v2) u v1 v2 := by
  refine zz_el (Pp := fun u v => wpX_pin (fun r u' => wpY_pin (fun r' v' => r' = r ∧ i_Rel (k + 4) u' v') v v1 v2) u v1 v2) ?_ I
  intro T P M C c hh d k pc ca ga hs cs sg K A L R B F PN H S st wt pd oS oW oU V oC oG oH oX ca' ga' hs' cs' pa pA st' wt' du ce h
  have hc24 : c ≤ 24 := by
    obtain ⟨kd, f, s, b, ⟨⟨T1, T2, P1, M1, M2, C2, cC, hc⟩, _⟩, _⟩ := h
    omega
  by_cases n0 : v1 < 0
  · exact br_t n0 (br_t n0 ⟨rfl, zz_in h⟩)
  · obtain ⟨n, hn31, rfl⟩ := nI_of n0
    refine br_f n0 ?_
    by_cases hn : n < c
    · have hlt := nI_lt hn (b := c) (by omega)
      have iv := vp_in_nI (n := n) (N := 24) (by omega) (by decide)
      refine br_t hlt ⟨iv, ?_⟩
      by_cases k6 : K (nI n).toNatClampNeg = 6
      · refine br_t k6 ?_
        unfold wX_pin_40
        by_cases o0 : v2 < 0
        · exact br_t o0 (br_f n0 (br_t hlt ⟨iv, br_t k6 (br_t o0 ⟨rfl, zz_in h⟩)⟩))
        · by_cases o2 : v2 ≤ 2
          · exact br_f o0 (br_t o2 ⟨iv, nm_e (br_f n0 (br_t hlt ⟨iv, br_t k6 (br_f o0 (br_t o2 ⟨iv, nm_e ⟨rfl, zz_in h⟩⟩))⟩))⟩)
          · exact br_f o0 (br_f o2 (br_f n0 (br_t hlt ⟨iv, br_t k6 (br_f o0 (br_f o2 ⟨rfl, zz_in h⟩))⟩)))
      · refine br_f k6 ⟨iv, ?_⟩
        by_cases k10 : K (nI n).toNatClampNeg = 10
        · refine br_t k10 ?_
          unfold wX_pin_40
          by_cases o0 : v2 < 0
          · exact br_t o0 (br_f n0 (br_t hlt ⟨iv, br_f k6 ⟨iv, br_t k10 (br_t o0 ⟨rfl, zz_in h⟩)⟩⟩))
          · by_cases o2 : v2 ≤ 2
            · exact br_f o0 (br_t o2 ⟨iv, nm_e (br_f n0 (br_t hlt ⟨iv, br_f k6 ⟨iv, br_t k10 (br_f o0 (br_t o2 ⟨iv, nm_e ⟨rfl, zz_in h⟩⟩))⟩⟩))⟩)
            · exact br_f o0 (br_f o2 (br_f n0 (br_t hlt ⟨iv, br_f k6 ⟨iv, br_t k10 (br_f o0 (br_f o2 ⟨rfl, zz_in h⟩))⟩⟩)))
        · exact br_f k10 (br_f n0 (br_t hlt ⟨iv, br_f k6 ⟨iv, br_f k10 ⟨rfl, zz_in h⟩⟩⟩))
    · exact br_f (nI_nlt (by omega) (by omega)) (br_f n0 (br_f (nI_nlt (by omega) (by omega)) ⟨rfl, zz_in h⟩))
theorem i_vc_reset {k : Nat} {u : SX} {v : SY} (I : i_Rel k u v) (hk : k + 4 ≤ 2052) : wpX_reset (fun u' => wpY_reset (fun v' => i_Rel (k + 4) u' v') v) u := by
  refine zz_el (Pp := fun u v => wpX_reset (fun u' => wpY_reset (fun v' => i_Rel (k + 4) u' v') v) u) ?_ I
  intro T P M C c hh d k pc ca ga hs cs sg K A L R B F PN H S st wt pd oS oW oU V oC oG oH oX ca' ga' hs' cs' pa pA st' wt' du ce h
  obtain ⟨kd, f, s, b, ⟨⟨T1, T2, P1, M1, M2, C2, cC, hc⟩, o, sk, ti, hS, hb, hB⟩, hd6, hsg⟩ := h
  unfold wpX_reset
  refine xx_clr (c := 0) (hh := 0) ?_
  intro st1 wt1 _
  refine zz_in (k0 := 0) (c := 0) (hh := 0) (d := 0) (k := 0) (pc := 0) ⟨fun _ => 0, fun _ => 0, fun _ => 0, fun _ => 0, ⟨⟨T1, T2, P1, M1, M2, C2, by omega, by omega⟩, ?_, ?_, ?_, ?_, ?_, ?_⟩, by omega, Or.inl rfl⟩
  · intro p hp; omega
  · exact ⟨fun i hi => by omega, fun i hi => by omega, fun hi => by omega, fun _ => rfl⟩
  · intro p hp; omega
  · intro i hi; omega
  · intro p hp; omega
  · intro p hp; omega
theorem b1_nat {c T P M : Nat} {K A L R B : Nat → Int32} {b : Nat → Nat} {l : Int32} (h24 : c ≤ 24) (hb : vb_ok c T P M K A L R b) (hB : ∀ p, p < c → B p = nI (b p)) (hl : l = -1 ∨ ∃ m, m < c ∧ l = nI m) : ∃ bx, bu_b1 B l = nI bx ∧ 1 ≤ bx ∧ bx ≤ 1000000 ∧ (∀ m, m < 24 → l = nI m → m < c ∧ b m = bx) := by
  rcases hl with rfl | ⟨m, hm, rfl⟩
  · refine ⟨1, if_neg nu_m1le, by omega, by omega, ?_⟩
    intro m hm e
    exact (nu_neg' (by omega) e).elim
  · refine ⟨b m, ?_, (hb m hm).1, (hb m hm).2.1, ?_⟩
    · unfold bu_b1
      rw [if_pos (nI_pos' (by omega)), nI_clamp (by omega)]
      exact hB m hm
    · intro m' hm' e
      have := nu_inj e (by omega) (by omega)
      subst this
      exact ⟨hm, rfl⟩
theorem i_vc_put {k : Nat} {u : SX} {v : SY} (I : i_Rel k u v) (hk : k + 4 ≤ 2052) (v1 : Int32) (v2 : Int32) : wpX_put (fun r u' => wpY_put (fun r' v' => r' = r ∧ i_Rel (k + 4) u' v') v v1 v2) u v1 v2 := by
  refine zz_el (Pp := fun u v => wpX_put (fun r u' => wpY_put (fun r' v' => r' = r ∧ i_Rel (k + 4) u' v') v v1 v2) u v1 v2) ?_ I
  intro T P M C c hh d k pc ca ga hs cs sg K A L R B F PN H S st wt pd oS oW oU V oC oG oH oX ca' ga' hs' cs' pa pA st' wt' du ce h
  have h0 := h
  obtain ⟨kd, f, s, b, ⟨⟨T1, T2, P1, M1, M2, C2, cC, hc⟩, o, sk, ti, hS, hb, hB⟩, hd6, hsg⟩ := h
  rcases hsg with rfl | ⟨rfl, g⟩
  · by_cases n0 : v1 < 0
    · exact br_t rfl (br_t n0 (br_t rfl (br_t n0 ⟨rfl, zz_in h0⟩)))
    · obtain ⟨q, hq31, rfl⟩ := nI_of n0
      by_cases hq : q ≤ 10
      · have hB0 : ∀ m, m < c → ¬ B m ≤ 0 := by
          intro m hm
          rw [hB m hm]
          have := hb m hm
          exact nI_nle (by omega) (by omega)
        have hSm : ∀ i, i < hh → ∃ m, m < 24 ∧ S i = nI m := fun i hi => ⟨s i, by have := sk.1 i hi; omega, hS i hi⟩
        have tr := fo_tr (by omega) o ti
        have elS : fo_ar q ≤ hh → (if fo_ar q = 0 then (-1 : Int32) else S (hh - fo_ar q)) = (if fo_ar q = 0 then -1 else nI (s (hh - fo_ar q))) := by
          intro ha
          by_cases z : fo_ar q = 0
          · rw [if_pos z, if_pos z]
          · rw [if_neg z, if_neg z, hS _ (by omega)]
        have erS : fo_ar q ≤ hh → (if fo_ar q = 2 then S (hh - 1) else (-1 : Int32)) = (if fo_ar q = 2 then nI (s (hh - 1)) else -1) := by
          intro ha
          by_cases z : fo_ar q = 2
          · rw [if_pos z, if_pos z, hS _ (by omega)]
          · rw [if_neg z, if_neg z]
        refine xx_put hq rfl C2 cC hc hSm ?_ ?_ ?_ ?_ ?_
        · intro a1
          refine yy_put hq rfl C2 cC hc o sk ti hB0 (fun _ => ⟨rfl, zz_in h0⟩) ?_ ?_ ?_ ?_ <;> (intro ha; omega)
        · intro a1 a2
          refine yy_put hq rfl C2 cC hc o sk ti hB0 (fun _ => by omega) (fun _ _ => ⟨rfl, zz_in h0⟩) ?_ ?_ ?_ <;> (intro _ hf; rw [a2] at hf; exact (Bool.false_ne_true hf).elim)
        · intro a1 a2 a3
          refine yy_put hq rfl C2 cC hc o sk ti hB0 (fun _ => by omega) (fun _ hf => ?_) (fun _ _ _ => ⟨rfl, zz_in h0⟩) ?_ ?_
          · rw [a2] at hf; exact (Bool.false_ne_true hf.symm).elim
          · intro _ _ z; omega
          · intro _ _ z; omega
        · intro a1 a2 a3 l r hl hr hbd
          refine yy_put hq rfl C2 cC hc o sk ti hB0 (fun _ => by omega) (fun _ hf => ?_) (fun _ _ z => by omega) (fun _ _ _ _ _ _ _ _ => ⟨rfl, zz_in h0⟩) ?_
          · rw [a2] at hf; exact (Bool.false_ne_true hf.symm).elim
          · intro _ _ _ l' r' hl' hr' hbd'
            rw [elS a1] at hl
            rw [erS a1] at hr
            rw [hl', hr', ← hl, ← hr] at hbd'
            exact (hbd hbd').elim
        · intro a1 a2 a3 l r hl hr hbd
          have gl := gr_l (q := q) sk a1 hS
          have gr := gr_r (q := q) sk a1 hS
          have ll : l = -1 ∨ ∃ m, m < c ∧ l = nI m := by
            rw [hl]
            by_cases z : fo_ar q = 0
            · rw [if_pos z]; exact Or.inl rfl
            · rw [if_neg z, hS _ (by omega)]
              exact Or.inr ⟨_, sk.1 _ (by omega), rfl⟩
          have lr : r = -1 ∨ ∃ m, m < c ∧ r = nI m := by
            rw [hr]
            by_cases z : fo_ar q = 2
            · rw [if_pos z, hS _ (by omega)]
              exact Or.inr ⟨_, sk.1 _ (by omega), rfl⟩
            · rw [if_neg z]; exact Or.inl rfl
          obtain ⟨bx, x1, x2, x3, x4⟩ := b1_nat (by omega) hb hB ll
          obtain ⟨bz, y1, y2, y3, y4⟩ := b1_nat (by omega) hb hB lr
          obtain ⟨bn, n1, n2, n3, n4, n5, n6, n7, n8, n9⟩ := bu_nat (T := T) (P := P) (M := M) (a := v2) hq a2 T1 T2 P1 M1 M2 x2 x3 y2 y3
          rw [← x1, ← y1] at n1
          have nb : bn ≤ 1000000 := by
            rw [n1] at hbd
            exact (nI_leI (b := 1000000) n3 (by omega)).mp hbd
          have r2 : ∀ m, m < 24 → r = nI m → m < c ∧ b m = bz ∧ fo_ar q = 2 := by
            intro m hm e
            obtain ⟨w1, w2⟩ := y4 m hm e
            refine ⟨w1, w2, ?_⟩
            by_cases z : fo_ar q = 2
            · exact z
            · rw [hr, if_neg z] at e
              exact (nu_neg' (by omega) e).elim
          refine yy_put hq rfl C2 cC hc o sk ti hB0 (fun _ => by omega) (fun _ hf => ?_) (fun _ _ z => by omega) ?_ ?_
          · rw [a2] at hf; exact (Bool.false_ne_true hf.symm).elim
          · intro _ _ _ l' r' hl' hr' hbd'
            rw [elS a1] at hl
            rw [erS a1] at hr
            rw [hl', hr', ← hl, ← hr] at hbd'
            exact (hbd' hbd).elim
          · intro _ _ _ l' r' hl' hr' hbd'
            have el : l' = l := by rw [hl', hl, elS a1]
            have er : r' = r := by rw [hr', hr, erS a1]
            subst el er
            refine ⟨rfl, zz_in (c := c + 1) (hh := hh - fo_ar q + 1) ⟨nu_up kd c q, nu_up f c (gr_f f c (fo_ar q)), nu_up s (hh - fo_ar q) c, nu_up b c bn, ⟨⟨T1, T2, P1, M1, M2, C2, by omega, by omega⟩, gr_ok o sk a1, gr_sk o sk a1, gr_ti (by omega) hq o sk ti a1 (hl.trans gl) (hr.trans gr), ?_, gr_vb (by omega) hq tr hb n2 nb n4 n5 n6 n7 n8 n9 x4 r2, ?_⟩, hd6, Or.inl rfl⟩⟩
            · intro i hi
              by_cases z : i = hh - fo_ar q
              · rw [z, pk_us, nup_s]
              · rw [pk_un z, nup_n z]
                exact hS i (by omega)
            · intro p hp
              by_cases z : p = c
              · rw [z, pk_us, nup_s]
                exact n1
              · rw [pk_un z, nup_n z]
                exact hB p (by omega)
      · have g10 := nI_ge (a := 10) (b := q) (by omega) hq31
        exact br_t rfl (br_f n0 (br_f g10 (br_t rfl (br_f n0 (br_f g10 ⟨rfl, zz_in h0⟩)))))
  · exact br_f (by decide) (br_f (by decide) ⟨rfl, zz_in h0⟩)
theorem i_vc_twin {k : Nat} {u : SX} {v : SY} (I : i_Rel k u v) (hk : k + 4 ≤ 2052) : wpX_twin (fun r u' => wpY_twin (fun r' v' => r' = r ∧ i_Rel (k + 4) u' v') v) u := by
  refine zz_el (Pp := fun u v => wpX_twin (fun r u' => wpY_twin (fun r' v' => r' = r ∧ i_Rel (k + 4) u' v') v) u) ?_ I
  intro T P M C c hh d k pc ca ga hs cs sg K A L R B F PN H S st wt pd oS oW oU V oC oG oH oX ca' ga' hs' cs' pa pA st' wt' du ce h
  have h0 := h
  obtain ⟨kd, f, s, b, ⟨⟨T1, T2, P1, M1, M2, C2, cC, hc⟩, o, sk, ti, hS, hb, hB⟩, hd6, hsg⟩ := h
  rcases hsg with rfl | ⟨rfl, g⟩
  · have hlo : 0 < hh → f (c - 1) = f (c - 1) ∧ f (c - 1) + 1 ≤ c := by
      intro hp
      have := (o (c - 1) (by omega)).1
      exact ⟨rfl, by omega⟩
    refine xx_twin (lo := f (c - 1)) rfl C2 cC hc ?_ ?_ ?_ ?_
    · intro hp
      exact ⟨(ti (c - 1) (by omega)).2.2.1, (hlo hp).2⟩
    · intro e
      exact yy_twin (lo := f (c - 1)) rfl C2 cC hc o sk ti hlo (fun _ => ⟨rfl, zz_in h0⟩) (fun _ => by omega) (fun _ => by omega)
    · intro e1 e2
      exact yy_twin (lo := f (c - 1)) rfl C2 cC hc o sk ti hlo (fun _ => by omega) (fun _ _ => ⟨rfl, zz_in h0⟩) (fun _ _ => by omega)
    · intro e1 e2
      refine yy_twin (lo := f (c - 1)) rfl C2 cC hc o sk ti hlo (fun _ => by omega) (fun _ _ => by omega) ?_
      intro _ _
      have l1 := (hlo e1).2
      have hz : f (c - 1) + (c - f (c - 1)) = c := by omega
      refine ⟨rfl, zz_in (c := c + (c - f (c - 1))) (hh := hh + 1) ⟨gr_k kd c (c - f (c - 1)), gr_s f c (c - f (c - 1)), nu_up s hh (c - 1 + (c - f (c - 1))), gr_k b c (c - f (c - 1)), ⟨⟨T1, T2, P1, M1, M2, C2, by omega, by omega⟩, tw_ok o (by omega) hz, tw_sk sk e1 hz (by omega), tw_ti (by omega) o ti (by omega) rfl hz, ?_, tw_vb (by omega) o ti (by omega) rfl hz hb, ?_⟩, hd6, Or.inl rfl⟩⟩
      · intro i hi
        by_cases z : i = hh
        · rw [z, pk_us, nup_s]
        · rw [pk_un z, nup_n z]
          exact hS i (by omega)
      · intro p hp
        by_cases z : c ≤ p
        · rw [tw_at (by omega) (by omega), grk_h z]
          exact hB (p - (c - f (c - 1))) (by omega)
        · rw [tw_lo (by omega), grk_l (by omega)]
          exact hB p (by omega)
  · exact br_f (by decide) (br_f (by decide) ⟨rfl, zz_in h0⟩)
end
section
/-! sign, move, back -/
theorem re_NE {c : Nat} {s s' : rn_S} {st wt : Nat → Int32} (h : re_E c s s') (h1 : ∀ n, n < c → st n = s.1 n) (h2 : ∀ n, n < c → wt n = s.2.1 n) : re_N c s' st wt s.2.2.1 s.2.2.2.1 s.2.2.2.2.1 s.2.2.2.2.2 :=
  ⟨fun n hn => (h1 n hn).trans (h.1 n hn), fun n hn => (h2 n hn).trans (h.2.1 n hn), h.2.2.1, h.2.2.2.1, h.2.2.2.2.1, h.2.2.2.2.2⟩
theorem i_vc_sign {k : Nat} {u : SX} {v : SY} (I : i_Rel k u v) (hk : k + 4 ≤ 2052) : wpX_sign (fun r u' => wpY_sign (fun r' v' => r' = r ∧ i_Rel (k + 4) u' v') v) u := by
  refine zz_el (Pp := fun u v => wpX_sign (fun r u' => wpY_sign (fun r' v' => r' = r ∧ i_Rel (k + 4) u' v') v) u) ?_ I
  intro T P M C c hh d k pc ca ga hs cs sg K A L R B F PN H S st wt pd oS oW oU V oC oG oH oX ca' ga' hs' cs' pa pA st' wt' du ce h
  have h0 := h
  obtain ⟨kd, f, s, b, hF, hd6, hsg⟩ := h
  have hF0 := hF
  obtain ⟨⟨T1, T2, P1, M1, M2, C2, cC, hc⟩, o, sk, ti, hS, hb, hB⟩ := hF
  rcases hsg with rfl | ⟨rfl, g⟩
  · have tr := fo_tr (by omega) o ti
    have kk := fo_kk ti
    unfold wpX_sign
    by_cases e1 : hh = 1
    · subst e1
      have pe := fo_pe (by omega) o sk ti rfl
      refine br_t rfl (br_t (by decide) (xx_clr ?_))
      intro st0 wt0 hz0
      refine xx_hor (by omega) (by omega) tr ?_
      intro H1 hH
      refine xx_fill (by omega) T2 tr kk ?_
      intro V1 hV
      dsimp only
      rw [nu_s1 (by omega)]
      refine xx_acq (Or.inr ⟨c - 1, by omega, rfl⟩) (fun _ => by omega) ?_
      rw [c1_t (by omega), w1_t (by omega), p1_t (by omega)]
      dsimp only
      unfold wpX_settle
      refine ⟨c + 1, xx_set (d := 0) (k := 0) (S0 := fun n => decide (n = c - 1)) (s := rn_s0 c) (by omega) T2 (by omega) (by omega) tr kk (fo_k5 o ti) ?_ ?_ (c + 1) 0 1 (fun _ => false) (fun n => decide (n = c - 1)) st0 (upd wt0 (c - 1) 1) (upd pd 0 (nI (c - 1))) 0 0 0 (by omega) (cn_0 c (fun _ _ => rfl)).symm (sc_ini ?_ ?_) ?_⟩
      · intro n hn hs q1 q2
        rw [decide_eq_true_eq] at hs
        exact (root_np tr (by omega) hn hs q1).elim
      · intro st1 wt1 pd1 a1 a2
        have hg := vg_all (by omega) P1 M2 T2 tr hb hV
        refine br_t rfl (yy_dep (by omega) hc o sk ti (br_t (by decide) ?_))
        refine yy_settle (d := 0) (by omega) T2 tr hH pe kk hV ?_
        intro ce1 hce
        refine yy_not (d := 0) (by omega) (by omega) ?_
        intro pA1 hp1 hp2
        refine yy_rep (d := 0) (b := b) P1 M2 (by omega) (by omega) T2 (by omega) tr hH pe kk hce hg hb ?_
        intro st2 wt2 du2 b1 b2
        have rE : re_E c (rn_dt c T P M K A L R H1 PN V1 0 0 (fun n => decide (n = c - 1)) (rn_s0 c)) (rn c T P M K A L R H1 V1 pa pA1 0) := by
          refine rn_cg ?_ (fun _ _ => rfl) re_Er
          intro n hn
          exact (hp1 n hn).symm
        refine ⟨rfl, zz_in (d := 0) (k := 0) (pc := 0) ⟨kd, f, s, b, hF0, by omega, Or.inr ⟨rfl, rfl, by omega, rfl, rfl, hH, hce, hg, re_NE rE a1 a2, ⟨b1, b2, rfl, rfl, rfl, rfl⟩, ?_⟩⟩⟩
        intro e he
        omega
      · intro n hn
        exact (hz0 n (by omega)).1
      · intro n hn
        show upd wt0 (c - 1) 1 n = if n = c - 1 then 1 else 0
        by_cases z : n = c - 1
        · rw [if_pos z, z, pk_us]
        · rw [if_neg z, pk_un z]
          exact (hz0 n (by omega)).2
      · have J0 := stk_0 (c := c) (pd := pd) (pnd := fun _ => false) (fun _ _ => rfl)
        refine stk_push J0 (by omega) (by omega) rfl ?_
        intro j hj
        exact (Bool.false_or _).symm
    · have e2 : ¬ nI hh = 1 := fun z => e1 (nu_inj (b := 1) z (by omega) (by omega))
      exact br_t rfl (br_f e2 (br_t rfl (yy_dep (by omega) hc o sk ti (br_f e2 ⟨rfl, zz_in h0⟩))))
  · exact br_f (by decide) (br_f (by decide) ⟨rfl, zz_in h0⟩)
theorem i_vc_back {k : Nat} {u : SX} {v : SY} (I : i_Rel k u v) (hk : k + 4 ≤ 2052) : wpX_back (fun r u' => wpY_back (fun r' v' => r' = r ∧ i_Rel (k + 4) u' v') v) u := by
  refine zz_el (Pp := fun u v => wpX_back (fun r u' => wpY_back (fun r' v' => r' = r ∧ i_Rel (k + 4) u' v') v) u) ?_ I
  intro T P M C c hh d k pc ca ga hs cs sg K A L R B F PN H S st wt pd oS oW oU V oC oG oH oX ca' ga' hs' cs' pa pA st' wt' du ce h
  have h0 := h
  obtain ⟨kd, f, s, b, hF, hd6, hsg⟩ := h
  have hF0 := hF
  obtain ⟨⟨T1, T2, P1, M1, M2, C2, cC, hc⟩, o, sk, ti, hS, hb, hB⟩ := hF
  rcases hsg with rfl | ⟨rfl, g⟩
  · exact br_t rfl (br_t rfl ⟨rfl, zz_in h0⟩)
  · obtain ⟨g1, gd, gk, gpc, ghz, gce, gvg, gN, gN', gH⟩ := g
    have tr := fo_tr (by omega) o ti
    have kk := fo_kk ti
    have pe := fo_pe (by omega) o sk ti g1
    refine br_f (by decide) ?_
    rcases Nat.eq_zero_or_pos d with e | e
    · subst e
      exact br_t rfl (br_f (by decide) (br_t rfl ⟨rfl, zz_in h0⟩))
    · obtain ⟨j, rfl⟩ : ∃ j, d = j + 1 := ⟨d - 1, by omega⟩
      obtain ⟨q1, q2, q3, q4, q5, q6⟩ := gH j (by omega)
      have nd := nI_ne0 (n := j + 1) (by omega) (by omega)
      refine br_f nd (nm_r (nI_pred j) (xx_rst (d := j) (k0 := rn_up pa j) (by omega) (by omega) q2 ?_))
      intro st1 wt1 a1
      refine br_f (by decide) (br_f nd (nm_r (nI_pred j) ?_))
      refine yy_rep (d := j) (b := b) (V := V) (H := H) P1 M2 (by omega) (by omega) T2 (by omega) tr ghz pe kk gce gvg hb ?_
      intro st2 wt2 du2 b1 b2
      refine ⟨rfl, zz_in (d := j) (k := rn_up pa j) (pc := pc) ⟨kd, f, s, b, hF0, by omega, Or.inr ⟨rfl, g1, by omega, rfl, gpc, ghz, gce, gvg, ⟨fun n hn => ((a1 n hn).1).trans (q1 n hn).1, fun n hn => ((a1 n hn).2).trans (q1 n hn).2, q3, q4, q5, q6⟩, ⟨b1, b2, rfl, rfl, rfl, rfl⟩, ?_⟩⟩⟩
      intro e he
      exact gH e (by omega)
theorem i_vc_move {k : Nat} {u : SX} {v : SY} (I : i_Rel k u v) (hk : k + 4 ≤ 2052) (v1 : Int32) : wpX_move (fun r u' => wpY_move (fun r' v' => r' = r ∧ i_Rel (k + 4) u' v') v v1) u v1 := by
  refine zz_el (Pp := fun u v => wpX_move (fun r u' => wpY_move (fun r' v' => r' = r ∧ i_Rel (k + 4) u' v') v v1) u v1) ?_ I
  intro T P M C c hh d k pc ca ga hs cs sg K A L R B F PN H S st wt pd oS oW oU V oC oG oH oX ca' ga' hs' cs' pa pA st' wt' du ce h
  have h0 := h
  obtain ⟨kd, f, s, b, hF, hd6, hsg⟩ := h
  have hF0 := hF
  obtain ⟨⟨T1, T2, P1, M1, M2, C2, cC, hc⟩, o, sk, ti, hS, hb, hB⟩ := hF
  rcases hsg with rfl | ⟨rfl, g⟩
  · exact br_t rfl (br_t rfl ⟨rfl, zz_in h0⟩)
  · obtain ⟨g1, gd, gk, gpc, ghz, gce, gvg, gN, gN', gH⟩ := g
    have tr := fo_tr (by omega) o ti
    have kk := fo_kk ti
    have pe := fo_pe (by omega) o sk ti g1
    have hkd := up_le (pa := pa) d
    have rg := rg_rn (H := H) (V := V) (pa := pa) (pA := pA) P1 M2 T2 hb tr (by omega) d gd
    refine br_f (by decide) ?_
    by_cases bad : v1 = 0 ∨ v1 = 1
    · have core : wX_move_22 (fun r u' => wpY_move (fun r' v' => r' = r ∧ i_Rel (0 + 4) u' v') (nI T, nI P, nI M, nI C, nI c, nI d, 1, ca', ga', hs', cs', K, A, L, R, B, PN, pa, pA, st', wt', du, ce) v1) v1 (nI T) (nI P) (nI M) (nI C) (dt_G T) (nI c) (nI hh) 1 (nI d) (nI k) ca ga hs cs (nI pc) K A L R B F PN H S V st wt pd oS oW oU oC oG oH oX := by
        have yb : ∀ {post : Int32 → SY → Prop}, wY_move_22 post v1 (nI T) (nI P) (nI M) (nI C) (nI c) (nI d) 1 ca' ga' hs' cs' K A L R B PN pa pA st' wt' du ce → wpY_move post (nI T, nI P, nI M, nI C, nI c, nI d, 1, ca', ga', hs', cs', K, A, L, R, B, PN, pa, pA, st', wt', du, ce) v1 := by
          intro post hy
          refine br_f (by decide) ?_
          rcases bad with e | e
          · exact br_t e hy
          · exact br_f (by rw [e]; decide) (br_t e hy)
        unfold wX_move_22
        by_cases hd : d < T
        · refine br_t (nI_lt hd (by omega)) (xx_save (by omega) (by omega) ?_)
          intro oS1 oW1 s1 s2
          refine xx_sum (w := fun n => dt_hp T V n d k) (by omega) T2 gd (by omega) (Or.inr ⟨rfl, fun _ => rfl⟩) ?_
          obtain ⟨n1, n2, n3, n4, n5, n6⟩ := gN
          subst gk gpc n3 n4 n5 n6
          have skq : dt_sm (fun n => if st n = 1 then (wt n).toInt64 * dt_hp T V n d (rn_up pa d) else 0) c = rn_sk c T V d (rn_up pa d) (rn c T P M K A L R H V pa pA d).1 (rn c T P M K A L R H V pa pA d).2.1 := sk_cg n1 n2
          rw [skq]
          have hs1 : ∀ n, n < c → rn_W (rn c T P M K A L R H V pa pA d) n = true → (rn c T P M K A L R H V pa pA d).1 n = 1 := by
            intro n _ h
            exact of_decide_eq_true h
          have fin : ∀ (ga1 : Int64) (k1 : Nat), k1 = rn_up (upd pa d v1) (d + 1) → ga1 = (if v1 = 1 then (rn c T P M K A L R H V pa pA d).2.2.2.1 + rn_sk c T V d (rn_up pa d) (rn c T P M K A L R H V pa pA d).1 (rn c T P M K A L R H V pa pA d).2.1 else (rn c T P M K A L R H V pa pA d).2.2.2.1 + (-(rn_sk c T V d (rn_up pa d) (rn c T P M K A L R H V pa pA d).1 (rn c T P M K A L R H V pa pA d).2.1))) →
              wX_move_84 (fun r u' => wpY_move (fun r' v' => r' = r ∧ i_Rel (0 + 4) u' v') (nI T, nI P, nI M, nI C, nI c, nI d, 1, ca', ga', hs', cs', K, A, L, R, B, PN, pa, pA, st', wt', du, ce) v1) (nI T) (nI P) (nI M) (nI C) (dt_G T) (nI c) (nI hh) 1 (nI d) (nI k1) ((rn c T P M K A L R H V pa pA d).2.2.1) ga1 ((rn c T P M K A L R H V pa pA d).2.2.2.2.1) ((rn c T P M K A L R H V pa pA d).2.2.2.2.2) (nI 0) K A L R B F PN H S V st wt pd oS1 oW1 (upd oU d (nI (rn_up pa d))) (vp_updL oC d (rn c T P M K A L R H V pa pA d).2.2.1) (vp_updL oG d (rn c T P M K A L R H V pa pA d).2.2.2.1) (vp_updL oH d (rn c T P M K A L R H V pa pA d).2.2.2.2.1) (vp_updL oX d (rn c T P M K A L R H V pa pA d).2.2.2.2.2) := by
            intro ga1 k1 hk1 hga
            have k1le : k1 ≤ d + 1 := by rw [hk1]; exact up_le _
            unfold wX_move_84
            refine nm_r (nI_1 d) ?_
            unfold wpX_recallWaiting
            refine ⟨c + 1, xx_rec (d := d + 1) (by omega) ?_ (c + 1) 0 0 pd (by omega) (by omega) (stk_0 (fun j _ => by simp))⟩
            intro pd1 pc1 hstk
            dsimp only
            unfold wpX_settle
            refine ⟨c + 1, xx_set (d := d + 1) (k := k1) (S0 := rn_W (rn c T P M K A L R H V pa pA d)) (s := ((rn c T P M K A L R H V pa pA d).1, (rn c T P M K A L R H V pa pA d).2.1, (rn c T P M K A L R H V pa pA d).2.2.1, ga1, (rn c T P M K A L R H V pa pA d).2.2.2.2.1, (rn c T P M K A L R H V pa pA d).2.2.2.2.2)) (by omega) T2 (by omega) k1le tr kk (fo_k5 o ti) (rg_S rg.2 hs1) ?_ (c + 1) 0 pc1 (fun _ => false) (rn_W (rn c T P M K A L R H V pa pA d)) st wt pd1 _ _ _ (by omega) (cn_0 c (fun _ _ => rfl)).symm (sc_ini n1 n2) ?_⟩
            · intro st1 wt1 pd2 a1 a2
              refine yb ?_
              unfold wY_move_22
              refine br_t (nI_lt hd (by omega)) ?_
              rw [nI_clamp (n := d) (by omega)]
              refine ⟨vp_in_nI (by omega) (by decide), nm_e (nm_r (nI_1 d) (yy_not (d := d + 1) (by omega) (by omega) ?_))⟩
              intro pA1 p1 p2
              refine yy_rep (d := d + 1) (b := b) (V := V) (H := H) P1 M2 (by omega) (by omega) T2 (by omega) tr ghz pe kk gce gvg hb ?_
              intro st2 wt2 du2 b1 b2
              have old : ∀ e, e ≤ d → re_E c (rn c T P M K A L R H V pa pA e) (rn c T P M K A L R H V (upd pa d v1) pA1 e) := by
                intro e he
                refine rn_E (by omega) e ?_ ?_
                · intro i hi; rw [pk_un (by omega)]
                · intro j hj; exact (p2 j (by omega)).symm
              have oldu : ∀ e, e ≤ d → rn_up pa e = rn_up (upd pa d v1) e := by
                intro e he
                refine up_cg e ?_
                intro i hi; rw [pk_un (by omega)]
              have O := old d (Nat.le_refl _)
              have rE : re_E c (rn_dt c T P M K A L R H PN V (d + 1) k1 (rn_W (rn c T P M K A L R H V pa pA d)) ((rn c T P M K A L R H V pa pA d).1, (rn c T P M K A L R H V pa pA d).2.1, (rn c T P M K A L R H V pa pA d).2.2.1, ga1, (rn c T P M K A L R H V pa pA d).2.2.2.2.1, (rn c T P M K A L R H V pa pA d).2.2.2.2.2)) (rn c T P M K A L R H V (upd pa d v1) pA1 (d + 1)) := by
                show re_E c _ (rn_dt c T P M K A L R H (rn_pn pA1 (d + 1)) V (d + 1) (rn_up (upd pa d v1) (d + 1)) _ _)
                rw [hk1]
                refine rn_cg ?_ ?_ ?_
                · intro n hn
                  exact (p1 n hn).symm
                · intro n hn
                  unfold rn_W
                  rw [O.1 n hn]
                · refine ⟨O.1, O.2.1, O.2.2.1, ?_, O.2.2.2.2.1, O.2.2.2.2.2⟩
                  show ga1 = (if upd pa d v1 d = 1 then _ else _)
                  rw [pk_us, ← oldu d (Nat.le_refl _), ← sk_cg O.1 O.2.1, ← O.2.2.2.1]
                  exact hga
              have RH : re_H c (d + 1) (rn c T P M K A L R H V (upd pa d v1) pA1) (upd pa d v1) oS1 oW1 (upd oU d (nI (rn_up pa d))) (vp_updL oC d (rn c T P M K A L R H V pa pA d).2.2.1) (vp_updL oG d (rn c T P M K A L R H V pa pA d).2.2.2.1) (vp_updL oH d (rn c T P M K A L R H V pa pA d).2.2.2.2.1) (vp_updL oX d (rn c T P M K A L R H V pa pA d).2.2.2.2.2) := by
                intro e he
                by_cases z : e = d
                · subst z
                  refine ⟨?_, ?_, ?_, ?_, ?_, ?_⟩
                  · intro n hn
                    exact ⟨((s1 n hn).1.trans (n1 n hn)).trans (O.1 n hn), ((s1 n hn).2.trans (n2 n hn)).trans (O.2.1 n hn)⟩
                  · rw [pk_us, oldu e (Nat.le_refl _)]
                  · rw [pk_uLs]; exact O.2.2.1
                  · rw [pk_uLs]; exact O.2.2.2.1
                  · rw [pk_uLs]; exact O.2.2.2.2.1
                  · rw [pk_uLs]; exact O.2.2.2.2.2
                · have O2 := old e (by omega)
                  obtain ⟨q1, q2, q3, q4, q5, q6⟩ := gH e (by omega)
                  refine ⟨?_, ?_, ?_, ?_, ?_, ?_⟩
                  · intro n hn
                    obtain ⟨w1, w2⟩ := s2 (24 * e + n) (by omega)
                    exact ⟨(w1.trans (q1 n hn).1).trans (O2.1 n hn), (w2.trans (q1 n hn).2).trans (O2.2.1 n hn)⟩
                  · rw [pk_un z, ← oldu e (by omega)]; exact q2
                  · rw [pk_uLn z]; exact q3.trans O2.2.2.1
                  · rw [pk_uLn z]; exact q4.trans O2.2.2.2.1
                  · rw [pk_uLn z]; exact q5.trans O2.2.2.2.2.1
                  · rw [pk_uLn z]; exact q6.trans O2.2.2.2.2.2
              exact ⟨rfl, zz_in (k0 := 0 + 4) (d := d + 1) (k := k1) (pc := 0) ⟨kd, f, s, b, hF0, by omega, Or.inr ⟨rfl, g1, by omega, hk1, rfl, ghz, gce, gvg, re_NE rE a1 a2, ⟨b1, b2, rfl, rfl, rfl, rfl⟩, RH⟩⟩⟩
            · refine stk_cong hstk ?_
              intro j hj
              unfold rn_W
              rw [n1 j hj]
          have upe : rn_up (upd pa d v1) (d + 1) = rn_up pa d + (if v1 = 1 then 1 else 0) := by
            show rn_up (upd pa d v1) d + (if upd pa d v1 d = 1 then 1 else 0) = _
            rw [pk_us, ← up_cg (pa := pa) (pa' := upd pa d v1) d (fun i hi => by rw [pk_un (by omega)])]
          by_cases e1 : v1 = 1
          · refine br_t e1 (nm_e (nm_r (nI_1 _) (fin _ (rn_up pa d + 1) ?_ ?_)))
            · rw [upe, if_pos e1]
            · rw [if_pos e1]
          · refine br_f e1 (nm_e (fin _ (rn_up pa d) ?_ ?_))
            · rw [upe, if_neg e1]; rfl
            · rw [if_neg e1]; exact Int64.sub_eq_add_neg ..
        · exact br_f (nI_nlt (by omega) (by omega)) (yb (br_f (nI_nlt (by omega) (by omega)) ⟨rfl, zz_in (k0 := 0 + 4) h0⟩))
      by_cases e0 : v1 = 0
      · exact br_t e0 core
      · rcases bad with e | e
        · exact (e0 e).elim
        · exact br_f e0 (br_t e core)
    · have e0 : ¬ v1 = 0 := fun z => bad (Or.inl z)
      have e1 : ¬ v1 = 1 := fun z => bad (Or.inr z)
      exact br_f e0 (br_f e1 (br_f (by decide) (br_f e0 (br_f e1 ⟨rfl, zz_in h0⟩))))
end
