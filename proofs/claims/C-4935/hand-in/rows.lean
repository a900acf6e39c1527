section
theorem pk_us {f : Nat → Int32} {k : Nat} {x : Int32} : upd f k x k = x := if_pos rfl
theorem pk_un {f : Nat → Int32} {k j : Nat} {x : Int32} (h : j ≠ k) : upd f k x j = f j := if_neg h
theorem pk_sub {a b : Nat} (h : b ≤ a) : nI a - nI b = nI (a - b) := by
  obtain ⟨c, rfl⟩ : ∃ c, a = c + b := ⟨a - b, by omega⟩
  rw [← nI_add, Int32.add_sub_cancel, Nat.add_sub_cancel]
theorem pk_m1 (n : Nat) : nI (n + 1) + (-1) = nI n := by
  rw [← nI_1, Int32.add_assoc, show (1 : Int32) + (-1) = 0 from rfl, Int32.add_zero]
theorem pk_mul (a b : Nat) : nI a * nI b = nI (a * b) := (Int32.ofNat_mul a b).symm
theorem pk_div {a d : Nat} (ha : a < 2 ^ 31) (h0 : 0 < d) (hd : d < 2 ^ 31) : nI a / nI d = nI (a / d) := by
  apply Int32.toInt_inj.mp
  rw [lg_idiv_nonneg (by rw [nI_toInt ha]; omega) (by rw [nI_toInt hd]; omega), nI_toInt ha, nI_toInt hd, nI_toInt (Nat.lt_of_le_of_lt (Nat.div_le_self a d) ha)]
  first | rfl | exact (Int.natCast_ediv _ _).symm
theorem pk_rem {a d : Nat} (ha : a < 2 ^ 31) (h0 : 0 < d) (hd : d < 2 ^ 31) : nI a - nI a / nI d * nI d = nI (a % d) := by
  rw [pk_div ha h0 hd, pk_mul, pk_sub (Nat.div_mul_le_self a d)]
  exact congrArg nI (by have := Nat.div_add_mod' a d; omega)
theorem pk_sub_toInt {a b : Nat} (ha : a < 2 ^ 30) (hb : b < 2 ^ 30) : (nI a - nI b).toInt = (a : Int) - b := by
  rw [Int32.toInt_sub, nI_toInt (by omega), nI_toInt (by omega)]
  exact Int.bmod_eq_of_le (by omega) (by omega)
theorem pk_sneg {a b : Nat} (hb : b < 2 ^ 30) (h : a < b) : nI a - nI b < 0 := by
  rw [Int32.lt_iff_toInt_lt, pk_sub_toInt (by omega) hb, show (0 : Int32).toInt = 0 from by decide]
  omega
theorem pk_ix (x : Int32) {n : Nat} (hn : n < 2 ^ 31) : x < 0 ∨ nI n ≤ x ∨ ∃ j : Nat, j < n ∧ x = nI j := by
  by_cases h : x < 0
  · exact Or.inl h
  · obtain ⟨j, hj, rfl⟩ := nI_of h
    by_cases h2 : j < n
    · exact Or.inr (Or.inr ⟨j, h2, rfl⟩)
    · exact Or.inr (Or.inl (nI_le (by omega) hj))
theorem pk_le {x y : Int32} {A B : Prop} (a b : Nat) (f : a ≤ b → A) (g : b < a → B) (hx : x = nI a := by rfl) (hy : y = nI b := by rfl) (ha : a < 2 ^ 31 := by omega) (hb : b < 2 ^ 31 := by omega) : (x ≤ y → A) ∧ (¬ x ≤ y → B) := by
  subst hx hy
  rw [nI_leI ha hb]
  exact ⟨f, fun z => g (by omega)⟩
theorem pk_lt {x y : Int32} {A B : Prop} (a b : Nat) (f : a < b → A) (g : b ≤ a → B) (hx : x = nI a := by rfl) (hy : y = nI b := by rfl) (ha : a < 2 ^ 31 := by omega) (hb : b < 2 ^ 31 := by omega) : (x < y → A) ∧ (¬ x < y → B) := by
  subst hx hy
  rw [nI_ltI ha hb]
  exact ⟨f, fun z => g (by omega)⟩
theorem pk_eq {x y : Int32} {A B : Prop} (a b : Nat) (f : a = b → A) (g : a ≠ b → B) (hx : x = nI a := by rfl) (hy : y = nI b := by rfl) (ha : a < 2 ^ 31 := by omega) (hb : b < 2 ^ 31 := by omega) : (x = y → A) ∧ (¬ x = y → B) := by
  subst hx hy
  rw [nI_eq ha hb]
  exact ⟨f, g⟩
theorem pk_in {x : Int32} (n N : Nat) (h : n < N) (hx : x = nI n := by rfl) (hN : N < 2 ^ 31 := by omega) : vp_in x N := by
  subst hx
  exact vp_in_nI h hN
theorem pk_cl {x : Int32} (n : Nat) (hx : x = nI n := by rfl) (h : n < 2 ^ 31 := by omega) : x.toNatClampNeg = n := by
  subst hx
  exact nI_clamp h
end
section
/-! the relation; the simple loops in lockstep: one outcome, for every post of X and of Y -/
def bf_Z (t : Nat → Int32) : Prop := (∀ c, c < 17 → t c = 0) ∧ (∀ r, r < 17 → t (r * 17) = 0)
def i_Rel (_ : Nat) (u : SX) (v : SY) : Prop := ∃ p s b l q t f r c m : Nat → Int32, u = (p, s, b, l, q, t, f) ∧ v = (p, s, r, c, m) ∧ bf_Z t
theorem bf_rel {k : Nat} {p s b l q t f r c m : Nat → Int32} (h : bf_Z t) : i_Rel k (p, s, b, l, q, t, f) (p, s, r, c, m) := ⟨p, s, b, l, q, t, f, r, c, m, rfl, rfl, h⟩
theorem i_up {k : Nat} {u : SX} {v : SY} (h : i_Rel k u v) : i_Rel (k + 4) u v := h
theorem bf_upd0 : upd (fun _ => 0) 0 0 = fun _ => 0 := by
  funext j
  by_cases h : j = 0
  · rw [h, pk_us]
  · rw [pk_un h]
theorem i_vc0 : wpX_init (fun u => wpY_init (fun v => i_Rel 0 u v)) := by
  refine nm_r bf_upd0 ?_
  exact bf_rel (k := 0) ⟨fun _ _ => rfl, fun _ _ => rfl⟩
theorem bf_256 {i : Nat} (h : i < 256) : ¬ (256 : Int32) ≤ nI i := nI_ge (b := 256) h (by decide)
theorem bf_256e : (256 : Int32) ≤ nI 256 := nI_le (a := 256) (by decide) (by decide)
theorem bf_16 {i : Nat} (h : i < 16) : ¬ (16 : Int32) ≤ nI i := nI_ge (b := 16) h (by decide)
theorem bf_16e {i : Nat} (h : 16 ≤ i) (hi : i < 1000) : (16 : Int32) ≤ nI i := nI_le (a := 16) h (by omega)
theorem bf_160 : ¬ (16 : Int32) = 0 := by decide
theorem bf_in {i : Nat} (h : i < 256) : vp_in (nI i) 256 := vp_in_nI h (by decide)
theorem bf_keep (p : Nat → Int32) : ∀ d i : Nat, i + d = 256 → ∀ s : Nat → Int32, ∃ s' : Nat → Int32,
    (∀ (post : SX → Prop) (b l q t f : Nat → Int32), post (p, s', b, l, q, t, f) → wX_keep_2 post (d + 1) (nI i) p s b l q t f) ∧
    (∀ (post : SY → Prop) (r c m : Nat → Int32), post (p, s', r, c, m) → wY_keep_2 post (d + 1) (nI i) p s r c m) := by
  intro d
  induction d with
  | zero =>
    intro i hi s
    obtain rfl : i = 256 := by omega
    exact ⟨s, fun _ _ _ _ _ _ hp => br_t bf_256e hp, fun _ _ _ _ hp => br_t bf_256e hp⟩
  | succ d ih =>
    intro i hi s
    have h := bf_256 (i := i) (by omega)
    have hv := bf_in (i := i) (by omega)
    obtain ⟨s', hX, hY⟩ := ih (i + 1) (by omega) (upd s (nI i).toNatClampNeg (p (nI i).toNatClampNeg))
    exact ⟨s', fun post b l q t f hp => br_f h ⟨hv, hv, nm_e (nm_r (nI_1 i) (hX post b l q t f hp))⟩, fun post r c m hp => br_f h ⟨hv, hv, nm_e (nm_r (nI_1 i) (hY post r c m hp))⟩⟩
theorem bf_exch : ∀ d i : Nat, i + d = 256 → ∀ p s : Nat → Int32, ∃ p' s' : Nat → Int32,
    (∀ (post : SX → Prop) (b l q t f : Nat → Int32), post (p', s', b, l, q, t, f) → wX_exchange_2 post (d + 1) (nI i) p s b l q t f) ∧
    (∀ (post : SY → Prop) (r c m : Nat → Int32), post (p', s', r, c, m) → wY_exchange_2 post (d + 1) (nI i) p s r c m) := by
  intro d
  induction d with
  | zero =>
    intro i hi p s
    obtain rfl : i = 256 := by omega
    exact ⟨p, s, fun _ _ _ _ _ _ hp => br_t bf_256e hp, fun _ _ _ _ hp => br_t bf_256e hp⟩
  | succ d ih =>
    intro i hi p s
    have h := bf_256 (i := i) (by omega)
    have hv := bf_in (i := i) (by omega)
    obtain ⟨p', s', hX, hY⟩ := ih (i + 1) (by omega) (upd p (nI i).toNatClampNeg (s (nI i).toNatClampNeg)) (upd s (nI i).toNatClampNeg (p (nI i).toNatClampNeg))
    exact ⟨p', s', fun post b l q t f hp => br_f h ⟨hv, nm_e ⟨hv, hv, nm_e ⟨hv, nm_e (nm_r (nI_1 i) (hX post b l q t f hp))⟩⟩⟩, fun post r c m hp => br_f h ⟨hv, nm_e ⟨hv, hv, nm_e ⟨hv, nm_e (nm_r (nI_1 i) (hY post r c m hp))⟩⟩⟩⟩
theorem bf_pat (s : Nat → Int32) (x y : Int32) : ∀ d i : Nat, i + d = 256 → ∀ p : Nat → Int32, ∃ p' : Nat → Int32,
    (∀ (post : SX → Prop) (b l q t f : Nat → Int32), post (p', s, b, l, q, t, f) → wX_pattern_2 post x y (d + 1) (nI i) p s b l q t f) ∧
    (∀ (post : SY → Prop) (r c m : Nat → Int32), post (p', s, r, c, m) → wY_pattern_2 post x y (d + 1) (nI i) p s r c m) := by
  intro d
  induction d with
  | zero =>
    intro i hi p
    obtain rfl : i = 256 := by omega
    exact ⟨p, fun _ _ _ _ _ _ hp => br_t bf_256e hp, fun _ _ _ _ hp => br_t bf_256e hp⟩
  | succ d ih =>
    intro i hi p
    have h := bf_256 (i := i) (by omega)
    have hv := bf_in (i := i) (by omega)
    obtain ⟨p', hX, hY⟩ := ih (i + 1) (by omega) (upd p (nI i).toNatClampNeg (((((nI i / 16) * x) + ((nI i - nI i / 16 * 16) * y)) + ((nI i / 16) * (nI i - nI i / 16 * 16))) &&& 255))
    exact ⟨p', fun post b l q t f hp => br_f h ⟨bf_160, nm_e ⟨bf_160, nm_e ⟨hv, nm_e (nm_r (nI_1 i) (hX post b l q t f hp))⟩⟩⟩, fun post r c m hp => br_f h ⟨bf_160, bf_160, bf_160, bf_160, hv, nm_e (nm_r (nI_1 i) (hY post r c m hp))⟩⟩
theorem bf_thr (s : Nat → Int32) (x : Int32) : ∀ d i : Nat, i + d = 256 → ∀ (a : Int32) (p : Nat → Int32), ∃ (a' : Int32) (p' : Nat → Int32),
    (∀ (post : Int32 → SX → Prop) (b l q t f : Nat → Int32), post a' (p', s, b, l, q, t, f) → wX_threshold_4 post x (d + 1) a (nI i) p s b l q t f) ∧
    (∀ (post : Int32 → SY → Prop) (r c m : Nat → Int32), post a' (p', s, r, c, m) → wY_threshold_4 post x (d + 1) a (nI i) p s r c m) := by
  intro d
  induction d with
  | zero =>
    intro i hi a p
    obtain rfl : i = 256 := by omega
    exact ⟨a, p, fun _ _ _ _ _ _ hp => br_t bf_256e hp, fun _ _ _ _ hp => br_t bf_256e hp⟩
  | succ d ih =>
    intro i hi a p
    have h := bf_256 (i := i) (by omega)
    have hv := bf_in (i := i) (by omega)
    by_cases hc : p (nI i).toNatClampNeg < x
    · obtain ⟨a', p', hX, hY⟩ := ih (i + 1) (by omega) a (upd p (nI i).toNatClampNeg 0)
      have hz : ¬ upd p (nI i).toNatClampNeg 0 (nI i).toNatClampNeg = 255 := by rw [pk_us]; decide
      refine ⟨a', p', fun post b l q t f hp => br_f h ⟨hv, br_t hc ?_⟩, fun post r c m hp => br_f h ⟨hv, br_t hc ?_⟩⟩
      · exact br_t rfl (And.intro hv (nm_e (br_t rfl (nm_r (nI_1 i) (hX post b l q t f hp)))))
      · exact And.intro hv (nm_e ⟨hv, br_f hz (nm_r (nI_1 i) (hY post r c m hp))⟩)
    · obtain ⟨a', p', hX, hY⟩ := ih (i + 1) (by omega) (a + 1) (upd p (nI i).toNatClampNeg 255)
      have hz : upd p (nI i).toNatClampNeg 255 (nI i).toNatClampNeg = 255 := pk_us
      have h1 : ¬ (1 : Int32) = 0 := by decide
      refine ⟨a', p', fun post b l q t f hp => br_f h ⟨hv, br_f hc ?_⟩, fun post r c m hp => br_f h ⟨hv, br_f hc ?_⟩⟩
      · exact br_f h1 (And.intro hv (nm_e (br_f h1 (nm_e (nm_r (nI_1 i) (hX post b l q t f hp))))))
      · exact And.intro hv (nm_e ⟨hv, br_t hz (nm_e (nm_r (nI_1 i) (hY post r c m hp)))⟩)
theorem bf_sum (p s : Nat → Int32) : ∀ d i : Nat, i + d = 256 → ∀ a : Int32, ∃ a' : Int32,
    (∀ (post : Int32 → Prop) (b l q t f : Nat → Int32), post a' → wX_sum_4 post p s b l q t f (d + 1) a (nI i)) ∧
    (∀ (post : Int32 → Prop) (r c m : Nat → Int32), post a' → wY_sum_4 post p s r c m (d + 1) a (nI i)) := by
  intro d
  induction d with
  | zero =>
    intro i hi a
    obtain rfl : i = 256 := by omega
    exact ⟨a, fun _ _ _ _ _ _ hp => br_t bf_256e hp, fun _ _ _ _ hp => br_t bf_256e hp⟩
  | succ d ih =>
    intro i hi a
    have h := bf_256 (i := i) (by omega)
    have hv := bf_in (i := i) (by omega)
    obtain ⟨a', hX, hY⟩ := ih (i + 1) (by omega) (a + p (nI i).toNatClampNeg)
    exact ⟨a', fun post b l q t f hp => br_f h ⟨hv, nm_e (nm_r (nI_1 i) (hX post b l q t f hp))⟩, fun post r c m hp => br_f h ⟨hv, nm_e (nm_r (nI_1 i) (hY post r c m hp))⟩⟩
theorem bf_equ (p s : Nat → Int32) : ∀ d i : Nat, i + d = 256 → ∀ a : Int32, ∃ a' : Int32,
    (∀ (post : Int32 → Prop) (b l q t f : Nat → Int32), post a' → wX_equal_4 post p s b l q t f (d + 1) a (nI i)) ∧
    (∀ (post : Int32 → Prop) (r c m : Nat → Int32), post a' → wY_equal_4 post p s r c m (d + 1) a (nI i)) := by
  intro d
  induction d with
  | zero =>
    intro i hi a
    obtain rfl : i = 256 := by omega
    exact ⟨a, fun _ _ _ _ _ _ hp => br_t bf_256e hp, fun _ _ _ _ hp => br_t bf_256e hp⟩
  | succ d ih =>
    intro i hi a
    have h := bf_256 (i := i) (by omega)
    have hv := bf_in (i := i) (by omega)
    by_cases hc : p (nI i).toNatClampNeg = s (nI i).toNatClampNeg
    · obtain ⟨a', hX, hY⟩ := ih (i + 1) (by omega) (a + 1)
      exact ⟨a', fun post b l q t f hp => br_f h ⟨hv, hv, br_t hc (nm_e (nm_r (nI_1 i) (hX post b l q t f hp)))⟩, fun post r c m hp => br_f h ⟨hv, hv, br_t hc (nm_e (nm_r (nI_1 i) (hY post r c m hp)))⟩⟩
    · obtain ⟨a', hX, hY⟩ := ih (i + 1) (by omega) a
      exact ⟨a', fun post b l q t f hp => br_f h ⟨hv, hv, br_f hc (nm_r (nI_1 i) (hX post b l q t f hp))⟩, fun post r c m hp => br_f h ⟨hv, hv, br_f hc (nm_r (nI_1 i) (hY post r c m hp))⟩⟩
theorem bf_abo (p s : Nat → Int32) : ∀ d i : Nat, i + d = 256 → ∀ a : Int32, ∃ a' : Int32,
    (∀ (post : Int32 → Prop) (b l q t f : Nat → Int32), post a' → wX_above_4 post p s b l q t f (d + 1) a (nI i)) ∧
    (∀ (post : Int32 → Prop) (r c m : Nat → Int32), post a' → wY_above_4 post p s r c m (d + 1) a (nI i)) := by
  intro d
  induction d with
  | zero =>
    intro i hi a
    obtain rfl : i = 256 := by omega
    exact ⟨a, fun _ _ _ _ _ _ hp => br_t bf_256e hp, fun _ _ _ _ hp => br_t bf_256e hp⟩
  | succ d ih =>
    intro i hi a
    have h := bf_256 (i := i) (by omega)
    have hv := bf_in (i := i) (by omega)
    by_cases hc : p (nI i).toNatClampNeg ≤ s (nI i).toNatClampNeg
    · obtain ⟨a', hX, hY⟩ := ih (i + 1) (by omega) a
      exact ⟨a', fun post b l q t f hp => br_f h ⟨hv, hv, br_t hc (nm_r (nI_1 i) (hX post b l q t f hp))⟩, fun post r c m hp => br_f h ⟨hv, hv, br_t hc (nm_r (nI_1 i) (hY post r c m hp))⟩⟩
    · obtain ⟨a', hX, hY⟩ := ih (i + 1) (by omega) (a + 1)
      exact ⟨a', fun post b l q t f hp => br_f h ⟨hv, hv, br_f hc (nm_e (nm_r (nI_1 i) (hX post b l q t f hp)))⟩, fun post r c m hp => br_f h ⟨hv, hv, br_f hc (nm_e (nm_r (nI_1 i) (hY post r c m hp)))⟩⟩
theorem bf_chg (p b : Nat → Int32) : ∀ d i : Nat, i + d = 256 → ∀ a : Int32, ∃ a' : Int32,
    (∀ (post : Int32 → Prop) (s l q t f : Nat → Int32), post a' → wX_changed_4 post p s b l q t f (d + 1) a (nI i)) ∧
    (∀ (post : Int32 → SY → Prop) (s r c m : Nat → Int32), (∀ j, j < 256 → b j = c j) → post a' (p, s, r, c, m) → wY_filter_82 post p s r c m (d + 1) a (nI i)) := by
  intro d
  induction d with
  | zero =>
    intro i hi a
    obtain rfl : i = 256 := by omega
    exact ⟨a, fun _ _ _ _ _ _ hp => br_t bf_256e hp, fun _ _ _ _ _ _ hp => br_t bf_256e hp⟩
  | succ d ih =>
    intro i hi a
    have h := bf_256 (i := i) (by omega)
    have hv := bf_in (i := i) (by omega)
    have hlt : (nI i).toNatClampNeg < 256 := by rw [nI_clamp (by omega)]; omega
    by_cases hc : p (nI i).toNatClampNeg = b (nI i).toNatClampNeg
    · obtain ⟨a', hX, hY⟩ := ih (i + 1) (by omega) a
      exact ⟨a', fun post s l q t f hp => br_f h ⟨hv, hv, br_t hc (nm_r (nI_1 i) (hX post s l q t f hp))⟩, fun post s r c m hb hp => br_f h ⟨hv, hv, br_t (hc.trans (hb _ hlt)) (nm_r (nI_1 i) (hY post s r c m hb hp))⟩⟩
    · obtain ⟨a', hX, hY⟩ := ih (i + 1) (by omega) (a + 1)
      exact ⟨a', fun post s l q t f hp => br_f h ⟨hv, hv, br_f hc (nm_e (nm_r (nI_1 i) (hX post s l q t f hp)))⟩, fun post s r c m hb hp => br_f h ⟨hv, hv, br_f (fun z => hc (z.trans (hb _ hlt).symm)) (nm_e (nm_r (nI_1 i) (hY post s r c m hb hp)))⟩⟩
/-- X's copy of the raster -/
theorem bf_rem (p s l q t f : Nat → Int32) (post : SX → Prop) (hp : ∀ b' : Nat → Int32, (∀ j, j < 256 → b' j = p j) → post (p, s, b', l, q, t, f)) : ∀ d i : Nat, i + d = 256 → ∀ b : Nat → Int32, (∀ j, j < i → b j = p j) → wX_remember_2 post (d + 1) (nI i) p s b l q t f := by
  intro d
  induction d with
  | zero =>
    intro i hi b hb
    obtain rfl : i = 256 := by omega
    exact br_t bf_256e (hp b hb)
  | succ d ih =>
    intro i hi b hb
    have h := bf_256 (i := i) (by omega)
    have hv := bf_in (i := i) (by omega)
    refine br_f h ⟨hv, hv, nm_e (nm_r (nI_1 i) (ih (i + 1) (by omega) _ ?_))⟩
    intro j hj
    rw [nI_clamp (by omega)]
    by_cases e : j = i
    · rw [e, pk_us]
    · rw [pk_un e]; exact hb j (by omega)
/-- Y's copy of the pixels, and what is asked behind it -/
theorem bf_yrem (p s r m : Nat → Int32) (post : Int32 → SY → Prop) (x y w h : Int32) (hp : ∀ c' : Nat → Int32, (∀ j, j < 256 → c' j = p j) → wY_filter_28 post x y w h 1 (nI 256) p s r c' m) : ∀ d i : Nat, i + d = 256 → ∀ c : Nat → Int32, (∀ j, j < i → c j = p j) → wY_filter_28 post x y w h (d + 1) (nI i) p s r c m := by
  intro d
  induction d with
  | zero =>
    intro i hi c hc
    obtain rfl : i = 256 := by omega
    exact hp c hc
  | succ d ih =>
    intro i hi c hc
    have h := bf_256 (i := i) (by omega)
    have hv := bf_in (i := i) (by omega)
    refine br_f h ⟨hv, hv, nm_e (nm_r (nI_1 i) (ih (i + 1) (by omega) _ ?_))⟩
    intro j hj
    rw [nI_clamp (by omega)]
    by_cases e : j = i
    · rw [e, pk_us]
    · rw [pk_un e]; exact hc j (by omega)
end
section
/-! the plain methods -/
theorem bf_pix (x y : Int32) : ((∀ post : Int32 → Prop, post 1 → wpX_badPixel post x y) ∧ (∀ (post : Int32 → Prop) (v : SY), post 0 → wpY_isPixel post v x y)) ∨ ∃ a b : Nat, a < 16 ∧ b < 16 ∧ x = nI a ∧ y = nI b ∧ (∀ post : Int32 → Prop, post 0 → wpX_badPixel post x y) ∧ (∀ (post : Int32 → Prop) (v : SY), post 1 → wpY_isPixel post v x y) := by
  by_cases h1 : x < 0
  · exact Or.inl ⟨fun _ hp => br_t h1 hp, fun _ _ hp => br_t h1 hp⟩
  by_cases h2 : 16 ≤ x
  · exact Or.inl ⟨fun _ hp => br_f h1 (br_t h2 hp), fun _ _ hp => br_f h1 (br_t h2 hp)⟩
  by_cases h3 : y < 0
  · exact Or.inl ⟨fun _ hp => br_f h1 (br_f h2 (br_t h3 hp)), fun _ _ hp => br_f h1 (br_f h2 (br_t h3 hp))⟩
  by_cases h4 : 16 ≤ y
  · have h5 : ¬ y < 16 := Int32.not_lt.mpr h4
    exact Or.inl ⟨fun _ hp => br_f h1 (br_f h2 (br_f h3 (br_f h5 hp))), fun _ _ hp => br_f h1 (br_f h2 (br_f h3 (br_t h4 hp)))⟩
  · have h5 : y < 16 := Int32.not_le.mp h4
    obtain ⟨a, ha, rfl⟩ := nI_of h1
    obtain ⟨b, hb, rfl⟩ := nI_of h3
    have ha' : a < 16 := (nI_ltI (b := 16) ha (by decide)).mp (Int32.not_le.mp h2)
    have hb' : b < 16 := (nI_ltI (b := 16) hb (by decide)).mp h5
    exact Or.inr ⟨a, b, ha', hb', rfl, rfl, fun _ hp => br_f h1 (br_f h2 (br_f h3 (br_t h5 hp))), fun _ _ hp => br_f h1 (br_f h2 (br_f h3 (br_f h4 hp)))⟩
theorem bf_at {a b : Nat} : nI a * 16 + nI b = nI (a * 16 + b) := by
  rw [show (16 : Int32) = nI 16 from rfl, pk_mul, nI_add]
theorem i_vc_set {k : Nat} {u : SX} {v : SY} (I : i_Rel k u v) (hk : k + 4 ≤ 2048) (v1 : Int32) (v2 : Int32) (v3 : Int32) : wpX_set (fun r u' => wpY_set (fun r' v' => r' = r ∧ i_Rel (k + 4) u' v') v v1 v2 v3) u v1 v2 v3 := by
  obtain ⟨p, s, b, l, q, t, f, r, c, m, rfl, rfl, hz⟩ := I
  unfold wpX_set wpY_set
  dsimp only
  have h1 : ¬ (1 : Int32) = 0 := by decide
  rcases bf_pix v1 v2 with ⟨hX, hY⟩ | ⟨x, y, hx, hy, rfl, rfl, hX, hY⟩
  · refine hX _ ?_
    refine br_f h1 ?_
    refine hY _ _ ?_
    exact br_t rfl ⟨rfl, bf_rel hz⟩
  · have hv : vp_in (nI x * 16 + nI y) 256 := by rw [bf_at]; exact vp_in_nI (by omega) (by decide)
    refine hX _ ?_
    refine br_t rfl ?_
    by_cases g1 : v3 < 0
    · refine br_t g1 ?_
      refine hY _ _ ?_
      exact br_f h1 (br_t g1 ⟨rfl, bf_rel hz⟩)
    · by_cases g2 : v3 ≤ 255
      · refine br_f g1 (br_t g2 ⟨hv, nm_e ⟨hv, nm_e ?_⟩⟩)
        refine hY _ _ ?_
        exact br_f h1 (br_f g1 (br_t g2 ⟨hv, nm_e ⟨hv, nm_e ⟨rfl, bf_rel hz⟩⟩⟩))
      · refine br_f g1 (br_f g2 ?_)
        refine hY _ _ ?_
        exact br_f h1 (br_f g1 (br_f g2 ⟨rfl, bf_rel hz⟩))
theorem i_vc_pixel {k : Nat} {u : SX} {v : SY} (I : i_Rel k u v) (hk : k + 4 ≤ 2048) (v1 : Int32) (v2 : Int32) : wpX_pixel (fun r => wpY_pixel (fun r' => r' = r ∧ i_Rel (k + 4) u v) v v1 v2) u v1 v2 := by
  obtain ⟨p, s, b, l, q, t, f, r, c, m, rfl, rfl, hz⟩ := I
  unfold wpX_pixel wpY_pixel
  dsimp only
  have h1 : ¬ (1 : Int32) = 0 := by decide
  rcases bf_pix v1 v2 with ⟨hX, hY⟩ | ⟨x, y, hx, hy, rfl, rfl, hX, hY⟩
  · refine hX _ ?_
    refine br_f h1 ?_
    refine hY _ _ ?_
    exact br_t rfl ⟨rfl, bf_rel hz⟩
  · have hv : vp_in (nI x * 16 + nI y) 256 := by rw [bf_at]; exact vp_in_nI (by omega) (by decide)
    refine hX _ ?_
    refine br_t rfl ⟨hv, ?_⟩
    refine hY _ _ ?_
    exact br_f h1 ⟨hv, rfl, bf_rel hz⟩
theorem i_vc_pattern {k : Nat} {u : SX} {v : SY} (I : i_Rel k u v) (hk : k + 4 ≤ 2048) (v1 : Int32) (v2 : Int32) : wpX_pattern (fun u' => wpY_pattern (fun v' => i_Rel (k + 4) u' v') v v1 v2) u v1 v2 := by
  obtain ⟨p, s, b, l, q, t, f, r, c, m, rfl, rfl, hz⟩ := I
  obtain ⟨p', hX, hY⟩ := bf_pat s v1 v2 256 0 (by omega) p
  refine Exists.intro (256 + 1) (hX _ b l q t f ?_)
  refine Exists.intro (256 + 1) (hY _ r c m ?_)
  exact bf_rel hz
theorem i_vc_threshold {k : Nat} {u : SX} {v : SY} (I : i_Rel k u v) (hk : k + 4 ≤ 2048) (v1 : Int32) : wpX_threshold (fun r u' => wpY_threshold (fun r' v' => r' = r ∧ i_Rel (k + 4) u' v') v v1) u v1 := by
  obtain ⟨p, s, b, l, q, t, f, r, c, m, rfl, rfl, hz⟩ := I
  obtain ⟨a', p', hX, hY⟩ := bf_thr s v1 256 0 (by omega) 0 p
  refine Exists.intro (256 + 1) (hX _ b l q t f ?_)
  refine Exists.intro (256 + 1) (hY _ r c m ?_)
  exact ⟨rfl, bf_rel hz⟩
theorem i_vc_exchange {k : Nat} {u : SX} {v : SY} (I : i_Rel k u v) (hk : k + 4 ≤ 2048) : wpX_exchange (fun u' => wpY_exchange (fun v' => i_Rel (k + 4) u' v') v) u := by
  obtain ⟨p, s, b, l, q, t, f, r, c, m, rfl, rfl, hz⟩ := I
  obtain ⟨p', s', hX, hY⟩ := bf_exch 256 0 (by omega) p s
  refine Exists.intro (256 + 1) (hX _ b l q t f ?_)
  refine Exists.intro (256 + 1) (hY _ r c m ?_)
  exact bf_rel hz
theorem i_vc_keep {k : Nat} {u : SX} {v : SY} (I : i_Rel k u v) (hk : k + 4 ≤ 2048) : wpX_keep (fun u' => wpY_keep (fun v' => i_Rel (k + 4) u' v') v) u := by
  obtain ⟨p, s, b, l, q, t, f, r, c, m, rfl, rfl, hz⟩ := I
  obtain ⟨s', hX, hY⟩ := bf_keep p 256 0 (by omega) s
  refine Exists.intro (256 + 1) (hX _ b l q t f ?_)
  refine Exists.intro (256 + 1) (hY _ r c m ?_)
  exact bf_rel hz
theorem i_vc_sum {k : Nat} {u : SX} {v : SY} (I : i_Rel k u v) (hk : k + 4 ≤ 2048) : wpX_sum (fun r => wpY_sum (fun r' => r' = r ∧ i_Rel (k + 4) u v) v) u := by
  obtain ⟨p, s, b, l, q, t, f, r, c, m, rfl, rfl, hz⟩ := I
  obtain ⟨a', hX, hY⟩ := bf_sum p s 256 0 (by omega) 0
  refine Exists.intro (256 + 1) (hX _ b l q t f ?_)
  refine Exists.intro (256 + 1) (hY _ r c m ?_)
  exact ⟨rfl, bf_rel hz⟩
theorem i_vc_equal {k : Nat} {u : SX} {v : SY} (I : i_Rel k u v) (hk : k + 4 ≤ 2048) : wpX_equal (fun r => wpY_equal (fun r' => r' = r ∧ i_Rel (k + 4) u v) v) u := by
  obtain ⟨p, s, b, l, q, t, f, r, c, m, rfl, rfl, hz⟩ := I
  obtain ⟨a', hX, hY⟩ := bf_equ p s 256 0 (by omega) 0
  refine Exists.intro (256 + 1) (hX _ b l q t f ?_)
  refine Exists.intro (256 + 1) (hY _ r c m ?_)
  exact ⟨rfl, bf_rel hz⟩
theorem i_vc_above {k : Nat} {u : SX} {v : SY} (I : i_Rel k u v) (hk : k + 4 ≤ 2048) : wpX_above (fun r => wpY_above (fun r' => r' = r ∧ i_Rel (k + 4) u v) v) u := by
  obtain ⟨p, s, b, l, q, t, f, r, c, m, rfl, rfl, hz⟩ := I
  obtain ⟨a', hX, hY⟩ := bf_abo p s 256 0 (by omega) 0
  refine Exists.intro (256 + 1) (hX _ b l q t f ?_)
  refine Exists.intro (256 + 1) (hY _ r c m ?_)
  exact ⟨rfl, bf_rel hz⟩
end
section
/-! the order, the best of a window in a line, the queue of candidates: pure -/
def bf_le : Bool → Int32 → Int32 → Prop
  | true, a, b => a ≤ b
  | false, a, b => b ≤ a
def bf_g : Bool → Int32
  | true => 1
  | false => 0
theorem bf_le_refl (g : Bool) (a : Int32) : bf_le g a a := by
  cases g
  · exact Int32.le_refl a
  · exact Int32.le_refl a
theorem bf_le_trans {g : Bool} {a b c : Int32} (h1 : bf_le g a b) (h2 : bf_le g b c) : bf_le g a c := by
  cases g
  · exact Int32.le_trans h2 h1
  · exact Int32.le_trans h1 h2
theorem bf_le_not {g : Bool} {a b : Int32} (h : ¬ bf_le g a b) : bf_le g b a := by
  cases g
  · exact (Int32.le_total a b).resolve_right h
  · exact (Int32.le_total a b).resolve_left h
theorem bf_le_anti {g : Bool} {a b : Int32} (h1 : bf_le g a b) (h2 : bf_le g b a) : a = b := by
  cases g
  · exact Int32.le_antisymm h2 h1
  · exact Int32.le_antisymm h1 h2
/-- v is the best of the places k of the line l with |k - j| ≤ h -/
def bf_Be (g : Bool) (l : Nat → Int32) (h j : Nat) (v : Int32) : Prop :=
  (∃ k, k < 16 ∧ k ≤ j + h ∧ j ≤ k + h ∧ l k = v) ∧ (∀ k, k < 16 → k ≤ j + h → j ≤ k + h → bf_le g (l k) v)
theorem bf_Be_congr {g : Bool} {l l' : Nat → Int32} {h j : Nat} {v : Int32} (H : bf_Be g l h j v) (e : ∀ k, k < 16 → l k = l' k) : bf_Be g l' h j v := by
  obtain ⟨⟨k, h1, h2, h3, h4⟩, hb⟩ := H
  refine ⟨⟨k, h1, h2, h3, (e k h1).symm.trans h4⟩, fun k' g1 g2 g3 => ?_⟩
  rw [← e k' g1]
  exact hb k' g1 g2 g3
/-- the queue Q, from hd to below tl: e places have entered, none below i - 1 - 2 h is left -/
def bf_QI (g : Bool) (l : Nat → Int32) (h : Nat) (Q : Nat → Nat) (hd tl e i : Nat) : Prop :=
  hd ≤ tl ∧ tl ≤ e ∧
  (∀ a, hd ≤ a → a < tl → Q a < e ∧ i ≤ Q a + 2 * h + 1) ∧
  (∀ a b, hd ≤ a → a < b → b < tl → Q a < Q b ∧ ¬ bf_le g (l (Q a)) (l (Q b))) ∧
  (∀ j, j < e → i ≤ j + 2 * h + 1 → ∃ a, hd ≤ a ∧ a < tl ∧ j ≤ Q a ∧ bf_le g (l j) (l (Q a)))
/-- the same while place i drives out the ones that it outdoes -/
def bf_QP (g : Bool) (l : Nat → Int32) (h : Nat) (Q : Nat → Nat) (hd tl i : Nat) : Prop :=
  hd ≤ tl ∧ tl ≤ i ∧
  (∀ a, hd ≤ a → a < tl → Q a < i ∧ i ≤ Q a + 2 * h + 1) ∧
  (∀ a b, hd ≤ a → a < b → b < tl → Q a < Q b ∧ ¬ bf_le g (l (Q a)) (l (Q b))) ∧
  (∀ j, j < i → i ≤ j + 2 * h + 1 → bf_le g (l j) (l i) ∨ ∃ a, hd ≤ a ∧ a < tl ∧ j ≤ Q a ∧ bf_le g (l j) (l (Q a)))
theorem bf_QP_in {g : Bool} {l : Nat → Int32} {h : Nat} {Q : Nat → Nat} {hd tl i : Nat} (H : bf_QI g l h Q hd tl i i) : bf_QP g l h Q hd tl i := by
  obtain ⟨h1, h2, h3, h4, h5⟩ := H
  exact ⟨h1, h2, h3, h4, fun j a b => Or.inr (h5 j a b)⟩
theorem bf_QP_pop {g : Bool} {l : Nat → Int32} {h : Nat} {Q : Nat → Nat} {hd tl i : Nat} (H : bf_QP g l h Q hd (tl + 1) i) (ht : hd ≤ tl) (hb : bf_le g (l (Q tl)) (l i)) : bf_QP g l h Q hd tl i := by
  obtain ⟨h1, h2, h3, h4, h5⟩ := H
  refine ⟨ht, by omega, fun a x y => h3 a x (by omega), fun a b x y z => h4 a b x y (by omega), fun j x y => ?_⟩
  rcases h5 j x y with z | ⟨a, z1, z2, z3, z4⟩
  · exact Or.inl z
  · by_cases e : a = tl
    · subst e
      exact Or.inl (bf_le_trans z4 hb)
    · exact Or.inr ⟨a, z1, by omega, z3, z4⟩
def bf_put (Q : Nat → Nat) (k x : Nat) : Nat → Nat := fun j => if j = k then x else Q j
theorem bf_put_s {Q : Nat → Nat} {k x : Nat} : bf_put Q k x k = x := if_pos rfl
theorem bf_put_n {Q : Nat → Nat} {k x j : Nat} (h : j ≠ k) : bf_put Q k x j = Q j := if_neg h
theorem bf_QP_push {g : Bool} {l : Nat → Int32} {h : Nat} {Q : Nat → Nat} {hd tl i : Nat} (H : bf_QP g l h Q hd tl i) (hx : hd < tl → ¬ bf_le g (l (Q (tl - 1))) (l i)) : bf_QI g l h (bf_put Q tl i) hd (tl + 1) (i + 1) i := by
  obtain ⟨h1, h2, h3, h4, h5⟩ := H
  refine ⟨by omega, by omega, ?_, ?_, ?_⟩
  · intro a x y
    by_cases e : a = tl
    · subst e
      rw [bf_put_s]
      exact ⟨by omega, by omega⟩
    · rw [bf_put_n e]
      have := h3 a x (by omega)
      exact ⟨by omega, by omega⟩
  · intro a b x y z
    have na : a ≠ tl := by omega
    rw [bf_put_n na]
    by_cases e : b = tl
    · subst e
      rw [bf_put_s]
      refine ⟨(h3 a x (by omega)).1, fun w => ?_⟩
      have hn := hx (by omega)
      by_cases e2 : a = b - 1
      · subst e2
        exact hn w
      · exact (h4 a (b - 1) x (by omega) (by omega)).2 (bf_le_trans w (bf_le_not hn))
    · rw [bf_put_n e]
      exact h4 a b x y (by omega)
  · intro j x y
    by_cases e : j = i
    · subst e
      exact ⟨tl, h1, by omega, by rw [bf_put_s]; exact Nat.le_refl _, by rw [bf_put_s]; exact bf_le_refl _ _⟩
    · rcases h5 j (by omega) y with z | ⟨a, z1, z2, z3, z4⟩
      · exact ⟨tl, h1, by omega, by rw [bf_put_s]; omega, by rw [bf_put_s]; exact z⟩
      · have na : a ≠ tl := by omega
        exact ⟨a, z1, by omega, by rw [bf_put_n na]; exact z3, by rw [bf_put_n na]; exact z4⟩
/-- how many places have entered ahead of turn i -/
def bf_mn (i : Nat) : Nat := if i < 16 then i else 16
theorem bf_mn_lt {i : Nat} (h : i < 16) : bf_mn i = i := if_pos h
theorem bf_mn_ge {i : Nat} (h : 16 ≤ i) : bf_mn i = 16 := if_neg (by omega)
theorem bf_mn_c (i : Nat) : (i < 16 ∧ bf_mn i = i) ∨ (16 ≤ i ∧ bf_mn i = 16) := by
  by_cases h : i < 16
  · exact Or.inl ⟨h, bf_mn_lt h⟩
  · exact Or.inr ⟨by omega, bf_mn_ge (by omega)⟩
theorem bf_QI_ne {g : Bool} {l : Nat → Int32} {h : Nat} {Q : Nat → Nat} {hd tl i i' : Nat} (H : bf_QI g l h Q hd tl (bf_mn (i + 1)) i') (hi : i < 16 + h) (hi' : i' ≤ i + 1) : hd < tl := by
  obtain ⟨h1, h2, h3, h4, h5⟩ := H
  obtain ⟨a, z1, z2, _⟩ := h5 (bf_mn (i + 1) - 1) (by rcases bf_mn_c (i + 1) with ⟨_, e⟩ | ⟨_, e⟩ <;> omega) (by rcases bf_mn_c (i + 1) with ⟨_, e⟩ | ⟨_, e⟩ <;> omega)
  omega
theorem bf_QI_early {g : Bool} {l : Nat → Int32} {h : Nat} {Q : Nat → Nat} {hd tl e i : Nat} (H : bf_QI g l h Q hd tl e i) (hi : i < h) : bf_QI g l h Q hd tl e (i + 1) := by
  obtain ⟨h1, h2, h3, h4, h5⟩ := H
  exact ⟨h1, h2, fun a x y => ⟨(h3 a x y).1, by omega⟩, h4, fun j x y => h5 j x (by omega)⟩
theorem bf_QI_stay {g : Bool} {l : Nat → Int32} {h : Nat} {Q : Nat → Nat} {hd tl e i : Nat} (H : bf_QI g l h Q hd tl e i) (hi : i ≤ Q hd + 2 * h) : bf_QI g l h Q hd tl e (i + 1) := by
  obtain ⟨h1, h2, h3, h4, h5⟩ := H
  refine ⟨h1, h2, fun a x y => ⟨(h3 a x y).1, ?_⟩, h4, fun j x y => h5 j x (by omega)⟩
  by_cases e : a = hd
  · subst e
    omega
  · have := (h4 hd a (Nat.le_refl _) (by omega) y).1
    omega
theorem bf_QI_drop {g : Bool} {l : Nat → Int32} {h : Nat} {Q : Nat → Nat} {hd tl e i : Nat} (H : bf_QI g l h Q hd tl e i) (ht : hd < tl) (hi : ¬ i ≤ Q hd + 2 * h) : bf_QI g l h Q (hd + 1) tl e (i + 1) := by
  obtain ⟨h1, h2, h3, h4, h5⟩ := H
  have h0 := (h3 hd (Nat.le_refl _) ht).2
  refine ⟨by omega, h2, fun a x y => ⟨(h3 a (by omega) y).1, ?_⟩, fun a b x y z => h4 a b (by omega) y z, fun j x y => ?_⟩
  · have := (h4 hd a (Nat.le_refl _) (by omega) y).1
    omega
  · obtain ⟨a, z1, z2, z3, z4⟩ := h5 j x (by omega)
    by_cases e : a = hd
    · subst e
      omega
    · exact ⟨a, by omega, z2, z3, z4⟩
theorem bf_QI_best {g : Bool} {l : Nat → Int32} {h : Nat} {Q : Nat → Nat} {hd tl i : Nat} (H : bf_QI g l h Q hd tl (bf_mn (i + 1)) (i + 1)) (hh : h ≤ i) (hi : i < 16 + h) : hd < 16 ∧ Q hd < 16 ∧ bf_Be g l h (i - h) (l (Q hd)) := by
  have ht := bf_QI_ne H hi (Nat.le_refl _)
  obtain ⟨h1, h2, h3, h4, h5⟩ := H
  have h0 := h3 hd (Nat.le_refl _) ht
  have hm := bf_mn_c (i + 1)
  refine ⟨by omega, by omega, ⟨Q hd, by omega, by omega, by omega, rfl⟩, fun k x y z => ?_⟩
  obtain ⟨a, z1, z2, z3, z4⟩ := h5 k (by omega) (by omega)
  by_cases e : a = hd
  · subst e
    exact z4
  · exact bf_le_trans z4 (bf_le_not (h4 hd a (Nat.le_refl _) (by omega) z2).2)
theorem bf_QI_0 (g : Bool) (l : Nat → Int32) (h : Nat) : bf_QI g l h (fun _ => 0) 0 0 (bf_mn 0) 0 := by
  have e : bf_mn 0 = 0 := bf_mn_lt (by omega)
  rw [e]
  exact ⟨Nat.le_refl _, Nat.le_refl _, fun a x y => by omega, fun a b x y z => by omega, fun j x => by omega⟩
end
section
/-! filterLine's walk -/
section
variable {post : SX → Prop} {J : Int32 → Int32 → Int32 → (Nat → Int32) → (Nat → Int32) → (Nat → Int32) → (Nat → Int32) → (Nat → Int32) → (Nat → Int32) → (Nat → Int32) → Prop} {p s b l q t f : Nat → Int32}
theorem bf_out {g : Bool} {po : Int32 → Prop} {i j : Nat} (hi : i < 16) (hj : j < 16) (h1 : bf_le g (l j) (l i) → po 1) (h0 : ¬ bf_le g (l j) (l i) → po 0) : wpX_outdoes po (p, s, b, l, q, t, f) (nI i) (nI j) (bf_g g) := by
  have ei : (nI i).toNatClampNeg = i := nI_clamp (by omega)
  have ej : (nI j).toNatClampNeg = j := nI_clamp (by omega)
  have vi : vp_in (nI i) 16 := vp_in_nI hi (by decide)
  have vj : vp_in (nI j) 16 := vp_in_nI hj (by decide)
  unfold wpX_outdoes
  dsimp only
  rw [ei, ej]
  cases g
  · refine br_t rfl ⟨vi, vj, br_c (fun z => h0 fun y => ?_) (fun z => h1 ?_)⟩
    · exact Int32.not_lt.mpr y z
    · exact Int32.not_lt.mp z
  · have hg : ¬ bf_g true = 0 := by show ¬ (1 : Int32) = 0; decide
    refine br_f hg ⟨vi, vj, br_c (fun z => h0 fun y => ?_) (fun z => h1 ?_)⟩
    · exact Int32.not_lt.mpr y z
    · exact Int32.not_lt.mp z
theorem bf_132 {x3 x4 x6 : Int32} {hd i cc k st sp : Nat} (h1 : hd < 16) (hq : q hd = nI k) (hk : k < 16) (hc : st + cc * sp < 256)
    (H : J (nI hd) x6 (nI (i + 1)) (upd p (st + cc * sp) (l k)) s b l q t f) : wX_filterLine_132 post J (nI st) (nI sp) x3 x4 (nI hd) x6 (nI i) (nI cc) p s b l q t f := by
  have e1 : (nI hd).toNatClampNeg = hd := nI_clamp (by omega)
  have e2 : nI st + nI cc * nI sp = nI (st + cc * sp) := by rw [pk_mul, nI_add]
  have e3 : (nI k).toNatClampNeg = k := nI_clamp (by omega)
  have e4 : (nI (st + cc * sp)).toNatClampNeg = st + cc * sp := nI_clamp (by omega)
  unfold wX_filterLine_132
  rw [e1, hq, e2, e3, e4]
  exact ⟨vp_in_nI h1 (by decide), vp_in_nI hk (by decide), vp_in_nI hc (by decide), nm_e (nm_r (nI_1 i) H)⟩
theorem bf_cmp {a h k : Nat} (ha : a < 1000) (hh : h < 1000) (hk : k < 1000) : nI a - nI h ≤ nI k ↔ a ≤ k + h := by
  rw [Int32.le_iff_toInt_le, pk_sub_toInt (by omega) (by omega), nI_toInt (by omega)]
  omega
theorem bf_104 {g : Bool} {h hd tl i st sp : Nat} {Q : Nat → Nat} (hh : h ≤ 7) (hi : i < 16 + h) (hp : ∀ j, j < 16 → st + j * sp < 256)
    (HQ : bf_QI g l h Q hd tl (bf_mn (i + 1)) i) (hq : ∀ a, hd ≤ a → a < tl → q a = nI (Q a))
    (H : ∀ (hd' : Nat) (p' : Nat → Int32), bf_QI g l h Q hd' tl (bf_mn (i + 1)) (i + 1) → hd ≤ hd' → ((i < h ∧ p' = p) ∨ (h ≤ i ∧ ∃ v, bf_Be g l h (i - h) v ∧ p' = upd p (st + (i - h) * sp) v)) → J (nI hd') (nI tl) (nI (i + 1)) p' s b l q t f) :
    wX_filterLine_104 post J (nI st) (nI sp) (nI h) (bf_g g) (nI hd) (nI tl) (nI i) p s b l q t f := by
  by_cases hc : i < h
  · have hn : nI i - nI h < 0 := pk_sneg (by omega) hc
    exact nm_e (br_t hn (nm_r (nI_1 i) (H hd p (bf_QI_early HQ hc) (Nat.le_refl _) (Or.inl ⟨hc, rfl⟩))))
  · have hs : nI i - nI h = nI (i - h) := pk_sub (by omega)
    have hn : ¬ nI (i - h) < 0 := nI_pos (by omega)
    have ht := bf_QI_ne HQ hi (by omega)
    have h0 := HQ.2.2.1 hd (Nat.le_refl _) ht
    have hm := bf_mn_c (i + 1)
    have hm2 := HQ.2.1
    have hd16 : hd < 16 := by omega
    have vh : vp_in (nI hd) 16 := vp_in_nI hd16 (by decide)
    have e1 : (nI hd).toNatClampNeg = hd := nI_clamp (by omega)
    have hqd := hq hd (Nat.le_refl _) ht
    have hcm : nI (i - h) - nI h ≤ q (nI hd).toNatClampNeg ↔ i ≤ Q hd + 2 * h := by
      rw [e1, hqd, bf_cmp (by omega) (by omega) (by omega)]
      omega
    have hcc : st + (i - h) * sp < 256 := hp (i - h) (by omega)
    refine nm_r hs (br_f hn ⟨vh, ?_⟩)
    by_cases hx : i ≤ Q hd + 2 * h
    · have HQ' := bf_QI_stay HQ hx
      obtain ⟨b1, b2, b3⟩ := bf_QI_best HQ' (by omega) hi
      exact br_t (hcm.mpr hx) (bf_132 b1 hqd b2 hcc (H hd _ HQ' (Nat.le_refl _) (Or.inr ⟨by omega, _, b3, rfl⟩)))
    · have HQ' := bf_QI_drop HQ ht hx
      obtain ⟨b1, b2, b3⟩ := bf_QI_best HQ' (by omega) hi
      have ht' := bf_QI_ne HQ' hi (Nat.le_refl _)
      exact br_f (fun z => hx (hcm.mp z)) (nm_r (nI_1 hd) (bf_132 b1 (hq (hd + 1) (by omega) ht') b2 hcc (H (hd + 1) _ HQ' (by omega) (Or.inr ⟨by omega, _, b3, rfl⟩))))
theorem bf_92 {x1 x2 x3 x4 x5 : Int32} {tl i : Nat} (ht : tl < 16) (H : wX_filterLine_104 post J x1 x2 x3 x4 x5 (nI (tl + 1)) (nI i) p s b l (upd q tl (nI i)) t f) :
    wX_filterLine_92 post J x1 x2 x3 x4 x5 (nI tl) (nI i) p s b l q t f := by
  have e1 : (nI tl).toNatClampNeg = tl := nI_clamp (by omega)
  unfold wX_filterLine_92
  rw [e1]
  exact ⟨vp_in_nI ht (by decide), nm_e (nm_r (nI_1 tl) H)⟩
theorem bf_59 {g : Bool} {h hd i T : Nat} {x1 x2 : Int32} {Q : Nat → Nat} (hi : i < 16)
    (H : ∀ tl', tl' ≤ T → bf_QI g l h (bf_put Q tl' i) hd (tl' + 1) (i + 1) i → wX_filterLine_92 post J x1 x2 (nI h) (bf_g g) (nI hd) (nI tl') (nI i) p s b l q t f) :
    ∀ n tl : Nat, tl ≤ T → tl < n → (∀ a, hd ≤ a → a < tl → q a = nI (Q a)) → bf_QP g l h Q hd tl i → wX_filterLine_59 post J x1 x2 (nI h) (bf_g g) (nI hd) (nI i) p s b l q t f n (nI tl) := by
  intro n
  induction n with
  | zero => intro tl _ h0; omega
  | succ n ih =>
    intro tl hT htn hq HQ
    have hti := HQ.2.1
    have hht := HQ.1
    by_cases hc : tl ≤ hd
    · have hle : nI tl ≤ nI hd := nI_le hc (by omega)
      exact br_t hle (H tl hT (bf_QP_push HQ (fun z => by omega)))
    · obtain ⟨w, rfl⟩ : ∃ w, tl = w + 1 := ⟨tl - 1, by omega⟩
      have hle : ¬ nI (w + 1) ≤ nI hd := nI_ge (by omega) (by omega)
      have hw : w < 16 := by omega
      have hqw := hq w (by omega) (by omega)
      have hQw := HQ.2.2.1 w (by omega) (by omega)
      have e1 : (nI w).toNatClampNeg = w := nI_clamp (by omega)
      refine br_f hle ⟨?_, ?_⟩
      · rw [nI_pred]; exact vp_in_nI hw (by decide)
      · rw [nI_pred, e1, hqw]
        refine bf_out hi (by omega) (fun z => ?_) (fun z => ?_)
        · have h1 : ¬ (1 : Int32) = 0 := by decide
          exact br_f h1 (nm_r (pk_m1 w) (ih w (by omega) (by omega) (fun a x y => hq a x (by omega)) (bf_QP_pop HQ (by omega) z)))
        · exact br_t rfl (H (w + 1) hT (bf_QP_push HQ (fun _ => z)))
/-- what has been written once cc places are done -/
def bf_Ou (g : Bool) (l : Nat → Int32) (h st sp cc : Nat) (p p' : Nat → Int32) : Prop :=
  (∀ j, j < cc → bf_Be g l h j (p' (st + j * sp))) ∧ (∀ k, (∀ j, j < cc → k ≠ st + j * sp) → p' k = p k)
theorem bf_Ou_s {g : Bool} {h st sp cc : Nat} {p' : Nat → Int32} {v : Int32} (hsp : 0 < sp) (H : bf_Ou g l h st sp cc p p') (hv : bf_Be g l h cc v) : bf_Ou g l h st sp (cc + 1) p (upd p' (st + cc * sp) v) := by
  obtain ⟨h1, h2⟩ := H
  refine ⟨fun j hj => ?_, fun k hk => ?_⟩
  · by_cases e : j = cc
    · subst e
      rw [pk_us]
      exact hv
    · have hne : st + j * sp ≠ st + cc * sp := fun z => e (Nat.eq_of_mul_eq_mul_right hsp (by omega))
      rw [pk_un hne]
      exact h1 j (by omega)
  · rw [pk_un (hk cc (by omega))]
    exact h2 k (fun j hj => hk j (by omega))
theorem bf_43 {g : Bool} {h st sp : Nat} {p0 : Nat → Int32} (hh : h ≤ 7) (hsp : 0 < sp) (hst : ∀ j, j < 16 → st + j * sp < 256)
    (H : ∀ p' q' : Nat → Int32, bf_Ou g l h st sp 16 p0 p' → post (p', s, b, l, q', t, f)) :
    ∀ d i : Nat, i + d = 16 + h → ∀ (hd tl : Nat) (Q : Nat → Nat) (p q : Nat → Int32), bf_QI g l h Q hd tl (bf_mn i) i → (∀ a, hd ≤ a → a < tl → q a = nI (Q a)) → bf_Ou g l h st sp (i - h) p0 p →
      wX_filterLine_43 post (nI st) (nI sp) (nI h) (bf_g g) (d + 1) (nI hd) (nI tl) (nI i) p s b l q t f := by
  intro d
  induction d with
  | zero =>
    intro i hi hd tl Q p q HQ hq HO
    have hc : 16 + nI h ≤ nI i := by
      rw [show (16 : Int32) = nI 16 from rfl, nI_add]
      exact nI_le (by omega) (by omega)
    have e : i - h = 16 := by omega
    rw [e] at HO
    exact br_t hc (H p q HO)
  | succ d ih =>
    intro i hi hd tl Q p q HQ hq HO
    have hc : ¬ 16 + nI h ≤ nI i := by
      rw [show (16 : Int32) = nI 16 from rfl, nI_add]
      exact nI_ge (by omega) (by omega)
    have hK : ∀ (Q' : Nat → Nat) (tl' : Nat) (q' : Nat → Int32), (∀ a, hd ≤ a → a < tl' → q' a = nI (Q' a)) → ∀ (hd' : Nat) (p' : Nat → Int32), bf_QI g l h Q' hd' tl' (bf_mn (i + 1)) (i + 1) → hd ≤ hd' → ((i < h ∧ p' = p) ∨ (h ≤ i ∧ ∃ v, bf_Be g l h (i - h) v ∧ p' = upd p (st + (i - h) * sp) v)) → wX_filterLine_43 post (nI st) (nI sp) (nI h) (bf_g g) (d + 1) (nI hd') (nI tl') (nI (i + 1)) p' s b l q' t f := by
      intro Q' tl' q' hq' hd' p' HQ' hdd hcase
      refine ih (i + 1) (by omega) hd' tl' Q' p' q' HQ' (fun a x y => hq' a (by omega) y) ?_
      rcases hcase with ⟨g1, g2⟩ | ⟨g1, v, g2, g3⟩
      · have e : i + 1 - h = i - h := by omega
        rw [e, g2]
        exact HO
      · have e : i + 1 - h = i - h + 1 := by omega
        rw [e, g3]
        exact bf_Ou_s hsp HO g2
    by_cases h16 : i < 16
    · have em : bf_mn i = i := bf_mn_lt h16
      rw [em] at HQ
      have em1 : bf_mn (i + 1) = i + 1 := by rcases bf_mn_c (i + 1) with ⟨_, e⟩ | ⟨_, e⟩ <;> omega
      refine br_f hc (br_f (bf_16 h16) ⟨tl + 1, ?_⟩)
      refine bf_59 (T := tl) h16 ?_ (tl + 1) tl (Nat.le_refl _) (by omega) hq (bf_QP_in HQ)
      intro tl' htl HQ'
      have htli := HQ.2.1
      refine bf_92 (by omega) ?_
      have hq' : ∀ a, hd ≤ a → a < tl' + 1 → upd q tl' (nI i) a = nI (bf_put Q tl' i a) := by
        intro a x y
        by_cases e : a = tl'
        · subst e
          rw [pk_us, bf_put_s]
        · rw [pk_un e, bf_put_n e]
          exact hq a x (by omega)
      rw [← em1] at HQ'
      exact bf_104 hh (by omega) hst HQ' hq' (hK _ _ _ hq')
    · exact br_f hc (br_t (bf_16e (by omega) (by omega)) (bf_104 hh (by omega) hst (by
        have e1 : bf_mn i = 16 := bf_mn_ge (by omega)
        have e2 : bf_mn (i + 1) = 16 := bf_mn_ge (by omega)
        rw [e2]; rw [e1] at HQ; exact HQ) hq (hK Q tl q hq)))
theorem bf_3 {g : Bool} {h st sp : Nat} (hh : h ≤ 7) (hsp : 0 < sp) (hst : ∀ j, j < 16 → st + j * sp < 256)
    (H : ∀ p' l' q' : Nat → Int32, (∀ j, j < 16 → l' j = p (st + j * sp)) → bf_Ou g l' h st sp 16 p p' → post (p', s, b, l', q', t, f)) :
    ∀ d i : Nat, i + d = 16 → ∀ l : Nat → Int32, (∀ j, j < i → l j = p (st + j * sp)) → wX_filterLine_3 post (nI st) (nI sp) (nI h) (bf_g g) (d + 1) (nI i) p s b l q t f := by
  intro d
  induction d with
  | zero =>
    intro i hi l hl
    obtain rfl : i = 16 := by omega
    refine br_t (bf_16e (Nat.le_refl _) (by omega)) ⟨16 + h + 1, ?_⟩
    exact bf_43 hh hsp hst (fun p' q' HO => H p' l q' hl HO) (16 + h) 0 (by omega) 0 0 (fun _ => 0) p q (bf_QI_0 g l h) (fun a x y => by omega) ⟨fun j hj => by omega, fun k _ => rfl⟩
  | succ d ih =>
    intro i hi l hl
    have e2 : nI st + nI i * nI sp = nI (st + i * sp) := by rw [pk_mul, nI_add]
    have hb := hst i (by omega)
    have e3 : (nI i).toNatClampNeg = i := nI_clamp (by omega)
    have e4 : (nI (st + i * sp)).toNatClampNeg = st + i * sp := nI_clamp (by omega)
    have v1 : vp_in (nI st + nI i * nI sp) 256 := by rw [e2]; exact vp_in_nI hb (by decide)
    have v2 : vp_in (nI i) 16 := vp_in_nI (by omega) (by decide)
    refine br_f (bf_16 (by omega)) ⟨v1, v2, nm_e (nm_r (nI_1 i) (ih (i + 1) (by omega) _ ?_))⟩
    intro j hj
    rw [e2, e3, e4]
    by_cases e : j = i
    · subst e
      rw [pk_us]
    · rw [pk_un e]
      exact hl j (by omega)
end
/-- one line filtered -/
def bf_Ln (g : Bool) (h st sp : Nat) (p p' : Nat → Int32) : Prop :=
  (∀ j, j < 16 → bf_Be g (fun k => p (st + k * sp)) h j (p' (st + j * sp))) ∧ (∀ k, (∀ j, j < 16 → k ≠ st + j * sp) → p' k = p k)
theorem bf_fline {g : Bool} {h st sp : Nat} (hh : h ≤ 7) (hsp : 0 < sp) (hst : ∀ j, j < 16 → st + j * sp < 256) {post : SX → Prop} {p s b l q t f : Nat → Int32}
    (H : ∀ p' l' q' : Nat → Int32, bf_Ln g h st sp p p' → post (p', s, b, l', q', t, f)) : wpX_filterLine post (p, s, b, l, q, t, f) (nI st) (nI sp) (nI h) (bf_g g) := by
  refine Exists.intro (16 + 1) ?_
  refine bf_3 hh hsp hst ?_ 16 0 (by omega) l (fun j hj => by omega)
  intro p' l' q' hl HO
  exact H p' l' q' ⟨fun j hj => bf_Be_congr (HO.1 j hj) hl, HO.2⟩
end
section
/-! filter: rows, then columns -/
/-- rows below r are filtered -/
def bf_Rw (g : Bool) (w r : Nat) (p p' : Nat → Int32) : Prop :=
  (∀ a c, a < r → c < 16 → bf_Be g (fun k => p (a * 16 + k)) w c (p' (a * 16 + c))) ∧ (∀ k, r * 16 ≤ k → p' k = p k)
theorem bf_Rw_s {g : Bool} {w r : Nat} {p p' p'' : Nat → Int32} (H : bf_Rw g w r p p') (L : bf_Ln g w (r * 16) 1 p' p'') : bf_Rw g w (r + 1) p p'' := by
  obtain ⟨h1, h2⟩ := H
  obtain ⟨l1, l2⟩ := L
  refine ⟨fun a c ha hc => ?_, fun k hk => ?_⟩
  · by_cases e : a = r
    · subst e
      have := l1 c hc
      rw [Nat.mul_one] at this
      refine bf_Be_congr this (fun k hk => ?_)
      show p' (a * 16 + k * 1) = p (a * 16 + k)
      rw [Nat.mul_one]
      exact h2 _ (by omega)
    · rw [l2 (a * 16 + c) (fun j hj => by omega)]
      exact h1 a c (by omega) hc
  · rw [l2 k (fun j hj => by omega)]
    exact h2 k (by omega)
/-- columns below c are filtered -/
def bf_Co (g : Bool) (h c : Nat) (p p' : Nat → Int32) : Prop :=
  (∀ a j, a < 16 → j < c → bf_Be g (fun k => p (k * 16 + j)) h a (p' (a * 16 + j))) ∧ (∀ k, c ≤ k % 16 ∨ 256 ≤ k → p' k = p k)
theorem bf_Co_s {g : Bool} {h c : Nat} {p p' p'' : Nat → Int32} (hc : c < 16) (H : bf_Co g h c p p') (L : bf_Ln g h c 16 p' p'') : bf_Co g h (c + 1) p p'' := by
  obtain ⟨h1, h2⟩ := H
  obtain ⟨l1, l2⟩ := L
  refine ⟨fun a j ha hj => ?_, fun k hk => ?_⟩
  · by_cases e : j = c
    · subst e
      have := l1 a ha
      rw [Nat.add_comm j (a * 16)] at this
      refine bf_Be_congr this (fun k hk => ?_)
      show p' (j + k * 16) = p (k * 16 + j)
      rw [Nat.add_comm j (k * 16)]
      exact h2 _ (by omega)
    · rw [l2 (a * 16 + j) (fun i hi => by omega)]
      exact h1 a j ha (by omega)
  · rw [l2 k (fun j hj => by omega)]
    exact h2 k (by omega)
/-- v is the best of the window about (a, c) -/
def bf_Wn (g : Bool) (w h : Nat) (p : Nat → Int32) (a c : Nat) (v : Int32) : Prop :=
  (∃ a' c', a' < 16 ∧ c' < 16 ∧ a' ≤ a + h ∧ a ≤ a' + h ∧ c' ≤ c + w ∧ c ≤ c' + w ∧ p (a' * 16 + c') = v) ∧
  (∀ a' c', a' < 16 → c' < 16 → a' ≤ a + h → a ≤ a' + h → c' ≤ c + w → c ≤ c' + w → bf_le g (p (a' * 16 + c')) v)
theorem bf_Wn_u {g : Bool} {w h : Nat} {p : Nat → Int32} {a c : Nat} {v v' : Int32} (H : bf_Wn g w h p a c v) (H' : bf_Wn g w h p a c v') : v = v' := by
  obtain ⟨⟨a1, c1, x1, x2, x3, x4, x5, x6, rfl⟩, m1⟩ := H
  obtain ⟨⟨a2, c2, y1, y2, y3, y4, y5, y6, rfl⟩, m2⟩ := H'
  exact bf_le_anti (m2 a1 c1 x1 x2 x3 x4 x5 x6) (m1 a2 c2 y1 y2 y3 y4 y5 y6)
/-- a whole filter -/
def bf_Sp (F : Nat → Nat → Int32 → Prop) (p p' : Nat → Int32) : Prop :=
  (∀ a c, a < 16 → c < 16 → F a c (p' (a * 16 + c))) ∧ (∀ k, 256 ≤ k → p' k = p k)
theorem bf_Sp_u {F : Nat → Nat → Int32 → Prop} (hF : ∀ a c v v', F a c v → F a c v' → v = v') {p p' p'' : Nat → Int32} (H : bf_Sp F p p') (H' : bf_Sp F p p'') : p' = p'' := by
  funext k
  by_cases hk : k < 256
  · have e : k / 16 * 16 + k % 16 = k := by omega
    have x := H.1 (k / 16) (k % 16) (by omega) (by omega)
    have y := H'.1 (k / 16) (k % 16) (by omega) (by omega)
    rw [e] at x y
    exact hF _ _ _ _ x y
  · rw [H.2 k (by omega), H'.2 k (by omega)]
theorem bf_two {g : Bool} {w h : Nat} {p p' p'' : Nat → Int32} (R : bf_Rw g w 16 p p') (C : bf_Co g h 16 p' p'') : bf_Sp (bf_Wn g w h p) p p'' := by
  refine ⟨fun a c ha hc => ?_, fun k hk => ?_⟩
  · obtain ⟨⟨k, k1, k2, k3, k4⟩, m1⟩ := C.1 a c ha hc
    obtain ⟨⟨j, j1, j2, j3, j4⟩, m2⟩ := R.1 k c k1 hc
    refine ⟨⟨k, j, k1, j1, k2, k3, j2, j3, j4.trans k4⟩, fun a' c' x1 x2 x3 x4 x5 x6 => ?_⟩
    obtain ⟨_, m3⟩ := R.1 a' c x1 hc
    exact bf_le_trans (m3 c' x2 x5 x6) (m1 a' x1 x3 x4)
  · rw [C.2 k (Or.inr hk)]
    exact R.2 k (by omega)
section
variable {post : SX → Prop} {s b t f : Nat → Int32}
theorem bf_f31 {g : Bool} {h : Nat} (hh : h ≤ 7) {p0 : Nat → Int32} (H : ∀ p' l' q' : Nat → Int32, bf_Co g h 16 p0 p' → post (p', s, b, l', q', t, f)) :
    ∀ d c : Nat, c + d = 16 → ∀ p l q : Nat → Int32, bf_Co g h c p0 p → wX_filter_31 post (nI h) (bf_g g) (d + 1) (nI c) p s b l q t f := by
  intro d
  induction d with
  | zero =>
    intro c hc p l q HC
    obtain rfl : c = 16 := by omega
    exact br_t (bf_16e (Nat.le_refl _) (by omega)) (H p l q HC)
  | succ d ih =>
    intro c hc p l q HC
    refine br_f (bf_16 (by omega)) ?_
    refine bf_fline (st := c) (sp := 16) hh (by omega) (fun j hj => by omega) ?_
    intro p' l' q' L
    exact nm_r (nI_1 c) (ih (c + 1) (by omega) p' l' q' (bf_Co_s (by omega) HC L))
theorem bf_f3 {g : Bool} {w h : Nat} (hw : w ≤ 7) (hh : h ≤ 7) {p0 : Nat → Int32} (H : ∀ p' l' q' : Nat → Int32, bf_Sp (bf_Wn g w h p0) p0 p' → post (p', s, b, l', q', t, f)) :
    ∀ d r : Nat, r + d = 16 → ∀ p l q : Nat → Int32, bf_Rw g w r p0 p → wX_filter_3 post (nI w) (nI h) (bf_g g) (d + 1) (nI r) p s b l q t f := by
  intro d
  induction d with
  | zero =>
    intro r hr p l q HR
    obtain rfl : r = 16 := by omega
    refine br_t (bf_16e (Nat.le_refl _) (by omega)) ⟨16 + 1, ?_⟩
    exact bf_f31 hh (fun p' l' q' HC => H p' l' q' (bf_two HR HC)) 16 0 (by omega) p l q ⟨fun a j _ hj => by omega, fun k _ => rfl⟩
  | succ d ih =>
    intro r hr p l q HR
    have e : nI r * 16 = nI (r * 16) := pk_mul r 16
    refine br_f (bf_16 (by omega)) ?_
    rw [e]
    refine bf_fline (st := r * 16) (sp := 1) hw (by omega) (fun j hj => by omega) ?_
    intro p' l' q' L
    exact nm_r (nI_1 r) (ih (r + 1) (by omega) p' l' q' (bf_Rw_s HR L))
theorem bf_filt {g : Bool} {w h : Nat} (hw : w ≤ 7) (hh : h ≤ 7) {p l q : Nat → Int32} (H : ∀ p' l' q' : Nat → Int32, bf_Sp (bf_Wn g w h p) p p' → post (p', s, b, l', q', t, f)) :
    wpX_filter post (p, s, b, l, q, t, f) (nI w) (nI h) (bf_g g) := by
  refine Exists.intro (16 + 1) ?_
  exact bf_f3 hw hh H 16 0 (by omega) p l q ⟨fun a c ha _ => by omega, fun k _ => rfl⟩
end
end
section
/-! Y's look through a window: the best ones, and the sum by running sums -/
def bf_cl (z : Int) : Nat := if z < 0 then 0 else if z < 16 then z.toNat else 16
theorem bf_cl_c (z : Int) : (z < 0 ∧ bf_cl z = 0) ∨ (0 ≤ z ∧ z < 16 ∧ (bf_cl z : Int) = z) ∨ (16 ≤ z ∧ bf_cl z = 16) := by
  by_cases h : z < 0
  · exact Or.inl ⟨h, if_pos h⟩
  · by_cases h2 : z < 16
    · have e : bf_cl z = z.toNat := (if_neg h).trans (if_pos h2)
      exact Or.inr (Or.inl ⟨by omega, h2, by omega⟩)
    · exact Or.inr (Or.inr ⟨by omega, (if_neg h).trans (if_neg h2)⟩)
theorem bf_cl_le (z : Int) : bf_cl z ≤ 16 := by
  rcases bf_cl_c z with h | h | h <;> omega
theorem bf_cl_mono {y z : Int} (h : y ≤ z) : bf_cl y ≤ bf_cl z := by
  rcases bf_cl_c z with h1 | h1 | h1 <;> rcases bf_cl_c y with h2 | h2 | h2 <;> omega
def bf_PS (p : Nat → Int32) (r : Nat) : Nat → Int32
  | 0 => 0
  | c + 1 => bf_PS p r c + p (r * 16 + c)
def bf_SS (p : Nat → Int32) : Nat → Nat → Int32
  | 0, _ => 0
  | r + 1, c => bf_SS p r c + bf_PS p r c
theorem bf_PS_s {p : Nat → Int32} {r c : Nat} : bf_PS p r (c + 1) = bf_PS p r c + p (r * 16 + c) := rfl
theorem bf_SS_s {p : Nat → Int32} {r c : Nat} : bf_SS p (r + 1) c = bf_SS p r c + bf_PS p r c := rfl
def bf_PR (p : Nat → Int32) (z : Int) (k : Nat) : Int32 := if 0 ≤ z ∧ z < 16 then bf_PS p z.toNat k else 0
def bf_NR (z : Int) (k : Nat) : Int32 := if 0 ≤ z ∧ z < 16 then nI k else 0
theorem bf_PR_in {p : Nat → Int32} {z : Int} {a k : Nat} (h : z = a) (ha : a < 16) : bf_PR p z k = bf_PS p a k := by
  subst h
  exact if_pos ⟨by omega, by omega⟩
theorem bf_PR_out {p : Nat → Int32} {z : Int} {k : Nat} (h : ¬ (0 ≤ z ∧ z < 16)) : bf_PR p z k = 0 := if_neg h
theorem bf_NR_in {z : Int} {k : Nat} (h : 0 ≤ z ∧ z < 16) : bf_NR z k = nI k := if_pos h
theorem bf_NR_out {z : Int} {k : Nat} (h : ¬ (0 ≤ z ∧ z < 16)) : bf_NR z k = 0 := if_neg h
/-- a column that isn't in the picture adds nothing -/
theorem bf_skip {z y : Int} (h : ¬ (0 ≤ z ∧ z < 16 ∧ 0 ≤ y ∧ y < 16)) : (∀ p, bf_PR p z (bf_cl (y + 1)) = bf_PR p z (bf_cl y)) ∧ bf_NR z (bf_cl (y + 1)) = bf_NR z (bf_cl y) := by
  by_cases hz : 0 ≤ z ∧ z < 16
  · have e : bf_cl (y + 1) = bf_cl y := by
      rcases bf_cl_c (y + 1) with h1 | h1 | h1 <;> rcases bf_cl_c y with h2 | h2 | h2 <;> omega
    rw [e]
    exact ⟨fun _ => rfl, rfl⟩
  · exact ⟨fun p => by rw [bf_PR_out hz, bf_PR_out hz], by rw [bf_NR_out hz, bf_NR_out hz]⟩
theorem bf_takeP {p : Nat → Int32} {z y : Int} {a c : Nat} (hz : z = a) (hy : y = c) (ha : a < 16) (hc : c < 16) : bf_PR p z (bf_cl (y + 1)) = bf_PR p z (bf_cl y) + p (a * 16 + c) := by
  have e1 : bf_cl y = c := by rcases bf_cl_c y with h | h | h <;> omega
  have e2 : bf_cl (y + 1) = c + 1 := by rcases bf_cl_c (y + 1) with h | h | h <;> omega
  rw [bf_PR_in hz ha, bf_PR_in hz ha, e1, e2, bf_PS_s]
theorem bf_takeN {z y : Int} {a c : Nat} (hz : z = a) (hy : y = c) (ha : a < 16) (hc : c < 16) : bf_NR z (bf_cl (y + 1)) = bf_NR z (bf_cl y) + 1 := by
  have e1 : bf_cl y = c := by rcases bf_cl_c y with h | h | h <;> omega
  have e2 : bf_cl (y + 1) = c + 1 := by rcases bf_cl_c (y + 1) with h | h | h <;> omega
  rw [bf_NR_in ⟨by omega, by omega⟩, bf_NR_in ⟨by omega, by omega⟩, e1, e2, nI_1]
theorem bf_rowT {p : Nat → Int32} {z : Int} {L R : Nat} {B : Int32} : B + (bf_SS p (bf_cl z) R - bf_SS p (bf_cl z) L) - bf_PR p z L + bf_PR p z R = B + (bf_SS p (bf_cl (z + 1)) R - bf_SS p (bf_cl (z + 1)) L) := by
  by_cases hz : 0 ≤ z ∧ z < 16
  · have e0 : z = (bf_cl z : Nat) := by rcases bf_cl_c z with h | h | h <;> omega
    have e1 : bf_cl (z + 1) = bf_cl z + 1 := by
      rcases bf_cl_c (z + 1) with h1 | h1 | h1 <;> rcases bf_cl_c z with h2 | h2 | h2 <;> omega
    have e2 : bf_cl z < 16 := by omega
    rw [bf_PR_in e0 e2, bf_PR_in e0 e2, e1, bf_SS_s, bf_SS_s]
    generalize bf_SS p (bf_cl z) R = u1
    generalize bf_SS p (bf_cl z) L = u2
    generalize bf_PS p (bf_cl z) R = u3
    generalize bf_PS p (bf_cl z) L = u4
    grind
  · have e1 : bf_cl (z + 1) = bf_cl z := by
      rcases bf_cl_c (z + 1) with h1 | h1 | h1 <;> rcases bf_cl_c z with h2 | h2 | h2 <;> omega
    rw [bf_PR_out hz, bf_PR_out hz, e1, Int32.sub_add_cancel]
theorem bf_rowN {z : Int} {L R : Nat} {N : Int32} (h : L ≤ R) : N + nI (bf_cl z * (R - L)) - bf_NR z L + bf_NR z R = N + nI (bf_cl (z + 1) * (R - L)) := by
  by_cases hz : 0 ≤ z ∧ z < 16
  · have e1 : bf_cl (z + 1) = bf_cl z + 1 := by
      rcases bf_cl_c (z + 1) with h1 | h1 | h1 <;> rcases bf_cl_c z with h2 | h2 | h2 <;> omega
    have e3 : nI R = nI L + nI (R - L) := by rw [nI_add, Nat.add_sub_cancel' h]
    rw [bf_NR_in hz, bf_NR_in hz, e1, Nat.succ_mul, ← nI_add, e3]
    generalize nI (bf_cl z * (R - L)) = u1
    generalize nI (R - L) = u2
    generalize nI L = u3
    grind
  · have e1 : bf_cl (z + 1) = bf_cl z := by
      rcases bf_cl_c (z + 1) with h1 | h1 | h1 <;> rcases bf_cl_c z with h2 | h2 | h2 <;> omega
    rw [bf_NR_out hz, bf_NR_out hz, e1, Int32.sub_add_cancel]
/-- v is the best so far: all rows ahead of z, and in row z all columns ahead of y -/
def bf_LI (g : Bool) (p : Nat → Int32) (w h a c : Nat) (z y : Int) (v : Int32) : Prop :=
  (∃ a' c', a' < 16 ∧ c' < 16 ∧ a' ≤ a + h ∧ a ≤ a' + h ∧ c' ≤ c + w ∧ c ≤ c' + w ∧ p (a' * 16 + c') = v) ∧
  (∀ a' c' : Nat, a' < 16 → c' < 16 → a' ≤ a + h → a ≤ a' + h → c' ≤ c + w → c ≤ c' + w → ((a' : Int) < z ∨ ((a' : Int) = z ∧ (c' : Int) < y)) → bf_le g (p (a' * 16 + c')) v)
section
variable {g : Bool} {p : Nat → Int32} {w h a c : Nat} {z y : Int} {v : Int32}
theorem bf_LI_0 (ha : a < 16) (hc : c < 16) : bf_LI g p w h a c ((a : Int) - h) ((c : Int) - w) (p (a * 16 + c)) :=
  ⟨⟨a, c, ha, hc, by omega, by omega, by omega, by omega, rfl⟩, fun a' c' _ _ _ _ _ _ _ => by omega⟩
theorem bf_LI_skip (H : bf_LI g p w h a c z y v) (hn : ¬ (0 ≤ z ∧ z < 16 ∧ 0 ≤ y ∧ y < 16)) : bf_LI g p w h a c z (y + 1) v :=
  ⟨H.1, fun a' c' x1 x2 x3 x4 x5 x6 x7 => H.2 a' c' x1 x2 x3 x4 x5 x6 (by omega)⟩
theorem bf_LI_row (H : bf_LI g p w h a c z ((c : Int) + w + 1) v) : bf_LI g p w h a c (z + 1) ((c : Int) - w) v :=
  ⟨H.1, fun a' c' x1 x2 x3 x4 x5 x6 x7 => H.2 a' c' x1 x2 x3 x4 x5 x6 (by omega)⟩
theorem bf_LI_end (H : bf_LI g p w h a c ((a : Int) + h + 1) y v) : bf_Wn g w h p a c v :=
  ⟨H.1, fun a' c' x1 x2 x3 x4 x5 x6 => H.2 a' c' x1 x2 x3 x4 x5 x6 (by omega)⟩
theorem bf_LI_take {a1 c1 : Nat} {v' : Int32} (H : bf_LI g p w h a c z y v) (hz : z = a1) (hy : y = c1) (h1 : a1 < 16) (h2 : c1 < 16) (h3 : a1 ≤ a + h) (h4 : a ≤ a1 + h) (h5 : c1 ≤ c + w) (h6 : c ≤ c1 + w)
    (e : v' = v ∨ v' = p (a1 * 16 + c1)) (g1 : bf_le g v v') (g2 : bf_le g (p (a1 * 16 + c1)) v') : bf_LI g p w h a c z (y + 1) v' := by
  refine ⟨?_, fun a' c' x1 x2 x3 x4 x5 x6 x7 => ?_⟩
  · rcases e with e | e
    · rw [e]; exact H.1
    · exact ⟨a1, c1, h1, h2, h3, h4, h5, h6, e.symm⟩
  · by_cases hh : a' = a1 ∧ c' = c1
    · obtain ⟨rfl, rfl⟩ := hh
      exact g2
    · exact bf_le_trans (H.2 a' c' x1 x2 x3 x4 x5 x6 (by omega)) g1
end
theorem bf_lt0 {x : Int32} : x < 0 ↔ x.toInt < 0 := by
  rw [Int32.lt_iff_toInt_lt, show (0 : Int32).toInt = 0 from by decide]
theorem bf_le16 {x : Int32} : 16 ≤ x ↔ 16 ≤ x.toInt := by
  rw [Int32.le_iff_toInt_le, show (16 : Int32).toInt = 16 from by decide]
theorem bf_inc {x : Int32} {z : Int} (h : x.toInt = z) (h1 : -1000 < z) (h2 : z < 1000) : (x + 1).toInt = z + 1 := by
  have e1 : (1 : Int32).toInt = 1 := by decide
  rw [Jvm.Kit.i32_add (by rw [e1]; omega) (by rw [e1]; omega), e1, h]
theorem bf_isp {post : Int32 → Prop} {p s r b m : Nat → Int32} {x y : Int32} {z t : Int} (hx : x.toInt = z) (hy : y.toInt = t) (h0 : ¬ (0 ≤ z ∧ z < 16 ∧ 0 ≤ t ∧ t < 16) → post 0) (h1 : 0 ≤ z ∧ z < 16 ∧ 0 ≤ t ∧ t < 16 → post 1) : wpY_isPixel post (p, s, r, b, m) x y := by
  refine br_c (fun k => h0 ?_) (fun k1 => br_c (fun k => h0 ?_) (fun k2 => br_c (fun k => h0 ?_) (fun k3 => br_c (fun k => h0 ?_) (fun k4 => h1 ?_))))
  · rw [bf_lt0, hx] at k; omega
  · rw [bf_le16, hx] at k; omega
  · rw [bf_lt0, hy] at k; omega
  · rw [bf_le16, hy] at k; omega
  · rw [bf_lt0, hx] at k1
    rw [bf_le16, hx] at k2
    rw [bf_lt0, hy] at k3
    rw [bf_le16, hy] at k4
    omega
theorem bf_nIof {x : Int32} {a : Nat} (h : x.toInt = (a : Int)) (ha : a < 1000) : x = nI a := by
  apply Int32.toInt_inj.mp
  rw [h, nI_toInt (by omega)]
end
section
/-! look's walk; carryOut -/
theorem bf_dv {a c : Nat} (ha : a < 16) (hc : c < 16) : nI (a * 16 + c) / 16 = nI a := by
  have e := pk_div (a := a * 16 + c) (d := 16) (by omega) (by omega) (by omega)
  have e2 : (a * 16 + c) / 16 = a := by omega
  rw [e2] at e
  exact e
theorem bf_rm {a c : Nat} (ha : a < 16) (hc : c < 16) : nI (a * 16 + c) - nI (a * 16 + c) / 16 * 16 = nI c := by
  have e := pk_rem (a := a * 16 + c) (d := 16) (by omega) (by omega) (by omega)
  have e2 : (a * 16 + c) % 16 = c := by omega
  rw [e2] at e
  exact e
section
variable {post : Int32 → Prop} {p s r b m : Nat → Int32} {w h a c : Nat}
theorem bf_99 {J31 J51 : Int32 → Int32 → Int32 → Int32 → Int32 → Prop} {x1 x2 x3 x4 x5 x6 x7 x8 x9 x10 v : Int32}
    (H : ∀ x6' : Int32, (x6' = x6 ∨ x6' = v) → bf_le false x6 x6' → bf_le false v x6' → J51 x5 x6' (x7 + v) (x8 + 1) (x10 + 1)) : wY_look_99 post J31 J51 x1 x2 x3 x4 x5 x6 x7 x8 x9 x10 v p s r b m := by
  refine br_c (fun k => nm_e (nm_e (nm_e ?_))) (fun k => nm_e (nm_e (nm_e ?_)))
  · exact H x6 (Or.inl rfl) (bf_le_refl _ _) k
  · exact H v (Or.inr rfl) ((Int32.le_total x6 v).resolve_left k) (bf_le_refl _ _)
theorem bf_51 {J : Int32 → Int32 → Int32 → Int32 → Int32 → Prop} {fl x9 B N : Int32} {z : Int} (ha : a < 16) (hc : c < 16) (hw : w ≤ 7) (hh : h ≤ 7) (hz : x9.toInt = z) (hz1 : (a : Int) - h ≤ z) (hz2 : z ≤ (a : Int) + h)
    (H : ∀ M L : Int32, bf_LI true p w h a c z ((c : Int) + w + 1) M → bf_LI false p w h a c z ((c : Int) + w + 1) L → J M L (B + bf_PR p z (bf_cl ((c : Int) + w + 1))) (N + bf_NR z (bf_cl ((c : Int) + w + 1))) (x9 + 1)) :
    ∀ (d : Nat) (y : Int) (x10 x5 x6 x7 x8 : Int32), x10.toInt = y → (c : Int) - w ≤ y → y + d = (c : Int) + w + 1 → bf_LI true p w h a c z y x5 → bf_LI false p w h a c z y x6 → x7 = B + bf_PR p z (bf_cl y) → x8 = N + bf_NR z (bf_cl y) →
      wY_look_51 post J fl (nI (a * 16 + c)) (nI w) (nI h) x9 p s r b m (d + 1) x5 x6 x7 x8 x10 := by
  have hcw : nI (a * 16 + c) - nI (a * 16 + c) / 16 * 16 + nI w = nI (c + w) := by rw [bf_rm ha hc, nI_add]
  have hcond : ∀ x10 : Int32, ∀ y : Int, x10.toInt = y → (nI (a * 16 + c) - nI (a * 16 + c) / 16 * 16 + nI w < x10 ↔ (c : Int) + w < y) := by
    intro x10 y hy
    rw [hcw, Int32.lt_iff_toInt_lt, hy, nI_toInt (by omega)]
    omega
  intro d
  induction d with
  | zero =>
    intro y x10 x5 x6 x7 x8 hy hy1 hy2 h5 h6 h7 h8
    obtain rfl : y = (c : Int) + w + 1 := by omega
    subst h7
    subst h8
    exact And.intro bf_160 (br_t ((hcond _ _ hy).mpr (by omega)) (nm_e (H x5 x6 h5 h6)))
  | succ d ih =>
    intro y x10 x5 x6 x7 x8 hy hy1 hy2 h5 h6 h7 h8
    refine And.intro bf_160 (br_f (fun k => ?_) ?_)
    · have := (hcond _ _ hy).mp k
      omega
    · refine bf_isp hz hy (fun hn => ?_) (fun hp => ?_)
      · obtain ⟨e1, e2⟩ := bf_skip hn
        exact br_t rfl (nm_e (ih (y + 1) (x10 + 1) x5 x6 x7 x8 (bf_inc hy (by omega) (by omega)) (by omega) (by omega) (bf_LI_skip h5 hn) (bf_LI_skip h6 hn) (by rw [e1]; exact h7) (by rw [e2]; exact h8)))
      · obtain ⟨a1, ea⟩ : ∃ a1 : Nat, z = a1 := ⟨z.toNat, by omega⟩
        obtain ⟨c1, ec⟩ : ∃ c1 : Nat, y = c1 := ⟨y.toNat, by omega⟩
        have ha1 : a1 < 16 := by omega
        have hc1 : c1 < 16 := by omega
        have e9 : x9 = nI a1 := bf_nIof (hz.trans ea) (by omega)
        have e10 : x10 = nI c1 := bf_nIof (hy.trans ec) (by omega)
        have ei : x9 * 16 + x10 = nI (a1 * 16 + c1) := by rw [e9, e10]; exact bf_at
        have hv : vp_in (x9 * 16 + x10) 256 := by rw [ei]; exact vp_in_nI (by omega) (by decide)
        have ev : p (x9 * 16 + x10).toNatClampNeg = p (a1 * 16 + c1) := by rw [ei, nI_clamp (by omega)]
        have h1 : ¬ (1 : Int32) = 0 := by decide
        have h7' : x7 + p (a1 * 16 + c1) = B + bf_PR p z (bf_cl (y + 1)) := by rw [bf_takeP ea ec ha1 hc1, h7, Int32.add_assoc]
        have h8' : x8 + 1 = N + bf_NR z (bf_cl (y + 1)) := by rw [bf_takeN ea ec ha1 hc1, h8, Int32.add_assoc]
        have K : ∀ x5' x6' : Int32, (x5' = x5 ∨ x5' = p (a1 * 16 + c1)) → bf_le true x5 x5' → bf_le true (p (a1 * 16 + c1)) x5' → (x6' = x6 ∨ x6' = p (a1 * 16 + c1)) → bf_le false x6 x6' → bf_le false (p (a1 * 16 + c1)) x6' →
            wY_look_51 post J fl (nI (a * 16 + c)) (nI w) (nI h) x9 p s r b m (d + 1) x5' x6' (x7 + p (a1 * 16 + c1)) (x8 + 1) (x10 + 1) := by
          intro x5' x6' k1 k2 k3 k4 k5 k6
          exact ih (y + 1) (x10 + 1) x5' x6' _ _ (bf_inc hy (by omega) (by omega)) (by omega) (by omega)
            (bf_LI_take h5 ea ec ha1 hc1 (by omega) (by omega) (by omega) (by omega) k1 k2 k3) (bf_LI_take h6 ea ec ha1 hc1 (by omega) (by omega) (by omega) (by omega) k4 k5 k6) h7' h8'
        refine br_f h1 ⟨hv, nm_r ev (br_c (fun k => ?_) (fun k => ?_))⟩
        · exact bf_99 (fun x6' k4 k5 k6 => K x5 x6' (Or.inl rfl) (bf_le_refl _ _) k k4 k5 k6)
        · exact bf_99 (fun x6' k4 k5 k6 => K _ x6' (Or.inr rfl) ((Int32.le_total (p (a1 * 16 + c1)) x5).resolve_left k) (bf_le_refl _ _) k4 k5 k6)
/-- sums of the rows ahead of row k, between the window's columns -/
def bf_T (p : Nat → Int32) (w c k : Nat) : Int32 := bf_SS p k (bf_cl ((c : Int) + w + 1)) - bf_SS p k (bf_cl ((c : Int) - w))
def bf_D (w c : Nat) : Nat := bf_cl ((c : Int) + w + 1) - bf_cl ((c : Int) - w)
theorem bf_31 {fl B N : Int32} (ha : a < 16) (hc : c < 16) (hw : w ≤ 7) (hh : h ≤ 7)
    (H : ∀ M L : Int32, bf_Wn true w h p a c M → bf_Wn false w h p a c L → (fl = 0 → post M) ∧ (¬ fl = 0 → (fl = 1 → post L) ∧ (¬ fl = 1 → ¬ N + nI (bf_cl ((a : Int) + h + 1) * bf_D w c) = 0 ∧ post ((B + bf_T p w c (bf_cl ((a : Int) + h + 1))) / (N + nI (bf_cl ((a : Int) + h + 1) * bf_D w c)))))) :
    ∀ (d : Nat) (z : Int) (x9 x5 x6 x7 x8 : Int32), x9.toInt = z → (a : Int) - h ≤ z → z + d = (a : Int) + h + 1 → bf_LI true p w h a c z ((c : Int) - w) x5 → bf_LI false p w h a c z ((c : Int) - w) x6 → x7 = B + bf_T p w c (bf_cl z) → x8 = N + nI (bf_cl z * bf_D w c) →
      wY_look_31 post fl (nI (a * 16 + c)) (nI w) (nI h) p s r b m (d + 1) x5 x6 x7 x8 x9 := by
  have hah : nI (a * 16 + c) / 16 + nI h = nI (a + h) := by rw [bf_dv ha hc, nI_add]
  have hcond : ∀ x9 : Int32, ∀ z : Int, x9.toInt = z → (nI (a * 16 + c) / 16 + nI h < x9 ↔ (a : Int) + h < z) := by
    intro x9 z hz
    rw [hah, Int32.lt_iff_toInt_lt, hz, nI_toInt (by omega)]
    omega
  have hst : (nI (a * 16 + c) - nI (a * 16 + c) / 16 * 16 - nI w).toInt = (c : Int) - w := by rw [bf_rm ha hc, pk_sub_toInt (by omega) (by omega)]
  have hLR : bf_cl ((c : Int) - w) ≤ bf_cl ((c : Int) + w + 1) := bf_cl_mono (by omega)
  intro d
  induction d with
  | zero =>
    intro z x9 x5 x6 x7 x8 hz hz1 hz2 h5 h6 h7 h8
    obtain rfl : z = (a : Int) + h + 1 := by omega
    subst h7
    subst h8
    exact And.intro bf_160 (br_t ((hcond _ _ hz).mpr (by omega)) (H x5 x6 (bf_LI_end h5) (bf_LI_end h6)))
  | succ d ih =>
    intro z x9 x5 x6 x7 x8 hz hz1 hz2 h5 h6 h7 h8
    refine And.intro bf_160 (br_f (fun k => ?_) ⟨bf_160, nm_e ⟨w + w + 1 + 1, ?_⟩⟩)
    · have := (hcond _ _ hz).mp k
      omega
    · refine bf_51 (B := x7 - bf_PR p z (bf_cl ((c : Int) - w))) (N := x8 - bf_NR z (bf_cl ((c : Int) - w))) ha hc hw hh hz hz1 (by omega) ?_ (w + w + 1) ((c : Int) - w) _ x5 x6 x7 x8 hst (by omega) (by omega) h5 h6 (Int32.sub_add_cancel _ _).symm (Int32.sub_add_cancel _ _).symm
      intro M L hM hL
      refine ih (z + 1) (x9 + 1) M L _ _ (bf_inc hz (by omega) (by omega)) (by omega) (by omega) (bf_LI_row hM) (bf_LI_row hL) ?_ ?_
      · rw [h7]; exact bf_rowT
      · rw [h8]; exact bf_rowN hLR
end
/-- the mean of the window about (a, c) -/
def bf_V (p : Nat → Int32) (w h a c : Nat) : Int32 := (bf_T p w c (bf_cl ((a : Int) + h + 1)) - bf_T p w c (bf_cl ((a : Int) - h))) / nI ((bf_cl ((a : Int) + h + 1) - bf_cl ((a : Int) - h)) * bf_D w c)
/-- what look answers -/
def bf_K (fl : Int32) (w h : Nat) (p : Nat → Int32) (a c : Nat) (v : Int32) : Prop := (fl = 0 → bf_Wn true w h p a c v) ∧ (fl = 1 → bf_Wn false w h p a c v) ∧ (¬ fl = 0 → ¬ fl = 1 → v = bf_V p w h a c)
theorem bf_D_pos {w c : Nat} (hc : c < 16) : 0 < bf_D w c ∧ bf_D w c ≤ 16 := by
  unfold bf_D
  have h1 := bf_cl_c ((c : Int) + w + 1)
  have h2 := bf_cl_c ((c : Int) - w)
  omega
theorem bf_look {post : Int32 → Prop} {p s r b m : Nat → Int32} {w h a c : Nat} {fl : Int32} (ha : a < 16) (hc : c < 16) (hw : w ≤ 7) (hh : h ≤ 7) (H : ∀ v, bf_K fl w h p a c v → post v) :
    wpY_look post (p, s, r, b, m) fl (nI (a * 16 + c)) (nI w) (nI h) := by
  have hv : vp_in (nI (a * 16 + c)) 256 := vp_in_nI (by omega) (by decide)
  have ec : (nI (a * 16 + c)).toNatClampNeg = a * 16 + c := nI_clamp (by omega)
  have ev : p (nI (a * 16 + c)).toNatClampNeg = p (a * 16 + c) := by rw [ec]
  have hst : (nI (a * 16 + c) / 16 - nI h).toInt = (a : Int) - h := by rw [bf_dv ha hc, pk_sub_toInt (by omega) (by omega)]
  obtain ⟨hD1, hD2⟩ := bf_D_pos (w := w) hc
  have h1 := bf_cl_c ((a : Int) + h + 1)
  have h2 := bf_cl_c ((a : Int) - h)
  have ht : bf_cl ((a : Int) - h) < bf_cl ((a : Int) + h + 1) := by omega
  have hb : bf_cl ((a : Int) + h + 1) ≤ 16 := bf_cl_le _
  refine And.intro hv (nm_r ev ⟨hv, nm_r ev ⟨bf_160, nm_e ⟨h + h + 1 + 1, ?_⟩⟩⟩)
  refine bf_31 (B := - bf_T p w c (bf_cl ((a : Int) - h))) (N := - nI (bf_cl ((a : Int) - h) * bf_D w c)) ha hc hw hh ?_ (h + h + 1) ((a : Int) - h) _ _ _ 0 0 hst (by omega) (by omega) (bf_LI_0 ha hc) (bf_LI_0 ha hc) ?_ ?_
  · intro M L hM hL
    refine br_c (fun k => H M ⟨fun _ => hM, fun k' => ?_, fun k' => (k' k).elim⟩) (fun k1 => br_c (fun k => H L ⟨fun k' => (k1 k').elim, fun _ => hL, fun _ k' => (k' k).elim⟩) (fun k2 => ?_))
    · exact absurd (k.symm.trans k') (by decide)
    · have e1 : - nI (bf_cl ((a : Int) - h) * bf_D w c) + nI (bf_cl ((a : Int) + h + 1) * bf_D w c) = nI ((bf_cl ((a : Int) + h + 1) - bf_cl ((a : Int) - h)) * bf_D w c) := by
        rw [Nat.sub_mul, ← pk_sub (Nat.mul_le_mul_right _ (Nat.le_of_lt ht)), Int32.sub_eq_add_neg, Int32.add_comm]
      have e2 : - bf_T p w c (bf_cl ((a : Int) - h)) + bf_T p w c (bf_cl ((a : Int) + h + 1)) = bf_T p w c (bf_cl ((a : Int) + h + 1)) - bf_T p w c (bf_cl ((a : Int) - h)) := by
        rw [Int32.sub_eq_add_neg, Int32.add_comm]
      have hpos : 0 < (bf_cl ((a : Int) + h + 1) - bf_cl ((a : Int) - h)) * bf_D w c := Nat.mul_pos (by omega) hD1
      have hle : (bf_cl ((a : Int) + h + 1) - bf_cl ((a : Int) - h)) * bf_D w c ≤ 16 * 16 := Nat.mul_le_mul (by omega) hD2
      rw [e1, e2]
      exact ⟨nI_ne0 hpos (by omega), H _ ⟨fun k' => (k1 k').elim, fun k' => (k2 k').elim, fun _ _ => rfl⟩⟩
  · exact (Int32.add_left_neg _).symm
  · exact (Int32.add_left_neg _).symm
section
variable {post : SY → Prop} {s b m : Nat → Int32}
/-- Y's second loop: the results become the pixels -/
theorem bf_c36 {r p0 : Nat → Int32} (H : ∀ p' : Nat → Int32, (∀ k, k < 256 → p' k = r k) → (∀ k, 256 ≤ k → p' k = p0 k) → post (p', s, r, b, m)) :
    ∀ d i : Nat, i + d = 256 → ∀ p : Nat → Int32, (∀ k, k < i → p k = r k) → (∀ k, 256 ≤ k → p k = p0 k) → wY_carryOut_36 post (d + 1) (nI i) p s r b m := by
  intro d
  induction d with
  | zero =>
    intro i hi p h1 h2
    obtain rfl : i = 256 := by omega
    exact br_t bf_256e (H p h1 h2)
  | succ d ih =>
    intro i hi p h1 h2
    have hc := bf_256 (i := i) (by omega)
    have hv := bf_in (i := i) (by omega)
    have e : (nI i).toNatClampNeg = i := nI_clamp (by omega)
    refine br_f hc ⟨hv, hv, nm_e (nm_r (nI_1 i) (ih (i + 1) (by omega) _ (fun k hk => ?_) (fun k hk => ?_)))⟩
    · rw [e]
      by_cases ek : k = i
      · rw [ek, pk_us]
      · rw [pk_un ek]; exact h1 k (by omega)
    · rw [e, pk_un (by omega)]
      exact h2 k hk
theorem bf_c3 {p : Nat → Int32} {fl : Int32} {w h : Nat} (hw : w ≤ 7) (hh : h ≤ 7) (H : ∀ p' r' : Nat → Int32, bf_Sp (bf_K fl w h p) p p' → post (p', s, r', b, m)) :
    ∀ d i : Nat, i + d = 256 → ∀ r : Nat → Int32, (∀ k, k < i → bf_K fl w h p (k / 16) (k % 16) (r k)) → wY_carryOut_3 post fl (nI w) (nI h) (d + 1) (nI i) p s r b m := by
  intro d
  induction d with
  | zero =>
    intro i hi r hr
    obtain rfl : i = 256 := by omega
    refine br_t bf_256e ⟨256 + 1, ?_⟩
    refine bf_c36 (p0 := p) (fun p' h1 h2 => H p' r ⟨fun a c ha hc => ?_, h2⟩) 256 0 (by omega) p (fun k hk => by omega) (fun k _ => rfl)
    have x := hr (a * 16 + c) (by omega)
    have e1 : (a * 16 + c) / 16 = a := by omega
    have e2 : (a * 16 + c) % 16 = c := by omega
    rw [e1, e2] at x
    rw [h1 _ (by omega)]
    exact x
  | succ d ih =>
    intro i hi r hr
    have hc := bf_256 (i := i) (by omega)
    have hv := bf_in (i := i) (by omega)
    have e : (nI i).toNatClampNeg = i := nI_clamp (by omega)
    refine br_f hc ?_
    have ei : i / 16 * 16 + i % 16 = i := by omega
    have G := bf_look (post := fun r_7 => (vp_in (nI i) 256 ∧ ∀ a_result_14 : Nat → Int32, a_result_14 = upd r (nI i).toNatClampNeg r_7 → (∀ x4_15 : Int32, x4_15 = nI i + 1 → (wY_carryOut_3 post fl (nI w) (nI h) (d + 1) x4_15 p s a_result_14 b m)))) (p := p) (s := s) (r := r) (b := b) (m := m) (fl := fl) (a := i / 16) (c := i % 16) (by omega) (by omega) hw hh ?_
    · rw [ei] at G
      exact G
    · intro v hK
      refine ⟨hv, nm_e (nm_r (nI_1 i) (ih (i + 1) (by omega) _ (fun k hk => ?_)))⟩
      rw [e]
      by_cases ek : k = i
      · rw [ek, pk_us]; exact hK
      · rw [pk_un ek]; exact hr k (by omega)
theorem bf_carry {p r : Nat → Int32} {fl : Int32} {w h : Nat} (hw : w ≤ 7) (hh : h ≤ 7) (H : ∀ p' r' : Nat → Int32, bf_Sp (bf_K fl w h p) p p' → post (p', s, r', b, m)) : wpY_carryOut post (p, s, r, b, m) fl (nI w) (nI h) :=
  Exists.intro (256 + 1) (bf_c3 hw hh H 256 0 (by omega) r (fun k hk => by omega))
end
end
section
/-! fillSums and meanAt -/
theorem bf_SS0 (p : Nat → Int32) : ∀ r, bf_SS p r 0 = 0 := by
  intro r
  induction r with
  | zero => rfl
  | succ r ih => rw [bf_SS_s, ih]; rfl
/-- the sums of the rows down to r stand -/
def bf_SR (p t : Nat → Int32) (r : Nat) : Prop := bf_Z t ∧ (∀ r' c', r' ≤ r → c' ≤ 16 → t (r' * 17 + c') = bf_SS p r' c')
/-- and of the next row those up to column c -/
def bf_SI (p t : Nat → Int32) (r c : Nat) : Prop := bf_SR p t r ∧ (∀ c', c' ≤ c → t ((r + 1) * 17 + c') = bf_SS p (r + 1) c')
theorem bf_SR_0 {p t : Nat → Int32} (h : bf_Z t) : bf_SR p t 0 := by
  refine ⟨h, fun r' c' hr hc => ?_⟩
  obtain rfl : r' = 0 := by omega
  rw [Nat.zero_mul, Nat.zero_add]
  exact h.1 c' (by omega)
theorem bf_SI_0 {p t : Nat → Int32} {r : Nat} (hr : r < 16) (h : bf_SR p t r) : bf_SI p t r 0 := by
  refine ⟨h, fun c' hc => ?_⟩
  obtain rfl : c' = 0 := by omega
  rw [bf_SS0]
  exact h.1.2 (r + 1) (by omega)
theorem bf_SI_e {p t : Nat → Int32} {r : Nat} (h : bf_SI p t r 16) : bf_SR p t (r + 1) := by
  refine ⟨h.1.1, fun r' c' hr hc => ?_⟩
  by_cases e : r' = r + 1
  · subst e
    exact h.2 c' hc
  · exact h.1.2 r' c' (by omega) hc
theorem bf_SI_s {p t : Nat → Int32} {r c : Nat} (hr : r < 16) (hc : c < 16) (h : bf_SI p t r c) : bf_SI p (upd t ((r + 1) * 17 + c + 1) (t (r * 17 + c + 1) + bf_PS p r (c + 1))) r (c + 1) := by
  obtain ⟨⟨⟨z1, z2⟩, h2⟩, h3⟩ := h
  refine ⟨⟨⟨fun c' hc' => ?_, fun r' hr' => ?_⟩, fun r' c' hr' hc' => ?_⟩, fun c' hc' => ?_⟩
  · rw [pk_un (by omega)]; exact z1 c' hc'
  · rw [pk_un (by omega)]; exact z2 r' hr'
  · rw [pk_un (by omega)]; exact h2 r' c' hr' hc'
  · by_cases e : c' = c + 1
    · subst e
      rw [← Nat.add_assoc, pk_us, bf_SS_s, Nat.add_assoc, h2 r (c + 1) (Nat.le_refl _) (by omega)]
    · rw [pk_un (by omega)]; exact h3 c' (by omega)
theorem bf_at17 {a b : Nat} : nI a * 17 + nI b = nI (a * 17 + b) := by
  rw [show (17 : Int32) = nI 17 from rfl, pk_mul, nI_add]
section
variable {p s b l q f : Nat → Int32}
theorem bf_s12 {post : SX → Prop} {J : Int32 → (Nat → Int32) → (Nat → Int32) → (Nat → Int32) → (Nat → Int32) → (Nat → Int32) → (Nat → Int32) → (Nat → Int32) → Prop} {r : Nat} (hr : r < 16)
    (H : ∀ t' : Nat → Int32, bf_SI p t' r 16 → J (nI (r + 1)) p s b l q t' f) : ∀ d c : Nat, c + d = 16 → ∀ t : Nat → Int32, bf_SI p t r c → wX_fillSums_12 post J (nI r) (d + 1) (bf_PS p r c) (nI c) p s b l q t f := by
  intro d
  induction d with
  | zero =>
    intro c hc t hI
    obtain rfl : c = 16 := by omega
    exact br_t (bf_16e (Nat.le_refl _) (by omega)) (nm_r (nI_1 r) (H t hI))
  | succ d ih =>
    intro c hc t hI
    have e1 : nI r * 16 + nI c = nI (r * 16 + c) := bf_at
    have e2 : nI r * 17 + nI c + 1 = nI (r * 17 + c + 1) := by rw [bf_at17, nI_1]
    have e3 : (nI r + 1) * 17 + nI c + 1 = nI ((r + 1) * 17 + c + 1) := by rw [nI_1 r, bf_at17, nI_1]
    have v1 : vp_in (nI r * 16 + nI c) 256 := by rw [e1]; exact vp_in_nI (by omega) (by decide)
    have v2 : vp_in (nI r * 17 + nI c + 1) 289 := by rw [e2]; exact vp_in_nI (by omega) (by decide)
    have v3 : vp_in ((nI r + 1) * 17 + nI c + 1) 289 := by rw [e3]; exact vp_in_nI (by omega) (by decide)
    have c1 : bf_PS p r c + p (nI r * 16 + nI c).toNatClampNeg = bf_PS p r (c + 1) := by rw [e1, nI_clamp (by omega), bf_PS_s]
    have c2 : upd t ((nI r + 1) * 17 + nI c + 1).toNatClampNeg (t (nI r * 17 + nI c + 1).toNatClampNeg + bf_PS p r (c + 1)) = upd t ((r + 1) * 17 + c + 1) (t (r * 17 + c + 1) + bf_PS p r (c + 1)) := by
      rw [e2, e3, nI_clamp (by omega), nI_clamp (by omega)]
    exact br_f (bf_16 (by omega)) ⟨v1, nm_r c1 ⟨v2, v3, nm_r c2 (nm_r (nI_1 c) (ih (c + 1) (by omega) _ (bf_SI_s hr (by omega) hI)))⟩⟩
theorem bf_s2 {post : SX → Prop} (H : ∀ t' : Nat → Int32, bf_SR p t' 16 → post (p, s, b, l, q, t', f)) : ∀ d r : Nat, r + d = 16 → ∀ t : Nat → Int32, bf_SR p t r → wX_fillSums_2 post (d + 1) (nI r) p s b l q t f := by
  intro d
  induction d with
  | zero =>
    intro r hr t hI
    obtain rfl : r = 16 := by omega
    exact br_t (bf_16e (Nat.le_refl _) (by omega)) (H t hI)
  | succ d ih =>
    intro r hr t hI
    refine br_f (bf_16 (by omega)) ⟨16 + 1, ?_⟩
    exact bf_s12 (by omega) (fun t' h' => ih (r + 1) (by omega) t' (bf_SI_e h')) 16 0 (by omega) t (bf_SI_0 (by omega) hI)
theorem bf_fills {post : SX → Prop} {t : Nat → Int32} (hz : bf_Z t) (H : ∀ t' : Nat → Int32, bf_SR p t' 16 → post (p, s, b, l, q, t', f)) : wpX_fillSums post (p, s, b, l, q, t, f) :=
  Exists.intro (16 + 1) (bf_s2 H 16 0 (by omega) t (bf_SR_0 hz))
theorem bf_within {po : Int32 → Prop} {x : Int32} {z : Int} (hx : x.toInt = z) (H : po (nI (bf_cl z))) : wpX_within po x := by
  have e0 : (0 : Int32).toInt = 0 := by decide
  have e16 : (16 : Int32).toInt = 16 := by decide
  have hc := bf_cl_c z
  refine br_c (fun k1 => br_c (fun k2 => ?_) (fun k2 => ?_)) (fun k1 => ?_)
  · rw [Int32.le_iff_toInt_le, e0, hx] at k1
    rw [Int32.le_iff_toInt_le, e16, hx] at k2
    have e : x = nI (bf_cl z) := bf_nIof (by omega) (by omega)
    rw [e]; exact H
  · rw [Int32.le_iff_toInt_le, e16, hx] at k2
    have e : bf_cl z = 16 := by omega
    rw [e] at H; exact H
  · rw [Int32.le_iff_toInt_le, e0, hx] at k1
    have e : bf_cl z = 0 := by omega
    rw [e] at H; exact H
theorem bf_addT {a h : Nat} (ha : a < 100) (hh : h < 100) : (nI a + nI h + 1).toInt = (a : Int) + h + 1 := by
  rw [nI_add, nI_1, nI_toInt (by omega)]
  omega
theorem bf_meanAt {po : Int32 → Prop} {p0 t : Nat → Int32} {w h a c : Nat} (ha : a < 16) (hc : c < 16) (hw : w ≤ 7) (hh : h ≤ 7) (ht : bf_SR p0 t 16) (H : po (bf_V p0 w h a c)) :
    wpX_meanAt po (p, s, b, l, q, t, f) (nI a) (nI c) (nI w) (nI h) := by
  obtain ⟨hD1, hD2⟩ := bf_D_pos (w := w) hc
  have hb : bf_cl ((a : Int) + h + 1) ≤ 16 := bf_cl_le _
  have hR : bf_cl ((c : Int) + w + 1) ≤ 16 := bf_cl_le _
  have htb : bf_cl ((a : Int) - h) < bf_cl ((a : Int) + h + 1) := by
    have h1 := bf_cl_c ((a : Int) + h + 1)
    have h2 := bf_cl_c ((a : Int) - h)
    omega
  have hLR : bf_cl ((c : Int) - w) ≤ bf_cl ((c : Int) + w + 1) := bf_cl_mono (by omega)
  unfold bf_V bf_T bf_D at H
  unfold bf_D at hD1 hD2
  unfold wpX_meanAt
  dsimp only
  refine bf_within (z := (a : Int) - h) (pk_sub_toInt (by omega) (by omega)) ?_
  refine bf_within (z := (a : Int) + h + 1) (bf_addT (by omega) (by omega)) ?_
  refine bf_within (z := (c : Int) - w) (pk_sub_toInt (by omega) (by omega)) ?_
  refine bf_within (z := (c : Int) + w + 1) (bf_addT (by omega) (by omega)) ?_
  generalize bf_cl ((a : Int) - h) = T at *
  generalize bf_cl ((a : Int) + h + 1) = B at *
  generalize bf_cl ((c : Int) - w) = L at *
  generalize bf_cl ((c : Int) + w + 1) = R at *
  have hpos : 0 < (B - T) * (R - L) := Nat.mul_pos (by omega) hD1
  have hle : (B - T) * (R - L) ≤ 16 * 16 := Nat.mul_le_mul (by omega) hD2
  have e9 : (nI B - nI T) * (nI R - nI L) = nI ((B - T) * (R - L)) := by rw [pk_sub (Nat.le_of_lt htb), pk_sub hLR, pk_mul]
  have g : ∀ x y : Nat, x ≤ 16 → y ≤ 16 → vp_in (nI x * 17 + nI y) 289 ∧ t (nI x * 17 + nI y).toNatClampNeg = bf_SS p0 x y := by
    intro x y hx hy
    rw [bf_at17, nI_clamp (by omega)]
    exact ⟨vp_in_nI (by omega) (by decide), ht.2 x y hx hy⟩
  have e10 : t (nI B * 17 + nI R).toNatClampNeg - t (nI T * 17 + nI R).toNatClampNeg - t (nI B * 17 + nI L).toNatClampNeg + t (nI T * 17 + nI L).toNatClampNeg = (bf_SS p0 B R - bf_SS p0 B L) - (bf_SS p0 T R - bf_SS p0 T L) := by
    rw [(g B R hb hR).2, (g T R (by omega) hR).2, (g B L hb (by omega)).2, (g T L (by omega) (by omega)).2]
    generalize bf_SS p0 B R = u1
    generalize bf_SS p0 T R = u2
    generalize bf_SS p0 B L = u3
    generalize bf_SS p0 T L = u4
    grind
  exact nm_r e9 ⟨(g B R hb hR).1, (g T R (by omega) hR).1, (g B L hb (by omega)).1, (g T L (by omega) (by omega)).1, nm_r e10 (br_f (nI_nle hpos (by omega)) ⟨nI_ne0 hpos (by omega), H⟩)⟩
theorem bf_m21 {post : Int32 → SX → Prop} {p0 t : Nat → Int32} {w h : Nat} (hw : w ≤ 7) (hh : h ≤ 7) (ht : bf_SR p0 t 16)
    (H : ∀ p' : Nat → Int32, bf_Sp (fun a c v => v = bf_V p0 w h a c) p0 p' → wpX_changed (fun r_20 => post r_20 (p', s, b, l, q, t, f)) (p', s, b, l, q, t, f)) :
    ∀ d i : Nat, i + d = 256 → ∀ p : Nat → Int32, (∀ k, k < i → p k = bf_V p0 w h (k / 16) (k % 16)) → (∀ k, 256 ≤ k → p k = p0 k) → wX_mean_21 post (nI w) (nI h) (d + 1) (nI i) p s b l q t f := by
  intro d
  induction d with
  | zero =>
    intro i hi p h1 h2
    obtain rfl : i = 256 := by omega
    refine br_t bf_256e (H p ⟨fun a c ha hc => ?_, h2⟩)
    have x := h1 (a * 16 + c) (by omega)
    have e1 : (a * 16 + c) / 16 = a := by omega
    have e2 : (a * 16 + c) % 16 = c := by omega
    rw [e1, e2] at x
    exact x
  | succ d ih =>
    intro i hi p h1 h2
    have hv := bf_in (i := i) (by omega)
    have e : (nI i).toNatClampNeg = i := nI_clamp (by omega)
    have d1 : nI i / 16 = nI (i / 16) := pk_div (a := i) (d := 16) (by omega) (by omega) (by omega)
    have d2 : nI i - nI i / 16 * 16 = nI (i % 16) := pk_rem (a := i) (d := 16) (by omega) (by omega) (by omega)
    refine br_f (bf_256 (by omega)) ⟨bf_160, bf_160, ?_⟩
    rw [d2, d1]
    refine bf_meanAt (by omega) (by omega) hw hh ht ?_
    refine ⟨hv, nm_e (nm_r (nI_1 i) (ih (i + 1) (by omega) _ (fun k hk => ?_) (fun k hk => ?_)))⟩
    · rw [e]
      by_cases ek : k = i
      · rw [ek, pk_us]
      · rw [pk_un ek]; exact h1 k (by omega)
    · rw [e, pk_un (by omega)]
      exact h2 k hk
end
end
section
/-! the five filters -/
theorem bf_siz (x y : Int32) : ((∀ post : Int32 → Prop, post 1 → wpX_badSize post x y) ∧ (∀ (post : Int32 → SY → Prop) (fl sc : Int32) (p s r c m : Nat → Int32), post (-3) (p, s, r, c, m) → wpY_filter post (p, s, r, c, m) fl sc x y)) ∨
    ∃ w h : Nat, w ≤ 7 ∧ h ≤ 7 ∧ x = nI w ∧ y = nI h ∧ (∀ post : Int32 → Prop, post 0 → wpX_badSize post x y) ∧ (∀ (post : Int32 → SY → Prop) (fl sc : Int32) (p s r c m : Nat → Int32), (∃ n28 : Nat, wY_filter_28 post fl sc x y n28 0 p s r c m) → wpY_filter post (p, s, r, c, m) fl sc x y) := by
  by_cases h1 : x < 0
  · exact Or.inl ⟨fun _ hp => br_t h1 hp, fun _ _ _ _ _ _ _ _ hp => br_t h1 hp⟩
  by_cases h2 : 7 < x
  · exact Or.inl ⟨fun _ hp => br_f h1 (br_t h2 hp), fun _ _ _ _ _ _ _ _ hp => br_f h1 (br_t h2 hp)⟩
  by_cases h3 : y < 0
  · exact Or.inl ⟨fun _ hp => br_f h1 (br_f h2 (br_t h3 hp)), fun _ _ _ _ _ _ _ _ hp => br_f h1 (br_f h2 (br_t h3 hp))⟩
  by_cases h4 : y ≤ 7
  · obtain ⟨a, ha, rfl⟩ := nI_of h1
    obtain ⟨b, hb, rfl⟩ := nI_of h3
    have ha' : a ≤ 7 := (nI_leI (b := 7) ha (by decide)).mp (Int32.not_lt.mp h2)
    have hb' : b ≤ 7 := (nI_leI (b := 7) hb (by decide)).mp h4
    exact Or.inr ⟨a, b, ha', hb', rfl, rfl, fun _ hp => br_f h1 (br_f h2 (br_f h3 (br_t h4 hp))), fun _ _ _ _ _ _ _ _ hp => br_f h1 (br_f h2 (br_f h3 (br_t h4 hp)))⟩
  · exact Or.inl ⟨fun _ hp => br_f h1 (br_f h2 (br_f h3 (br_f h4 hp))), fun _ _ _ _ _ _ _ _ hp => br_f h1 (br_f h2 (br_f h3 (br_f h4 hp)))⟩
/-- look's number for an order -/
def bf_fl : Bool → Int32
  | true => 0
  | false => 1
theorem bf_K_W {g : Bool} {w h : Nat} {p : Nat → Int32} {a c : Nat} {v : Int32} (H : bf_K (bf_fl g) w h p a c v) : bf_Wn g w h p a c v := by
  cases g
  · exact H.2.1 rfl
  · exact H.1 rfl
theorem bf_same {g : Bool} {w h : Nat} {p p' p'' : Nat → Int32} (H : bf_Sp (bf_Wn g w h p) p p') (H' : bf_Sp (bf_K (bf_fl g) w h p) p p'') : p'' = p' :=
  bf_Sp_u (F := bf_Wn g w h p) (fun _ _ _ _ x y => bf_Wn_u x y) ⟨fun a c ha hc => bf_K_W (H'.1 a c ha hc), H'.2⟩ H
theorem bf_sameV {w h : Nat} {p p' p'' : Nat → Int32} (H : bf_Sp (fun a c v => v = bf_V p w h a c) p p') (H' : bf_Sp (bf_K 2 w h p) p p'') : p'' = p' :=
  bf_Sp_u (F := fun a c v => v = bf_V p w h a c) (fun _ _ _ _ x y => x.trans y.symm) ⟨fun a c ha hc => (H'.1 a c ha hc).2.2 (by decide) (by decide), H'.2⟩ H
/-- Y's filter once: answer a' from a state that bf_chg knows -/
theorem bf_y1 {post : Int32 → SY → Prop} {p p' b' s r c m : Nat → Int32} {w h : Nat} {fl a' : Int32} (hw : w ≤ 7) (hh : h ≤ 7) (hS : ∀ p'', bf_Sp (bf_K fl w h p) p p'' → p'' = p') (hb : ∀ j, j < 256 → b' j = p j)
    (cY : ∀ (post : Int32 → SY → Prop) (s r c m : Nat → Int32), (∀ j, j < 256 → b' j = c j) → post a' (p', s, r, c, m) → wY_filter_82 post p' s r c m (256 + 1) 0 (nI 0))
    (H : ∀ r' c', post a' (p', s, r', c', m)) : ∃ n28 : Nat, wY_filter_28 post fl (-1) (nI w) (nI h) n28 0 p s r c m := by
  refine ⟨256 + 1, bf_yrem p s r m post fl (-1) (nI w) (nI h) ?_ 256 0 (by omega) c (fun j hj => by omega)⟩
  intro c' hc
  refine br_t bf_256e ?_
  refine bf_carry hw hh ?_
  intro p'' r' hS'
  obtain rfl := hS p'' hS'
  exact br_t (by decide) ⟨256 + 1, cY post s r' c' m (fun j hj => (hb j hj).trans (hc j hj).symm) (H r' c')⟩
theorem bf_y2 {post : Int32 → SY → Prop} {p p1 p' b' s r c m : Nat → Int32} {w h : Nat} {fl sc a' : Int32} (hsc : ¬ sc < 0) (hw : w ≤ 7) (hh : h ≤ 7) (hS1 : ∀ p'', bf_Sp (bf_K fl w h p) p p'' → p'' = p1) (hS : ∀ p'', bf_Sp (bf_K sc w h p1) p1 p'' → p'' = p') (hb : ∀ j, j < 256 → b' j = p j)
    (cY : ∀ (post : Int32 → SY → Prop) (s r c m : Nat → Int32), (∀ j, j < 256 → b' j = c j) → post a' (p', s, r, c, m) → wY_filter_82 post p' s r c m (256 + 1) 0 (nI 0))
    (H : ∀ r' c', post a' (p', s, r', c', m)) : ∃ n28 : Nat, wY_filter_28 post fl sc (nI w) (nI h) n28 0 p s r c m := by
  refine ⟨256 + 1, bf_yrem p s r m post fl sc (nI w) (nI h) ?_ 256 0 (by omega) c (fun j hj => by omega)⟩
  intro c' hc
  refine br_t bf_256e ?_
  refine bf_carry hw hh ?_
  intro p'' r' hS'
  obtain rfl := hS1 p'' hS'
  refine br_f hsc ?_
  refine bf_carry hw hh ?_
  intro p3 r3 hS3
  obtain rfl := hS p3 hS3
  exact ⟨256 + 1, cY post s r3 c' m (fun j hj => (hb j hj).trans (hc j hj).symm) (H r3 c')⟩
theorem i_vc_dilate {k : Nat} {u : SX} {v : SY} (I : i_Rel k u v) (hk : k + 4 ≤ 2048) (v1 : Int32) (v2 : Int32) : wpX_dilate (fun r u' => wpY_dilate (fun r' v' => r' = r ∧ i_Rel (k + 4) u' v') v v1 v2) u v1 v2 := by
  obtain ⟨p, s, b, l, q, t, f, r, c, m, rfl, rfl, hz⟩ := I
  unfold wpX_dilate wpY_dilate
  dsimp only
  have h1 : ¬ (1 : Int32) = 0 := by decide
  rcases bf_siz v1 v2 with ⟨hX, hY⟩ | ⟨w, h, hw, hh, rfl, rfl, hX, hY⟩
  · refine hX _ ?_
    refine br_f h1 ?_
    refine hY _ _ _ p s r c m ?_
    exact ⟨rfl, bf_rel hz⟩
  · refine hX _ ?_
    refine br_t rfl (Exists.intro (256 + 1) (bf_rem p s l q t f _ ?_ 256 0 (by omega) b (fun j hj => by omega)))
    intro b' hb
    refine bf_filt (g := true) hw hh ?_
    intro p' l' q' hS
    obtain ⟨a', cX, cY⟩ := bf_chg p' b' 256 0 (by omega) 0
    refine Exists.intro (256 + 1) (cX _ s l' q' t f ?_)
    refine hY _ _ _ p s r c m ?_
    refine bf_y1 (fl := bf_fl true) hw hh (fun p'' x => bf_same hS x) hb cY ?_
    intro r' c'
    exact ⟨rfl, bf_rel hz⟩
theorem i_vc_erode {k : Nat} {u : SX} {v : SY} (I : i_Rel k u v) (hk : k + 4 ≤ 2048) (v1 : Int32) (v2 : Int32) : wpX_erode (fun r u' => wpY_erode (fun r' v' => r' = r ∧ i_Rel (k + 4) u' v') v v1 v2) u v1 v2 := by
  obtain ⟨p, s, b, l, q, t, f, r, c, m, rfl, rfl, hz⟩ := I
  unfold wpX_erode wpY_erode
  dsimp only
  have h1 : ¬ (1 : Int32) = 0 := by decide
  rcases bf_siz v1 v2 with ⟨hX, hY⟩ | ⟨w, h, hw, hh, rfl, rfl, hX, hY⟩
  · refine hX _ ?_
    refine br_f h1 ?_
    refine hY _ _ _ p s r c m ?_
    exact ⟨rfl, bf_rel hz⟩
  · refine hX _ ?_
    refine br_t rfl (Exists.intro (256 + 1) (bf_rem p s l q t f _ ?_ 256 0 (by omega) b (fun j hj => by omega)))
    intro b' hb
    refine bf_filt (g := false) hw hh ?_
    intro p' l' q' hS
    obtain ⟨a', cX, cY⟩ := bf_chg p' b' 256 0 (by omega) 0
    refine Exists.intro (256 + 1) (cX _ s l' q' t f ?_)
    refine hY _ _ _ p s r c m ?_
    refine bf_y1 (fl := bf_fl false) hw hh (fun p'' x => bf_same hS x) hb cY ?_
    intro r' c'
    exact ⟨rfl, bf_rel hz⟩
theorem i_vc_open {k : Nat} {u : SX} {v : SY} (I : i_Rel k u v) (hk : k + 4 ≤ 2048) (v1 : Int32) (v2 : Int32) : wpX_open (fun r u' => wpY_open (fun r' v' => r' = r ∧ i_Rel (k + 4) u' v') v v1 v2) u v1 v2 := by
  obtain ⟨p, s, b, l, q, t, f, r, c, m, rfl, rfl, hz⟩ := I
  unfold wpX_open wpY_open
  dsimp only
  have h1 : ¬ (1 : Int32) = 0 := by decide
  rcases bf_siz v1 v2 with ⟨hX, hY⟩ | ⟨w, h, hw, hh, rfl, rfl, hX, hY⟩
  · refine hX _ ?_
    refine br_f h1 ?_
    refine hY _ _ _ p s r c m ?_
    exact ⟨rfl, bf_rel hz⟩
  · refine hX _ ?_
    refine br_t rfl (Exists.intro (256 + 1) (bf_rem p s l q t f _ ?_ 256 0 (by omega) b (fun j hj => by omega)))
    intro b' hb
    refine bf_filt (g := false) hw hh ?_
    intro p1 l1 q1 hS1
    refine bf_filt (g := true) hw hh ?_
    intro p' l' q' hS
    obtain ⟨a', cX, cY⟩ := bf_chg p' b' 256 0 (by omega) 0
    refine Exists.intro (256 + 1) (cX _ s l' q' t f ?_)
    refine hY _ _ _ p s r c m ?_
    refine bf_y2 (fl := bf_fl false) (sc := bf_fl true) (by show ¬ (_ : Int32) < 0; decide) hw hh (fun p'' x => bf_same hS1 x) (fun p'' x => bf_same hS x) hb cY ?_
    intro r' c'
    exact ⟨rfl, bf_rel hz⟩
theorem i_vc_close {k : Nat} {u : SX} {v : SY} (I : i_Rel k u v) (hk : k + 4 ≤ 2048) (v1 : Int32) (v2 : Int32) : wpX_close (fun r u' => wpY_close (fun r' v' => r' = r ∧ i_Rel (k + 4) u' v') v v1 v2) u v1 v2 := by
  obtain ⟨p, s, b, l, q, t, f, r, c, m, rfl, rfl, hz⟩ := I
  unfold wpX_close wpY_close
  dsimp only
  have h1 : ¬ (1 : Int32) = 0 := by decide
  rcases bf_siz v1 v2 with ⟨hX, hY⟩ | ⟨w, h, hw, hh, rfl, rfl, hX, hY⟩
  · refine hX _ ?_
    refine br_f h1 ?_
    refine hY _ _ _ p s r c m ?_
    exact ⟨rfl, bf_rel hz⟩
  · refine hX _ ?_
    refine br_t rfl (Exists.intro (256 + 1) (bf_rem p s l q t f _ ?_ 256 0 (by omega) b (fun j hj => by omega)))
    intro b' hb
    refine bf_filt (g := true) hw hh ?_
    intro p1 l1 q1 hS1
    refine bf_filt (g := false) hw hh ?_
    intro p' l' q' hS
    obtain ⟨a', cX, cY⟩ := bf_chg p' b' 256 0 (by omega) 0
    refine Exists.intro (256 + 1) (cX _ s l' q' t f ?_)
    refine hY _ _ _ p s r c m ?_
    refine bf_y2 (fl := bf_fl true) (sc := bf_fl false) (by show ¬ (_ : Int32) < 0; decide) hw hh (fun p'' x => bf_same hS1 x) (fun p'' x => bf_same hS x) hb cY ?_
    intro r' c'
    exact ⟨rfl, bf_rel hz⟩
theorem i_vc_mean {k : Nat} {u : SX} {v : SY} (I : i_Rel k u v) (hk : k + 4 ≤ 2048) (v1 : Int32) (v2 : Int32) : wpX_mean (fun r u' => wpY_mean (fun r' v' => r' = r ∧ i_Rel (k + 4) u' v') v v1 v2) u v1 v2 := by
  obtain ⟨p, s, b, l, q, t, f, r, c, m, rfl, rfl, hz⟩ := I
  unfold wpX_mean wpY_mean
  dsimp only
  have h1 : ¬ (1 : Int32) = 0 := by decide
  rcases bf_siz v1 v2 with ⟨hX, hY⟩ | ⟨w, h, hw, hh, rfl, rfl, hX, hY⟩
  · refine hX _ ?_
    refine br_f h1 ?_
    refine hY _ _ _ p s r c m ?_
    exact ⟨rfl, bf_rel hz⟩
  · refine hX _ ?_
    refine br_t rfl (Exists.intro (256 + 1) (bf_rem p s l q t f _ ?_ 256 0 (by omega) b (fun j hj => by omega)))
    intro b' hb
    refine bf_fills hz ?_
    intro t' ht
    refine Exists.intro (256 + 1) (bf_m21 hw hh ht ?_ 256 0 (by omega) p (fun k hk => by omega) (fun k _ => rfl))
    intro p' hS
    obtain ⟨a', cX, cY⟩ := bf_chg p' b' 256 0 (by omega) 0
    refine Exists.intro (256 + 1) (cX _ s l q t' f ?_)
    refine hY _ _ _ p s r c m ?_
    refine bf_y1 (fl := 2) hw hh (fun p'' x => bf_sameV hS x) hb cY ?_
    intro r' c'
    exact ⟨rfl, bf_rel ht.1⟩
end
section
/-! patches: edges, connection, roots, counts: pure -/
/-- place a and its left or upper neighbour b, both set -/
def bf_E (p : Nat → Int32) (a b : Nat) : Prop := a < 256 ∧ ¬ p a ≤ 0 ∧ ¬ p b ≤ 0 ∧ ((0 < a % 16 ∧ b + 1 = a) ∨ b + 16 = a)
def bf_Cn (p : Nat → Int32) (j k : Nat) : Prop := ∀ S : Nat → Prop, (∀ a b, bf_E p a b → (S a ↔ S b)) → (S j ↔ S k)
theorem bf_Cn_refl {p : Nat → Int32} {j : Nat} : bf_Cn p j j := fun _ _ => Iff.rfl
theorem bf_Cn_symm {p : Nat → Int32} {j k : Nat} (h : bf_Cn p j k) : bf_Cn p k j := fun S hS => (h S hS).symm
theorem bf_Cn_trans {p : Nat → Int32} {i j k : Nat} (h : bf_Cn p i j) (h' : bf_Cn p j k) : bf_Cn p i k := fun S hS => (h S hS).trans (h' S hS)
theorem bf_Cn_E {p : Nat → Int32} {a b : Nat} (h : bf_E p a b) : bf_Cn p a b := fun _ hS => hS a b h
theorem bf_Cn_pos {p : Nat → Int32} {j k : Nat} (h : bf_Cn p j k) : ¬ p j ≤ 0 ↔ ¬ p k ≤ 0 := h (fun x => ¬ p x ≤ 0) (fun _ _ e => ⟨fun _ => e.2.2.1, fun _ => e.2.1⟩)
theorem bf_Cn_fn {p : Nat → Int32} {φ : Nat → Nat} (hφ : ∀ a b, bf_E p a b → φ a = φ b) {j k : Nat} (h : bf_Cn p j k) : φ j = φ k :=
  ((h (fun x => φ x = φ j) (fun a b e => by rw [hφ a b e])).mp rfl).symm
/-- φ gives each set place one place of its patch, at or ahead of it, alike for neighbours -/
def bf_Fx (p : Nat → Int32) (φ : Nat → Nat) : Prop := (∀ j, j < 256 → ¬ p j ≤ 0 → φ j ≤ j ∧ bf_Cn p j (φ j)) ∧ (∀ a b, bf_E p a b → φ a = φ b)
theorem bf_Fx_le {p : Nat → Int32} {φ ψ : Nat → Nat} (h1 : bf_Fx p φ) (h2 : bf_Fx p ψ) {j : Nat} (hj : j < 256) (hp : ¬ p j ≤ 0) : ψ j ≤ φ j := by
  obtain ⟨a1, a2⟩ := h1.1 j hj hp
  have e : ψ j = ψ (φ j) := bf_Cn_fn h2.2 a2
  rw [e]
  exact (h2.1 (φ j) (by omega) ((bf_Cn_pos a2).mp hp)).1
theorem bf_Fx_u {p : Nat → Int32} {φ ψ : Nat → Nat} (h1 : bf_Fx p φ) (h2 : bf_Fx p ψ) {j : Nat} (hj : j < 256) (hp : ¬ p j ≤ 0) : φ j = ψ j :=
  Nat.le_antisymm (bf_Fx_le h2 h1 hj hp) (bf_Fx_le h1 h2 hj hp)
def bf_cn (P : Nat → Bool) : Nat → Nat
  | 0 => 0
  | n + 1 => bf_cn P n + (if P n = true then 1 else 0)
theorem bf_cn_t {P : Nat → Bool} {n : Nat} (h : P n = true) : bf_cn P (n + 1) = bf_cn P n + 1 := by
  show bf_cn P n + (if P n = true then 1 else 0) = _
  rw [if_pos h]
theorem bf_cn_f {P : Nat → Bool} {n : Nat} (h : ¬ P n = true) : bf_cn P (n + 1) = bf_cn P n := by
  show bf_cn P n + (if P n = true then 1 else 0) = _
  rw [if_neg h]
  rfl
theorem bf_cn_congr {P P' : Nat → Bool} : ∀ n, (∀ j, j < n → P j = P' j) → bf_cn P n = bf_cn P' n := by
  intro n
  induction n with
  | zero => intro _; rfl
  | succ n ih =>
    intro h
    have e := ih (fun j hj => h j (by omega))
    have e2 := h n (by omega)
    show bf_cn P n + (if P n = true then 1 else 0) = bf_cn P' n + (if P' n = true then 1 else 0)
    rw [e, e2]
theorem bf_cn_drop {P P' : Nat → Bool} {t : Nat} (h1 : P t = true) (h2 : ¬ P' t = true) : ∀ n, t < n → (∀ j, j < n → j ≠ t → P j = P' j) → bf_cn P n = bf_cn P' n + 1 := by
  intro n
  induction n with
  | zero => intro h; omega
  | succ n ih =>
    intro ht h
    by_cases e : t = n
    · subst e
      rw [bf_cn_t h1, bf_cn_f h2, bf_cn_congr t (fun j hj => h j (by omega) (by omega))]
    · have e1 := ih (by omega) (fun j hj hn => h j (by omega) hn)
      have e2 := h n (by omega) (by omega)
      show bf_cn P n + (if P n = true then 1 else 0) = bf_cn P' n + (if P' n = true then 1 else 0) + 1
      rw [e1, e2]
      omega
/-- the set places that are their own roots -/
def bf_R (p : Nat → Int32) (φ : Nat → Nat) : Nat → Bool := fun j => decide (¬ p j ≤ 0 ∧ φ j = j)
theorem bf_R_t {p : Nat → Int32} {φ : Nat → Nat} {j : Nat} (h1 : ¬ p j ≤ 0) (h2 : φ j = j) : bf_R p φ j = true := decide_eq_true ⟨h1, h2⟩
theorem bf_R_f {p : Nat → Int32} {φ : Nat → Nat} {j : Nat} (h : ¬ (¬ p j ≤ 0 ∧ φ j = j)) : ¬ bf_R p φ j = true := fun z => h (of_decide_eq_true z)
theorem bf_R_c {p : Nat → Int32} {φ ψ : Nat → Nat} {j : Nat} (h : ¬ p j ≤ 0 → (φ j = j ↔ ψ j = j)) : bf_R p φ j = bf_R p ψ j := by
  unfold bf_R
  by_cases hp : p j ≤ 0
  · rw [decide_eq_false (fun z => z.1 hp), decide_eq_false (fun z => z.1 hp)]
  · have := h hp
    by_cases e : φ j = j
    · rw [decide_eq_true ⟨hp, e⟩, decide_eq_true ⟨hp, this.mp e⟩]
    · rw [decide_eq_false (fun z => e z.2), decide_eq_false (fun z => e (this.mpr z.2))]
theorem bf_Fx_cn {p : Nat → Int32} {φ ψ : Nat → Nat} (h1 : bf_Fx p φ) (h2 : bf_Fx p ψ) : bf_cn (bf_R p φ) 256 = bf_cn (bf_R p ψ) 256 :=
  bf_cn_congr 256 (fun j hj => bf_R_c (fun hp => by rw [bf_Fx_u h1 h2 hj hp]))
/-- labels L, their roots φ, of the places below n -/
def bf_XB (p : Nat → Int32) (n : Nat) (L φ : Nat → Nat) : Prop :=
  ∀ j, j < n → L j ≤ j ∧ φ j ≤ j ∧ φ (φ j) = φ j ∧ bf_Cn p j (φ j) ∧ (L j < j → φ j = φ (L j)) ∧ (¬ L j < j → φ j = j)
def bf_XE (p : Nat → Int32) (n : Nat) (φ : Nat → Nat) : Prop := ∀ a b, a < n → bf_E p a b → φ a = φ b
theorem bf_E_lt {p : Nat → Int32} {a b : Nat} (h : bf_E p a b) : b < a := by
  obtain ⟨_, _, _, h⟩ := h
  omega
theorem bf_XB_new {p : Nat → Int32} {n : Nat} {L φ : Nat → Nat} (H : bf_XB p n L φ) : bf_XB p (n + 1) (bf_put L n n) (bf_put φ n n) := by
  intro j hj
  by_cases e : j = n
  · subst e
    rw [bf_put_s, bf_put_s, bf_put_s]
    exact ⟨Nat.le_refl _, Nat.le_refl _, rfl, bf_Cn_refl, fun z => by omega, fun _ => rfl⟩
  · obtain ⟨h1, h2, h3, h4, h5, h6⟩ := H j (by omega)
    rw [bf_put_n e, bf_put_n e, bf_put_n (by omega), bf_put_n (by omega)]
    exact ⟨h1, h2, h3, h4, h5, h6⟩
theorem bf_XE_new {p : Nat → Int32} {n : Nat} {φ : Nat → Nat} (H : bf_XE p n φ) {a b : Nat} (ha : a < n) (hE : bf_E p a b) : bf_put φ n n a = bf_put φ n n b := by
  have := bf_E_lt hE
  rw [bf_put_n (by omega), bf_put_n (by omega)]
  exact H a b ha hE
theorem bf_cn_new {p : Nat → Int32} {n : Nat} {φ : Nat → Nat} : bf_cn (bf_R p (bf_put φ n n)) n = bf_cn (bf_R p φ) n :=
  bf_cn_congr n (fun j hj => bf_R_c (fun _ => by rw [bf_put_n (by omega)]))
theorem bf_cn_new1 {p : Nat → Int32} {n : Nat} {φ : Nat → Nat} (h : ¬ p n ≤ 0) : bf_cn (bf_R p (bf_put φ n n)) (n + 1) = bf_cn (bf_R p φ) n + 1 := by
  rw [bf_cn_t (bf_R_t h bf_put_s), bf_cn_new]
theorem bf_cn_new0 {p : Nat → Int32} {n : Nat} {φ : Nat → Nat} (h : p n ≤ 0) : bf_cn (bf_R p (bf_put φ n n)) (n + 1) = bf_cn (bf_R p φ) n := by
  rw [bf_cn_f (bf_R_f (fun z => z.1 h)), bf_cn_new]
/-- root t goes under root s -/
def bf_mv (φ : Nat → Nat) (t s : Nat) : Nat → Nat := fun j => if φ j = t then s else φ j
theorem bf_mv_t {φ : Nat → Nat} {t s j : Nat} (h : φ j = t) : bf_mv φ t s j = s := if_pos h
theorem bf_mv_n {φ : Nat → Nat} {t s j : Nat} (h : ¬ φ j = t) : bf_mv φ t s j = φ j := if_neg h
theorem bf_mv_e {φ : Nat → Nat} {t s a b : Nat} (h : φ a = φ b) : bf_mv φ t s a = bf_mv φ t s b := by
  unfold bf_mv
  rw [h]
theorem bf_XB_mv {p : Nat → Int32} {n : Nat} {L φ : Nat → Nat} (H : bf_XB p n L φ) {s t : Nat} (hst : s < t) (hs : φ s = s) (ht : φ t = t) (hC : bf_Cn p t s) : bf_XB p n (bf_put L t s) (bf_mv φ t s) := by
  have hss : bf_mv φ t s s = s := by rw [bf_mv_n (by omega), hs]
  intro j hj
  by_cases e : j = t
  · subst e
    rw [bf_put_s, bf_mv_t ht, hss]
    exact ⟨by omega, by omega, rfl, hC, fun _ => rfl, fun z => (z hst).elim⟩
  · obtain ⟨h1, h2, h3, h4, h5, h6⟩ := H j hj
    rw [bf_put_n e]
    by_cases e2 : φ j = t
    · rw [bf_mv_t e2, hss]
      refine ⟨h1, by omega, rfl, bf_Cn_trans (e2 ▸ h4) hC, fun z => ?_, fun z => ?_⟩
      · rw [bf_mv_t ((h5 z).symm.trans e2)]
      · have := h6 z
        omega
    · have e3 : bf_mv φ t s (φ j) = φ j := by rw [bf_mv_n (by rw [h3]; exact e2), h3]
      rw [bf_mv_n e2, e3]
      refine ⟨h1, h2, rfl, h4, fun z => ?_, h6⟩
      rw [bf_mv_n (by rw [← h5 z]; exact e2)]
      exact h5 z
theorem bf_cn_mv {p : Nat → Int32} {n : Nat} {φ : Nat → Nat} {s t : Nat} (hst : s < t) (htn : t < n) (hs : φ s = s) (ht : φ t = t) (hp : ¬ p t ≤ 0) : bf_cn (bf_R p φ) n = bf_cn (bf_R p (bf_mv φ t s)) n + 1 := by
  refine bf_cn_drop (t := t) (bf_R_t hp ht) (bf_R_f (fun z => ?_)) n htn (fun j hj hn => bf_R_c (fun _ => ?_))
  · have := z.2
    rw [bf_mv_t ht] at this
    omega
  · by_cases e : φ j = t
    · rw [bf_mv_t e, e]
      constructor
      · intro z; omega
      · intro z
        subst z
        omega
    · rw [bf_mv_n e]
theorem bf_XF {p : Nat → Int32} {L φ : Nat → Nat} (H : bf_XB p 256 L φ) (hE : bf_XE p 256 φ) : bf_Fx p φ :=
  ⟨fun j hj _ => ⟨(H j hj).2.1, (H j hj).2.2.2.1⟩, fun a b e => hE a b e.1 e⟩
end
section
/-! X's patches -/
section
variable {p s b l q t f : Nat → Int32}
theorem bf_find2 {po : Int32 → Prop} {n : Nat} {L φ : Nat → Nat} (hB : bf_XB p n L φ) (hn : n ≤ 256) (hf : ∀ j, j < n → f j = nI (L j)) : ∀ k j : Nat, j < k → j < n → po (nI (φ j)) → wX_find_2 po p s b l q t f k (nI j) := by
  intro k
  induction k with
  | zero => intro j h; omega
  | succ k ih =>
    intro j hk hj H
    obtain ⟨h1, h2, h3, h4, h5, h6⟩ := hB j hj
    have hv := bf_in (i := j) (by omega)
    have e : f (nI j).toNatClampNeg = nI (L j) := by rw [nI_clamp (by omega)]; exact hf j hj
    have hc : nI j ≤ f (nI j).toNatClampNeg ↔ j ≤ L j := by rw [e]; exact nI_leI (by omega) (by omega)
    by_cases hx : L j < j
    · have hnc : ¬ nI j ≤ f (nI j).toNatClampNeg := fun z => by have := hc.mp z; omega
      rw [h5 hx] at H
      exact And.intro hv (br_f hnc ⟨hv, nm_r e (ih (L j) (by omega) (by omega) H)⟩)
    · rw [h6 hx] at H
      exact And.intro hv (br_t (hc.mpr (by omega)) H)
theorem bf_find {po : Int32 → Prop} {n : Nat} {L φ : Nat → Nat} (hB : bf_XB p n L φ) (hn : n ≤ 256) (hf : ∀ j, j < n → f j = nI (L j)) {j : Nat} (hj : j < n) (H : po (nI (φ j))) : wpX_find po (p, s, b, l, q, t, f) (nI j) :=
  Exists.intro (j + 1) (bf_find2 hB hn hf (j + 1) j (by omega) hj H)
theorem bf_join {post : Int32 → SX → Prop} {n : Nat} {L φ : Nat → Nat} (hB : bf_XB p n L φ) (hn : n ≤ 256) (hf : ∀ j, j < n → f j = nI (L j)) {i k : Nat} (hi : i < n) (hk : k < n) (hC : bf_Cn p i k) (hp : ¬ p i ≤ 0)
    (H0 : φ i = φ k → post 0 (p, s, b, l, q, t, f))
    (H1 : ∀ (f' : Nat → Int32) (L' φ' : Nat → Nat), bf_XB p n L' φ' → (∀ j, j < n → f' j = nI (L' j)) → (∀ a b, φ a = φ b → φ' a = φ' b) → φ' i = φ' k → bf_cn (bf_R p φ) n = bf_cn (bf_R p φ') n + 1 → post 1 (p, s, b, l, q, t, f')) :
    wpX_join post (p, s, b, l, q, t, f) (nI i) (nI k) := by
  obtain ⟨_, i2, i3, i4, _, _⟩ := hB i hi
  obtain ⟨_, k2, k3, k4, _, _⟩ := hB k hk
  have hCC : bf_Cn p (φ i) (φ k) := bf_Cn_trans (bf_Cn_symm i4) (bf_Cn_trans hC k4)
  have pi : ¬ p (φ i) ≤ 0 := (bf_Cn_pos i4).mp hp
  have pk : ¬ p (φ k) ≤ 0 := (bf_Cn_pos hCC).mp pi
  unfold wpX_join
  dsimp only
  refine bf_find hB hn hf hi ?_
  refine bf_find hB hn hf hk ?_
  have ei : (nI (φ i)).toNatClampNeg = φ i := nI_clamp (by omega)
  have ek : (nI (φ k)).toNatClampNeg = φ k := nI_clamp (by omega)
  refine pk_eq (φ i) (φ k) H0 (fun hne => ?_)
  have put : ∀ s' t' : Nat, ∀ j, j < n → upd f t' (nI s') j = nI (bf_put L t' s' j) := by
    intro s' t' j hj
    by_cases e : j = t'
    · rw [e, pk_us, bf_put_s]
    · rw [pk_un e, bf_put_n e]; exact hf j hj
  refine pk_le (φ k) (φ i) (fun hle => ⟨bf_in (by omega), ?_⟩) (fun hlt => ⟨bf_in (by omega), ?_⟩)
  · rw [ei]
    have hst : φ k < φ i := by omega
    exact nm_e (H1 _ _ _ (bf_XB_mv hB hst k3 i3 hCC) (put _ _) (fun a b z => bf_mv_e z) (by rw [bf_mv_t rfl, bf_mv_n (by omega)]) (bf_cn_mv hst (by omega) k3 i3 pi))
  · rw [ek]
    exact nm_e (H1 _ _ _ (bf_XB_mv hB hlt i3 k3 (bf_Cn_symm hCC)) (put _ _) (fun a b z => bf_mv_e z) (by rw [bf_mv_t rfl, bf_mv_n (by omega)]) (bf_cn_mv hlt (by omega) i3 k3 pk))
/-- the join with the upper neighbour -/
theorem bf_p62 {post : Int32 → SX → Prop} {J : Int32 → Int32 → (Nat → Int32) → (Nat → Int32) → (Nat → Int32) → (Nat → Int32) → (Nat → Int32) → (Nat → Int32) → (Nat → Int32) → Prop} {i : Nat} {L φ : Nat → Nat} (hi : i < 256) (hp : ¬ p i ≤ 0)
    (hB : bf_XB p (i + 1) L φ) (hf : ∀ j, j < i + 1 → f j = nI (L j)) (hE : bf_XE p i φ) (hl : 0 < i % 16 → ¬ p (i - 1) ≤ 0 → φ i = φ (i - 1))
    (H : ∀ (f' : Nat → Int32) (L' φ' : Nat → Nat), bf_XB p (i + 1) L' φ' → (∀ j, j < i + 1 → f' j = nI (L' j)) → bf_XE p (i + 1) φ' → J (nI (bf_cn (bf_R p φ') (i + 1))) (nI (i + 1)) p s b l q t f') :
    wX_patches_62 post J (nI (bf_cn (bf_R p φ) (i + 1))) (nI i) p s b l q t f := by
  have fin : ∀ φ' : Nat → Nat, (∀ a b, φ a = φ b → φ' a = φ' b) → (16 ≤ i → ¬ p (i - 16) ≤ 0 → φ' i = φ' (i - 16)) → bf_XE p (i + 1) φ' := by
    intro φ' h1 h2 a c ha he
    by_cases e : a = i
    · subst e
      obtain ⟨x1, x2, x3, x4 | x4⟩ := he
      · obtain rfl : c = a - 1 := by omega
        exact h1 _ _ (hl x4.1 x3)
      · obtain rfl : c = a - 16 := by omega
        exact h2 (by omega) x3
    · exact h1 _ _ (hE a c (by omega) he)
  refine pk_lt i 16 (fun h16 => ?_) (fun h16 => ?_)
  · exact nm_r (nI_1 i) (H f L φ hB hf (fin φ (fun _ _ z => z) (fun z => by omega)))
  · have e16 : nI i - 16 = nI (i - 16) := pk_sub (b := 16) h16
    have hv : vp_in (nI i - 16) 256 := by rw [e16]; exact bf_in (by omega)
    have ec : (nI (i - 16)).toNatClampNeg = i - 16 := nI_clamp (by omega)
    refine ⟨hv, ?_⟩
    rw [e16, ec]
    refine br_c (fun hx => ?_) (fun hx => ?_)
    · exact nm_r (nI_1 i) (H f L φ hB hf (fin φ (fun _ _ z => z) (fun _ z => (z hx).elim)))
    · have hEe : bf_E p i (i - 16) := ⟨hi, hp, hx, Or.inr (by omega)⟩
      have h1 : ¬ (1 : Int32) = 0 := by decide
      refine bf_join hB (by omega) hf (by omega) (by omega) (bf_Cn_E hEe) hp (fun e => ?_) (fun f' L' φ' hB' hf' hm he hcn => ?_)
      · exact br_t rfl (nm_r (nI_1 i) (H f L φ hB hf (fin φ (fun _ _ z => z) (fun _ _ => e))))
      · have em : nI (bf_cn (bf_R p φ) (i + 1)) + (-1) = nI (bf_cn (bf_R p φ') (i + 1)) := by rw [hcn, pk_m1]
        exact br_f h1 (nm_r em (nm_r (nI_1 i) (H f' L' φ' hB' hf' (fin φ' hm (fun _ _ => he)))))
theorem bf_p4 {post : Int32 → SX → Prop} (H : ∀ (f' : Nat → Int32) (φ : Nat → Nat), bf_Fx p φ → post (nI (bf_cn (bf_R p φ) 256)) (p, s, b, l, q, t, f')) :
    ∀ d i : Nat, i + d = 256 → ∀ (f : Nat → Int32) (L φ : Nat → Nat), bf_XB p i L φ → (∀ j, j < i → f j = nI (L j)) → bf_XE p i φ → wX_patches_4 post (d + 1) (nI (bf_cn (bf_R p φ) i)) (nI i) p s b l q t f := by
  intro d
  induction d with
  | zero =>
    intro i hi f L φ hB hf hE
    obtain rfl : i = 256 := by omega
    exact br_t bf_256e (H f φ (bf_XF hB hE))
  | succ d ih =>
    intro i hi f L φ hB hf hE
    have hv := bf_in (i := i) (by omega)
    have e : (nI i).toNatClampNeg = i := nI_clamp (by omega)
    have eu : upd f (nI i).toNatClampNeg (nI i) = upd f i (nI i) := by rw [e]
    have hf' : ∀ j, j < i + 1 → upd f i (nI i) j = nI (bf_put L i i j) := by
      intro j hj
      by_cases ej : j = i
      · rw [ej, pk_us, bf_put_s]
      · rw [pk_un ej, bf_put_n ej]; exact hf j (by omega)
    have hB' := bf_XB_new hB
    have d2 : nI i - nI i / 16 * 16 = nI (i % 16) := pk_rem (a := i) (d := 16) (by omega) (by omega) (by omega)
    refine br_f (bf_256 (by omega)) ⟨hv, nm_r eu ⟨hv, ?_⟩⟩
    rw [e]
    refine br_c (fun hx => ?_) (fun hx => ?_)
    · have K := ih (i + 1) (by omega) (upd f i (nI i)) _ _ hB' hf' (fun a c ha he => ?_)
      · rw [bf_cn_new0 hx] at K
        exact nm_r (nI_1 i) K
      · by_cases ea : a = i
        · subst ea
          exact (he.2.1 hx).elim
        · exact bf_XE_new hE (by omega) he
    · have en : nI (bf_cn (bf_R p φ) i) + 1 = nI (bf_cn (bf_R p (bf_put φ i i)) (i + 1)) := by rw [bf_cn_new1 hx, nI_1]
      have hE' : bf_XE p i (bf_put φ i i) := fun a c ha he => bf_XE_new hE ha he
      have K : ∀ (f' : Nat → Int32) (L' φ' : Nat → Nat), bf_XB p (i + 1) L' φ' → (∀ j, j < i + 1 → f' j = nI (L' j)) → bf_XE p (i + 1) φ' → wX_patches_4 post (d + 1) (nI (bf_cn (bf_R p φ') (i + 1))) (nI (i + 1)) p s b l q t f' := fun f' L' φ' => ih (i + 1) (by omega) f' L' φ'
      refine nm_r en ⟨bf_160, ?_⟩
      rw [d2]
      refine pk_le (i % 16) 0 (fun h0 => ?_) (fun h0 => ?_)
      · exact bf_p62 (by omega) hx hB' hf' hE' (fun z => by omega) K
      · have e1 : nI i - 1 = nI (i - 1) := pk_sub (b := 1) (by omega)
        have ec : (nI (i - 1)).toNatClampNeg = i - 1 := nI_clamp (by omega)
        have hv1 : vp_in (nI i - 1) 256 := by rw [e1]; exact bf_in (by omega)
        refine ⟨hv1, ?_⟩
        rw [e1, ec]
        refine br_c (fun hy => ?_) (fun hy => ?_)
        · exact bf_p62 (by omega) hx hB' hf' hE' (fun _ z => (z hy).elim) K
        · have hEe : bf_E p i (i - 1) := ⟨by omega, hx, hy, Or.inl ⟨h0, by omega⟩⟩
          have h1 : ¬ (1 : Int32) = 0 := by decide
          refine bf_join hB' (by omega) hf' (by omega) (by omega) (bf_Cn_E hEe) hx (fun ee => ?_) (fun f' L' φ' hB2 hf2 hm he hcn => ?_)
          · exact br_t rfl (bf_p62 (by omega) hx hB' hf' hE' (fun _ _ => ee) K)
          · have em : nI (bf_cn (bf_R p (bf_put φ i i)) (i + 1)) + (-1) = nI (bf_cn (bf_R p φ') (i + 1)) := by rw [hcn, pk_m1]
            exact br_f h1 (nm_r em (bf_p62 (by omega) hx hB2 hf2 (fun a c ha hae => hm _ _ (hE' a c ha hae)) (fun _ _ => he) K))
theorem bf_patX {post : Int32 → SX → Prop} (H : ∀ (f' : Nat → Int32) (φ : Nat → Nat), bf_Fx p φ → post (nI (bf_cn (bf_R p φ) 256)) (p, s, b, l, q, t, f')) : wpX_patches post (p, s, b, l, q, t, f) :=
  Exists.intro (256 + 1) (bf_p4 H 256 0 (by omega) f (fun j => j) (fun j => j) (fun j hj => by omega) (fun j hj => by omega) (fun a c ha => by omega))
end
end
section
/-! Y's patches: marks m with their numbers μ -/
def bf_M (p m : Nat → Int32) (μ : Nat → Nat) : Prop := ∀ j, j < 256 → (¬ p j ≤ 0 → m j = nI (μ j) ∧ μ j ≤ j ∧ bf_Cn p j (μ j)) ∧ (p j ≤ 0 → m j = -1)
def bf_su (μ : Nat → Nat) : Nat → Nat
  | 0 => 0
  | n + 1 => bf_su μ n + μ n
theorem bf_su_congr {μ ν : Nat → Nat} : ∀ n, (∀ j, j < n → μ j = ν j) → bf_su μ n = bf_su ν n := by
  intro n
  induction n with
  | zero => intro _; rfl
  | succ n ih =>
    intro h
    show bf_su μ n + μ n = bf_su ν n + ν n
    rw [ih (fun j hj => h j (by omega)), h n (by omega)]
theorem bf_su_put {μ : Nat → Nat} {i x : Nat} (hx : x < μ i) : ∀ n, i < n → bf_su (bf_put μ i x) n < bf_su μ n := by
  intro n
  induction n with
  | zero => intro h; omega
  | succ n ih =>
    intro h
    show bf_su (bf_put μ i x) n + bf_put μ i x n < bf_su μ n + μ n
    by_cases e : i = n
    · subst e
      rw [bf_put_s, bf_su_congr (ν := μ) i (fun j hj => bf_put_n (by omega))]
      omega
    · have := ih (by omega)
      rw [bf_put_n (by omega)]
      omega
theorem bf_neg1 : (-1 : Int32) < 0 := by decide
section
variable {p s r c : Nat → Int32}
theorem bf_take {post : Int32 → SY → Prop} {m : Nat → Int32} {μ : Nat → Nat} {i j : Nat} (hM : bf_M p m μ) (hi : i < 256) (hj : j < 256) (hp : ¬ p i ≤ 0) (hC : ¬ p j ≤ 0 → bf_Cn p i j)
    (H0 : (¬ p j ≤ 0 → μ i ≤ μ j) → post 0 (p, s, r, c, m)) (H1 : ∀ (m' : Nat → Int32) (μ' : Nat → Nat), bf_M p m' μ' → bf_su μ' 256 < bf_su μ 256 → post 1 (p, s, r, c, m')) :
    wpY_take post (p, s, r, c, m) (nI i) (nI j) := by
  have vi := bf_in (i := i) hi
  have vj := bf_in (i := j) hj
  have ei : (nI i).toNatClampNeg = i := nI_clamp (by omega)
  have ej : (nI j).toNatClampNeg = j := nI_clamp (by omega)
  obtain ⟨i1, i2, i3⟩ := (hM i hi).1 hp
  unfold wpY_take
  dsimp only
  rw [ei, ej]
  by_cases hq : p j ≤ 0
  · have e := (hM j hj).2 hq
    refine ⟨vj, br_t ?_ (H0 (fun z => (z hq).elim))⟩
    rw [e]
    exact bf_neg1
  · obtain ⟨j1, j2, j3⟩ := (hM j hj).1 hq
    rw [j1, i1]
    refine ⟨vj, br_f (nI_pos (by omega)) ⟨vj, vi, ?_⟩⟩
    refine pk_lt (μ j) (μ i) (fun hlt => ⟨vj, vi, nm_e (H1 _ (bf_put μ i (μ j)) ?_ (bf_su_put hlt 256 hi))⟩) (fun hle => H0 (fun _ => hle))
    intro k hk
    by_cases e : k = i
    · subst e
      rw [pk_us, bf_put_s]
      exact ⟨fun _ => ⟨rfl, by omega, bf_Cn_trans (hC hq) j3⟩, fun z => (hp z).elim⟩
    · rw [pk_un e, bf_put_n e]
      exact hM k hk
section
variable {post : Int32 → SY → Prop} {m0 : Nat → Int32} {μ0 : Nat → Nat} {i B : Nat}
/-- none of the places beside i has a smaller mark -/
def bf_St (p : Nat → Int32) (μ : Nat → Nat) (i : Nat) : Prop := (0 < i % 16 → ¬ p (i - 1) ≤ 0 → μ i ≤ μ (i - 1)) ∧ (i % 16 < 15 → ¬ p (i + 1) ≤ 0 → μ i ≤ μ (i + 1)) ∧ (16 ≤ i → ¬ p (i - 16) ≤ 0 → μ i ≤ μ (i - 16)) ∧ (i < 240 → ¬ p (i + 16) ≤ 0 → μ i ≤ μ (i + 16))
theorem bf_104y0 {m : Nat → Int32} (H : post 0 (p, s, r, c, m)) : wY_spread_104 post 0 p s r c m := br_t rfl H
theorem bf_104y1 {m : Nat → Int32} (H : post 1 (p, s, r, c, m)) : wY_spread_104 post 1 p s r c m := br_f (by decide) H
theorem bf_dv' {i : Nat} (h : i < 256) : nI i / 16 = nI (i / 16) := pk_div (a := i) (d := 16) (by omega) (by omega) (by omega)
theorem bf_rm' {i : Nat} (h : i < 256) : nI i - nI i / 16 * 16 = nI (i % 16) := pk_rem (a := i) (d := 16) (by omega) (by omega) (by omega)
theorem bf_a16 {i : Nat} : nI i + 16 = nI (i + 16) := nI_add i 16
theorem bf_s16 {i : Nat} (h : 16 ≤ i) : nI i - 16 = nI (i - 16) := pk_sub (b := 16) h
theorem bf_s1 {i : Nat} (h : 1 ≤ i) : nI i - 1 = nI (i - 1) := pk_sub (b := 1) h
theorem bf_1n0 : ¬ (1 : Int32) = 0 := by decide
/-- below, the flag not set yet -/
theorem bf_82y0 (hi : i < 256) (hp : ¬ p i ≤ 0) (hM : bf_M p m0 μ0) (H0 : (i < 240 → ¬ p (i + 16) ≤ 0 → μ0 i ≤ μ0 (i + 16)) → post 0 (p, s, r, c, m0)) (H1 : ∀ (m' : Nat → Int32) (μ' : Nat → Nat), bf_M p m' μ' → bf_su μ' 256 < bf_su μ0 256 → post 1 (p, s, r, c, m')) : wY_spread_82 post (nI i) 0 p s r c m0 := by
  unfold wY_spread_82
  rw [bf_dv' hi]
  refine ⟨bf_160, pk_le 15 (i / 16) (fun h => bf_104y0 (H0 (fun z => by omega))) (fun h => ?_)⟩
  rw [bf_a16]
  refine bf_take hM hi (by omega) hp (fun hq => bf_Cn_symm (bf_Cn_E ⟨by omega, hq, hp, Or.inr rfl⟩)) (fun hx => ?_) (fun m' μ' hM' hs => ?_)
  · exact br_t rfl (bf_104y0 (H0 (fun _ => hx)))
  · exact br_f bf_1n0 (H1 m' μ' hM' hs)
/-- below, the flag set -/
theorem bf_82y1 (hi : i < 256) (hp : ¬ p i ≤ 0) (H1 : ∀ (m' : Nat → Int32) (μ' : Nat → Nat), bf_M p m' μ' → bf_su μ' 256 < B → post 1 (p, s, r, c, m')) {m : Nat → Int32} {μ : Nat → Nat} (hM : bf_M p m μ) (hs : bf_su μ 256 < B) : wY_spread_82 post (nI i) 1 p s r c m := by
  unfold wY_spread_82
  rw [bf_dv' hi]
  refine ⟨bf_160, pk_le 15 (i / 16) (fun h => bf_104y1 (H1 m μ hM hs)) (fun h => ?_)⟩
  rw [bf_a16]
  refine bf_take hM hi (by omega) hp (fun hq => bf_Cn_symm (bf_Cn_E ⟨by omega, hq, hp, Or.inr rfl⟩)) (fun hx => ?_) (fun m' μ' hM' hs' => ?_)
  · exact br_t rfl (bf_104y1 (H1 m μ hM hs))
  · exact br_f bf_1n0 (H1 m' μ' hM' (by omega))
theorem bf_53y0 (hi : i < 256) (hp : ¬ p i ≤ 0) (hM : bf_M p m0 μ0) (H0 : (16 ≤ i → ¬ p (i - 16) ≤ 0 → μ0 i ≤ μ0 (i - 16)) → (i < 240 → ¬ p (i + 16) ≤ 0 → μ0 i ≤ μ0 (i + 16)) → post 0 (p, s, r, c, m0)) (H1 : ∀ (m' : Nat → Int32) (μ' : Nat → Nat), bf_M p m' μ' → bf_su μ' 256 < bf_su μ0 256 → post 1 (p, s, r, c, m')) : wY_spread_53 post (nI i) 0 p s r c m0 := by
  unfold wY_spread_53
  rw [bf_dv' hi]
  refine ⟨bf_160, pk_le (i / 16) 0 (fun h => br_t rfl (bf_82y0 hi hp hM (H0 (fun z => by omega)) H1)) (fun h => ?_)⟩
  rw [bf_s16 (by omega)]
  refine bf_take hM hi (by omega) hp (fun hq => bf_Cn_E ⟨hi, hp, hq, Or.inr (by omega)⟩) (fun hx => ?_) (fun m' μ' hM' hs => ?_)
  · exact br_t rfl (br_t rfl (bf_82y0 hi hp hM (H0 (fun _ => hx)) H1))
  · exact br_f bf_1n0 (bf_82y1 hi hp H1 hM' hs)
theorem bf_53y1 (hi : i < 256) (hp : ¬ p i ≤ 0) (H1 : ∀ (m' : Nat → Int32) (μ' : Nat → Nat), bf_M p m' μ' → bf_su μ' 256 < B → post 1 (p, s, r, c, m')) {m : Nat → Int32} {μ : Nat → Nat} (hM : bf_M p m μ) (hs : bf_su μ 256 < B) : wY_spread_53 post (nI i) 1 p s r c m := by
  unfold wY_spread_53
  rw [bf_dv' hi]
  refine ⟨bf_160, pk_le (i / 16) 0 (fun h => br_f bf_1n0 (bf_82y1 hi hp H1 hM hs)) (fun h => ?_)⟩
  rw [bf_s16 (by omega)]
  refine bf_take hM hi (by omega) hp (fun hq => bf_Cn_E ⟨hi, hp, hq, Or.inr (by omega)⟩) (fun hx => ?_) (fun m' μ' hM' hs' => ?_)
  · exact br_t rfl (br_f bf_1n0 (bf_82y1 hi hp H1 hM hs))
  · exact br_f bf_1n0 (bf_82y1 hi hp H1 hM' (by omega))
theorem bf_23y0 (hi : i < 256) (hp : ¬ p i ≤ 0) (hM : bf_M p m0 μ0) (H0 : (i % 16 < 15 → ¬ p (i + 1) ≤ 0 → μ0 i ≤ μ0 (i + 1)) → (16 ≤ i → ¬ p (i - 16) ≤ 0 → μ0 i ≤ μ0 (i - 16)) → (i < 240 → ¬ p (i + 16) ≤ 0 → μ0 i ≤ μ0 (i + 16)) → post 0 (p, s, r, c, m0)) (H1 : ∀ (m' : Nat → Int32) (μ' : Nat → Nat), bf_M p m' μ' → bf_su μ' 256 < bf_su μ0 256 → post 1 (p, s, r, c, m')) : wY_spread_23 post (nI i) 0 p s r c m0 := by
  unfold wY_spread_23
  rw [bf_rm' hi]
  refine ⟨bf_160, pk_le 15 (i % 16) (fun h => br_t rfl (bf_53y0 hi hp hM (H0 (fun z => by omega)) H1)) (fun h => ?_)⟩
  rw [nI_1 i]
  refine bf_take hM hi (by omega) hp (fun hq => bf_Cn_symm (bf_Cn_E ⟨by omega, hq, hp, Or.inl ⟨by omega, rfl⟩⟩)) (fun hx => ?_) (fun m' μ' hM' hs => ?_)
  · exact br_t rfl (br_t rfl (bf_53y0 hi hp hM (H0 (fun _ => hx)) H1))
  · exact br_f bf_1n0 (bf_53y1 hi hp H1 hM' hs)
theorem bf_23y1 (hi : i < 256) (hp : ¬ p i ≤ 0) (H1 : ∀ (m' : Nat → Int32) (μ' : Nat → Nat), bf_M p m' μ' → bf_su μ' 256 < B → post 1 (p, s, r, c, m')) {m : Nat → Int32} {μ : Nat → Nat} (hM : bf_M p m μ) (hs : bf_su μ 256 < B) : wY_spread_23 post (nI i) 1 p s r c m := by
  unfold wY_spread_23
  rw [bf_rm' hi]
  refine ⟨bf_160, pk_le 15 (i % 16) (fun h => br_f bf_1n0 (bf_53y1 hi hp H1 hM hs)) (fun h => ?_)⟩
  rw [nI_1 i]
  refine bf_take hM hi (by omega) hp (fun hq => bf_Cn_symm (bf_Cn_E ⟨by omega, hq, hp, Or.inl ⟨by omega, rfl⟩⟩)) (fun hx => ?_) (fun m' μ' hM' hs' => ?_)
  · exact br_t rfl (br_f bf_1n0 (bf_53y1 hi hp H1 hM hs))
  · exact br_f bf_1n0 (bf_53y1 hi hp H1 hM' (by omega))
theorem bf_spread (hi : i < 256) (hp : ¬ p i ≤ 0) (hM : bf_M p m0 μ0) (H0 : bf_St p μ0 i → post 0 (p, s, r, c, m0)) (H1 : ∀ (m' : Nat → Int32) (μ' : Nat → Nat), bf_M p m' μ' → bf_su μ' 256 < bf_su μ0 256 → post 1 (p, s, r, c, m')) : wpY_spread post (p, s, r, c, m0) (nI i) := by
  unfold wpY_spread
  dsimp only
  rw [bf_rm' hi]
  refine ⟨bf_160, pk_le (i % 16) 0 (fun h => bf_23y0 hi hp hM (fun x y z => H0 ⟨fun w => by omega, x, y, z⟩) H1) (fun h => ?_)⟩
  rw [bf_s1 (by omega)]
  refine bf_take hM hi (by omega) hp (fun hq => bf_Cn_E ⟨hi, hp, hq, Or.inl ⟨by omega, by omega⟩⟩) (fun hx => ?_) (fun m' μ' hM' hs => ?_)
  · exact br_t rfl (bf_23y0 hi hp hM (fun x y z => H0 ⟨fun _ => hx, x, y, z⟩) H1)
  · exact br_f bf_1n0 (bf_23y1 hi hp H1 hM' hs)
end
theorem bf_Mneg {m : Nat → Int32} {μ : Nat → Nat} (hM : bf_M p m μ) {i : Nat} (hi : i < 256) : m i < 0 ↔ p i ≤ 0 := by
  by_cases h : p i ≤ 0
  · rw [(hM i hi).2 h]
    exact ⟨fun _ => h, fun _ => bf_neg1⟩
  · obtain ⟨e, h2, _⟩ := (hM i hi).1 h
    rw [e]
    exact ⟨fun z => (nI_pos (by omega) z).elim, fun z => (h z).elim⟩
/-- a pass with the flag set -/
theorem bf_45y1 {post : Int32 → SY → Prop} {J : Int32 → (Nat → Int32) → (Nat → Int32) → (Nat → Int32) → (Nat → Int32) → (Nat → Int32) → Prop} {B : Nat} (H1 : ∀ (m' : Nat → Int32) (μ' : Nat → Nat), bf_M p m' μ' → bf_su μ' 256 < B → J 1 p s r c m') :
    ∀ d i : Nat, i + d = 256 → ∀ (m : Nat → Int32) (μ : Nat → Nat), bf_M p m μ → bf_su μ 256 < B → wY_patches_45 post J (d + 1) 1 (nI i) p s r c m := by
  intro d
  induction d with
  | zero =>
    intro i hi m μ hM hs
    obtain rfl : i = 256 := by omega
    exact br_t bf_256e (H1 m μ hM hs)
  | succ d ih =>
    intro i hi m μ hM hs
    have hv := bf_in (i := i) (by omega)
    have e : (nI i).toNatClampNeg = i := nI_clamp (by omega)
    have hn := bf_Mneg hM (i := i) (by omega)
    have K : ∀ (m' : Nat → Int32) (μ' : Nat → Nat), bf_M p m' μ' → bf_su μ' 256 < B → wY_patches_45 post J (d + 1) 1 (nI (i + 1)) p s r c m' := fun m' μ' h1 h2 => ih (i + 1) (by omega) m' μ' h1 h2
    refine br_f (bf_256 (by omega)) ⟨hv, ?_⟩
    rw [e]
    refine br_c (fun hx => nm_r (nI_1 i) (K m μ hM hs)) (fun hx => ?_)
    refine bf_spread (by omega) (fun z => hx (hn.mpr z)) hM (fun _ => ?_) (fun m' μ' hM' hs' => ?_)
    · exact br_t rfl (nm_r (nI_1 i) (K m μ hM hs))
    · exact br_f bf_1n0 (nm_r (nI_1 i) (K m' μ' hM' (by omega)))
/-- a pass with the flag not set yet -/
theorem bf_45y0 {post : Int32 → SY → Prop} {J : Int32 → (Nat → Int32) → (Nat → Int32) → (Nat → Int32) → (Nat → Int32) → (Nat → Int32) → Prop} {m0 : Nat → Int32} {μ0 : Nat → Nat} (hM : bf_M p m0 μ0) (H0 : (∀ j, j < 256 → ¬ p j ≤ 0 → bf_St p μ0 j) → J 0 p s r c m0) (H1 : ∀ (m' : Nat → Int32) (μ' : Nat → Nat), bf_M p m' μ' → bf_su μ' 256 < bf_su μ0 256 → J 1 p s r c m') :
    ∀ d i : Nat, i + d = 256 → (∀ j, j < i → ¬ p j ≤ 0 → bf_St p μ0 j) → wY_patches_45 post J (d + 1) 0 (nI i) p s r c m0 := by
  intro d
  induction d with
  | zero =>
    intro i hi hS
    obtain rfl : i = 256 := by omega
    exact br_t bf_256e (H0 hS)
  | succ d ih =>
    intro i hi hS
    have hv := bf_in (i := i) (by omega)
    have e : (nI i).toNatClampNeg = i := nI_clamp (by omega)
    have hn := bf_Mneg hM (i := i) (by omega)
    have K : (¬ p i ≤ 0 → bf_St p μ0 i) → wY_patches_45 post J (d + 1) 0 (nI (i + 1)) p s r c m0 := by
      intro hi'
      refine ih (i + 1) (by omega) (fun j hj hp => ?_)
      by_cases ej : j = i
      · subst ej; exact hi' hp
      · exact hS j (by omega) hp
    refine br_f (bf_256 (by omega)) ⟨hv, ?_⟩
    rw [e]
    refine br_c (fun hx => nm_r (nI_1 i) (K (fun z => (z (hn.mp hx)).elim))) (fun hx => ?_)
    refine bf_spread (by omega) (fun z => hx (hn.mpr z)) hM (fun hSt => ?_) (fun m' μ' hM' hs' => ?_)
    · exact br_t rfl (nm_r (nI_1 i) (K (fun _ => hSt)))
    · exact br_f bf_1n0 (nm_r (nI_1 i) (bf_45y1 H1 d (i + 1) (by omega) m' μ' hM' hs'))
theorem bf_MF {m : Nat → Int32} {μ : Nat → Nat} (hM : bf_M p m μ) (hS : ∀ j, j < 256 → ¬ p j ≤ 0 → bf_St p μ j) : bf_Fx p μ := by
  refine ⟨fun j hj hp => ((hM j hj).1 hp).2, fun a b he => ?_⟩
  have hlt := bf_E_lt he
  obtain ⟨h1, h2, h3, h4⟩ := he
  obtain ⟨a1, a2, a3, a4⟩ := hS a h1 h2
  obtain ⟨b1, b2, b3, b4⟩ := hS b (by omega) h3
  rcases h4 with ⟨h4, h5⟩ | h5
  · subst h5
    exact Nat.le_antisymm (a1 h4 h3) (b2 (by omega) h2)
  · subst h5
    exact Nat.le_antisymm (a3 (by omega) h3) (b4 (by omega) h2)
theorem bf_84 {post : Int32 → SY → Prop} {m : Nat → Int32} {μ : Nat → Nat} (hM : bf_M p m μ) (H : post (nI (bf_cn (bf_R p μ) 256)) (p, s, r, c, m)) : ∀ d i : Nat, i + d = 256 → wY_patches_84 post p s r c m (d + 1) (nI (bf_cn (bf_R p μ) i)) (nI i) := by
  intro d
  induction d with
  | zero =>
    intro i hi
    obtain rfl : i = 256 := by omega
    exact br_t bf_256e H
  | succ d ih =>
    intro i hi
    have hv := bf_in (i := i) (by omega)
    have e : (nI i).toNatClampNeg = i := nI_clamp (by omega)
    have K := ih (i + 1) (by omega)
    refine br_f (bf_256 (by omega)) ⟨hv, ?_⟩
    rw [e]
    by_cases hp : p i ≤ 0
    · rw [bf_cn_f (bf_R_f (fun z => z.1 hp))] at K
      refine br_f ?_ (nm_r (nI_1 i) K)
      rw [(hM i (by omega)).2 hp]
      intro z
      have h1 : ¬ nI i < 0 := nI_pos (by omega)
      rw [← z] at h1
      exact h1 bf_neg1
    · obtain ⟨e1, e2, _⟩ := (hM i (by omega)).1 hp
      rw [e1]
      refine pk_eq (μ i) i (fun h => ?_) (fun h => ?_)
      · rw [bf_cn_t (bf_R_t hp h)] at K
        exact nm_r (nI_1 _) (nm_r (nI_1 i) K)
      · rw [bf_cn_f (bf_R_f (fun z => h z.2))] at K
        exact nm_r (nI_1 i) K
theorem bf_37 {post : Int32 → SY → Prop} (H : ∀ (m' : Nat → Int32) (μ : Nat → Nat), bf_Fx p μ → post (nI (bf_cn (bf_R p μ) 256)) (p, s, r, c, m')) : ∀ k : Nat, ∀ (m : Nat → Int32) (μ : Nat → Nat), bf_M p m μ → bf_su μ 256 < k → wY_patches_37 post (k + 1) 1 p s r c m := by
  intro k
  induction k with
  | zero => intro m μ _ h; omega
  | succ k ih =>
    intro m μ hM hs
    refine br_f bf_1n0 ⟨256 + 1, ?_⟩
    refine bf_45y0 hM (fun hS => ?_) (fun m' μ' hM' hs' => ih m' μ' hM' (by omega)) 256 0 (by omega) (fun j hj => by omega)
    exact br_t rfl ⟨256 + 1, bf_84 hM (H m μ (bf_MF hM hS)) 256 0 (by omega)⟩
theorem bf_y2i {post : Int32 → SY → Prop} (H : ∀ (m' : Nat → Int32) (μ : Nat → Nat), bf_Fx p μ → post (nI (bf_cn (bf_R p μ) 256)) (p, s, r, c, m')) : ∀ d i : Nat, i + d = 256 → ∀ m : Nat → Int32, (∀ j, j < i → (¬ p j ≤ 0 → m j = nI j) ∧ (p j ≤ 0 → m j = -1)) → wY_patches_2 post (d + 1) (nI i) p s r c m := by
  intro d
  induction d with
  | zero =>
    intro i hi m hm
    obtain rfl : i = 256 := by omega
    refine br_t bf_256e ⟨bf_su (fun j => j) 256 + 1 + 1, ?_⟩
    exact bf_37 H _ m (fun j => j) (fun j hj => ⟨fun hp => ⟨(hm j hj).1 hp, Nat.le_refl _, bf_Cn_refl⟩, (hm j hj).2⟩) (by omega)
  | succ d ih =>
    intro i hi m hm
    have hv := bf_in (i := i) (by omega)
    have e : (nI i).toNatClampNeg = i := nI_clamp (by omega)
    refine br_f (bf_256 (by omega)) ⟨hv, ?_⟩
    rw [e]
    refine br_c (fun hx => ⟨hv, nm_e (nm_r (nI_1 i) (ih (i + 1) (by omega) _ (fun j hj => ?_)))⟩) (fun hx => ⟨hv, nm_e (nm_r (nI_1 i) (ih (i + 1) (by omega) _ (fun j hj => ?_)))⟩)
    · by_cases ej : j = i
      · rw [ej, pk_us]
        exact ⟨fun z => (z hx).elim, fun _ => rfl⟩
      · rw [pk_un ej]; exact hm j (by omega)
    · by_cases ej : j = i
      · rw [ej, pk_us]
        exact ⟨fun _ => rfl, fun z => (hx z).elim⟩
      · rw [pk_un ej]; exact hm j (by omega)
theorem bf_patY {post : Int32 → SY → Prop} {m : Nat → Int32} (H : ∀ (m' : Nat → Int32) (μ : Nat → Nat), bf_Fx p μ → post (nI (bf_cn (bf_R p μ) 256)) (p, s, r, c, m')) : wpY_patches post (p, s, r, c, m) :=
  Exists.intro (256 + 1) (bf_y2i H 256 0 (by omega) m (fun j hj => by omega))
end
theorem i_vc_patches {k : Nat} {u : SX} {v : SY} (I : i_Rel k u v) (hk : k + 4 ≤ 2048) : wpX_patches (fun r u' => wpY_patches (fun r' v' => r' = r ∧ i_Rel (k + 4) u' v') v) u := by
  obtain ⟨p, s, b, l, q, t, f, r, c, m, rfl, rfl, hz⟩ := I
  refine bf_patX ?_
  intro f' φ hφ
  refine bf_patY ?_
  intro m' μ hμ
  exact ⟨congrArg nI (bf_Fx_cn hμ hφ), bf_rel hz⟩
end
