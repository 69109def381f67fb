section
theorem pk_us {f : Nat → Int32} {k : Nat} {x : Int32} : upd f k x k = x := if_pos rfl
theorem pk_un {f : Nat → Int32} {k j : Nat} {x : Int32} (h : j ≠ k) : upd f k x j = f j := if_neg h
theorem pk_sub {a b : Nat} (h : b ≤ a) : nI a - nI b = nI (a - b) := by
  obtain ⟨c, rfl⟩ : ∃ c, a = c + b := ⟨a - b, by omega⟩
  rw [← nI_add, Int32.add_sub_cancel, Nat.add_sub_cancel]
theorem pk_m1 (n : Nat) : nI (n + 1) + (-1) = nI n := by
  rw [← nI_1, Int32.add_assoc, show (1 : Int32) + (-1) = 0 from rfl, Int32.add_zero]
theorem pk_mul (a b : Nat) : nI a * nI b = nI (a * b) := (Int32.ofNat_mul a b).symm
theorem pk_div {a d : Nat} (ha : a < 2 ^ 31) (h0 : 0 < d) (hd : d < 2 ^ 31) : nI a / nI d = nI (a / d) := by
  apply Int32.toInt_inj.mp
  rw [lg_idiv_nonneg (by rw [nI_toInt ha]; omega) (by rw [nI_toInt hd]; omega), nI_toInt ha, nI_toInt hd, nI_toInt (Nat.lt_of_le_of_lt (Nat.div_le_self a d) ha)]
  first | rfl | exact (Int.natCast_ediv _ _).symm
theorem pk_sub_toInt {a b : Nat} (ha : a < 2 ^ 30) (hb : b < 2 ^ 30) : (nI a - nI b).toInt = (a : Int) - b := by
  rw [Int32.toInt_sub, nI_toInt (by omega), nI_toInt (by omega)]
  exact Int.bmod_eq_of_le (by omega) (by omega)
theorem pk_sneg {a b : Nat} (hb : b < 2 ^ 30) (h : a < b) : nI a - nI b < 0 := by
  rw [Int32.lt_iff_toInt_lt, pk_sub_toInt (by omega) hb, show (0 : Int32).toInt = 0 from by decide]
  omega
theorem pk_ix (x : Int32) {n : Nat} (hn : n < 2 ^ 31) : x < 0 ∨ nI n ≤ x ∨ ∃ j : Nat, j < n ∧ x = nI j := by
  by_cases h : x < 0
  · exact Or.inl h
  · obtain ⟨j, hj, rfl⟩ := nI_of h
    by_cases h2 : j < n
    · exact Or.inr (Or.inr ⟨j, h2, rfl⟩)
    · exact Or.inr (Or.inl (nI_le (by omega) hj))
theorem pk_le {x y : Int32} {A B : Prop} (a b : Nat) (f : a ≤ b → A) (g : b < a → B) (hx : x = nI a := by rfl) (hy : y = nI b := by rfl) (ha : a < 2 ^ 31 := by omega) (hb : b < 2 ^ 31 := by omega) : (x ≤ y → A) ∧ (¬ x ≤ y → B) := by
  subst hx hy
  rw [nI_leI ha hb]
  exact ⟨f, fun z => g (by omega)⟩
theorem pk_lt {x y : Int32} {A B : Prop} (a b : Nat) (f : a < b → A) (g : b ≤ a → B) (hx : x = nI a := by rfl) (hy : y = nI b := by rfl) (ha : a < 2 ^ 31 := by omega) (hb : b < 2 ^ 31 := by omega) : (x < y → A) ∧ (¬ x < y → B) := by
  subst hx hy
  rw [nI_ltI ha hb]
  exact ⟨f, fun z => g (by omega)⟩
theorem pk_eq {x y : Int32} {A B : Prop} (a b : Nat) (f : a = b → A) (g : a ≠ b → B) (hx : x = nI a := by rfl) (hy : y = nI b := by rfl) (ha : a < 2 ^ 31 := by omega) (hb : b < 2 ^ 31 := by omega) : (x = y → A) ∧ (¬ x = y → B) := by
  subst hx hy
  rw [nI_eq ha hb]
  exact ⟨f, g⟩
theorem pk_in {x : Int32} (n N : Nat) (h : n < N) (hx : x = nI n := by rfl) (hN : N < 2 ^ 31 := by omega) : vp_in x N := by
  subst hx
  exact vp_in_nI h hN
theorem pk_cl {x : Int32} (n : Nat) (hx : x = nI n := by rfl) (h : n < 2 ^ 31 := by omega) : x.toNatClampNeg = n := by
  subst hx
  exact nI_clamp h
theorem pk_least (P : Nat → Prop) (h : ∃ k, P k) : ∃ k, P k ∧ ∀ j, j < k → ¬ P j := by
  obtain ⟨k, hk⟩ := h
  induction k using Nat.strongRecOn with
  | ind k ih =>
    by_cases e : ∃ j, j < k ∧ P j
    · obtain ⟨j, hj, pj⟩ := e
      exact ih j hj pj
    · exact ⟨k, hk, fun j hj pj => e ⟨j, hj, pj⟩⟩
end
section
/-- the piece [i, j] of w has period p -/
def rf_Per (w : Nat → Int32) (i j p : Nat) : Prop := ∀ k, i ≤ k → k + p ≤ j → w k = w (k + p)
/-- [i, j] is a maximal repetition of least period p in the text w of length n -/
def rf_Run (w : Nat → Int32) (n i j p : Nat) : Prop :=
  1 ≤ p ∧ i + 2 * p ≤ j + 1 ∧ j < n ∧ rf_Per w i j p ∧ (∀ q, 1 ≤ q → q < p → ¬ rf_Per w i j q) ∧
  (∀ x, x + 1 = i → w x ≠ w (x + p)) ∧ (j + 1 < n → w (j + 1) ≠ w (j + 1 - p))
/-- the suffix of s at a comes before the suffix at b -/
def rf_SL (s : Nat → Int) (a b : Nat) : Prop := ∃ t, (∀ u, u < t → s (a + u) = s (b + u)) ∧ s (a + t) < s (b + t)
theorem rf_SL_trans {s : Nat → Int} {a b c : Nat} (h1 : rf_SL s a b) (h2 : rf_SL s b c) : rf_SL s a c := by
  obtain ⟨t, e, l⟩ := h1
  obtain ⟨t', e', l'⟩ := h2
  rcases Nat.lt_trichotomy t t' with h | h | h
  · exact ⟨t, fun u hu => (e u hu).trans (e' u (by omega)), by rw [← e' t h]; exact l⟩
  · subst h; exact ⟨t, fun u hu => (e u hu).trans (e' u hu), by omega⟩
  · exact ⟨t', fun u hu => (e u (by omega)).trans (e' u hu), by rw [e t' h]; exact l'⟩
theorem rf_SL_irr {s : Nat → Int} {a : Nat} (h : rf_SL s a a) : False := by
  obtain ⟨t, _, l⟩ := h
  omega
theorem rf_SL_asy {s : Nat → Int} {a b : Nat} (h1 : rf_SL s a b) (h2 : rf_SL s b a) : False := rf_SL_irr (rf_SL_trans h1 h2)
theorem rf_SL_tri (s : Nat → Int) (a b : Nat) : (∀ u, s (a + u) = s (b + u)) ∨ rf_SL s a b ∨ rf_SL s b a := by
  by_cases h : ∀ u, s (a + u) = s (b + u)
  · exact Or.inl h
  · have h' : ∃ u, ¬ s (a + u) = s (b + u) := Classical.not_forall.mp h
    obtain ⟨t, ht, hl⟩ := pk_least (fun u => ¬ s (a + u) = s (b + u)) h'
    have e : ∀ u, u < t → s (a + u) = s (b + u) := fun u hu => Classical.not_not.mp (hl u hu)
    have ht' : ¬ s (a + t) = s (b + t) := ht
    rcases Int.lt_trichotomy (s (a + t)) (s (b + t)) with hh | hh | hh
    · exact Or.inr (Or.inl ⟨t, e, hh⟩)
    · exact absurd hh ht'
    · exact Or.inr (Or.inr ⟨t, fun u hu => (e u hu).symm, hh⟩)
theorem rf_SL_shift {s : Nat → Int} {a b : Nat} (h : rf_SL s a b) {t : Nat} (e : ∀ u, u < t → s (a + u) = s (b + u)) : rf_SL s (a + t) (b + t) := by
  obtain ⟨t', e', l⟩ := h
  have ht : t ≤ t' := by
    rcases Nat.lt_or_ge t' t with h | h
    · have := e t' h
      omega
    · exact h
  refine ⟨t' - t, fun u hu => ?_, ?_⟩
  · have := e' (t + u) (by omega)
    rw [Nat.add_assoc, Nat.add_assoc]
    exact this
  · rw [Nat.add_assoc, Nat.add_assoc, show t + (t' - t) = t' by omega]
    exact l
theorem rf_SL_congr {s : Nat → Int} {a b a' b' : Nat} (ea : ∀ u, s (a + u) = s (a' + u)) (eb : ∀ u, s (b + u) = s (b' + u)) (h : rf_SL s a b) : rf_SL s a' b' := by
  obtain ⟨t, e, l⟩ := h
  exact ⟨t, fun u hu => by rw [← ea, ← eb]; exact e u hu, by rw [← ea, ← eb]; exact l⟩
/-- the text as a row of numbers, rising or falling order of the symbols, the end lowest -/
def rf_tx (w : Nat → Int32) (n : Nat) (rs : Bool) (y : Nat) : Int := if y < n then (if rs = true then (w y).toInt else -(w y).toInt) else -4294967296
theorem rf_tx_in {w : Nat → Int32} {n y : Nat} {rs : Bool} (h : y < n) : rf_tx w n rs y = if rs = true then (w y).toInt else -(w y).toInt := if_pos h
theorem rf_tx_out {w : Nat → Int32} {n y : Nat} {rs : Bool} (h : n ≤ y) : rf_tx w n rs y = -4294967296 := if_neg (by omega)
theorem rf_tx_eq {w : Nat → Int32} {n a b : Nat} {rs : Bool} (ha : a < n) (hb : b < n) (e : w a = w b) : rf_tx w n rs a = rf_tx w n rs b := by
  rw [rf_tx_in ha, rf_tx_in hb, e]
theorem rf_tx_lo {w : Nat → Int32} {n a : Nat} {rs : Bool} (ha : a < n) : -4294967296 < rf_tx w n rs a := by
  rw [rf_tx_in ha]
  have h1 := (w a).le_toInt
  have h2 := (w a).toInt_lt
  split <;> omega
theorem rf_tx_t {w : Nat → Int32} {n y : Nat} (h : y < n) : rf_tx w n true y = (w y).toInt := by
  rw [rf_tx_in h]; rfl
theorem rf_tx_f {w : Nat → Int32} {n y : Nat} (h : y < n) : rf_tx w n false y = -(w y).toInt := by
  rw [rf_tx_in h]; rfl
/-- k is the next smaller suffix behind i -/
def rf_NS (s : Nat → Int) (n i k : Nat) : Prop := i < k ∧ k ≤ n ∧ rf_SL s k i ∧ ∀ m, i < m → m < k → rf_SL s i m
theorem rf_NS_uniq {s : Nat → Int} {n i k k' : Nat} (h : rf_NS s n i k) (h' : rf_NS s n i k') : k = k' := by
  obtain ⟨h1, h2, h3, h4⟩ := h
  obtain ⟨g1, g2, g3, g4⟩ := h'
  rcases Nat.lt_trichotomy k k' with hh | hh | hh
  · exact (rf_SL_asy h3 (g4 k h1 hh)).elim
  · exact hh
  · exact (rf_SL_asy g3 (h4 k' g1 hh)).elim
/-- the stretch up to the next smaller suffix has no border, so nothing around it has a smaller period -/
theorem rf_root {w : Nat → Int32} {n i k : Nat} {rs : Bool} (h : rf_NS (rf_tx w n rs) n i k) {a j q : Nat} (ha : a ≤ i) (hj : k ≤ j + 1) (hq : 1 ≤ q) (hqp : i + q < k) : ¬ rf_Per w a j q := by
  intro hp
  obtain ⟨h1, h2, h3, h4⟩ := h
  have e : ∀ u, u < k - i - q → rf_tx w n rs (i + u) = rf_tx w n rs (i + q + u) := fun u hu =>
    rf_tx_eq (by omega) (by omega) ((hp (i + u) (by omega) (by omega)).trans (congrArg w (by omega)))
  have hs := rf_SL_shift (h4 (i + q) (by omega) (by omega)) e
  have e1 : i + q + (k - i - q) = k := by omega
  rw [e1] at hs
  exact rf_SL_asy (rf_SL_trans (h4 (i + (k - i - q)) (by omega) (by omega)) hs) h3
theorem rf_red {w : Nat → Int32} {i j p : Nat} (h : rf_Per w i j p) : ∀ d, i + d ≤ j → w (i + d) = w (i + d % p) := by
  intro d
  induction d using Nat.strongRecOn with
  | ind d ih =>
    intro hd
    rcases Nat.lt_or_ge d p with hh | hh
    · rw [Nat.mod_eq_of_lt hh]
    · rcases Nat.eq_zero_or_pos p with hz | hz
      · subst hz
        rw [Nat.mod_zero]
      · have e := ih (d - p) (by omega) (by omega)
        have e2 := h (i + (d - p)) (by omega) (by omega)
        rw [Nat.mod_eq_sub_mod hh, ← e, e2]
        exact congrArg w (by omega)
/-- a shift by q that holds over one period holds everywhere -/
theorem rf_spread {w : Nat → Int32} {i j p q a : Nat} (h : rf_Per w i j p) (hi : i ≤ a) (hj : a + 2 * p ≤ j + 1) (hq : q < p) (hs : ∀ k, a ≤ k → k < a + p → w k = w (k + q)) : rf_Per w i j q := by
  have up : ∀ d, a + d + q ≤ j → w (a + d) = w (a + d + q) := by
    intro d
    induction d using Nat.strongRecOn with
    | ind d ih =>
      intro hd
      rcases Nat.lt_or_ge d p with hh | hh
      · exact hs _ (by omega) (by omega)
      · have e1 := h (a + (d - p)) (by omega) (by omega)
        have e2 := h (a + (d - p) + q) (by omega) (by omega)
        have e3 := ih (d - p) (by omega) (by omega)
        rw [show a + (d - p) + p = a + d by omega] at e1
        rw [show a + (d - p) + q + p = a + d + q by omega] at e2
        exact e1.symm.trans (e3.trans e2)
  have dn : ∀ d k, i ≤ k → k + q ≤ j → a ≤ k + d → w k = w (k + q) := by
    intro d
    induction d with
    | zero =>
      intro k h1 h2 h3
      have e := up (k - a) (by omega)
      rw [show a + (k - a) = k by omega] at e
      exact e
    | succ d ih =>
      intro k h1 h2 h3
      rcases Nat.lt_or_ge k a with hh | hh
      · have e1 := h k h1 (by omega)
        have e2 := h (k + q) (by omega) (by omega)
        have e3 := ih (k + p) (by omega) (by omega) (by omega)
        rw [show k + p + q = k + q + p by omega] at e3
        exact e1.trans (e3.trans e2.symm)
      · exact ih k h1 h2 (by omega)
  exact fun k h1 h2 => dn a k h1 h2 (by omega)
theorem rf_min (c : Nat → Int) (i : Nat) : ∀ d, ∃ m, i ≤ m ∧ m ≤ i + d ∧ ∀ x, i ≤ x → x ≤ i + d → ¬ rf_SL c x m := by
  intro d
  induction d with
  | zero =>
    refine ⟨i, by omega, by omega, fun x h1 h2 h => ?_⟩
    have hx : x = i := by omega
    subst hx
    exact rf_SL_irr h
  | succ d ih =>
    obtain ⟨m, h1, h2, h3⟩ := ih
    by_cases hx : rf_SL c (i + d + 1) m
    · refine ⟨i + d + 1, by omega, by omega, fun x a b h => ?_⟩
      rcases Nat.lt_or_ge (i + d) x with hh | hh
      · have hx : x = i + d + 1 := by omega
        subst hx
        exact rf_SL_irr h
      · exact h3 x a hh (rf_SL_trans h hx)
    · refine ⟨m, h1, by omega, fun x a b h => ?_⟩
      rcases Nat.lt_or_ge (i + d) x with hh | hh
      · have hx2 : x = i + d + 1 := by omega
        subst hx2
        exact hx h
      · exact h3 x a hh h
/-- the periodic continuation of what stands from i on -/
def rf_cy (s : Nat → Int) (i p y : Nat) : Int := s (i + (y - i) % p)
theorem rf_cy_p {s : Nat → Int} {i p y : Nat} (h : i ≤ y) : rf_cy s i p (y + p) = rf_cy s i p y := by
  unfold rf_cy
  rw [show y + p - i = (y - i) + p by omega, Nat.add_mod_right]
theorem rf_cy_in {w : Nat → Int32} {n i j p y : Nat} {rs : Bool} (h : rf_Per w i j p) (hj : j < n) (h1 : i ≤ y) (h2 : y ≤ j) : rf_cy (rf_tx w n rs) i p y = rf_tx w n rs y := by
  unfold rf_cy
  have e := rf_red h (y - i) (by omega)
  have hm : (y - i) % p ≤ y - i := Nat.mod_le _ _
  rw [show i + (y - i) = y by omega] at e
  exact rf_tx_eq (by omega) (by omega) e.symm
theorem rf_tx_inj {w : Nat → Int32} {n a b : Nat} {rs : Bool} (ha : a < n) (hb : b < n) (e : rf_tx w n rs a = rf_tx w n rs b) : w a = w b := by
  apply Int32.toInt_inj.mp
  cases rs with
  | true => rw [rf_tx_t ha, rf_tx_t hb] at e; exact e
  | false => rw [rf_tx_f ha, rf_tx_f hb] at e; omega
/-- two rotations that are the same give a smaller period -/
theorem rf_same {w : Nat → Int32} {n i j p m x : Nat} {rs : Bool} (h : rf_Per w i j p) (h2 : i + 2 * p ≤ j + 1) (hj : j < n) (h3 : i ≤ m) (h4 : m < x) (h5 : x < i + p)
    (e : ∀ u, rf_cy (rf_tx w n rs) i p (m + u) = rf_cy (rf_tx w n rs) i p (x + u)) : rf_Per w i j (x - m) := by
  refine rf_spread h (Nat.le_refl i) h2 (by omega) fun k h6 h7 => ?_
  have e1 := e (k + p - m)
  rw [show m + (k + p - m) = k + p by omega, show x + (k + p - m) = (k + (x - m)) + p by omega, rf_cy_p h6, rf_cy_p (by omega), rf_cy_in h hj h6 (by omega), rf_cy_in h hj (by omega) (by omega)] at e1
  exact rf_tx_inj (by omega) (by omega) e1
/-- every run holds, in one of the two orders, a stretch up to a next smaller suffix that is its root -/
theorem rf_lyn {w : Nat → Int32} {n i j p : Nat} (R : rf_Run w n i j p) : ∃ (rs : Bool) (m : Nat), i ≤ m ∧ m + p ≤ j + 1 ∧ rf_NS (rf_tx w n rs) n m (m + p) := by
  obtain ⟨hp, h2p, hj, hP, hl, hL, hR⟩ := R
  have hrs : ∃ rs : Bool, rf_tx w n rs (j + 1) < rf_tx w n rs (j + 1 - p) := by
    rcases Nat.lt_or_ge (j + 1) n with h | h
    · have ne := hR h
      have ne' : (w (j + 1)).toInt ≠ (w (j + 1 - p)).toInt := fun e => ne (Int32.toInt_inj.mp e)
      rcases Int.lt_or_gt_of_ne ne' with hh | hh
      · exact ⟨true, by rw [rf_tx_t h, rf_tx_t (by omega)]; exact hh⟩
      · exact ⟨false, by rw [rf_tx_f h, rf_tx_f (by omega)]; omega⟩
    · exact ⟨true, by rw [rf_tx_out h]; exact rf_tx_lo (by omega)⟩
  obtain ⟨rs, hlt⟩ := hrs
  obtain ⟨m, m1, m2, m3⟩ := rf_min (rf_cy (rf_tx w n rs) i p) i (p - 1)
  have key : ∀ x, i ≤ x → x < i + p → x ≠ m → rf_SL (rf_cy (rf_tx w n rs) i p) m x := by
    intro x x1 x2 x3
    rcases rf_SL_tri (rf_cy (rf_tx w n rs) i p) m x with h | h | h
    · exfalso
      rcases Nat.lt_or_gt_of_ne x3 with hh | hh
      · exact hl (m - x) (by omega) (by omega) (rf_same hP h2p hj x1 hh (by omega) fun u => (h u).symm)
      · exact hl (x - m) (by omega) (by omega) (rf_same hP h2p hj m1 hh x2 h)
    · exact h
    · exact absurd h (m3 x x1 (by omega))
  have key2 : ∀ x, m < x → x < m + p → rf_SL (rf_cy (rf_tx w n rs) i p) m x := by
    intro x x1 x2
    rcases Nat.lt_or_ge x (i + p) with hh | hh
    · exact key x (by omega) hh (by omega)
    · refine rf_SL_congr (fun _ => rfl) (fun u => ?_) (key (x - p) (by omega) (by omega) (by omega))
      rw [← rf_cy_p (y := x - p + u) (by omega)]
      exact congrArg _ (by omega)
  refine ⟨rs, m, m1, by omega, by omega, by omega, ?_, ?_⟩
  · refine ⟨j + 1 - (m + p), fun u hu => ?_, ?_⟩
    · refine rf_tx_eq (by omega) (by omega) ?_
      rw [hP (m + u) (by omega) (by omega)]
      exact congrArg w (by omega)
    · rw [show m + p + (j + 1 - (m + p)) = j + 1 by omega, show m + (j + 1 - (m + p)) = j + 1 - p by omega]
      exact hlt
  · intro x x1 x2
    have hk := key2 x x1 x2
    obtain ⟨t, e, l⟩ := hk
    have ht : t < m + p - x := by
      rcases Nat.lt_or_ge t (m + p - x) with hh | hh
      · exact hh
      · exfalso
        have hs := rf_SL_shift (t := m + p - x) (key2 x x1 x2) fun u hu => e u (by omega)
        rw [show x + (m + p - x) = m + p by omega] at hs
        refine rf_SL_asy (rf_SL_congr (b' := m) (fun _ => rfl) (fun u => ?_) hs) (key2 (m + (m + p - x)) (by omega) (by omega))
        rw [show m + p + u = m + u + p by omega]
        exact rf_cy_p (by omega)
    refine ⟨t, fun u hu => ?_, ?_⟩
    · have e1 := e u hu
      rw [rf_cy_in hP hj (by omega) (by omega), rf_cy_in hP hj (by omega) (by omega)] at e1
      exact e1
    · rw [rf_cy_in hP hj (by omega) (by omega), rf_cy_in hP hj (by omega) (by omega)] at l
      exact l
theorem rf_uniq_h {w : Nat → Int32} {n i j i' j' p m : Nat} (R : rf_Run w n i j p) (R' : rf_Run w n i' j' p) (h1 : i ≤ m) (h2 : m + p ≤ j + 1) (h1' : i' ≤ m) (h2' : m + p ≤ j' + 1) : i ≤ i' ∧ j' ≤ j := by
  obtain ⟨hp, h2p, hj, hP, hl, hL, hR⟩ := R
  obtain ⟨gp, g2p, gj, gP, gl, gL, gR⟩ := R'
  constructor
  · rcases Nat.lt_or_ge i' i with hh | hh
    · exact absurd (gP (i - 1) (by omega) (by omega)) (hL (i - 1) (by omega))
    · exact hh
  · rcases Nat.lt_or_ge j j' with hh | hh
    · have e := gP (j + 1 - p) (by omega) (by omega)
      rw [show j + 1 - p + p = j + 1 by omega] at e
      exact absurd e.symm (hR (by omega))
    · exact hh
/-- a run is fixed by its period and one root inside it -/
theorem rf_uniq {w : Nat → Int32} {n i j i' j' p m : Nat} (R : rf_Run w n i j p) (R' : rf_Run w n i' j' p) (h1 : i ≤ m) (h2 : m + p ≤ j + 1) (h1' : i' ≤ m) (h2' : m + p ≤ j' + 1) : i = i' ∧ j = j' := by
  have a := rf_uniq_h R R' h1 h2 h1' h2'
  have b := rf_uniq_h R' R h1' h2' h1 h2
  omega
theorem rf_uniq_e {w : Nat → Int32} {n i j j' p : Nat} (R : rf_Run w n i j p) (R' : rf_Run w n i j' p) : j = j' :=
  (rf_uniq R R' (Nat.le_refl i) (by have := R.2.1; have := R.1; omega) (Nat.le_refl i) (by have := R'.2.1; have := R'.1; omega)).2
/-- L symbols from i on and from k on are the same, and no more -/
def rf_FW (w : Nat → Int32) (n i k L : Nat) : Prop := i + L ≤ n ∧ k + L ≤ n ∧ (∀ u, u < L → w (i + u) = w (k + u)) ∧ (i + L < n → k + L < n → w (i + L) ≠ w (k + L))
/-- B symbols before i and before k are the same, and no more -/
def rf_BW (w : Nat → Int32) (i k B : Nat) : Prop := B ≤ i ∧ (∀ u, u < B → w (i - 1 - u) = w (k - 1 - u)) ∧ (B < i → w (i - 1 - B) ≠ w (k - 1 - B))
theorem rf_FW_uniq {w : Nat → Int32} {n i k L L' : Nat} (h : rf_FW w n i k L) (h' : rf_FW w n i k L') : L = L' := by
  obtain ⟨a1, a2, a3, a4⟩ := h
  obtain ⟨b1, b2, b3, b4⟩ := h'
  rcases Nat.lt_trichotomy L L' with hh | hh | hh
  · exact absurd (b3 L hh) (a4 (by omega) (by omega))
  · exact hh
  · exact absurd (a3 L' hh) (b4 (by omega) (by omega))
theorem rf_wid_sound {w : Nat → Int32} {n i k L B : Nat} {rs : Bool} (h : rf_NS (rf_tx w n rs) n i k) (hF : rf_FW w n i k L) (hB : rf_BW w i k B) (hp : k - i ≤ B + L) : rf_Run w n (i - B) (k + L - 1) (k - i) := by
  obtain ⟨f1, f2, f3, f4⟩ := hF
  obtain ⟨b1, b2, b3⟩ := hB
  have hik : i < k := h.1
  refine ⟨by omega, by omega, by omega, fun x h1 h2 => ?_, fun q h1 h2 => rf_root h (by omega) (by omega) h1 (by omega), fun x hx => ?_, fun hx => ?_⟩
  · rcases Nat.lt_or_ge x i with hh | hh
    · have e := b2 (i - 1 - x) (by omega)
      rw [show i - 1 - (i - 1 - x) = x by omega, show k - 1 - (i - 1 - x) = x + (k - i) by omega] at e
      exact e
    · have e := f3 (x - i) (by omega)
      rw [show i + (x - i) = x by omega, show k + (x - i) = x + (k - i) by omega] at e
      exact e
  · have e := b3 (by omega)
    rw [show i - 1 - B = x by omega, show k - 1 - B = x + (k - i) by omega] at e
    exact e
  · have e := f4 (by omega) (by omega)
    rw [show k + L - 1 + 1 = k + L by omega, show k + L - (k - i) = i + L by omega]
    exact fun z => e z.symm
theorem rf_wid_comp {w : Nat → Int32} {n i k L B a j : Nat} (hik : i < k) (hF : rf_FW w n i k L) (hB : rf_BW w i k B) (R : rf_Run w n a j (k - i)) (ha : a ≤ i) (hj : k ≤ j + 1) : a = i - B ∧ j = k + L - 1 ∧ k - i ≤ B + L := by
  obtain ⟨f1, f2, f3, f4⟩ := hF
  obtain ⟨b1, b2, b3⟩ := hB
  obtain ⟨hp, h2p, hjn, hP, hl, hL, hR⟩ := R
  have e1 : B = i - a := by
    rcases Nat.lt_trichotomy B (i - a) with hh | hh | hh
    · have e := hP (i - 1 - B) (by omega) (by omega)
      rw [show i - 1 - B + (k - i) = k - 1 - B by omega] at e
      exact absurd e (b3 (by omega))
    · exact hh
    · have e := b2 (i - a) hh
      rw [show k - 1 - (i - a) = i - 1 - (i - a) + (k - i) by omega] at e
      exact absurd e (hL (i - 1 - (i - a)) (by omega))
  have e2 : L = j + 1 - k := by
    rcases Nat.lt_trichotomy L (j + 1 - k) with hh | hh | hh
    · have e := hP (i + L) (by omega) (by omega)
      rw [show i + L + (k - i) = k + L by omega] at e
      exact absurd e (f4 (by omega) (by omega))
    · exact hh
    · have e := f3 (j + 1 - k) hh
      rw [show k + (j + 1 - k) = j + 1 by omega, show i + (j + 1 - k) = j + 1 - (k - i) by omega] at e
      exact absurd e.symm (hR (by omega))
  omega
end
section
def rf_key (i p : Nat) : Nat := i * 64 + p
/-- c runs in strictly rising order of start and period -/
def rf_SR (w : Nat → Int32) (n c : Nat) (F E P : Nat → Nat) : Prop :=
  (∀ r, r < c → rf_Run w n (F r) (E r) (P r)) ∧ (∀ r s, r < s → s < c → rf_key (F r) (P r) < rf_key (F s) (P s))
/-- all runs, in strictly rising order -/
def rf_Ful (w : Nat → Int32) (n c : Nat) (F E P : Nat → Nat) : Prop :=
  rf_SR w n c F E P ∧ ∀ i j p, rf_Run w n i j p → ∃ r, r < c ∧ F r = i ∧ E r = j ∧ P r = p
theorem rf_pig : ∀ (N c : Nat) (g : Nat → Nat), (∀ r, r < c → g r < N) → (∀ r s, r < s → s < c → g r ≠ g s) → c ≤ N := by
  intro N
  induction N with
  | zero =>
    intro c g h1 h2
    rcases Nat.eq_zero_or_pos c with h | h
    · omega
    · have := h1 0 h
      omega
  | succ N ih =>
    intro c g h1 h2
    by_cases h : ∃ r, r < c ∧ g r = N
    · obtain ⟨r0, hr, e0⟩ := h
      have ne : ∀ r, r < c → r ≠ r0 → g r ≠ N := by
        intro r h3 h4 h5
        rcases Nat.lt_or_gt_of_ne h4 with hh | hh
        · exact h2 r r0 hh hr (by omega)
        · exact h2 r0 r hh h3 (by omega)
      have lt : ∀ r, r < c → r ≠ r0 → g r < N := fun r h3 h4 => by
        have a := h1 r h3
        have b := ne r h3 h4
        omega
      have hc : c - 1 ≤ N := by
        refine ih (c - 1) (fun r => if r = r0 then g (c - 1) else g r) ?_ ?_
        · intro r h3
          show (if r = r0 then g (c - 1) else g r) < N
          by_cases h4 : r = r0
          · rw [if_pos h4]
            exact lt (c - 1) (by omega) (by omega)
          · rw [if_neg h4]
            exact lt r (by omega) h4
        · intro r s h3 h4
          show (if r = r0 then g (c - 1) else g r) ≠ (if s = r0 then g (c - 1) else g s)
          by_cases h5 : r = r0
          · rw [if_pos h5, if_neg (by omega)]
            exact fun z => h2 s (c - 1) (by omega) (by omega) z.symm
          · rw [if_neg h5]
            by_cases h6 : s = r0
            · rw [if_pos h6]
              exact h2 r (c - 1) (by omega) (by omega)
            · rw [if_neg h6]
              exact h2 r s h3 (by omega)
      omega
    · have hc := ih c g (fun r hr => by
        have a := h1 r hr
        have b : g r ≠ N := fun z => h ⟨r, hr, z⟩
        omega) h2
      omega
def rf_bn (rs : Bool) : Nat := match rs with
  | true => 1
  | false => 0
theorem rf_bn_inj : ∀ {a b : Bool} {m m' : Nat}, 2 * m + rf_bn a = 2 * m' + rf_bn b → a = b ∧ m = m' := by
  intro a b m m' h
  cases a <;> cases b <;> simp only [rf_bn] at h
  · exact ⟨rfl, by omega⟩
  · omega
  · omega
  · exact ⟨rfl, by omega⟩
theorem rf_bn_le (a : Bool) : rf_bn a ≤ 1 := by cases a <;> decide
/-- never more than 96 runs: each has a root of its own, two orders and 48 places -/
theorem rf_bound {w : Nat → Int32} {n c : Nat} {F E P : Nat → Nat} (h : rf_SR w n c F E P) (hn : n ≤ 48) : c ≤ 96 := by
  obtain ⟨h1, h2⟩ := h
  have ex : ∀ r, ∃ v : Nat, r < c → v < 96 ∧ ∃ (rs : Bool) (m : Nat), v = 2 * m + rf_bn rs ∧ F r ≤ m ∧ m + P r ≤ E r + 1 ∧ rf_NS (rf_tx w n rs) n m (m + P r) := by
    intro r
    by_cases hr : r < c
    · obtain ⟨rs, m, a, b, d⟩ := rf_lyn (h1 r hr)
      refine ⟨2 * m + rf_bn rs, fun _ => ⟨?_, rs, m, rfl, a, b, d⟩⟩
      have e1 := d.1
      have e2 := d.2.1
      have e3 := rf_bn_le rs
      omega
    · exact ⟨0, fun z => absurd z hr⟩
  refine rf_pig 96 c (fun r => Classical.choose (ex r)) (fun r hr => (Classical.choose_spec (ex r) hr).1) ?_
  intro r s hrs hs
  obtain ⟨_, b, m, e, m1, m2, m3⟩ := Classical.choose_spec (ex r) (by omega)
  obtain ⟨_, b', m', e', m1', m2', m3'⟩ := Classical.choose_spec (ex s) hs
  intro z
  have z' : Classical.choose (ex r) = Classical.choose (ex s) := z
  rw [e, e'] at z'
  obtain ⟨zb, zm⟩ := rf_bn_inj z'
  subst zb zm
  have ep := rf_NS_uniq m3 m3'
  have ep2 : P r = P s := by omega
  have Rr := h1 r (by omega)
  rw [ep2] at Rr m2
  have ef := (rf_uniq Rr (h1 s hs) m1 m2 m1' m2').1
  have hlt := h2 r s hrs hs
  rw [ef, ep2] at hlt
  omega
theorem rf_incr (K K' : Nat → Nat) (c c' : Nat) (hK : ∀ r s, r < s → s < c → K r < K s) (hK' : ∀ r s, r < s → s < c' → K' r < K' s)
    (h12 : ∀ r, r < c → ∃ s, s < c' ∧ K r = K' s) (h21 : ∀ r, r < c' → ∃ s, s < c ∧ K' r = K s) : ∀ r, r < c → r < c' ∧ K r = K' r := by
  intro r
  induction r using Nat.strongRecOn with
  | ind r ih =>
    intro hr
    obtain ⟨s, hs, e⟩ := h12 r hr
    rcases Nat.lt_trichotomy s r with hh | hh | hh
    · have a := (ih s hh (by omega)).2
      have b := hK s r hh hr
      omega
    · subst hh
      exact ⟨hs, e⟩
    · obtain ⟨t, ht, e2⟩ := h21 r (by omega)
      have a := hK' r s hh hs
      have htr : t < r := by
        rcases Nat.lt_trichotomy t r with h3 | h3 | h3
        · exact h3
        · subst h3
          omega
        · have b := hK r t h3 ht
          omega
      have b := ih t htr (by omega)
      have d := hK' t r htr (by omega)
      omega
theorem rf_Run_p {w : Nat → Int32} {n i j p : Nat} (R : rf_Run w n i j p) (hn : n ≤ 48) : 1 ≤ p ∧ p ≤ 24 ∧ i + 2 * p ≤ j + 1 ∧ j < n := by
  obtain ⟨a, b, d, _⟩ := R
  omega
theorem rf_key_inj {i p i' p' : Nat} (h : p < 64) (h' : p' < 64) (e : rf_key i p = rf_key i' p') : i = i' ∧ p = p' := by
  unfold rf_key at e
  omega
theorem rf_ful_le {w : Nat → Int32} {n c c' : Nat} {F E P F' E' P' : Nat → Nat} (hn : n ≤ 48) (h : rf_Ful w n c F E P) (h' : rf_Ful w n c' F' E' P') : ∀ r, r < c → r < c' ∧ F r = F' r ∧ E r = E' r ∧ P r = P' r := by
  obtain ⟨⟨a1, a2⟩, a3⟩ := h
  obtain ⟨⟨b1, b2⟩, b3⟩ := h'
  have H := rf_incr (fun r => rf_key (F r) (P r)) (fun r => rf_key (F' r) (P' r)) c c' a2 b2
    (fun r hr => by
      obtain ⟨s, hs, e1, e2, e3⟩ := b3 _ _ _ (a1 r hr)
      exact ⟨s, hs, by show rf_key (F r) (P r) = rf_key (F' s) (P' s); rw [e1, e3]⟩)
    (fun r hr => by
      obtain ⟨s, hs, e1, e2, e3⟩ := a3 _ _ _ (b1 r hr)
      exact ⟨s, hs, by show rf_key (F' r) (P' r) = rf_key (F s) (P s); rw [e1, e3]⟩)
  intro r hr
  obtain ⟨g1, g2⟩ := H r hr
  have R := a1 r hr
  have R' := b1 r g1
  have q := rf_Run_p R hn
  have q' := rf_Run_p R' hn
  obtain ⟨e1, e2⟩ := rf_key_inj (by omega) (by omega) g2
  refine ⟨g1, e1, ?_, e2⟩
  rw [e1, e2] at R
  exact rf_uniq_e R R'
theorem rf_ful_uniq {w : Nat → Int32} {n c c' : Nat} {F E P F' E' P' : Nat → Nat} (hn : n ≤ 48) (h : rf_Ful w n c F E P) (h' : rf_Ful w n c' F' E' P') : c = c' ∧ ∀ r, r < c → F r = F' r ∧ E r = E' r ∧ P r = P' r := by
  have A := rf_ful_le hn h h'
  have B := rf_ful_le hn h' h
  refine ⟨?_, fun r hr => (A r hr).2⟩
  rcases Nat.lt_trichotomy c c' with hh | hh | hh
  · have := (B c hh).1
    omega
  · exact hh
  · have := (A c' hh).1
    omega
def rf_put (F : Nat → Nat) (a v : Nat) : Nat → Nat := fun r => if r < a then F r else if r = a then v else F (r - 1)
theorem rf_put_lt {F : Nat → Nat} {a v r : Nat} (h : r < a) : rf_put F a v r = F r := if_pos h
theorem rf_put_eq {F : Nat → Nat} {a v : Nat} : rf_put F a v a = v := by
  unfold rf_put
  rw [if_neg (Nat.lt_irrefl a), if_pos rfl]
theorem rf_put_gt {F : Nat → Nat} {a v r : Nat} (h : a < r) : rf_put F a v r = F (r - 1) := by
  unfold rf_put
  rw [if_neg (by omega), if_neg (by omega)]
theorem rf_ins {w : Nat → Int32} {n c i j p a : Nat} {F E P : Nat → Nat} (h : rf_SR w n c F E P) (R : rf_Run w n i j p) (ha : a ≤ c)
    (hlo : ∀ r, r < a → rf_key (F r) (P r) < rf_key i p) (hhi : ∀ r, a ≤ r → r < c → rf_key i p < rf_key (F r) (P r)) :
    rf_SR w n (c + 1) (rf_put F a i) (rf_put E a j) (rf_put P a p) := by
  obtain ⟨h1, h2⟩ := h
  constructor
  · intro r hr
    rcases Nat.lt_trichotomy r a with hh | hh | hh
    · rw [rf_put_lt hh, rf_put_lt hh, rf_put_lt hh]
      exact h1 r (by omega)
    · subst hh
      rw [rf_put_eq, rf_put_eq, rf_put_eq]
      exact R
    · rw [rf_put_gt hh, rf_put_gt hh, rf_put_gt hh]
      exact h1 (r - 1) (by omega)
  · intro r s hrs hs
    rcases Nat.lt_trichotomy r a with hh | hh | hh
    · rw [rf_put_lt hh, rf_put_lt hh]
      rcases Nat.lt_trichotomy s a with gg | gg | gg
      · rw [rf_put_lt gg, rf_put_lt gg]
        exact h2 r s hrs (by omega)
      · subst gg
        rw [rf_put_eq, rf_put_eq]
        exact hlo r hh
      · rw [rf_put_gt gg, rf_put_gt gg]
        exact h2 r (s - 1) (by omega) (by omega)
    · subst hh
      rw [rf_put_eq, rf_put_eq, rf_put_gt hrs, rf_put_gt hrs]
      exact hhi (s - 1) (by omega) (by omega)
    · rw [rf_put_gt hh, rf_put_gt hh, rf_put_gt (by omega : a < s), rf_put_gt (by omega : a < s)]
      exact h2 (r - 1) (s - 1) (by omega) (by omega)
/-- (i, j, p) stands among the first c -/
def rf_Has (c : Nat) (F E P : Nat → Nat) (i j p : Nat) : Prop := ∃ r, r < c ∧ F r = i ∧ E r = j ∧ P r = p
theorem rf_has_new {c i j p a : Nat} {F E P : Nat → Nat} (ha : a ≤ c) : rf_Has (c + 1) (rf_put F a i) (rf_put E a j) (rf_put P a p) i j p :=
  ⟨a, by omega, rf_put_eq, rf_put_eq, rf_put_eq⟩
theorem rf_has_old {c i j p a x y z : Nat} {F E P : Nat → Nat} (h : rf_Has c F E P x y z) : rf_Has (c + 1) (rf_put F a i) (rf_put E a j) (rf_put P a p) x y z := by
  obtain ⟨r, hr, e1, e2, e3⟩ := h
  rcases Nat.lt_or_ge r a with hh | hh
  · exact ⟨r, by omega, (rf_put_lt hh).trans e1, (rf_put_lt hh).trans e2, (rf_put_lt hh).trans e3⟩
  · exact ⟨r + 1, by omega, (rf_put_gt (by omega)).trans e1, (rf_put_gt (by omega)).trans e2, (rf_put_gt (by omega)).trans e3⟩
/-- the arrays hold the list -/
def rf_Rp (c : Nat) (fi la st : Nat → Int32) (F E P : Nat → Nat) : Prop := ∀ r, r < c → fi r = nI (F r) ∧ la r = nI (E r) ∧ st r = nI (P r)
end
section
def rf_Lp (w : Nat → Int32) (i j p : Nat) : Prop := 1 ≤ p ∧ rf_Per w i j p ∧ ∀ q, 1 ≤ q → q < p → ¬ rf_Per w i j q
theorem rf_Lp_uniq {w : Nat → Int32} {i j p q : Nat} (h : rf_Lp w i j p) (h' : rf_Lp w i j q) : p = q := by
  obtain ⟨a1, a2, a3⟩ := h
  obtain ⟨b1, b2, b3⟩ := h'
  rcases Nat.lt_trichotomy p q with hh | hh | hh
  · exact absurd a2 (b3 p a1 hh)
  · exact hh
  · exact absurd b2 (a3 q b1 hh)
theorem rf_Lp_ex {w : Nat → Int32} {i j p : Nat} (h1 : 1 ≤ p) (h : rf_Per w i j p) : ∃ q, rf_Lp w i j q ∧ q ≤ p := by
  obtain ⟨q, ⟨a, b⟩, d⟩ := pk_least (fun q => 1 ≤ q ∧ rf_Per w i j q) ⟨p, h1, h⟩
  refine ⟨q, ⟨a, b, fun x x1 x2 x3 => d x x2 ⟨x1, x3⟩⟩, ?_⟩
  rcases Nat.lt_or_ge p q with hh | hh
  · exact absurd ⟨h1, h⟩ (d p hh)
  · exact hh
theorem rf_Per_sub {w : Nat → Int32} {i j a b p : Nat} (h : rf_Per w i j p) (ha : i ≤ a) (hb : b ≤ j) : rf_Per w a b p :=
  fun k h1 h2 => h k (by omega) (by omega)
theorem rf_ext {w : Nat → Int32} {n a b p : Nat} (h : rf_Lp w a b p) (h2 : a + 2 * p ≤ b + 1) (hb : b < n) : ∃ i j, rf_Run w n i j p ∧ i ≤ a ∧ b ≤ j := by
  obtain ⟨hp, hP, hl⟩ := h
  obtain ⟨i, ⟨i1, i2⟩, i3⟩ := pk_least (fun i => i ≤ a ∧ rf_Per w i b p) ⟨a, Nat.le_refl a, hP⟩
  obtain ⟨d, ⟨d1, d2⟩, d3⟩ := pk_least (fun d => d ≤ n - 1 - b ∧ rf_Per w i (n - 1 - d) p) ⟨n - 1 - b, Nat.le_refl _, by rw [show n - 1 - (n - 1 - b) = b by omega]; exact i2⟩
  refine ⟨i, n - 1 - d, ⟨hp, by omega, by omega, d2, fun q q1 q2 q3 => hl q q1 q2 (rf_Per_sub q3 i1 (by omega)), ?_, ?_⟩, i1, by omega⟩
  · intro x hx e
    refine i3 x (by omega) ⟨by omega, fun k k1 k2 => ?_⟩
    rcases Nat.lt_or_ge x k with hh | hh
    · exact i2 k (by omega) k2
    · have hk : k = x := by omega
      subst hk
      exact e
  · intro hx e
    refine d3 (d - 1) (by omega) ⟨by omega, fun k k1 k2 => ?_⟩
    rcases Nat.lt_or_ge (n - 1 - d) (k + p) with hh | hh
    · have hk : k + p = n - 1 - d + 1 := by omega
      have hk2 : n - 1 - d + 1 - p = k := by omega
      rw [hk2] at e
      rw [hk]
      exact e.symm
    · exact d2 k k1 hh
theorem rf_sub {w : Nat → Int32} {n i j p a b : Nat} (R : rf_Run w n i j p) (ha : i ≤ a) (hb : b ≤ j) (h2 : a + 2 * p ≤ b + 1) : rf_Lp w a b p := by
  obtain ⟨hp, h2p, hj, hP, hl, hL, hR⟩ := R
  refine ⟨hp, rf_Per_sub hP ha hb, fun q q1 q2 q3 => hl q q1 q2 (rf_spread hP ha (by omega) q2 fun k k1 k2 => q3 k k1 (by omega))⟩
theorem rf_mult {w : Nat → Int32} {i j p : Nat} (h : rf_Per w i j p) : ∀ k, rf_Per w i j (p * k) := by
  intro k
  induction k with
  | zero => intro x _ _; exact rfl
  | succ k ih =>
    intro x x1 x2
    rw [Nat.mul_succ] at x2 ⊢
    rw [ih x x1 (by omega), h (x + p * k) (by omega) (by omega), Nat.add_assoc]
theorem rf_div {w : Nat → Int32} {x Q q : Nat} (hL : rf_Lp w x (x + 2 * Q - 1) q) (h : rf_Per w x (x + 2 * Q - 1) Q) (hQ : 1 ≤ Q) : q ∣ Q := by
  obtain ⟨q1, q2, q3⟩ := hL
  rcases Nat.eq_zero_or_pos (Q % q) with hz | hz
  · exact Nat.dvd_of_mod_eq_zero hz
  · exfalso
    have e0 := Nat.div_add_mod Q q
    have hlt := Nat.mod_lt Q (show q > 0 by omega)
    have hA := rf_mult q2 (Q / q)
    generalize q * (Q / q) = A at e0 hA
    generalize Q % q = r at e0 hz hlt
    have lo : ∀ k, x ≤ k → k < x + Q → w k = w (k + r) := by
      intro k k1 k2
      have e1 := h k k1 (by omega)
      have e2 := hA (k + r) (by omega) (by omega)
      rw [show k + r + A = k + Q by omega] at e2
      exact e1.trans e2.symm
    refine q3 r hz hlt fun k k1 k2 => ?_
    rcases Nat.lt_or_ge k (x + Q) with hh | hh
    · exact lo k k1 hh
    · have e1 := h (k - Q) (by omega) (by omega)
      have e2 := h (k - Q + r) (by omega) (by omega)
      have e3 := lo (k - Q) (by omega) (by omega)
      rw [show k - Q + Q = k by omega] at e1
      rw [show k - Q + r + Q = k + r by omega] at e2
      exact e1.symm.trans (e3.trans e2)
noncomputable def rf_i (p : Prop) : Nat := @ite Nat p (Classical.propDecidable p) 1 0
theorem rf_i_t {p : Prop} (h : p) : rf_i p = 1 := if_pos h
theorem rf_i_f {p : Prop} (h : ¬ p) : rf_i p = 0 := if_neg h
theorem rf_i_c {p q : Prop} (h : p ↔ q) : rf_i p = rf_i q := by rw [propext h]
def rf_sm (f : Nat → Nat) : Nat → Nat
  | 0 => 0
  | c + 1 => rf_sm f c + f c
theorem rf_sm_s (f : Nat → Nat) (c : Nat) : rf_sm f (c + 1) = rf_sm f c + f c := rfl
theorem rf_sm_congr {f g : Nat → Nat} : ∀ {c : Nat}, (∀ r, r < c → f r = g r) → rf_sm f c = rf_sm g c := by
  intro c
  induction c with
  | zero => intro _; exact rfl
  | succ c ih =>
    intro h
    rw [rf_sm_s, rf_sm_s, ih fun r hr => h r (by omega), h c (by omega)]
theorem rf_sm_zero {f : Nat → Nat} : ∀ {c : Nat}, (∀ r, r < c → f r = 0) → rf_sm f c = 0 := by
  intro c
  induction c with
  | zero => intro _; exact rfl
  | succ c ih =>
    intro h
    rw [rf_sm_s, ih fun r hr => h r (by omega), h c (by omega)]
theorem rf_sm_add (f g : Nat → Nat) (c : Nat) : rf_sm (fun r => f r + g r) c = rf_sm f c + rf_sm g c := by
  induction c with
  | zero => exact rfl
  | succ c ih =>
    rw [rf_sm_s, rf_sm_s, rf_sm_s, ih]
    omega
theorem rf_sm_swap (f : Nat → Nat → Nat) (c d : Nat) : rf_sm (fun r => rf_sm (fun s => f r s) d) c = rf_sm (fun s => rf_sm (fun r => f r s) c) d := by
  induction c with
  | zero => exact (rf_sm_zero fun _ _ => rfl).symm
  | succ c ih =>
    rw [rf_sm_s, ih, ← rf_sm_add]
    exact rf_sm_congr fun s _ => rfl
theorem rf_sm_one {f : Nat → Nat} {x : Nat} : ∀ {c : Nat}, x < c → (∀ r, r < c → r ≠ x → f r = 0) → rf_sm f c = f x := by
  intro c
  induction c with
  | zero => intro h; omega
  | succ c ih =>
    intro h h2
    rw [rf_sm_s]
    by_cases e : x = c
    · subst e
      rw [rf_sm_zero fun r hr => h2 r (by omega) (by omega), Nat.zero_add]
    · rw [ih (by omega) fun r hr => h2 r (by omega), h2 c (by omega) (by omega)]
      exact Nat.add_zero _
theorem rf_sm_tail {f : Nat → Nat} {c : Nat} : ∀ {d : Nat}, c ≤ d → (∀ r, c ≤ r → r < d → f r = 0) → rf_sm f d = rf_sm f c := by
  intro d
  induction d with
  | zero => intro h _; rw [show c = 0 by omega]
  | succ d ih =>
    intro h h2
    by_cases e : c = d + 1
    · rw [e]
    · rw [rf_sm_s, ih (by omega) fun r h3 h4 => h2 r h3 (by omega), h2 d (by omega) (by omega)]
      exact Nat.add_zero _
theorem rf_sm_shift (g : Nat → Nat) (M : Nat) : rf_sm g (M + 1) = g 0 + rf_sm (fun t => g (t + 1)) M := by
  induction M with
  | zero => show rf_sm g 0 + g 0 = g 0 + 0; show 0 + g 0 = g 0 + 0; omega
  | succ M ih =>
    rw [rf_sm_s, ih, rf_sm_s]
    omega
theorem rf_SR_inj {w : Nat → Int32} {n c r s : Nat} {F E P : Nat → Nat} (h : rf_SR w n c F E P) (hr : r < c) (hs : s < c) (e1 : F r = F s) (e2 : P r = P s) : r = s := by
  obtain ⟨_, h2⟩ := h
  rcases Nat.lt_trichotomy r s with hh | hh | hh
  · have a := h2 r s hh hs
    rw [e1, e2] at a
    omega
  · exact hh
  · have a := h2 s r hh hr
    rw [e1, e2] at a
    omega
/-- squares of primitive roots at a: by the runs, and by their periods -/
theorem rf_law_sf {w : Nat → Int32} {n c a : Nat} {F E P : Nat → Nat} (h : rf_Ful w n c F E P) :
    rf_sm (fun r => rf_i (F r ≤ a ∧ a + 2 * P r ≤ E r + 1)) c = rf_sm (fun t => rf_i (rf_Lp w a (a + 2 * (t + 1) - 1) (t + 1))) ((n - a) / 2) := by
  have e1 : rf_sm (fun r => rf_i (F r ≤ a ∧ a + 2 * P r ≤ E r + 1)) c = rf_sm (fun r => rf_sm (fun t => rf_i (P r = t + 1 ∧ F r ≤ a ∧ a + 2 * P r ≤ E r + 1)) ((n - a) / 2)) c := by
    refine rf_sm_congr fun r hr => ?_
    have R := h.1.1 r hr
    by_cases hc : F r ≤ a ∧ a + 2 * P r ≤ E r + 1
    · have R1 := R.1
      have R2 := R.2.2.1
      have hm : P r = (P r - 1) + 1 := by omega
      rw [rf_i_t hc]
      refine ((rf_sm_one (x := P r - 1) (by omega) fun t ht hne => rf_i_f fun z => ?_).trans (rf_i_t ⟨hm, hc⟩)).symm
      exact hne (by have := z.1; omega)
    · rw [rf_i_f hc]
      exact (rf_sm_zero fun t _ => rf_i_f fun z => hc z.2).symm
  rw [e1, rf_sm_swap]
  refine rf_sm_congr fun t ht => ?_
  by_cases hL : rf_Lp w a (a + 2 * (t + 1) - 1) (t + 1)
  · rw [rf_i_t hL]
    obtain ⟨i, j, R, hi, hj⟩ := rf_ext (n := n) hL (by omega) (by omega)
    obtain ⟨r0, h0, f1, f2, f3⟩ := h.2 i j (t + 1) R
    refine (rf_sm_one (x := r0) h0 fun r hr hne => rf_i_f fun z => ?_).trans (rf_i_t ⟨f3, by omega, by omega⟩)
    have R' := h.1.1 r hr
    rw [z.1] at R'
    have u := (rf_uniq R R' (m := a) hi (by omega) z.2.1 (by omega)).1
    exact hne (rf_SR_inj h.1 hr h0 (by omega) (by omega))
  · rw [rf_i_f hL]
    refine rf_sm_zero fun r hr => rf_i_f fun z => hL ?_
    have R' := h.1.1 r hr
    have z1 := z.1
    rw [z1] at R'
    exact rf_sub R' z.2.1 (by omega) (by omega)
theorem rf_cnt (A D B : Nat) (hD : 1 ≤ D) : ∀ N, rf_sm (fun x => rf_i (A ≤ x ∧ x + D ≤ B)) N = min N (B + 1 - D) - A := by
  intro N
  induction N with
  | zero => show 0 = min 0 (B + 1 - D) - A; omega
  | succ N ih =>
    rw [rf_sm_s, ih]
    by_cases hc : A ≤ N ∧ N + D ≤ B
    · rw [rf_i_t hc]
      omega
    · rw [rf_i_f hc]
      omega
noncomputable def rf_T (S p Q : Nat) : Nat := rf_i (1 ≤ Q ∧ p ∣ Q) * (S + 1 - 2 * Q)
theorem rf_T_0 {S p Q : Nat} (h : ¬ (1 ≤ Q ∧ p ∣ Q)) : rf_T S p Q = 0 := by
  unfold rf_T
  rw [rf_i_f h, Nat.zero_mul]
theorem rf_T_1 {S p Q : Nat} (h : 1 ≤ Q ∧ p ∣ Q) : rf_T S p Q = S + 1 - 2 * Q := by
  unfold rf_T
  rw [rf_i_t h, Nat.one_mul]
theorem rf_T_z {S p Q : Nat} (h : S < 2 * Q) : rf_T S p Q = 0 := by
  unfold rf_T
  rw [show S + 1 - 2 * Q = 0 by omega, Nat.mul_zero]
/-- all squares: by the runs, and by places and halves -/
theorem rf_law_sq {w : Nat → Int32} {n c : Nat} {F E P : Nat → Nat} (hn : n ≤ 48) (h : rf_Ful w n c F E P) :
    rf_sm (fun r => rf_sm (fun Q => rf_T (E r + 1 - F r) (P r) Q) 25) c = rf_sm (fun x => rf_sm (fun t => rf_i (rf_Per w x (x + 2 * (t + 1) - 1) (t + 1))) ((n - x) / 2)) n := by
  have e1 : rf_sm (fun r => rf_sm (fun Q => rf_T (E r + 1 - F r) (P r) Q) 25) c =
      rf_sm (fun r => rf_sm (fun Q => rf_sm (fun x => rf_i (1 ≤ Q ∧ P r ∣ Q ∧ F r ≤ x ∧ x + 2 * Q ≤ E r + 1)) n) 25) c := by
    refine rf_sm_congr fun r hr => rf_sm_congr fun Q _ => ?_
    have R := h.1.1 r hr
    have R1 := R.1
    have R2 := R.2.1
    have R3 := R.2.2.1
    by_cases hc : 1 ≤ Q ∧ P r ∣ Q
    · rw [rf_T_1 hc]
      have e := rf_cnt (F r) (2 * Q) (E r + 1) (by omega) n
      have e2 : rf_sm (fun x => rf_i (1 ≤ Q ∧ P r ∣ Q ∧ F r ≤ x ∧ x + 2 * Q ≤ E r + 1)) n = rf_sm (fun x => rf_i (F r ≤ x ∧ x + 2 * Q ≤ E r + 1)) n :=
        rf_sm_congr fun x _ => rf_i_c ⟨fun z => z.2.2, fun z => ⟨hc.1, hc.2, z⟩⟩
      rw [e2, e]
      have := hc.1
      omega
    · rw [rf_T_0 hc]
      exact (rf_sm_zero fun x _ => rf_i_f fun z => hc ⟨z.1, z.2.1⟩).symm
  have e2 : rf_sm (fun r => rf_sm (fun Q => rf_sm (fun x => rf_i (1 ≤ Q ∧ P r ∣ Q ∧ F r ≤ x ∧ x + 2 * Q ≤ E r + 1)) n) 25) c =
      rf_sm (fun x => rf_sm (fun Q => rf_sm (fun r => rf_i (1 ≤ Q ∧ P r ∣ Q ∧ F r ≤ x ∧ x + 2 * Q ≤ E r + 1)) c) 25) n := by
    rw [rf_sm_congr (fun r _ => rf_sm_swap (fun Q x => rf_i (1 ≤ Q ∧ P r ∣ Q ∧ F r ≤ x ∧ x + 2 * Q ≤ E r + 1)) 25 n)]
    rw [rf_sm_swap (fun r x => rf_sm (fun Q => rf_i (1 ≤ Q ∧ P r ∣ Q ∧ F r ≤ x ∧ x + 2 * Q ≤ E r + 1)) 25) c n]
    exact rf_sm_congr fun x _ => rf_sm_swap (fun r Q => rf_i (1 ≤ Q ∧ P r ∣ Q ∧ F r ≤ x ∧ x + 2 * Q ≤ E r + 1)) c 25
  rw [e1, e2]
  refine rf_sm_congr fun x hx => ?_
  have e3 : rf_sm (fun Q => rf_sm (fun r => rf_i (1 ≤ Q ∧ P r ∣ Q ∧ F r ≤ x ∧ x + 2 * Q ≤ E r + 1)) c) 25 = rf_sm (fun Q => rf_i (1 ≤ Q ∧ x + 2 * Q ≤ n ∧ rf_Per w x (x + 2 * Q - 1) Q)) 25 := by
    refine rf_sm_congr fun Q _ => ?_
    by_cases hc : 1 ≤ Q ∧ x + 2 * Q ≤ n ∧ rf_Per w x (x + 2 * Q - 1) Q
    · rw [rf_i_t hc]
      obtain ⟨c1, c2, c3⟩ := hc
      obtain ⟨q, hq, hqQ⟩ := rf_Lp_ex c1 c3
      have hd := rf_div hq c3 c1
      obtain ⟨i, j, R, hi, hj⟩ := rf_ext (n := n) hq (by omega) (by omega)
      obtain ⟨r0, h0, f1, f2, f3⟩ := h.2 i j q R
      refine (rf_sm_one (x := r0) h0 fun r hr hne => rf_i_f fun z => ?_).trans (rf_i_t ⟨c1, by rw [f3]; exact hd, by omega, by omega⟩)
      obtain ⟨z1, z2, z3, z4⟩ := z
      have R' := h.1.1 r hr
      have hle := Nat.le_of_dvd (by omega) z2
      have ep : P r = q := rf_Lp_uniq (rf_sub R' z3 (b := x + 2 * Q - 1) (by omega) (by omega)) hq
      rw [ep] at R'
      have u := (rf_uniq R R' (m := x) hi (by omega) z3 (by omega)).1
      exact hne (rf_SR_inj h.1 hr h0 (by omega) (by omega))
    · rw [rf_i_f hc]
      refine rf_sm_zero fun r hr => rf_i_f fun z => hc ?_
      obtain ⟨z1, z2, z3, z4⟩ := z
      have R' := h.1.1 r hr
      obtain ⟨g, hg⟩ := z2
      refine ⟨z1, by have := R'.2.2.1; omega, ?_⟩
      have m := rf_mult R'.2.2.2.1 g
      rw [← hg] at m
      exact rf_Per_sub m z3 (by omega)
  rw [e3, rf_sm_tail (c := (n - x) / 2 + 1) (by omega) fun Q h1 h2 => rf_i_f fun z => by have := z.2.1; omega, rf_sm_shift, rf_i_f (p := 1 ≤ 0 ∧ _) (fun z => by have := z.1; omega), Nat.zero_add]
  exact rf_sm_congr fun t ht => rf_i_c ⟨fun z => z.2.2, fun z => ⟨by omega, by omega, z⟩⟩
/-- the least period found among the first x runs -/
def rf_PO (F E P : Nat → Nat) (i j x b : Nat) : Prop :=
  (b = 0 → ∀ r, r < x → ¬ (F r ≤ i ∧ j ≤ E r ∧ i + 2 * P r ≤ j + 1)) ∧
  (b ≠ 0 → (∃ r, r < x ∧ (F r ≤ i ∧ j ≤ E r ∧ i + 2 * P r ≤ j + 1) ∧ P r = b) ∧ ∀ r, r < x → (F r ≤ i ∧ j ≤ E r ∧ i + 2 * P r ≤ j + 1) → b ≤ P r)
theorem rf_PO_skip {F E P : Nat → Nat} {i j x b : Nat} (h : rf_PO F E P i j x b) (hc : ¬ (F x ≤ i ∧ j ≤ E x ∧ i + 2 * P x ≤ j + 1)) : rf_PO F E P i j (x + 1) b := by
  obtain ⟨h1, h2⟩ := h
  constructor
  · intro hb r hr
    rcases Nat.lt_or_ge r x with hh | hh
    · exact h1 hb r hh
    · rw [show r = x by omega]; exact hc
  · intro hb
    obtain ⟨⟨r, a1, a2, a3⟩, a4⟩ := h2 hb
    refine ⟨⟨r, by omega, a2, a3⟩, fun s hs g => ?_⟩
    rcases Nat.lt_or_ge s x with hh | hh
    · exact a4 s hh g
    · rw [show s = x by omega] at g; exact absurd g hc
theorem rf_PO_keep {F E P : Nat → Nat} {i j x b : Nat} (h : rf_PO F E P i j x b) (hb : b ≠ 0) (hle : b ≤ P x) : rf_PO F E P i j (x + 1) b := by
  obtain ⟨h1, h2⟩ := h
  refine ⟨fun z => absurd z hb, fun _ => ?_⟩
  obtain ⟨⟨r, a1, a2, a3⟩, a4⟩ := h2 hb
  refine ⟨⟨r, by omega, a2, a3⟩, fun s hs g => ?_⟩
  rcases Nat.lt_or_ge s x with hh | hh
  · exact a4 s hh g
  · rw [show s = x by omega]; exact hle
theorem rf_PO_take {F E P : Nat → Nat} {i j x b : Nat} (h : rf_PO F E P i j x b) (hc : F x ≤ i ∧ j ≤ E x ∧ i + 2 * P x ≤ j + 1) (hp : 1 ≤ P x) (hle : b = 0 ∨ P x ≤ b) : rf_PO F E P i j (x + 1) (P x) := by
  obtain ⟨h1, h2⟩ := h
  refine ⟨fun z => by omega, fun _ => ⟨⟨x, by omega, hc, rfl⟩, fun s hs g => ?_⟩⟩
  rcases Nat.lt_or_ge s x with hh | hh
  · rcases Nat.eq_zero_or_pos b with hb | hb
    · exact absurd g (h1 hb s hh)
    · have := (h2 (by omega)).2 s hh g
      omega
  · rw [show s = x by omega]
    omega
theorem rf_law_po {w : Nat → Int32} {n c i j p b : Nat} {F E P : Nat → Nat} (h : rf_Ful w n c F E P) (hij : i ≤ j) (hj : j < n) (hL : rf_Lp w i j p) (hb : rf_PO F E P i j c b) : b = if i + 2 * p ≤ j + 1 then p else 0 := by
  obtain ⟨h1, h2⟩ := hb
  obtain ⟨l1, l2, l3⟩ := hL
  by_cases hc : i + 2 * p ≤ j + 1
  · rw [if_pos hc]
    obtain ⟨a, e, R, ha, he⟩ := rf_ext (n := n) ⟨l1, l2, l3⟩ hc hj
    obtain ⟨r0, g0, g1, g2, g3⟩ := h.2 a e p R
    have cond : F r0 ≤ i ∧ j ≤ E r0 ∧ i + 2 * P r0 ≤ j + 1 := ⟨by omega, by omega, by omega⟩
    have hb0 : b ≠ 0 := fun z => h1 z r0 g0 cond
    obtain ⟨⟨r, a1, a2, a3⟩, a4⟩ := h2 hb0
    have b1 := a4 r0 g0 cond
    have R' := h.1.1 r a1
    have b2 : p ≤ P r := by
      rcases Nat.lt_or_ge (P r) p with hh | hh
      · exact absurd (rf_Per_sub R'.2.2.2.1 a2.1 a2.2.1) (l3 (P r) R'.1 hh)
      · exact hh
    omega
  · rw [if_neg hc]
    rcases Nat.eq_zero_or_pos b with hb | hb
    · exact hb
    · exfalso
      obtain ⟨⟨r, a1, a2, a3⟩, a4⟩ := h2 (by omega)
      have R' := h.1.1 r a1
      have e := rf_Lp_uniq (rf_sub R' a2.1 a2.2.1 a2.2.2) ⟨l1, l2, l3⟩
      have := a2.2.2
      omega
def rf_mx (f : Nat → Nat) : Nat → Nat
  | 0 => 0
  | c + 1 => if f c ≤ rf_mx f c then rf_mx f c else f c
theorem rf_mx_s (f : Nat → Nat) (c : Nat) : rf_mx f (c + 1) = if f c ≤ rf_mx f c then rf_mx f c else f c := rfl
theorem rf_mx_le {f : Nat → Nat} {B : Nat} : ∀ {c : Nat}, (∀ r, r < c → f r ≤ B) → rf_mx f c ≤ B := by
  intro c
  induction c with
  | zero => intro _; exact Nat.zero_le B
  | succ c ih =>
    intro h
    have a := ih fun r hr => h r (by omega)
    have b := h c (by omega)
    rw [rf_mx_s]
    split <;> omega
theorem rf_mx_congr {f g : Nat → Nat} : ∀ {c : Nat}, (∀ r, r < c → f r = g r) → rf_mx f c = rf_mx g c := by
  intro c
  induction c with
  | zero => intro _; exact rfl
  | succ c ih =>
    intro h
    rw [rf_mx_s, rf_mx_s, ih fun r hr => h r (by omega), h c (by omega)]
/-- one step of the inner sum over a run's squares -/
theorem rf_T_step {S p k : Nat} (hp : 1 ≤ p) (hk : 1 ≤ k) (h : 2 * (p * k) ≤ S) : rf_sm (fun Q => rf_T S p Q) (p * (k + 1)) = rf_sm (fun Q => rf_T S p Q) (p * k) + (S - 2 * (p * k) + 1) := by
  have e1 : rf_sm (fun Q => rf_T S p Q) (p * (k + 1)) = rf_sm (fun Q => rf_T S p Q) (p * k + 1) := by
    refine rf_sm_tail (by rw [Nat.mul_succ]; omega) fun Q h1 h2 => rf_T_0 fun z => ?_
    obtain ⟨g, hg⟩ := z.2
    subst hg
    have a : k < g := Nat.lt_of_mul_lt_mul_left (a := p) (by omega)
    have b : g < k + 1 := Nat.lt_of_mul_lt_mul_left (a := p) h2
    omega
  have hpk : 1 ≤ p * k := Nat.mul_pos hp hk
  rw [e1, rf_sm_s, rf_T_1 ⟨hpk, Nat.dvd_mul_right p k⟩]
  omega
theorem rf_T_end {S p k : Nat} (hS : S ≤ 48) (h : S < 2 * (p * k)) : rf_sm (fun Q => rf_T S p Q) (p * k) = rf_sm (fun Q => rf_T S p Q) 25 := by
  rcases Nat.le_total (p * k) 25 with hh | hh
  · exact (rf_sm_tail hh fun Q h1 _ => rf_T_z (by omega)).symm
  · exact rf_sm_tail hh fun Q h1 _ => rf_T_z (by omega)
theorem rf_T_first {S p : Nat} : rf_sm (fun Q => rf_T S p Q) (p * 1) = 0 := by
  refine rf_sm_zero fun Q hQ => rf_T_0 fun z => ?_
  have := Nat.le_of_dvd (by omega) z.2
  omega
end
section
section
variable {rc cu : Int32} {w af fi la st : Nat → Int32} {n : Nat}
theorem rf_xfw2 {post : Int32 → Prop} {i k : Nat} (hn : n ≤ 48) (H : ∀ L, rf_FW w n i k L → post (nI L)) : ∀ f x, n + 1 ≤ x + f → (∀ u, u < x → w (i + u) = w (k + u)) → i + x ≤ n → k + x ≤ n →
    wX_forward_2 post (nI i) (nI k) (nI n) rc cu w af fi la st f (nI x) := by
  intro f
  induction f with
  | zero => intro x h1 _ h2 _; omega
  | succ f ih =>
    intro x h1 h2 h3 h4
    refine pk_le n (i + x) (fun a => H x ⟨h3, h4, h2, fun b _ => by omega⟩) (fun a => ?_) rfl (nI_add i x)
    refine pk_le n (k + x) (fun b => H x ⟨h3, h4, h2, fun _ b => by omega⟩) (fun b => ?_) rfl (nI_add k x)
    refine ⟨pk_in (i + x) 48 (by omega) (nI_add i x), pk_in (k + x) 48 (by omega) (nI_add k x), ?_⟩
    rw [nI_add i x, nI_add k x, nI_clamp (n := i + x) (by omega), nI_clamp (n := k + x) (by omega)]
    refine br_c (fun e => nm_r (nI_1 x) (ih (x + 1) (by omega) (fun u hu => ?_) (by omega) (by omega))) (fun e => H x ⟨h3, h4, h2, fun _ _ => e⟩)
    rcases Nat.lt_or_ge u x with hh | hh
    · exact h2 u hh
    · rw [show u = x by omega]; exact e
theorem rf_xfw {post : Int32 → Prop} {i k : Nat} (hn : n ≤ 48) (hi : i ≤ n) (hk : k ≤ n) (H : ∀ L, rf_FW w n i k L → post (nI L)) :
    wpX_forward post (nI n, rc, cu, w, af, fi, la, st) (nI i) (nI k) :=
  ⟨n + 1, rf_xfw2 hn H (n + 1) 0 (by omega) (fun u hu => by omega) hi hk⟩
def rf_b (rs : Bool) : Int32 := match rs with
  | true => 1
  | false => 0
theorem rf_SL_of {i k L : Nat} {rs : Bool} (hF : rf_FW w n i k L) (hi : i + L ≤ n) (hk : k + L ≤ n) (h : rf_tx w n rs (i + L) < rf_tx w n rs (k + L)) : rf_SL (rf_tx w n rs) i k :=
  ⟨L, fun u hu => rf_tx_eq (by omega) (by omega) (hF.2.2.1 u hu), h⟩
theorem rf_FW_symm {i k L : Nat} (h : rf_FW w n i k L) : rf_FW w n k i L :=
  ⟨h.2.1, h.1, fun u hu => (h.2.2.1 u hu).symm, fun a b e => h.2.2.2 b a e.symm⟩
theorem rf_i32 {x y : Int32} (h : ¬ x = y) (h2 : x ≤ y) : x.toInt < y.toInt := by
  have a := Int32.le_iff_toInt_le.mp h2
  have b : x.toInt ≠ y.toInt := fun e => h (Int32.toInt_inj.mp e)
  omega
theorem rf_i32n {x y : Int32} (h2 : ¬ x ≤ y) : y.toInt < x.toInt := by
  have a : ¬ x.toInt ≤ y.toInt := fun e => h2 (Int32.le_iff_toInt_le.mpr e)
  omega
theorem rf_xcb {post : Int32 → Prop} {i k : Nat} {rs : Bool} (hn : n ≤ 48) (hik : i < k) (hk : k < n) (H1 : rf_SL (rf_tx w n rs) k i → post 1) (H0 : rf_SL (rf_tx w n rs) i k → post 0) :
    wpX_comesBefore post (nI n, rc, cu, w, af, fi, la, st) (nI k) (nI i) (rf_b rs) := by
  unfold wpX_comesBefore
  dsimp only
  refine rf_xfw hn (by omega) (by omega) fun L hF => ?_
  have hF' := rf_FW_symm hF
  obtain ⟨f1, f2, f3, f4⟩ := hF
  rw [nI_add k L, nI_add i L, nI_clamp (n := k + L) (by omega), nI_clamp (n := i + L) (by omega)]
  refine pk_lt (k + L) n (fun a => ?_) (fun a => ?_)
  · have ne := f4 (by omega) a
    have in1 : vp_in (nI (k + L)) 48 := vp_in_nI (by omega) (by omega)
    have in2 : vp_in (nI (i + L)) 48 := vp_in_nI (by omega) (by omega)
    cases rs with
    | false =>
      refine br_t rfl ⟨in1, in2, br_c (fun h => H0 ?_) (fun h => H1 ?_)⟩
      · refine rf_SL_of ⟨f1, f2, f3, f4⟩ f1 f2 ?_
        rw [rf_tx_f a, rf_tx_f (by omega)]
        have := rf_i32 (fun z => ne z.symm) h
        omega
      · refine rf_SL_of hF' f2 f1 ?_
        rw [rf_tx_f a, rf_tx_f (by omega)]
        have := rf_i32n h
        omega
    | true =>
      refine br_f (by decide) ⟨in1, in2, br_c (fun h => H0 ?_) (fun h => H1 ?_)⟩
      · refine rf_SL_of ⟨f1, f2, f3, f4⟩ f1 f2 ?_
        rw [rf_tx_t a, rf_tx_t (by omega)]
        exact rf_i32 ne h
      · refine rf_SL_of hF' f2 f1 ?_
        rw [rf_tx_t a, rf_tx_t (by omega)]
        exact rf_i32n h
  · refine H1 (rf_SL_of hF' f2 f1 ?_)
    rw [rf_tx_out a]
    exact rf_tx_lo (by omega)
theorem rf_m1 (a : Nat) : nI a + (-1) = nI a - 1 := (Int32.sub_eq_add_neg _ _).symm
/-- the endings behind i stand in the array -/
def rf_Af (w : Nat → Int32) (n : Nat) (rs : Bool) (af : Nat → Int32) (lo : Nat) : Prop := ∀ y, lo ≤ y → y < n → ∃ k, af y = nI k ∧ rf_NS (rf_tx w n rs) n y k
theorem rf_SL_end {i : Nat} {rs : Bool} (h : i < n) : rf_SL (rf_tx w n rs) n i :=
  ⟨0, fun u hu => by omega, by rw [Nat.add_zero, Nat.add_zero, rf_tx_out (Nat.le_refl n)]; exact rf_tx_lo h⟩
theorem rf_xfe31 {post : SX → Prop} {J : Int32 → (Nat → Int32) → (Nat → Int32) → (Nat → Int32) → (Nat → Int32) → (Nat → Int32) → Prop} {i : Nat} {rs : Bool} (hn : n ≤ 48) (hi : i < n)
    (hA : rf_Af w n rs af (i + 1)) (H : ∀ k, rf_NS (rf_tx w n rs) n i k → J (nI i - 1) w (upd af i (nI k)) fi la st) :
    ∀ f k t, n + 1 ≤ k + f → i + 1 + t ≤ k → k ≤ n → (∀ m, i < m → m < k → rf_SL (rf_tx w n rs) i m) →
    wX_findEndings_31 post J (rf_b rs) (nI i) (nI n) rc cu w af fi la st f (nI k) (nI t) := by
  have in1 : vp_in (nI i) 49 := vp_in_nI (by omega) (by omega)
  have out : ∀ k, rf_NS (rf_tx w n rs) n i k → vp_in (nI i) 49 ∧ (∀ y, y = upd af (nI i).toNatClampNeg (nI k) → ∀ z, z = nI i + (-1) → J z w y fi la st) := by
    intro k hk
    refine ⟨in1, ?_⟩
    rw [nI_clamp (n := i) (by omega)]
    exact nm_e (nm_r (rf_m1 i) (H k hk))
  intro f
  induction f with
  | zero => intro k t h1 h2 h3 _; omega
  | succ f ih =>
    intro k t h1 h2 h3 h4
    refine pk_le 48 t (fun a => ?_) (fun a => ?_)
    · omega
    · refine pk_le n k (fun b => ?_) (fun b => ?_)
      · have e : k = n := by omega
        subst e
        exact out k ⟨hi, h3, rf_SL_end hi, h4⟩
      · refine rf_xcb hn (by omega) b (fun s => ?_) (fun s => ?_)
        · exact br_f (by decide) (out k ⟨by omega, h3, s, h4⟩)
        · refine br_t rfl ⟨vp_in_nI (by omega) (by omega), ?_⟩
          obtain ⟨k', e, N⟩ := hA k (by omega) b
          rw [nI_clamp (n := k) (by omega), e]
          have hN := N
          obtain ⟨n1, n2, n3, n4⟩ := N
          refine nm_e (nm_r (nI_1 t) (ih k' (t + 1) (by omega) (by omega) n2 fun m m1 m2 => ?_))
          rcases Nat.lt_trichotomy m k with hh | hh | hh
          · exact h4 m m1 hh
          · rw [hh]; exact s
          · exact rf_SL_trans s (n4 m hh m2)
theorem rf_xfe20 {post : SX → Prop} {rs : Bool} (hn : n ≤ 48) (H : ∀ a, rf_Af w n rs a 0 → post (nI n, rc, cu, w, a, fi, la, st)) :
    ∀ d f a, d < f → d ≤ n → rf_Af w n rs a d → wX_findEndings_20 post (rf_b rs) (nI n) rc cu f (nI d - 1) w a fi la st := by
  intro d
  induction d with
  | zero =>
    intro f a h1 _ h3
    obtain ⟨f, rfl⟩ : ∃ g, f = g + 1 := ⟨f - 1, by omega⟩
    exact br_t (show nI 0 - 1 < 0 by decide) (H a h3)
  | succ d ih =>
    intro f a h1 h2 h3
    obtain ⟨f, rfl⟩ : ∃ g, f = g + 1 := ⟨f - 1, by omega⟩
    rw [nI_pred]
    refine br_f (nI_pos (by omega)) (nm_r (nI_1 d) ⟨n + 1, ?_⟩)
    refine rf_xfe31 hn (by omega) h3 (fun k hk => ?_) (n + 1) (d + 1) 0 (by omega) (by omega) (by omega) (fun m m1 m2 => by omega)
    refine ih f _ (by omega) (by omega) fun y y1 y2 => ?_
    by_cases e : y = d
    · subst e
      exact ⟨k, pk_us, hk⟩
    · rw [pk_un e]
      exact h3 y (by omega) y2
theorem rf_xfe {post : SX → Prop} {rs : Bool} (hn : n ≤ 48) (H : ∀ a, rf_Af w n rs a 0 → post (nI n, rc, cu, w, a, fi, la, st)) :
    wpX_findEndings post (nI n, rc, cu, w, af, fi, la, st) (rf_b rs) :=
  ⟨vp_in_nI (by omega) (by omega), nm_e (nm_e ⟨n + 1, rf_xfe20 hn H n (n + 1) _ (by omega) (by omega) fun y y1 y2 => by omega⟩)⟩
theorem rf_ix {i x : Nat} (h : x < i) : nI i - 1 - nI x = nI (i - 1 - x) := by
  rw [show (1 : Int32) = nI 1 from rfl, pk_sub (by omega), pk_sub (by omega)]
theorem rf_xbw2 {post : Int32 → Prop} {i k : Nat} (hik : i < k) (hk : k ≤ 48) (H : ∀ B, rf_BW w i k B → post (nI B)) : ∀ f x, i + 1 ≤ x + f → x ≤ i → (∀ u, u < x → w (i - 1 - u) = w (k - 1 - u)) →
    wX_backward_2 post (nI i) (nI k) (nI n) rc cu w af fi la st f (nI x) := by
  intro f
  induction f with
  | zero => intro x h1 h2 _; omega
  | succ f ih =>
    intro x h1 h2 h3
    refine pk_le i x (fun a => H x ⟨h2, h3, fun b => by omega⟩) (fun a => ?_)
    refine pk_le k x (fun b => by omega) (fun b => ?_)
    refine ⟨pk_in (i - 1 - x) 48 (by omega) (rf_ix a), pk_in (k - 1 - x) 48 (by omega) (rf_ix b), ?_⟩
    rw [rf_ix a, rf_ix b, nI_clamp (n := i - 1 - x) (by omega), nI_clamp (n := k - 1 - x) (by omega)]
    refine br_c (fun e => nm_r (nI_1 x) (ih (x + 1) (by omega) (by omega) (fun u hu => ?_))) (fun e => H x ⟨h2, h3, fun _ => e⟩)
    rcases Nat.lt_or_ge u x with hh | hh
    · exact h3 u hh
    · rw [show u = x by omega]; exact e
theorem rf_xbw {post : Int32 → Prop} {i k : Nat} (hik : i < k) (hk : k ≤ 48) (H : ∀ B, rf_BW w i k B → post (nI B)) :
    wpX_backward post (nI n, rc, cu, w, af, fi, la, st) (nI i) (nI k) :=
  ⟨i + 1, rf_xbw2 hik hk H (i + 1) 0 (by omega) (by omega) (fun u hu => by omega)⟩
end
end
section
section
variable {cu : Int32} {w af : Nat → Int32} {n c i j p : Nat} {F E P : Nat → Nat}
theorem rf_xin103 {post : SX → Prop} {a : Nat} (hc : c < 100) (H : ∀ g1 g2 g3, rf_Rp (c + 1) g1 g2 g3 (rf_put F a i) (rf_put E a j) (rf_put P a p) → post (nI n, nI (c + 1), cu, w, af, g1, g2, g3)) :
    ∀ f r g1 g2 g3, r < a + f → a ≤ r → r ≤ c → rf_Rp r g1 g2 g3 F E P → (∀ y, r < y → y ≤ c → g1 y = nI (F (y - 1)) ∧ g2 y = nI (E (y - 1)) ∧ g3 y = nI (P (y - 1))) →
    wX_insert_103 post (nI i) (nI j) (nI p) (nI a) (nI n) (nI c) cu f (nI r) w af g1 g2 g3 := by
  intro f
  induction f with
  | zero => intro r g1 g2 g3 h1 h2 _ _ _; omega
  | succ f ih =>
    intro r g1 g2 g3 h1 h2 h3 h4 h5
    refine pk_le r a (fun b => ?_) (fun b => ?_)
    · have e : r = a := by omega
      subst e
      have in1 : vp_in (nI r) 100 := vp_in_nI (by omega) (by omega)
      rw [nI_clamp (n := r) (by omega)]
      refine ⟨in1, nm_e ⟨in1, nm_e ⟨in1, nm_e (nm_r (nI_1 c) (H _ _ _ ?_))⟩⟩⟩
      intro y hy
      rcases Nat.lt_trichotomy y r with hh | hh | hh
      · rw [pk_un (by omega), pk_un (by omega), pk_un (by omega), rf_put_lt hh, rf_put_lt hh, rf_put_lt hh]
        exact h4 y hh
      · subst hh
        rw [pk_us, pk_us, pk_us, rf_put_eq, rf_put_eq, rf_put_eq]
        exact ⟨rfl, rfl, rfl⟩
      · rw [pk_un (by omega), pk_un (by omega), pk_un (by omega), rf_put_gt hh, rf_put_gt hh, rf_put_gt hh]
        exact h5 y hh (by omega)
    · obtain ⟨r, rfl⟩ : ∃ q, r = q + 1 := ⟨r - 1, by omega⟩
      have in1 : vp_in (nI r) 100 := vp_in_nI (by omega) (by omega)
      have in2 : vp_in (nI (r + 1)) 100 := vp_in_nI (by omega) (by omega)
      rw [nI_pred r, nI_clamp (n := r + 1) (by omega), nI_clamp (n := r) (by omega)]
      refine ⟨in1, in2, nm_e ⟨in1, in2, nm_e ⟨in1, in2, nm_e (nm_r (pk_m1 r) (ih r _ _ _ (by omega) (by omega) (by omega) (fun y hy => ?_) (fun y y1 y2 => ?_)))⟩⟩⟩
      · rw [pk_un (by omega), pk_un (by omega), pk_un (by omega)]
        exact h4 y (by omega)
      · by_cases e : y = r + 1
        · subst e
          rw [pk_us, pk_us, pk_us]
          exact h4 r (by omega)
        · rw [pk_un e, pk_un e, pk_un e]
          exact h5 y (by omega) y2
theorem rf_key_lt {i p i' p' : Nat} (h : p < 64) (h2 : i < i') : rf_key i p < rf_key i' p' := by
  unfold rf_key
  omega
theorem rf_key_le {i p p' : Nat} (h2 : p ≤ p') : rf_key i p ≤ rf_key i p' := by
  unfold rf_key
  omega
theorem rf_key_ltp {i p p' : Nat} (h2 : p < p') : rf_key i p < rf_key i p' := by
  unfold rf_key
  omega
/-- what an insertion gives -/
def rf_InsK (w : Nat → Int32) (n c : Nat) (F E P : Nat → Nat) (Z : Nat → (Nat → Int32) → (Nat → Int32) → (Nat → Int32) → Prop) (G : Nat → (Nat → Nat) → (Nat → Nat) → (Nat → Nat) → Prop) : Prop :=
  ∀ c' F' E' P' g1 g2 g3, rf_SR w n c' F' E' P' → rf_Rp c' g1 g2 g3 F' E' P' → (∀ x y z, rf_Has c F E P x y z → rf_Has c' F' E' P' x y z) → G c' F' E' P' → Z c' g1 g2 g3
theorem rf_xin87 {post : SX → Prop} {fi la st : Nat → Int32} {a : Nat} (hn : n ≤ 48) (S : rf_SR w n c F E P) (Rp : rf_Rp c fi la st F E P) (R : rf_Run w n i j p)
    (H : rf_InsK w n c F E P (fun c' g1 g2 g3 => post (nI n, nI c', cu, w, af, g1, g2, g3)) (fun c' F' E' P' => rf_Has c' F' E' P' i j p))
    (ha : a ≤ c) (hlo : ∀ r, r < a → rf_key (F r) (P r) < rf_key i p) (hhi : ∀ r, a ≤ r → r < c → rf_key i p < rf_key (F r) (P r)) :
    wX_insert_87 post (nI i) (nI j) (nI p) (nI a) (nI n) (nI c) cu w af fi la st := by
  have hb := rf_bound S hn
  refine pk_eq c 100 (fun z => by omega) (fun _ => ⟨c + 1, ?_⟩)
  exact rf_xin103 (F := F) (E := E) (P := P) (by omega) (fun g1 g2 g3 hR => H _ _ _ _ _ _ _ (rf_ins S R ha hlo hhi) hR (fun x y z hh => rf_has_old hh) (rf_has_new ha)) (c + 1) c fi la st (by omega) ha (Nat.le_refl c) Rp (fun y y1 y2 => by omega)
theorem rf_xin56 {post : SX → Prop} {fi la st : Nat → Int32} {a : Nat} (hn : n ≤ 48) (S : rf_SR w n c F E P) (Rp : rf_Rp c fi la st F E P) (R : rf_Run w n i j p)
    (H : rf_InsK w n c F E P (fun c' g1 g2 g3 => post (nI n, nI c', cu, w, af, g1, g2, g3)) (fun c' F' E' P' => rf_Has c' F' E' P' i j p))
    (ha : a ≤ c) (hlo : ∀ r, r < a → rf_key (F r) (P r) ≤ rf_key i p) (hhi : ∀ r, a ≤ r → r < c → rf_key i p < rf_key (F r) (P r)) :
    wX_insert_56 post (nI i) (nI j) (nI p) (nI a) (nI n) (nI c) cu w af fi la st := by
  have hb := rf_bound S hn
  have q := rf_Run_p R hn
  refine pk_le a 0 (fun z => ?_) (fun z => ?_)
  · exact rf_xin87 hn S Rp R H ha (fun r hr => by omega) hhi
  · obtain ⟨b, rfl⟩ : ∃ b, a = b + 1 := ⟨a - 1, by omega⟩
    have Rb := S.1 b (by omega)
    have qb := rf_Run_p Rb hn
    obtain ⟨e1, e2, e3⟩ := Rp b (by omega)
    have in1 : vp_in (nI b) 100 := vp_in_nI (by omega) (by omega)
    have go : ¬ (F b = i ∧ P b = p) → wX_insert_87 post (nI i) (nI j) (nI p) (nI (b + 1)) (nI n) (nI c) cu w af fi la st := by
      intro ne
      refine rf_xin87 hn S Rp R H ha (fun r hr => ?_) hhi
      rcases Nat.lt_or_ge r b with hh | hh
      · have k1 := S.2 r b hh (by omega)
        have k2 := hlo b (by omega)
        omega
      · have er : r = b := by omega
        subst er
        have k2 := hlo r (by omega)
        rcases Nat.lt_or_ge (rf_key (F r) (P r)) (rf_key i p) with h1 | h1
        · exact h1
        · exact absurd (rf_key_inj (by omega) (by omega) (Nat.le_antisymm k2 h1)) ne
    rw [nI_pred b, nI_clamp (n := b) (by omega), e1, e3]
    refine ⟨in1, pk_eq (F b) i (fun f1 => ⟨in1, pk_eq (P b) p (fun f2 => ?_) (fun f2 => go fun z => f2 z.2)⟩) (fun f1 => go fun z => f1 z.1)⟩
    refine H c F E P fi la st S Rp (fun _ _ _ h => h) ⟨b, by omega, f1, ?_, f2⟩
    rw [f1, f2] at Rb
    exact rf_uniq_e Rb R
theorem rf_xin6 {post : SX → Prop} {fi la st : Nat → Int32} (hn : n ≤ 48) (S : rf_SR w n c F E P) (Rp : rf_Rp c fi la st F E P) (R : rf_Run w n i j p)
    (H : rf_InsK w n c F E P (fun c' g1 g2 g3 => post (nI n, nI c', cu, w, af, g1, g2, g3)) (fun c' F' E' P' => rf_Has c' F' E' P' i j p)) :
    ∀ f a, a < f → a ≤ c → (∀ r, a ≤ r → r < c → rf_key i p < rf_key (F r) (P r)) →
    wX_insert_6 post (nI i) (nI j) (nI p) (nI n) (nI c) cu w af fi la st f (nI a) := by
  have hb := rf_bound S hn
  have q := rf_Run_p R hn
  intro f
  induction f with
  | zero => intro a h1 _ _; omega
  | succ f ih =>
    intro a h1 h2 h3
    refine pk_le a 0 (fun z => ?_) (fun z => ?_)
    · exact rf_xin56 hn S Rp R H h2 (fun r hr => by omega) h3
    · obtain ⟨b, rfl⟩ : ∃ b, a = b + 1 := ⟨a - 1, by omega⟩
      have Rb := S.1 b (by omega)
      have qb := rf_Run_p Rb hn
      obtain ⟨e1, e2, e3⟩ := Rp b (by omega)
      have in1 : vp_in (nI b) 100 := vp_in_nI (by omega) (by omega)
      have go : rf_key (F b) (P b) ≤ rf_key i p → wX_insert_56 post (nI i) (nI j) (nI p) (nI (b + 1)) (nI n) (nI c) cu w af fi la st := by
        intro k1
        refine rf_xin56 hn S Rp R H h2 (fun r hr => ?_) h3
        rcases Nat.lt_or_ge r b with hh | hh
        · have k2 := S.2 r b hh (by omega)
          omega
        · rw [show r = b by omega]; exact k1
      have lp : rf_key i p < rf_key (F b) (P b) → wX_insert_6 post (nI i) (nI j) (nI p) (nI n) (nI c) cu w af fi la st f (nI b) := by
        intro k1
        refine ih b (by omega) (by omega) fun r r1 r2 => ?_
        rcases Nat.lt_or_ge b r with hh | hh
        · exact h3 r hh r2
        · rw [show r = b by omega]; exact k1
      rw [nI_pred b, nI_clamp (n := b) (by omega), e1, e3]
      refine ⟨in1, pk_lt i (F b) (fun f1 => nm_r (pk_m1 b) (lp (rf_key_lt (by omega) f1))) (fun f1 => ⟨in1, pk_eq (F b) i (fun f2 => ⟨in1, pk_le (P b) p (fun f3 => go ?_) (fun f3 => nm_r (pk_m1 b) (lp ?_))⟩) (fun f2 => go ?_)⟩)⟩
      · rw [f2]; exact rf_key_le f3
      · rw [f2]; exact rf_key_ltp f3
      · exact Nat.le_of_lt (rf_key_lt (by omega) (by omega))
theorem rf_xins {post : SX → Prop} {fi la st : Nat → Int32} (hn : n ≤ 48) (S : rf_SR w n c F E P) (Rp : rf_Rp c fi la st F E P) (R : rf_Run w n i j p)
    (H : rf_InsK w n c F E P (fun c' g1 g2 g3 => post (nI n, nI c', cu, w, af, g1, g2, g3)) (fun c' F' E' P' => rf_Has c' F' E' P' i j p)) :
    wpX_insert post (nI n, nI c, cu, w, af, fi, la, st) (nI i) (nI j) (nI p) :=
  ⟨c + 1, rf_xin6 hn S Rp R H (c + 1) c (by omega) (Nat.le_refl c) (fun r r1 r2 => by omega)⟩
theorem rf_xwid22 {post : SX → Prop} {fi la st : Nat → Int32} {k L : Nat} {rs : Bool} (hn : n ≤ 48) (S : rf_SR w n c F E P) (Rp : rf_Rp c fi la st F E P) (N : rf_NS (rf_tx w n rs) n i k) (hF : rf_FW w n i k L)
    (H : rf_InsK w n c F E P (fun c' g1 g2 g3 => post (nI n, nI c', cu, w, af, g1, g2, g3)) (fun c' F' E' P' => ∀ a e, rf_Run w n a e (k - i) → a ≤ i → k ≤ e + 1 → rf_Has c' F' E' P' a e (k - i))) :
    wX_widen_22 post (nI i) (nI k) (nI (k - i)) (nI L) (nI n) (nI c) cu w af fi la st := by
  have hik := N.1
  have hk := N.2.1
  have hL := hF.2.1
  refine rf_xbw hik (by omega) fun B hB => ?_
  have hB1 := hB.1
  rw [nI_add B L, pk_sub hB1, nI_add k L]
  refine pk_lt (B + L) (k - i) (fun z => ?_) (fun z => ?_)
  · exact H c F E P fi la st S Rp (fun _ _ _ h => h) fun a e R h1 h2 => absurd (rf_wid_comp hik hF hB R h1 h2).2.2 (by omega)
  · rw [show nI (k + L) - 1 = nI (k + L - 1) from pk_sub (b := 1) (by omega)]
    refine rf_xins hn S Rp (rf_wid_sound N hF hB z) fun c' F' E' P' g1 g2 g3 S' Rp' mono has => ?_
    refine H c' F' E' P' g1 g2 g3 S' Rp' mono fun a e R h1 h2 => ?_
    obtain ⟨ea, ee, _⟩ := rf_wid_comp hik hF hB R h1 h2
    rw [ea, ee]
    exact has
theorem rf_xwid {post : SX → Prop} {fi la st : Nat → Int32} {k : Nat} {rs : Bool} (hn : n ≤ 48) (S : rf_SR w n c F E P) (Rp : rf_Rp c fi la st F E P) (N : rf_NS (rf_tx w n rs) n i k)
    (H : rf_InsK w n c F E P (fun c' g1 g2 g3 => post (nI n, nI c', cu, w, af, g1, g2, g3)) (fun c' F' E' P' => ∀ a e, rf_Run w n a e (k - i) → a ≤ i → k ≤ e + 1 → rf_Has c' F' E' P' a e (k - i))) :
    wpX_widen post (nI n, nI c, cu, w, af, fi, la, st) (nI i) (nI k) := by
  have hik := N.1
  have hk := N.2.1
  refine nm_r (pk_sub (by omega)) (pk_le n k (fun z => ?_) (fun z => ?_))
  · have e : k = n := by omega
    subst e
    exact rf_xwid22 (L := 0) hn S Rp N ⟨by omega, by omega, fun u hu => by omega, fun _ h => by omega⟩ H
  · exact rf_xfw hn (by omega) (by omega) fun L hF => rf_xwid22 hn S Rp N hF H
/-- the roots of Q have given their runs -/
def rf_Dn (w : Nat → Int32) (n : Nat) (Q : Bool → Nat → Prop) (c : Nat) (F E P : Nat → Nat) : Prop :=
  ∀ rs m k a e, Q rs m → rf_NS (rf_tx w n rs) n m k → rf_Run w n a e (k - m) → a ≤ m → k ≤ e + 1 → rf_Has c F E P a e (k - m)
theorem rf_xre40 {post : SX → Prop} {J : Int32 → Int32 → Int32 → Int32 → (Nat → Int32) → (Nat → Int32) → (Nat → Int32) → (Nat → Int32) → (Nat → Int32) → Prop} {x1 : Int32} {rs : Bool} {Q : Bool → Nat → Prop} (hn : n ≤ 48) (hA : rf_Af w n rs af 0)
    (H : ∀ c F E P g1 g2 g3, rf_SR w n c F E P → rf_Rp c g1 g2 g3 F E P → rf_Dn w n (fun b m => Q b m ∨ (b = rs ∧ m < n)) c F E P → J (x1 + 1) (nI n) (nI c) cu w af g1 g2 g3) :
    ∀ f x c F E P g1 g2 g3, n + 1 ≤ x + f → x ≤ n → rf_SR w n c F E P → rf_Rp c g1 g2 g3 F E P → rf_Dn w n (fun b m => Q b m ∨ (b = rs ∧ m < x)) c F E P →
    wX_refresh_40 post J x1 f (nI x) (nI n) (nI c) cu w af g1 g2 g3 := by
  intro f
  induction f with
  | zero => intro x c F E P g1 g2 g3 h1 h2 _ _ _; omega
  | succ f ih =>
    intro x c F E P g1 g2 g3 h1 h2 S Rp D
    refine pk_le n x (fun z => ?_) (fun z => ?_)
    · have e : x = n := by omega
      subst e
      exact nm_e (H c F E P g1 g2 g3 S Rp D)
    · obtain ⟨k, e, N⟩ := hA x (Nat.zero_le x) z
      rw [nI_clamp (n := x) (by omega), e]
      refine ⟨vp_in_nI (by omega) (by omega), rf_xwid hn S Rp N fun c' F' E' P' h1' h2' h3' S' Rp' mono G => ?_⟩
      refine nm_r (nI_1 x) (ih (x + 1) c' F' E' P' h1' h2' h3' (by omega) (by omega) S' Rp' ?_)
      intro b m k' a d hQ N' R' l1 l2
      by_cases hx : b = rs ∧ m = x
      · obtain ⟨rfl, rfl⟩ := hx
        have ek := rf_NS_uniq N' N
        subst ek
        exact G a d R' l1 l2
      · refine mono _ _ _ (D b m k' a d ?_ N' R' l1 l2)
        rcases hQ with hQ | ⟨hQ, hm⟩
        · exact Or.inl hQ
        · exact Or.inr ⟨hQ, by
            have : m ≠ x := fun z => hx ⟨hQ, z⟩
            omega⟩
theorem rf_xre35 {post : SX → Prop} {J : Int32 → Int32 → Int32 → Int32 → (Nat → Int32) → (Nat → Int32) → (Nat → Int32) → (Nat → Int32) → (Nat → Int32) → Prop} {x1 : Int32} {rs : Bool} {Q : Bool → Nat → Prop} {fi la st : Nat → Int32} (hn : n ≤ 48)
    (S : rf_SR w n c F E P) (Rp : rf_Rp c fi la st F E P) (D : rf_Dn w n Q c F E P)
    (H : ∀ c F E P a g1 g2 g3, rf_SR w n c F E P → rf_Rp c g1 g2 g3 F E P → rf_Dn w n (fun b m => Q b m ∨ (b = rs ∧ m < n)) c F E P → J (x1 + 1) (nI n) (nI c) cu w a g1 g2 g3) :
    wX_refresh_35 post J x1 (rf_b rs) (nI n) (nI c) cu w af fi la st := by
  refine rf_xfe hn fun a hA => ⟨n + 1, ?_⟩
  refine rf_xre40 hn hA (fun c F E P g1 g2 g3 => H c F E P a g1 g2 g3) (n + 1) 0 c F E P fi la st (by omega) (by omega) S Rp ?_
  intro b m k x y hQ
  refine D b m k x y ?_
  rcases hQ with hQ | ⟨_, hQ⟩
  · exact hQ
  · omega
/-- the component's list of runs, if it is current -/
def rf_St (w : Nat → Int32) (n : Nat) (rc cu : Int32) (fi la st : Nat → Int32) : Prop :=
  cu = 0 ∨ (cu = 1 ∧ ∃ c F E P, rc = nI c ∧ rf_Ful w n c F E P ∧ rf_Rp c fi la st F E P)
theorem rf_xref {post : SX → Prop} {rc : Int32} {fi la st : Nat → Int32} (hn : n ≤ 48) (hS : rf_St w n rc cu fi la st)
    (H : ∀ c F E P a g1 g2 g3, rf_Ful w n c F E P → rf_Rp c g1 g2 g3 F E P → post (nI n, nI c, 1, w, a, g1, g2, g3)) :
    wpX_refresh post (nI n, rc, cu, w, af, fi, la, st) := by
  rcases hS with h | ⟨h, c, F, E, P, e, hF, hR⟩
  · refine br_t h ⟨3, ?_⟩
    refine br_f (by decide) (br_t rfl ?_)
    refine rf_xre35 (rs := true) (c := 0) (F := fun _ => 0) (E := fun _ => 0) (P := fun _ => 0) (Q := fun _ _ => False) hn ⟨fun r hr => by omega, fun r s _ hs => by omega⟩ (fun r hr => by omega) (fun _ _ _ _ _ hQ => hQ.elim) ?_
    intro c F E P a g1 g2 g3 S Rp D
    refine br_f (by decide) (br_f (by decide) ?_)
    refine rf_xre35 (rs := false) hn S Rp D ?_
    intro c F E P a g1 g2 g3 S Rp D
    refine br_t (by decide) (H c F E P a g1 g2 g3 ⟨S, fun i j p R => ?_⟩ Rp)
    obtain ⟨rs, m, m1, m2, N⟩ := rf_lyn R
    have e : m + p - m = p := by omega
    have hp := R.1
    have hm := N.2.1
    have h := D rs m (m + p) i j (by cases rs <;> simp <;> omega) N (by rw [e]; exact R) m1 m2
    rw [e] at h
    exact h
  · subst h e
    exact br_f (by decide) (H c F E P af fi la st hF hR)
end
end
section
section
variable {fo : Int32} {w cp fi la le : Nat → Int32} {n : Nat}
theorem rf_ysh2 {post : Int32 → Prop} {i k : Nat} (hn : n ≤ 48) (H : ∀ L, rf_FW w n i k L → post (nI L)) : ∀ f x, n + 1 ≤ x + f → (∀ u, u < x → w (i + u) = w (k + u)) → i + x ≤ n → k + x ≤ n →
    wY_shared_2 post (nI i) (nI k) (nI n) fo w cp fi la le f (nI x) := by
  intro f
  induction f with
  | zero => intro x h1 _ h2 _; omega
  | succ f ih =>
    intro x h1 h2 h3 h4
    refine pk_le n (i + x) (fun a => H x ⟨h3, h4, h2, fun b _ => by omega⟩) (fun a => ?_) rfl (nI_add i x)
    refine pk_le n (k + x) (fun b => H x ⟨h3, h4, h2, fun _ b => by omega⟩) (fun b => ?_) rfl (nI_add k x)
    refine ⟨pk_in (i + x) 48 (by omega) (nI_add i x), pk_in (k + x) 48 (by omega) (nI_add k x), ?_⟩
    rw [nI_add i x, nI_add k x, nI_clamp (n := i + x) (by omega), nI_clamp (n := k + x) (by omega)]
    refine br_c (fun e => nm_r (nI_1 x) (ih (x + 1) (by omega) (fun u hu => ?_) (by omega) (by omega))) (fun e => H x ⟨h3, h4, h2, fun _ _ => e⟩)
    rcases Nat.lt_or_ge u x with hh | hh
    · exact h2 u hh
    · rw [show u = x by omega]; exact e
theorem rf_ysh {post : Int32 → Prop} {i k : Nat} (hn : n ≤ 48) (hi : i ≤ n) (hk : k ≤ n) (H : ∀ L, rf_FW w n i k L → post (nI L)) :
    wpY_shared post (nI n, fo, w, cp, fi, la, le) (nI i) (nI k) :=
  ⟨n + 1, rf_ysh2 hn H (n + 1) 0 (by omega) (fun u hu => by omega) hi hk⟩
theorem rf_yns {post : Int32 → Prop} {i : Nat} (hn : n ≤ 48) (hi : i < n) (H : ∀ k, rf_NS (rf_tx w n true) n i k → post (nI k)) :
    ∀ f k, n + 1 ≤ k + f → i < k → k ≤ n → (∀ m, i < m → m < k → rf_SL (rf_tx w n true) i m) →
    wY_nextSmaller_14 post (nI i) (nI n) fo w cp fi la le f (nI k) := by
  intro f
  induction f with
  | zero => intro k h1 h2 h3 _; omega
  | succ f ih =>
    intro k h1 h2 h3 h4
    refine pk_le n k (fun b => ?_) (fun b => ?_)
    · have e : k = n := by omega
      subst e
      exact H k ⟨hi, h3, rf_SL_end hi, h4⟩
    · refine rf_ysh hn (by omega) h3 fun L hF => ?_
      have hF' := rf_FW_symm hF
      obtain ⟨f1, f2, f3, f4⟩ := hF
      rw [nI_add k L, nI_add i L, nI_clamp (n := k + L) (by omega), nI_clamp (n := i + L) (by omega)]
      refine pk_eq (k + L) n (fun a => ?_) (fun a => ?_)
      · refine H k ⟨h2, h3, rf_SL_of hF' f2 f1 ?_, h4⟩
        rw [rf_tx_out (by omega)]
        exact rf_tx_lo (by omega)
      · have ne := f4 (by omega) (by omega)
        refine ⟨vp_in_nI (by omega) (by omega), vp_in_nI (by omega) (by omega), br_c (fun h => nm_r (nI_1 k) (ih (k + 1) (by omega) (by omega) (by omega) fun m m1 m2 => ?_)) (fun h => H k ⟨h2, h3, rf_SL_of hF' f2 f1 ?_, h4⟩)⟩
        · rcases Nat.lt_or_ge m k with hh | hh
          · exact h4 m m1 hh
          · rw [show m = k by omega]
            refine rf_SL_of ⟨f1, f2, f3, f4⟩ f1 f2 ?_
            rw [rf_tx_t (by omega), rf_tx_t (by omega)]
            exact rf_i32 ne h
        · rw [rf_tx_t (by omega), rf_tx_t (by omega)]
          exact rf_i32n h
theorem rf_yhp14 {post : Int32 → Prop} {i j p : Nat} (hj : j < 48) (H1 : rf_Per w i j p → post 1) (H0 : ¬ rf_Per w i j p → post 0) : ∀ f x, j + 1 < x + p + f → i ≤ x → x + p ≤ j + 1 → (∀ k, i ≤ k → k < x → w k = w (k + p)) →
    wY_hasPeriod_14 post (nI j) (nI p) (nI n) fo w cp fi la le f (nI x) := by
  intro f
  induction f with
  | zero => intro x h1 h2 h3 _; omega
  | succ f ih =>
    intro x h1 h2 h3 h4
    refine pk_lt j (x + p) (fun a => H1 fun k k1 k2 => h4 k k1 (by omega)) (fun a => ?_) rfl (nI_add x p)
    refine pk_le 48 (x + p) (fun b => by omega) (fun b => ?_) rfl (nI_add x p)
    refine ⟨pk_in x 48 (by omega), pk_in (x + p) 48 (by omega) (nI_add x p), ?_⟩
    rw [nI_add x p, nI_clamp (n := x + p) (by omega), nI_clamp (n := x) (by omega)]
    refine br_c (fun e => nm_r (nI_1 x) (ih (x + 1) (by omega) (by omega) (by omega) fun k k1 k2 => ?_)) (fun e => H0 fun hp => e (hp x h2 a))
    rcases Nat.lt_or_ge k x with hh | hh
    · exact h4 k k1 hh
    · rw [show k = x by omega]; exact e
theorem rf_len {i j : Nat} (h : i ≤ j) : nI j - nI i + 1 = nI (j + 1 - i) := by
  rw [pk_sub h, nI_1]
  exact congrArg nI (by omega)
theorem rf_yhp {post : Int32 → Prop} {i j p : Nat} (hj : j < 48) (hij : i ≤ j) (hp : p ≤ 48) (H1 : i + p ≤ j + 1 → rf_Per w i j p → post 1) (H0 : (i + p ≤ j + 1 → ¬ rf_Per w i j p) → post 0) :
    wpY_hasPeriod post (nI n, fo, w, cp, fi, la, le) (nI i) (nI j) (nI p) := by
  refine pk_le p (j + 1 - i) (fun a => ⟨j + 2, ?_⟩) (fun a => H0 fun z => by omega) rfl (rf_len hij)
  exact rf_yhp14 hj (H1 (by omega)) (fun z => H0 fun _ => z) (j + 2) i (by omega) (Nat.le_refl i) (by omega) (fun k k1 k2 => by omega)
theorem rf_ylp2 {post : Int32 → Prop} {i j : Nat} (hj : j < 48) (hij : i ≤ j) (H : ∀ p, rf_Lp w i j p → i + p ≤ j + 1 → post (nI p)) : ∀ f p, 50 ≤ p + f → 1 ≤ p → i + p ≤ j + 1 → (∀ q, 1 ≤ q → q < p → ¬ rf_Per w i j q) →
    wY_leastPeriod_2 post (nI i) (nI j) (nI n) fo w cp fi la le f (nI p) := by
  intro f
  induction f with
  | zero => intro p h1 h2 h3 _; omega
  | succ f ih =>
    intro p h1 h2 h3 h4
    refine pk_lt 48 p (fun a => by omega) (fun a => ?_)
    refine rf_yhp hj hij (by omega) (fun _ b => br_f (by decide) (H p ⟨h2, b, h4⟩ h3)) (fun b => br_t rfl (nm_r (nI_1 p) (ih (p + 1) (by omega) (by omega) ?_ fun q q1 q2 => ?_)))
    · rcases Nat.lt_or_ge (i + p) (j + 1) with hh | hh
      · omega
      · exact absurd (fun k k1 k2 => by omega) (b h3)
    · rcases Nat.lt_or_ge q p with hh | hh
      · exact h4 q q1 hh
      · rw [show q = p by omega]; exact b h3
theorem rf_ylp {post : Int32 → Prop} {i j : Nat} (hj : j < 48) (hij : i ≤ j) (H : ∀ p, rf_Lp w i j p → i + p ≤ j + 1 → post (nI p)) :
    wpY_leastPeriod post (nI n, fo, w, cp, fi, la, le) (nI i) (nI j) :=
  ⟨50, rf_ylp2 hj hij H 50 1 (by omega) (by omega) (by omega) (fun q q1 q2 => by omega)⟩
theorem rf_yrf83 {post : Int32 → Prop} {i p j : Nat} (hn : n ≤ 48) (H1 : ∀ j, rf_Run w n i j p → post (nI j)) (H0 : (∀ j, ¬ rf_Run w n i j p) → post (-1))
    (hp : 1 ≤ p) (h2 : i + 2 * p ≤ j + 1) (hj : j < n) (hP : rf_Per w i j p) (hL : ∀ x, x + 1 = i → w x ≠ w (x + p)) (hR : j + 1 < n → w (j + 1) ≠ w (j + 1 - p)) :
    wY_runFrom_83 post (nI i) (nI p) (nI j) (nI n) fo w cp fi la le := by
  refine rf_ylp (by omega) (by omega) fun q hq hq2 => pk_eq q p (fun e => ?_) (fun e => H0 fun j' R' => ?_)
  · subst e
    exact H1 j ⟨hp, h2, hj, hP, hq.2.2, hL, hR⟩
  · obtain ⟨r1, r2, r3, r4, r5, r6, r7⟩ := R'
    rcases Nat.lt_trichotomy j' j with hh | hh | hh
    · have e1 := hP (j' + 1 - p) (by omega) (by omega)
      rw [show j' + 1 - p + p = j' + 1 by omega] at e1
      exact r7 (by omega) e1.symm
    · subst hh
      exact e (rf_Lp_uniq hq ⟨r1, r4, r5⟩)
    · have e1 := r4 (j + 1 - p) (by omega) (by omega)
      rw [show j + 1 - p + p = j + 1 by omega] at e1
      exact hR (by omega) e1.symm
theorem rf_yrf55 {post : Int32 → Prop} {i p : Nat} (hn : n ≤ 48) (H1 : ∀ j, rf_Run w n i j p → post (nI j)) (H0 : (∀ j, ¬ rf_Run w n i j p) → post (-1))
    (hp : 1 ≤ p) (hL : ∀ x, x + 1 = i → w x ≠ w (x + p)) : ∀ f j, n ≤ j + f → i + 2 * p ≤ j + 1 → j < n → rf_Per w i j p →
    wY_runFrom_55 post (nI i) (nI p) (nI n) fo w cp fi la le f (nI j) := by
  intro f
  induction f with
  | zero => intro j h1 h2 h3 _; omega
  | succ f ih =>
    intro j h1 h2 h3 h4
    refine pk_le n (j + 1) (fun a => ?_) (fun a => ?_) rfl (nI_1 j)
    · exact rf_yrf83 hn H1 H0 hp h2 h3 h4 hL fun z => by omega
    · rw [nI_1 j]
      refine rf_yhp (by omega) (by omega) (by omega) (fun b d => br_f (by decide) (nm_e (ih (j + 1) (by omega) (by omega) a d))) (fun b => br_t rfl ?_)
      refine rf_yrf83 hn H1 H0 hp h2 h3 h4 hL fun _ z => b (by omega) fun k k1 k2 => ?_
      rcases Nat.lt_or_ge j (k + p) with hh | hh
      · have e1 : k + p = j + 1 := by omega
        rw [e1, z]
        exact congrArg w (by omega)
      · exact h4 k k1 hh
theorem rf_e2 {i p : Nat} (hp : 1 ≤ p) : (nI i + 2 * nI p) - 1 = nI (i + 2 * p - 1) := by
  rw [show (2 : Int32) = nI 2 from rfl, pk_mul, nI_add]
  exact pk_sub (b := 1) (by omega)
theorem rf_yrf {post : Int32 → Prop} {i p : Nat} (hn : n ≤ 48) (hi : i < n) (hp : 1 ≤ p) (hp2 : p ≤ 24) (H1 : ∀ j, rf_Run w n i j p → post (nI j)) (H0 : (∀ j, ¬ rf_Run w n i j p) → post (-1)) :
    wpY_runFrom post (nI n, fo, w, cp, fi, la, le) (nI i) (nI p) := by
  refine nm_r (rf_e2 hp) (pk_le n (i + 2 * p - 1) (fun a => ?_) (fun a => ?_))
  · exact H0 fun j R => by
      have r2 := R.2.1
      have r3 := R.2.2.1
      omega
  · refine rf_yhp (by omega) (by omega) (by omega) (fun b d => br_f (by decide) ?_) (fun b => br_t rfl (H0 fun j R => ?_))
    · refine pk_le i 0 (fun z => ⟨n, ?_⟩) (fun z => ?_)
      · exact rf_yrf55 hn H1 H0 hp (fun x hx => by omega) n (i + 2 * p - 1) (by omega) (by omega) a d
      · obtain ⟨x, rfl⟩ : ∃ x, i = x + 1 := ⟨i - 1, by omega⟩
        rw [nI_pred x, nI_add x p, nI_clamp (n := x) (by omega), nI_clamp (n := x + p) (by omega)]
        refine ⟨vp_in_nI (by omega) (by omega), vp_in_nI (by omega) (by omega), br_c (fun e => H0 fun j R => ?_) (fun e => ⟨n, ?_⟩)⟩
        · exact R.2.2.2.2.2.1 x rfl e
        · exact rf_yrf55 hn H1 H0 hp (fun y hy => by rw [show y = x by omega]; exact e) n (x + 1 + 2 * p - 1) (by omega) (by omega) a d
    · have r2 := R.2.1
      exact b (by omega) (rf_Per_sub R.2.2.2.1 (Nat.le_refl i) (by omega))
/-- the list holds the runs before (i, p) -/
def rf_Yi (w : Nat → Int32) (n i p c : Nat) (F E P : Nat → Nat) : Prop :=
  rf_SR w n c F E P ∧ (∀ r, r < c → rf_key (F r) (P r) < rf_key i p) ∧ ∀ a e q, rf_Run w n a e q → (a < i ∨ (a = i ∧ q < p)) → rf_Has c F E P a e q
theorem rf_yl17 {post : SY → Prop} {J : Int32 → Int32 → (Nat → Int32) → (Nat → Int32) → (Nat → Int32) → (Nat → Int32) → (Nat → Int32) → Prop} {i : Nat} (hn : n ≤ 48) (hi : i < n)
    (H : ∀ c F E P g1 g2 g3, rf_Yi w n (i + 1) 1 c F E P → rf_Rp c g1 g2 g3 F E P → J (nI (i + 1)) (nI c) w cp g1 g2 g3) :
    ∀ f p c F E P g1 g2 g3, 26 ≤ p + f → 1 ≤ p → p ≤ 25 → rf_Yi w n i p c F E P → rf_Rp c g1 g2 g3 F E P →
    wY_list_17 post J (nI i) (nI n) f (nI p) (nI c) w cp g1 g2 g3 := by
  intro f
  induction f with
  | zero => intro p c F E P g1 g2 g3 h1 h2 h3 _ _; omega
  | succ f ih =>
    intro p c F E P g1 g2 g3 h1 h2 h3 Y Rp
    obtain ⟨S, B, U⟩ := Y
    refine pk_lt 24 p (fun a => ?_) (fun a => ?_)
    · have e : p = 25 := by omega
      subst e
      refine nm_r (nI_1 i) (H c F E P g1 g2 g3 ⟨S, fun r hr => ?_, fun a e q R h => U a e q R ?_⟩ Rp)
      · have b := B r hr
        unfold rf_key at b ⊢
        omega
      · have q1 := rf_Run_p R hn
        omega
    · refine rf_yrf hn hi h2 a (fun j R => br_f (nI_pos (by have := R.2.2.1; omega)) ?_) (fun nR => br_t (by decide) (nm_r (nI_1 p) (ih (p + 1) c F E P g1 g2 g3 (by omega) (by omega) (by omega) ⟨S, fun r hr => ?_, fun a e q R h => ?_⟩ Rp)))
      · have S' := rf_ins S R (Nat.le_refl c) B (fun r r1 r2 => by omega)
        have hb := rf_bound S' hn
        have in1 : vp_in (nI c) 96 := vp_in_nI (by omega) (by omega)
        rw [nI_clamp (n := c) (by omega)]
        refine pk_le 96 c (fun z => by omega) (fun z => ⟨in1, nm_e ⟨in1, nm_e ⟨in1, nm_e (nm_r (nI_1 c) (nm_r (nI_1 p) (ih (p + 1) (c + 1) _ _ _ _ _ _ (by omega) (by omega) (by omega) ⟨S', fun r hr => ?_, fun a e q R' h => ?_⟩ fun r hr => ?_)))⟩⟩⟩)
        · rcases Nat.lt_or_ge r c with hh | hh
          · rw [rf_put_lt hh, rf_put_lt hh]
            exact Nat.lt_trans (B r hh) (rf_key_ltp (by omega))
          · have er : r = c := by omega
            subst er
            rw [rf_put_eq, rf_put_eq]
            exact rf_key_ltp (by omega)
        · by_cases hx : a = i ∧ q = p
          · obtain ⟨rfl, rfl⟩ := hx
            rw [rf_uniq_e R' R]
            exact rf_has_new (Nat.le_refl c)
          · exact rf_has_old (U a e q R' (by omega))
        · rcases Nat.lt_or_ge r c with hh | hh
          · rw [rf_put_lt hh, rf_put_lt hh, rf_put_lt hh, pk_un (by omega), pk_un (by omega), pk_un (by omega)]
            exact Rp r hh
          · have er : r = c := by omega
            subst er
            rw [rf_put_eq, rf_put_eq, rf_put_eq, pk_us, pk_us, pk_us]
            exact ⟨rfl, rfl, rfl⟩
      · exact Nat.lt_trans (B r hr) (rf_key_ltp (by omega))
      · by_cases hx : a = i ∧ q = p
        · obtain ⟨rfl, rfl⟩ := hx
          exact absurd R (nR e)
        · exact U a e q R (by omega)
theorem rf_yl7 {post : SY → Prop} (hn : n ≤ 48) (H : ∀ c F E P g1 g2 g3, rf_Ful w n c F E P → rf_Rp c g1 g2 g3 F E P → post (nI n, nI c, w, cp, g1, g2, g3)) :
    ∀ f i c F E P g1 g2 g3, n + 1 ≤ i + f → i ≤ n → rf_Yi w n i 1 c F E P → rf_Rp c g1 g2 g3 F E P →
    wY_list_7 post (nI n) f (nI i) (nI c) w cp g1 g2 g3 := by
  intro f
  induction f with
  | zero => intro i c F E P g1 g2 g3 h1 h2 _ _; omega
  | succ f ih =>
    intro i c F E P g1 g2 g3 h1 h2 Y Rp
    refine pk_le n i (fun a => ?_) (fun a => ⟨26, ?_⟩)
    · refine H c F E P g1 g2 g3 ⟨Y.1, fun x y z R => Y.2.2 x y z R (Or.inl ?_)⟩ Rp
      have r := rf_Run_p R hn
      omega
    · exact rf_yl17 hn a (fun c F E P g1 g2 g3 Y Rp => ih (i + 1) c F E P g1 g2 g3 (by omega) (by omega) Y Rp) 26 1 c F E P g1 g2 g3 (by omega) (by omega) (by omega) Y Rp
theorem rf_ylist {post : SY → Prop} (hn : n ≤ 48) (H : ∀ c F E P g1 g2 g3, rf_Ful w n c F E P → rf_Rp c g1 g2 g3 F E P → post (nI n, nI c, w, cp, g1, g2, g3)) :
    wpY_list post (nI n, fo, w, cp, fi, la, le) :=
  ⟨n + 1, rf_yl7 hn H (n + 1) 0 0 (fun _ => 0) (fun _ => 0) (fun _ => 0) fi la le (by omega) (by omega) ⟨⟨fun r hr => by omega, fun r s _ hs => by omega⟩, fun r hr => by omega, fun a e q R h => by have r1 := R.1; exfalso; omega⟩ (fun r hr => by omega)⟩
end
end
section
section
variable {rc cu : Int32} {w af fi la st : Nat → Int32} {n c : Nat} {F E P : Nat → Nat}
theorem rf_xra18 {post : Int32 → SX → Prop} {a : Nat} (hn : n ≤ 48) (h : rf_Ful w n c F E P) (Rp : rf_Rp c fi la st F E P) (ha : a < n)
    (H : post (nI (rf_sm (fun r => rf_i (F r ≤ a ∧ a ≤ E r)) c)) (nI n, nI c, cu, w, af, fi, la, st)) : ∀ f r, c + 1 ≤ r + f → r ≤ c →
    wX_runsAt_18 post (nI a) (nI n) (nI c) cu w af fi la st f (nI (rf_sm (fun r => rf_i (F r ≤ a ∧ a ≤ E r)) r)) (nI r) := by
  have hb := rf_bound h.1 hn
  intro f
  induction f with
  | zero => intro r h1 h2; omega
  | succ f ih =>
    intro r h1 h2
    refine pk_le c r (fun z => ?_) (fun z => ?_)
    · rw [show r = c by omega]; exact H
    · have q := rf_Run_p (h.1.1 r z) hn
      obtain ⟨e1, e2, e3⟩ := Rp r z
      have in1 : vp_in (nI r) 100 := vp_in_nI (by omega) (by omega)
      have K := ih (r + 1) (by omega) (by omega)
      rw [rf_sm_s] at K
      rw [nI_clamp (n := r) (by omega), e1, e2]
      refine ⟨in1, pk_lt a (F r) (fun f1 => nm_r (nI_1 r) ?_) (fun f1 => ⟨in1, pk_lt (E r) a (fun f2 => nm_r (nI_1 r) ?_) (fun f2 => nm_r (nI_1 _) (nm_r (nI_1 r) ?_))⟩)⟩
      · rw [rf_i_f (by omega)] at K; exact K
      · rw [rf_i_f (by omega)] at K; exact K
      · rw [rf_i_t ⟨f1, f2⟩] at K; exact K
theorem rf_xsf18 {post : Int32 → SX → Prop} {a : Nat} (hn : n ≤ 48) (h : rf_Ful w n c F E P) (Rp : rf_Rp c fi la st F E P) (ha : a < n)
    (H : post (nI (rf_sm (fun r => rf_i (F r ≤ a ∧ a + 2 * P r ≤ E r + 1)) c)) (nI n, nI c, cu, w, af, fi, la, st)) : ∀ f r, c + 1 ≤ r + f → r ≤ c →
    wX_squaresFrom_18 post (nI a) (nI n) (nI c) cu w af fi la st f (nI (rf_sm (fun r => rf_i (F r ≤ a ∧ a + 2 * P r ≤ E r + 1)) r)) (nI r) := by
  have hb := rf_bound h.1 hn
  intro f
  induction f with
  | zero => intro r h1 h2; omega
  | succ f ih =>
    intro r h1 h2
    refine pk_le c r (fun z => ?_) (fun z => ?_)
    · rw [show r = c by omega]; exact H
    · have q := rf_Run_p (h.1.1 r z) hn
      obtain ⟨e1, e2, e3⟩ := Rp r z
      have in1 : vp_in (nI r) 100 := vp_in_nI (by omega) (by omega)
      have K := ih (r + 1) (by omega) (by omega)
      rw [rf_sm_s] at K
      rw [nI_clamp (n := r) (by omega), e1, e2, e3, rf_e2 q.1]
      refine ⟨in1, pk_lt a (F r) (fun f1 => nm_r (nI_1 r) ?_) (fun f1 => ⟨in1, in1, pk_lt (E r) (a + 2 * P r - 1) (fun f2 => nm_r (nI_1 r) ?_) (fun f2 => nm_r (nI_1 _) (nm_r (nI_1 r) ?_))⟩)⟩
      · rw [rf_i_f (by omega)] at K; exact K
      · rw [rf_i_f (by omega)] at K; exact K
      · rw [rf_i_t ⟨f1, by omega⟩] at K; exact K
theorem rf_2m (a : Nat) : (2 : Int32) * nI a = nI (2 * a) := pk_mul 2 a
theorem rf_xsq42 {post : Int32 → SX → Prop} {J : Int32 → Int32 → Prop} {r s0 S p : Nat} (hr : r < 100) (hS : S ≤ 48) (hp : 1 ≤ p) (hst : st r = nI p)
    (H : J (nI (s0 + rf_sm (fun Q => rf_T S p Q) 25)) (nI (r + 1))) : ∀ f k, 26 ≤ k + f → 1 ≤ k → k ≤ 25 → p * k ≤ 60 →
    wX_squares_42 post J (nI r) (nI S) (nI n) rc cu w af fi la st f (nI (s0 + rf_sm (fun Q => rf_T S p Q) (p * k))) (nI (2 * (p * k))) := by
  intro f
  induction f with
  | zero => intro k h1 h2 h3 _; omega
  | succ f ih =>
    intro k h1 h2 h3 h4
    have hpk : k ≤ p * k := Nat.le_mul_of_pos_left k hp
    have hpp : p ≤ p * k := Nat.le_mul_of_pos_right p h2
    refine pk_lt S (2 * (p * k)) (fun z => ?_) (fun z => ?_)
    · refine nm_r (nI_1 r) ?_
      rw [rf_T_end hS z]
      exact H
    · have e2 : nI (s0 + rf_sm (fun Q => rf_T S p Q) (p * k)) + (nI S - nI (2 * (p * k)) + 1) = nI (s0 + rf_sm (fun Q => rf_T S p Q) (p * (k + 1))) := by
        rw [pk_sub z, nI_1, nI_add, rf_T_step hp h2 z]
        exact congrArg nI (by omega)
      have e3 : nI (2 * (p * k)) + 2 * nI p = nI (2 * (p * (k + 1))) := by
        rw [rf_2m, nI_add, Nat.mul_succ]
        exact congrArg nI (by omega)
      refine nm_r e2 ⟨vp_in_nI hr (by omega), ?_⟩
      rw [nI_clamp (n := r) (by omega), hst]
      refine nm_r e3 (ih (k + 1) (by omega) (by omega) (by omega) ?_)
      rw [Nat.mul_succ]
      omega
theorem rf_xsq8 {post : Int32 → SX → Prop} (hn : n ≤ 48) (h : rf_Ful w n c F E P) (Rp : rf_Rp c fi la st F E P)
    (H : post (nI (rf_sm (fun r => rf_sm (fun Q => rf_T (E r + 1 - F r) (P r) Q) 25) c)) (nI n, nI c, cu, w, af, fi, la, st)) : ∀ f r, c + 1 ≤ r + f → r ≤ c →
    wX_squares_8 post (nI n) (nI c) cu w af fi la st f (nI (rf_sm (fun r => rf_sm (fun Q => rf_T (E r + 1 - F r) (P r) Q) 25) r)) (nI r) := by
  have hb := rf_bound h.1 hn
  intro f
  induction f with
  | zero => intro r h1 h2; omega
  | succ f ih =>
    intro r h1 h2
    refine pk_le c r (fun z => ?_) (fun z => ?_)
    · rw [show r = c by omega]; exact H
    · have q := rf_Run_p (h.1.1 r z) hn
      obtain ⟨e1, e2, e3⟩ := Rp r z
      have in1 : vp_in (nI r) 100 := vp_in_nI (by omega) (by omega)
      have K := ih (r + 1) (by omega) (by omega)
      rw [rf_sm_s] at K
      rw [nI_clamp (n := r) (by omega), e1, e2, e3, rf_len (by omega), rf_2m]
      refine ⟨in1, in1, nm_e ⟨in1, nm_e ⟨26, ?_⟩⟩⟩
      have L := rf_xsq42 (post := post) (rc := nI c) (cu := cu) (w := w) (af := af) (fi := fi) (la := la) (n := n) (s0 := rf_sm (fun r => rf_sm (fun Q => rf_T (E r + 1 - F r) (P r) Q) 25) r) (by omega) (show E r + 1 - F r ≤ 48 by omega) q.1 e3 K 26 1 (by omega) (by omega) (by omega) (by omega)
      rw [rf_T_first, Nat.mul_one, Nat.add_zero] at L
      exact L
theorem rf_xpo32 {post : Int32 → SX → Prop} {i j : Nat} (hn : n ≤ 48) (h : rf_Ful w n c F E P) (Rp : rf_Rp c fi la st F E P) (hij : i ≤ j) (hj : j < n)
    (H : ∀ b, rf_PO F E P i j c b → b ≤ 24 → post (nI b) (nI n, nI c, cu, w, af, fi, la, st)) : ∀ f r b, c + 1 ≤ r + f → r ≤ c → b ≤ 24 → rf_PO F E P i j r b →
    wX_periodOf_32 post (nI i) (nI j) (nI n) (nI c) cu w af fi la st f (nI b) (nI r) := by
  have hb := rf_bound h.1 hn
  intro f
  induction f with
  | zero => intro r b h1 h2; omega
  | succ f ih =>
    intro r b h1 h2 h3 h4
    refine pk_le c r (fun z => ?_) (fun z => ?_)
    · have e : r = c := by omega
      subst e
      exact H b h4 h3
    · have q := rf_Run_p (h.1.1 r z) hn
      obtain ⟨e1, e2, e3⟩ := Rp r z
      have in1 : vp_in (nI r) 100 := vp_in_nI (by omega) (by omega)
      have skip : ¬ (F r ≤ i ∧ j ≤ E r ∧ i + 2 * P r ≤ j + 1) → wX_periodOf_32 post (nI i) (nI j) (nI n) (nI c) cu w af fi la st f (nI b) (nI (r + 1)) :=
        fun hc => ih (r + 1) b (by omega) (by omega) h3 (rf_PO_skip h4 hc)
      have keep : b ≠ 0 → b ≤ P r → wX_periodOf_32 post (nI i) (nI j) (nI n) (nI c) cu w af fi la st f (nI b) (nI (r + 1)) :=
        fun h5 h6 => ih (r + 1) b (by omega) (by omega) h3 (rf_PO_keep h4 h5 h6)
      have take : (F r ≤ i ∧ j ≤ E r ∧ i + 2 * P r ≤ j + 1) → (b = 0 ∨ P r ≤ b) → wX_periodOf_32 post (nI i) (nI j) (nI n) (nI c) cu w af fi la st f (nI (P r)) (nI (r + 1)) :=
        fun hc h6 => ih (r + 1) (P r) (by omega) (by omega) (by omega) (rf_PO_take h4 hc q.1 h6)
      have k67 : ¬ (F r ≤ i ∧ j ≤ E r ∧ i + 2 * P r ≤ j + 1) → wX_periodOf_67 post (wX_periodOf_32 post (nI i) (nI j) (nI n) (nI c) cu w af fi la st f) (nI i) (nI j) (nI b) (nI r) (nI n) (nI c) cu w af fi la st :=
        fun hc => br_t rfl (nm_r (nI_1 r) (skip hc))
      have k68 : F r ≤ i → j ≤ E r → wX_periodOf_68 post (wX_periodOf_32 post (nI i) (nI j) (nI n) (nI c) cu w af fi la st f) (nI i) (nI j) (nI b) (nI r) 1 (nI n) (nI c) cu w af fi la st := by
        intro g1 g2
        unfold wX_periodOf_68
        rw [nI_clamp (n := r) (by omega), e3, rf_2m, rf_len hij]
        refine br_f (by decide) ⟨in1, pk_lt (j + 1 - i) (2 * P r) (fun f1 => nm_r (nI_1 r) (skip (by omega))) (fun f1 => pk_eq b 0 (fun f2 => ⟨in1, nm_e (nm_r (nI_1 r) (take ⟨g1, g2, by omega⟩ (Or.inl f2)))⟩) (fun f2 => ⟨in1, pk_le b (P r) (fun f3 => nm_r (nI_1 r) (keep f2 f3)) (fun f3 => ⟨in1, nm_e (nm_r (nI_1 r) (take ⟨g1, g2, by omega⟩ (Or.inr (by omega))))⟩)⟩))⟩
      rw [nI_clamp (n := r) (by omega), e1, e2]
      exact ⟨in1, pk_lt i (F r) (fun f1 => k67 (by omega)) (fun f1 => ⟨in1, pk_lt (E r) j (fun f2 => k67 (by omega)) (fun f2 => k68 f1 f2)⟩)⟩
theorem rf_mx_t {f : Nat → Nat} {c : Nat} (h : f c ≤ rf_mx f c) : rf_mx f (c + 1) = rf_mx f c := by rw [rf_mx_s, if_pos h]
theorem rf_mx_f {f : Nat → Nat} {c : Nat} (h : rf_mx f c < f c) : rf_mx f (c + 1) = f c := by rw [rf_mx_s, if_neg (by omega)]
theorem rf_xlo8 {post : Int32 → SX → Prop} (hn : n ≤ 48) (h : rf_Ful w n c F E P) (Rp : rf_Rp c fi la st F E P)
    (H : post (nI (rf_mx (fun r => E r + 1 - F r) c)) (nI n, nI c, cu, w, af, fi, la, st)) : ∀ f r, c + 1 ≤ r + f → r ≤ c →
    wX_longest_8 post (nI n) (nI c) cu w af fi la st f (nI (rf_mx (fun r => E r + 1 - F r) r)) (nI r) := by
  have hb := rf_bound h.1 hn
  intro f
  induction f with
  | zero => intro r h1 h2; omega
  | succ f ih =>
    intro r h1 h2
    refine pk_le c r (fun z => ?_) (fun z => ?_)
    · rw [show r = c by omega]; exact H
    · have q := rf_Run_p (h.1.1 r z) hn
      obtain ⟨e1, e2, e3⟩ := Rp r z
      have in1 : vp_in (nI r) 100 := vp_in_nI (by omega) (by omega)
      have K := ih (r + 1) (by omega) (by omega)
      have M : rf_mx (fun r => E r + 1 - F r) r ≤ 48 := rf_mx_le fun s hs => by
        have q' := rf_Run_p (h.1.1 s (by omega)) hn
        show E s + 1 - F s ≤ 48
        omega
      rw [nI_clamp (n := r) (by omega), e1, e2, rf_len (by omega)]
      refine ⟨in1, in1, nm_e (pk_le (E r + 1 - F r) (rf_mx (fun r => E r + 1 - F r) r) (fun f1 => nm_r (nI_1 r) ?_) (fun f1 => nm_r (nI_1 r) ?_))⟩
      · rw [rf_mx_t f1] at K; exact K
      · rw [rf_mx_f f1] at K; exact K
theorem rf_xpw35 {post : Int32 → SX → Prop} {J : Int32 → Int32 → Prop} {r m S p : Nat} (hr : r < 100) (hS : S ≤ 48) (hm : m ≤ 48) (hp : 1 ≤ p) (hp2 : p ≤ 48) (hst : st r = nI p)
    (H1 : S / p ≤ m → J (nI m) (nI (r + 1))) (H2 : m < S / p → J (nI (S / p)) (nI (r + 1))) : ∀ f t y, y < f → S = t * p + y →
    wX_power_35 post J (nI m) (nI r) (nI n) rc cu w af fi la st f (nI t) (nI y) := by
  intro f
  induction f with
  | zero => intro t y h1; omega
  | succ f ih =>
    intro t y h1 h2
    have ht : t ≤ t * p := Nat.le_mul_of_pos_right t hp
    have in1 : vp_in (nI r) 100 := vp_in_nI hr (by omega)
    refine ⟨in1, ?_⟩
    rw [nI_clamp (n := r) (by omega), hst]
    refine pk_lt y p (fun z => ?_) (fun z => ?_)
    · have e : S / p = t := Nat.div_eq_of_lt_le (by omega) (by rw [Nat.succ_mul]; omega)
      rw [e] at H1 H2
      exact pk_le t m (fun g => nm_r (nI_1 r) (H1 g)) (fun g => nm_r (nI_1 r) (H2 g))
    · refine nm_r (nI_1 t) ⟨in1, nm_r (pk_sub z) (ih (t + 1) (y - p) (by omega) ?_)⟩
      rw [Nat.succ_mul]
      omega
theorem rf_xpw8 {post : Int32 → SX → Prop} (hn : n ≤ 48) (h : rf_Ful w n c F E P) (Rp : rf_Rp c fi la st F E P)
    (H : post (nI (rf_mx (fun r => (E r + 1 - F r) / P r) c)) (nI n, nI c, cu, w, af, fi, la, st)) : ∀ f r, c + 1 ≤ r + f → r ≤ c →
    wX_power_8 post (nI n) (nI c) cu w af fi la st f (nI (rf_mx (fun r => (E r + 1 - F r) / P r) r)) (nI r) := by
  have hb := rf_bound h.1 hn
  intro f
  induction f with
  | zero => intro r h1 h2; omega
  | succ f ih =>
    intro r h1 h2
    refine pk_le c r (fun z => ?_) (fun z => ?_)
    · rw [show r = c by omega]; exact H
    · have q := rf_Run_p (h.1.1 r z) hn
      obtain ⟨e1, e2, e3⟩ := Rp r z
      have in1 : vp_in (nI r) 100 := vp_in_nI (by omega) (by omega)
      have K := ih (r + 1) (by omega) (by omega)
      have M : rf_mx (fun r => (E r + 1 - F r) / P r) r ≤ 48 := rf_mx_le fun s hs => by
        have q' := rf_Run_p (h.1.1 s (by omega)) hn
        have q2 := Nat.div_le_self (E s + 1 - F s) (P s)
        show (E s + 1 - F s) / P s ≤ 48
        omega
      rw [nI_clamp (n := r) (by omega), e1, e2, rf_len (by omega)]
      refine ⟨in1, in1, nm_e ⟨E r + 1 - F r + 1, ?_⟩⟩
      refine rf_xpw35 (S := E r + 1 - F r) (p := P r) (by omega) (by omega) M q.1 (by omega) e3 (fun f1 => ?_) (fun f1 => ?_) (E r + 1 - F r + 1) 0 (E r + 1 - F r) (by omega) (by omega)
      · rw [rf_mx_t f1] at K; exact K
      · rw [rf_mx_f f1] at K; exact K
end
section
variable {fo : Int32} {w cp fi la le : Nat → Int32} {n c : Nat} {F E P : Nat → Nat}
theorem rf_yra18 {post : Int32 → SY → Prop} {a : Nat} (hn : n ≤ 48) (h : rf_Ful w n c F E P) (Rp : rf_Rp c fi la le F E P) (ha : a < n)
    (H : post (nI (rf_sm (fun r => rf_i (F r ≤ a ∧ a ≤ E r)) c)) (nI n, nI c, w, cp, fi, la, le)) : ∀ f r, c + 1 ≤ r + f → r ≤ c →
    wY_runsAt_18 post (nI a) (nI n) (nI c) w cp fi la le f (nI (rf_sm (fun r => rf_i (F r ≤ a ∧ a ≤ E r)) r)) (nI r) := by
  have hb := rf_bound h.1 hn
  intro f
  induction f with
  | zero => intro r h1 h2; omega
  | succ f ih =>
    intro r h1 h2
    refine pk_le c r (fun z => ?_) (fun z => ?_)
    · rw [show r = c by omega]; exact H
    · have q := rf_Run_p (h.1.1 r z) hn
      obtain ⟨e1, e2, e3⟩ := Rp r z
      have in1 : vp_in (nI r) 96 := vp_in_nI (by omega) (by omega)
      have K := ih (r + 1) (by omega) (by omega)
      rw [rf_sm_s] at K
      rw [nI_clamp (n := r) (by omega), e1, e2]
      refine pk_le 96 r (fun y => by omega) (fun y => ⟨in1, pk_lt a (F r) (fun f1 => nm_r (nI_1 r) ?_) (fun f1 => ⟨in1, pk_lt (E r) a (fun f2 => nm_r (nI_1 r) ?_) (fun f2 => nm_r (nI_1 _) (nm_r (nI_1 r) ?_))⟩)⟩)
      · rw [rf_i_f (by omega)] at K; exact K
      · rw [rf_i_f (by omega)] at K; exact K
      · rw [rf_i_t ⟨f1, f2⟩] at K; exact K
theorem rf_yx2 (a t : Nat) : nI a + 2 * nI t = nI (a + 2 * t) := by rw [rf_2m, nI_add]
theorem rf_ysf14 {post : Int32 → Prop} {a : Nat} (hn : n ≤ 48) (ha : a < n)
    (H : post (nI (rf_sm (fun t => rf_i (rf_Lp w a (a + 2 * (t + 1) - 1) (t + 1))) ((n - a) / 2)))) : ∀ f t, n + 1 ≤ t + f → t ≤ (n - a) / 2 →
    wY_squaresFrom_14 post (nI a) (nI n) fo w cp fi la le f (nI (rf_sm (fun t => rf_i (rf_Lp w a (a + 2 * (t + 1) - 1) (t + 1))) t)) (nI (t + 1)) := by
  intro f
  induction f with
  | zero => intro t h1 h2; omega
  | succ f ih =>
    intro t h1 h2
    refine pk_lt n (a + 2 * (t + 1)) (fun z => ?_) (fun z => ?_) rfl (rf_yx2 a (t + 1))
    · rw [show t = (n - a) / 2 by omega]; exact H
    · have K := ih (t + 1) (by omega) (by omega)
      rw [rf_sm_s] at K
      rw [rf_e2 (by omega)]
      refine rf_ylp (by omega) (by omega) fun p hp hp2 => pk_eq p (t + 1) (fun e => nm_r (nI_1 _) (nm_r (nI_1 (t + 1)) ?_)) (fun e => nm_r (nI_1 (t + 1)) ?_)
      · subst e
        rw [rf_i_t hp] at K
        exact K
      · rw [rf_i_f fun z => e (rf_Lp_uniq hp z)] at K
        exact K
theorem rf_ysq14 {post : Int32 → Prop} {J : Int32 → Int32 → Prop} {x s0 : Nat} (hn : n ≤ 48) (hx : x < n)
    (H : J (nI (s0 + rf_sm (fun t => rf_i (rf_Per w x (x + 2 * (t + 1) - 1) (t + 1))) ((n - x) / 2))) (nI (x + 1))) : ∀ f t, n + 1 ≤ t + f → t ≤ (n - x) / 2 →
    wY_squares_14 post J (nI x) (nI n) fo w cp fi la le f (nI (s0 + rf_sm (fun t => rf_i (rf_Per w x (x + 2 * (t + 1) - 1) (t + 1))) t)) (nI (t + 1)) := by
  intro f
  induction f with
  | zero => intro t h1 h2; omega
  | succ f ih =>
    intro t h1 h2
    refine pk_lt n (x + 2 * (t + 1)) (fun z => nm_r (nI_1 x) ?_) (fun z => ?_) rfl (rf_yx2 x (t + 1))
    · rw [show t = (n - x) / 2 by omega]; exact H
    · have K := ih (t + 1) (by omega) (by omega)
      rw [rf_sm_s, ← Nat.add_assoc] at K
      rw [rf_e2 (by omega)]
      refine rf_yhp (by omega) (by omega) (by omega) (fun a b => br_f (by decide) (nm_r (nI_1 _) (nm_r (nI_1 (t + 1)) ?_))) (fun b => br_t rfl (nm_r (nI_1 (t + 1)) ?_))
      · rw [rf_i_t b] at K
        exact K
      · rw [rf_i_f (b (by omega))] at K
        exact K
theorem rf_ysq4 {post : Int32 → Prop} (hn : n ≤ 48)
    (H : post (nI (rf_sm (fun x => rf_sm (fun t => rf_i (rf_Per w x (x + 2 * (t + 1) - 1) (t + 1))) ((n - x) / 2)) n))) : ∀ f x, n + 1 ≤ x + f → x ≤ n →
    wY_squares_4 post (nI n) fo w cp fi la le f (nI (rf_sm (fun x => rf_sm (fun t => rf_i (rf_Per w x (x + 2 * (t + 1) - 1) (t + 1))) ((n - x) / 2)) x)) (nI x) := by
  intro f
  induction f with
  | zero => intro x h1 h2; omega
  | succ f ih =>
    intro x h1 h2
    refine pk_le n x (fun z => ?_) (fun z => ⟨n + 1, ?_⟩)
    · rw [show x = n by omega]; exact H
    · have K := ih (x + 1) (by omega) (by omega)
      rw [rf_sm_s] at K
      exact rf_ysq14 hn z K (n + 1) 0 (by omega) (by omega)
theorem rf_ylo8 {post : Int32 → SY → Prop} (hn : n ≤ 48) (h : rf_Ful w n c F E P) (Rp : rf_Rp c fi la le F E P)
    (H : post (nI (rf_mx (fun r => E r + 1 - F r) c)) (nI n, nI c, w, cp, fi, la, le)) : ∀ f r, c + 1 ≤ r + f → r ≤ c →
    wY_longest_8 post (nI n) (nI c) w cp fi la le f (nI (rf_mx (fun r => E r + 1 - F r) r)) (nI r) := by
  have hb := rf_bound h.1 hn
  intro f
  induction f with
  | zero => intro r h1 h2; omega
  | succ f ih =>
    intro r h1 h2
    refine pk_le c r (fun z => ?_) (fun z => ?_)
    · rw [show r = c by omega]; exact H
    · have q := rf_Run_p (h.1.1 r z) hn
      obtain ⟨e1, e2, e3⟩ := Rp r z
      have in1 : vp_in (nI r) 96 := vp_in_nI (by omega) (by omega)
      have K := ih (r + 1) (by omega) (by omega)
      have M : rf_mx (fun r => E r + 1 - F r) r ≤ 48 := rf_mx_le fun s hs => by
        have q' := rf_Run_p (h.1.1 s (by omega)) hn
        show E s + 1 - F s ≤ 48
        omega
      rw [nI_clamp (n := r) (by omega), e1, e2, rf_len (by omega)]
      refine pk_le 96 r (fun y => by omega) (fun y => ⟨in1, in1, nm_e (pk_le (E r + 1 - F r) (rf_mx (fun r => E r + 1 - F r) r) (fun f1 => nm_r (nI_1 r) ?_) (fun f1 => nm_r (nI_1 r) ?_))⟩)
      · rw [rf_mx_t f1] at K; exact K
      · rw [rf_mx_f f1] at K; exact K
theorem rf_ypw8 {post : Int32 → SY → Prop} (hn : n ≤ 48) (h : rf_Ful w n c F E P) (Rp : rf_Rp c fi la le F E P)
    (H : post (nI (rf_mx (fun r => (E r + 1 - F r) / P r) c)) (nI n, nI c, w, cp, fi, la, le)) : ∀ f r, c + 1 ≤ r + f → r ≤ c →
    wY_power_8 post (nI n) (nI c) w cp fi la le f (nI (rf_mx (fun r => (E r + 1 - F r) / P r) r)) (nI r) := by
  have hb := rf_bound h.1 hn
  intro f
  induction f with
  | zero => intro r h1 h2; omega
  | succ f ih =>
    intro r h1 h2
    refine pk_le c r (fun z => ?_) (fun z => ?_)
    · rw [show r = c by omega]; exact H
    · have q := rf_Run_p (h.1.1 r z) hn
      obtain ⟨e1, e2, e3⟩ := Rp r z
      have in1 : vp_in (nI r) 96 := vp_in_nI (by omega) (by omega)
      have K := ih (r + 1) (by omega) (by omega)
      have M : rf_mx (fun r => (E r + 1 - F r) / P r) r ≤ 48 := rf_mx_le fun s hs => by
        have q' := rf_Run_p (h.1.1 s (by omega)) hn
        have q2 := Nat.div_le_self (E s + 1 - F s) (P s)
        show (E s + 1 - F s) / P s ≤ 48
        omega
      have k42 : wY_power_42 post (wY_power_8 post (nI n) (nI c) w cp fi la le f) (nI (rf_mx (fun r => (E r + 1 - F r) / P r) r)) (nI r) (nI (P r)) (nI n) (nI c) w cp fi la le := by
        unfold wY_power_42
        rw [nI_clamp (n := r) (by omega), e1, e2, rf_len (by omega), pk_div (by omega) (by omega) (by omega)]
        have q2 := Nat.div_le_self (E r + 1 - F r) (P r)
        refine ⟨in1, in1, nI_ne0 (by omega) (by omega), nm_e (pk_le ((E r + 1 - F r) / P r) (rf_mx (fun r => (E r + 1 - F r) / P r) r) (fun f1 => nm_r (nI_1 r) ?_) (fun f1 => nm_r (nI_1 r) ?_))⟩
        · rw [rf_mx_t f1] at K; exact K
        · rw [rf_mx_f f1] at K; exact K
      rw [nI_clamp (n := r) (by omega), e3]
      exact pk_le 96 r (fun y => by omega) (fun y => ⟨in1, pk_le 1 (P r) (fun f1 => ⟨in1, k42⟩) (fun f1 => by omega)⟩)
end
end
section
/-- k symbols copied from a on to n on -/
def rf_rep (w : Nat → Int32) (a n : Nat) : Nat → Nat → Int32
  | 0 => w
  | k + 1 => upd (rf_rep w a n k) (n + k) (rf_rep w a n k (a + k))
section
variable {rc cu : Int32} {w af fi la st : Nat → Int32} {n : Nat}
theorem rf_xrp40 {post : Int32 → SX → Prop} {a m : Nat} (hn : n + m ≤ 48) (ha : a < n) (H : post (nI (n + m)) (nI (n + m), rc, 0, rf_rep w a n m, af, fi, la, st)) : ∀ f k, m + 1 ≤ k + f → k ≤ m →
    wX_repeat_40 post (nI a) (nI m) (nI n) rc cu f (nI k) (rf_rep w a n k) af fi la st := by
  intro f
  induction f with
  | zero => intro k h1 h2; omega
  | succ f ih =>
    intro k h1 h2
    refine pk_le m k (fun z => ?_) (fun z => ?_)
    · have e : k = m := by omega
      subst e
      exact nm_r (nI_add n k) H
    · rw [nI_add a k, nI_add n k, nI_clamp (n := a + k) (by omega), nI_clamp (n := n + k) (by omega)]
      exact ⟨vp_in_nI (by omega) (by omega), vp_in_nI (by omega) (by omega), nm_e (nm_r (nI_1 k) (ih (k + 1) (by omega) (by omega)))⟩
/-- the first and the last i of n symbols changed -/
def rf_rv (w : Nat → Int32) (n i : Nat) : Nat → Int32 := fun y => if y < n ∧ (y < i ∨ n < y + i + 1) then w (n - 1 - y) else w y
theorem rf_rv_t {i y : Nat} (h : y < n ∧ (y < i ∨ n < y + i + 1)) : rf_rv w n i y = w (n - 1 - y) := if_pos h
theorem rf_rv_f {i y : Nat} (h : ¬ (y < n ∧ (y < i ∨ n < y + i + 1))) : rf_rv w n i y = w y := if_neg h
/-- n symbols turned round -/
def rf_rev (w : Nat → Int32) (n : Nat) : Nat → Int32 := fun y => if y < n then w (n - 1 - y) else w y
theorem rf_rev_t {y : Nat} (h : y < n) : rf_rev w n y = w (n - 1 - y) := if_pos h
theorem rf_rev_f {y : Nat} (h : ¬ y < n) : rf_rev w n y = w y := if_neg h
theorem rf_rv_0 : rf_rv w n 0 = w := by
  funext y
  by_cases h : y < n
  · exact rf_rv_f (by omega)
  · exact rf_rv_f fun z => h z.1
theorem rf_rv_step {i : Nat} (hi : 2 * i + 1 < n) : upd (upd (rf_rv w n i) i (rf_rv w n i (n - 1 - i))) (n - 1 - i) (rf_rv w n i i) = rf_rv w n (i + 1) := by
  funext y
  have g1 : rf_rv w n i i = w i := rf_rv_f (by omega)
  have g2 : rf_rv w n i (n - 1 - i) = w (n - 1 - i) := rf_rv_f (by omega)
  rw [g1, g2]
  by_cases h1 : y = n - 1 - i
  · rw [h1, pk_us, rf_rv_t (by omega)]
    exact congrArg w (by omega)
  · rw [pk_un h1]
    by_cases h2 : y = i
    · rw [h2, pk_us, rf_rv_t (by omega)]
    · rw [pk_un h2]
      by_cases h3 : y < n ∧ (y < i ∨ n < y + i + 1)
      · rw [rf_rv_t h3, rf_rv_t (by omega)]
      · rw [rf_rv_f h3, rf_rv_f (by omega)]
theorem rf_rv_end {i : Nat} (hi : n ≤ 2 * i + 1) : rf_rv w n i = rf_rev w n := by
  funext y
  by_cases h1 : y < n
  · rw [rf_rev_t h1]
    by_cases h2 : y < i ∨ n < y + i + 1
    · exact rf_rv_t ⟨h1, h2⟩
    · rw [rf_rv_f (by omega)]
      exact congrArg w (by omega)
  · rw [rf_rev_f h1]
    exact rf_rv_f fun z => h1 z.1
theorem rf_xrv2 {post : Int32 → SX → Prop} (hn : n ≤ 48) (h0 : 1 ≤ n) (H : post (nI n) (nI n, rc, 0, rf_rev w n, af, fi, la, st)) : ∀ f i, n + 1 ≤ i + f → i ≤ n →
    wX_reverse_2 post (nI n) rc cu f (nI i) (rf_rv w n i) af fi la st := by
  have e1 : nI n - 1 = nI (n - 1) := pk_sub (b := 1) h0
  intro f
  induction f with
  | zero => intro i h1 h2; omega
  | succ f ih =>
    intro i h1 h2
    refine pk_le (n - 1) (2 * i) (fun z => ?_) (fun z => ?_) e1 (rf_2m i)
    · rw [rf_rv_end (by omega)]
      exact H
    · have in1 : vp_in (nI i) 48 := vp_in_nI (by omega) (by omega)
      have in2 : vp_in (nI (n - 1 - i)) 48 := vp_in_nI (by omega) (by omega)
      refine nm_r (rf_ix (by omega)) ?_
      rw [nI_clamp (n := i) (by omega), nI_clamp (n := n - 1 - i) (by omega)]
      refine ⟨in1, nm_e ⟨in2, in1, nm_e ⟨in2, nm_e (nm_r (nI_1 i) ?_)⟩⟩⟩
      rw [rf_rv_step (by omega)]
      exact ih (i + 1) (by omega) (by omega)
theorem rf_xrv {post : Int32 → SX → Prop} (hn : n ≤ 48) (H : post (nI n) (nI n, rc, 0, rf_rev w n, af, fi, la, st)) :
    wpX_reverse post (nI n, rc, cu, w, af, fi, la, st) := by
  rcases Nat.eq_zero_or_pos n with h | h
  · subst h
    have e : rf_rev w 0 = w := by
      funext y
      exact rf_rev_f (by omega)
    rw [e] at H
    exact ⟨1, br_t (by decide) H⟩
  · have L := rf_xrv2 (cu := cu) hn h H (n + 1) 0 (by omega) (by omega)
    rw [rf_rv_0] at L
    exact ⟨n + 1, L⟩
end
section
variable {fo : Int32} {w cp fi la le : Nat → Int32} {n : Nat}
theorem rf_yrp46 {post : Int32 → SY → Prop} {a m : Nat} (hn : n + m ≤ 48) (ha : a < n) (H : post (nI (n + m)) (nI (n + m), fo, rf_rep w a n m, cp, fi, la, le)) : ∀ f k, m + 1 ≤ k + f → k ≤ m →
    wY_repeat_46 post (nI a) (nI m) (nI n) (nI n) fo f (nI k) (rf_rep w a n k) cp fi la le := by
  intro f
  induction f with
  | zero => intro k h1 h2; omega
  | succ f ih =>
    intro k h1 h2
    refine pk_le m k (fun z => ?_) (fun z => ?_)
    · have e : k = m := by omega
      subst e
      exact nm_r (nI_add n k) H
    · rw [nI_add a k, nI_add n k, nI_clamp (n := a + k) (by omega), nI_clamp (n := n + k) (by omega)]
      exact ⟨vp_in_nI (by omega) (by omega), vp_in_nI (by omega) (by omega), nm_e (nm_r (nI_1 k) (ih (k + 1) (by omega) (by omega)))⟩
/-- the first i symbols laid anew -/
def rf_rw (w : Nat → Int32) (n i : Nat) : Nat → Int32 := fun y => if y < i then w (n - 1 - y) else w y
theorem rf_rw_step {i : Nat} : upd (rf_rw w n i) i (w (n - 1 - i)) = rf_rw w n (i + 1) := by
  funext y
  by_cases h : y = i
  · rw [h, pk_us]
    exact (if_pos (Nat.lt_succ_self i)).symm
  · rw [pk_un h]
    by_cases h2 : y < i
    · exact (if_pos h2).trans (if_pos (by omega : y < i + 1)).symm
    · exact (if_neg h2).trans (if_neg (by omega : ¬ y < i + 1)).symm
theorem rf_yrv28 {post : Int32 → SY → Prop} (hn : n ≤ 48) (hc : ∀ y, y < 48 → cp y = w y) (H : post (nI n) (nI n, fo, rf_rev w n, cp, fi, la, le)) : ∀ f i, n + 1 ≤ i + f → i ≤ n →
    wY_reverse_28 post (nI n) fo f (nI i) (rf_rw w n i) cp fi la le := by
  intro f
  induction f with
  | zero => intro i h1 h2; omega
  | succ f ih =>
    intro i h1 h2
    refine pk_le n i (fun z => ?_) (fun z => ?_)
    · have e : i = n := by omega
      subst e
      exact H
    · refine pk_le 48 i (fun y => by omega) (fun y => ?_)
      rw [rf_ix z, nI_clamp (n := i) (by omega), nI_clamp (n := n - 1 - i) (by omega), hc (n - 1 - i) (by omega), rf_rw_step]
      exact ⟨vp_in_nI (by omega) (by omega), vp_in_nI (by omega) (by omega), nm_e (nm_r (nI_1 i) (ih (i + 1) (by omega) (by omega)))⟩
theorem rf_yrv2 {post : Int32 → SY → Prop} (hn : n ≤ 48) (H : ∀ cp, post (nI n) (nI n, fo, rf_rev w n, cp, fi, la, le)) : ∀ f i cp, 49 ≤ i + f → i ≤ 48 → (∀ y, y < i → cp y = w y) →
    wY_reverse_2 post (nI n) fo f (nI i) w cp fi la le := by
  intro f
  induction f with
  | zero => intro i cp h1 h2; omega
  | succ f ih =>
    intro i cp h1 h2 h3
    refine pk_le 48 i (fun z => ⟨n + 1, ?_⟩) (fun z => ?_)
    · exact rf_yrv28 hn (fun y hy => h3 y (by omega)) (H cp) (n + 1) 0 (by omega) (by omega)
    · have in1 : vp_in (nI i) 48 := vp_in_nI (by omega) (by omega)
      rw [nI_clamp (n := i) (by omega)]
      refine ⟨in1, in1, nm_e (nm_r (nI_1 i) (ih (i + 1) _ (by omega) (by omega) fun y hy => ?_))⟩
      by_cases h : y = i
      · rw [h, pk_us]
      · rw [pk_un h]
        exact h3 y (by omega)
theorem rf_yrv {post : Int32 → SY → Prop} (hn : n ≤ 48) (H : ∀ cp, post (nI n) (nI n, fo, rf_rev w n, cp, fi, la, le)) :
    wpY_reverse post (nI n, fo, w, cp, fi, la, le) :=
  ⟨49, rf_yrv2 hn H 49 0 cp (by omega) (by omega) (fun y hy => by omega)⟩
end
end
section
/-- one text, one length; the component's list of runs is out of date, or it is the full list -/
def i_Rel (k : Nat) (u : SX) (v : SY) : Prop :=
  ∃ (n : Nat) (rc cu : Int32) (w af fi la st : Nat → Int32) (fo : Int32) (cp f2 l2 le : Nat → Int32),
    u = (nI n, rc, cu, w, af, fi, la, st) ∧ v = (nI n, fo, w, cp, f2, l2, le) ∧ n ≤ 48 ∧ rf_St w n rc cu fi la st
theorem i_up {k : Nat} {u : SX} {v : SY} (h : i_Rel k u v) : i_Rel (k + 3) u v := h
theorem i_vc0 : wpX_init (fun u => wpY_init (fun v => i_Rel 0 u v)) :=
  ⟨0, 0, 0, _, _, _, _, _, 0, _, _, _, _, rfl, rfl, by omega, Or.inl rfl⟩
section
variable {rc cu fo v1 : Int32} {w af fi la st cp f2 l2 le : Nat → Int32} {n k : Nat}
theorem rf_rel (hn : n ≤ 48) (hS : rf_St w n rc cu fi la st) : i_Rel (k + 3) (nI n, rc, cu, w, af, fi, la, st) (nI n, fo, w, cp, f2, l2, le) :=
  ⟨n, rc, cu, w, af, fi, la, st, fo, cp, f2, l2, le, rfl, rfl, hn, hS⟩
theorem rf_rel0 (hn : n ≤ 48) : i_Rel (k + 3) (nI n, rc, 0, w, af, fi, la, st) (nI n, fo, w, cp, f2, l2, le) :=
  ⟨n, rc, 0, w, af, fi, la, st, fo, cp, f2, l2, le, rfl, rfl, hn, Or.inl rfl⟩
theorem rf_rel1 {c : Nat} {F E P : Nat → Nat} (hn : n ≤ 48) (hF : rf_Ful w n c F E P) (hR : rf_Rp c fi la st F E P) : i_Rel (k + 3) (nI n, nI c, 1, w, af, fi, la, st) (nI n, fo, w, cp, f2, l2, le) :=
  ⟨n, nI c, 1, w, af, fi, la, st, fo, cp, f2, l2, le, rfl, rfl, hn, Or.inr ⟨rfl, c, F, E, P, rfl, hF, hR⟩⟩
theorem rf_xpl1 {post : Int32 → Prop} {j : Nat} (hn : n ≤ 48) (hj : j < n) (H : post 1) : wpX_isPlace post (nI n, rc, cu, w, af, fi, la, st) (nI j) :=
  br_f (nI_pos (by omega)) (br_f (nI_ge hj (by omega)) H)
theorem rf_no {c : Nat} (hc : c < 2 ^ 31) (h : ¬ ∃ j, j < c ∧ v1 = nI j) : v1 < 0 ∨ (¬ v1 < 0 ∧ nI c ≤ v1) := by
  rcases pk_ix v1 hc with a | a | a
  · exact Or.inl a
  · by_cases b : v1 < 0
    · exact Or.inl b
    · exact Or.inr ⟨b, a⟩
  · exact absurd a h
theorem rf_xpl0 {post : Int32 → Prop} (hn : n ≤ 48) (h : ¬ ∃ j, j < n ∧ v1 = nI j) (H : post 0) : wpX_isPlace post (nI n, rc, cu, w, af, fi, la, st) v1 := by
  rcases rf_no (by omega) h with a | ⟨a, b⟩
  · exact br_t a H
  · exact br_f a (br_t b H)
theorem rf_yb0 {post : Int32 → Prop} {j : Nat} (hn : n ≤ 48) (hj : j < n) (H : post 0) : wpY_bad post (nI n, fo, w, cp, f2, l2, le) (nI j) :=
  br_f (nI_pos (by omega)) (br_f (nI_ge hj (by omega)) (br_t (nI_lt (b := 48) (by omega) (by decide)) H))
theorem rf_yb1 {post : Int32 → Prop} (hn : n ≤ 48) (h : ¬ ∃ j, j < n ∧ v1 = nI j) (H : post 1) : wpY_bad post (nI n, fo, w, cp, f2, l2, le) v1 := by
  rcases rf_no (by omega) h with a | ⟨a, b⟩
  · exact br_t a H
  · exact br_f a (br_t b H)
theorem rf_xir1 {post : Int32 → Prop} {c j : Nat} (hc : c ≤ 96) (hj : j < c) (H : post 1) : wpX_isRun post (nI n, nI c, cu, w, af, fi, la, st) (nI j) :=
  br_f (nI_pos (by omega)) (br_f (nI_ge hj (by omega)) H)
theorem rf_xir0 {post : Int32 → Prop} {c : Nat} (hc : c ≤ 96) (h : ¬ ∃ j, j < c ∧ v1 = nI j) (H : post 0) : wpX_isRun post (nI n, nI c, cu, w, af, fi, la, st) v1 := by
  rcases rf_no (by omega) h with a | ⟨a, b⟩
  · exact br_t a H
  · exact br_f a (br_t b H)
end
theorem i_vc_push {k : Nat} {u : SX} {v : SY} (I : i_Rel k u v) (hk : k + 3 ≤ 1536) (v1 : Int32) : wpX_push (fun r u' => wpY_push (fun r' v' => r' = r ∧ i_Rel (k + 3) u' v') v v1) u v1 := by
  obtain ⟨n, rc, cu, w, af, fi, la, st, fo, cp, f2, l2, le, rfl, rfl, hn, hS⟩ := I
  by_cases h0 : v1 < 0
  · exact br_t h0 (br_t h0 ⟨rfl, rf_rel hn hS⟩)
  · by_cases h3 : v1 ≤ 3
    · refine br_f h0 (br_t h3 (pk_eq n 48 (fun a => ?_) (fun a => ?_)))
      · refine br_f h0 (br_t h3 (br_f (nI_nlt (b := 48) (by omega) (by omega)) ⟨rfl, rf_rel hn hS⟩))
      · have in1 : vp_in (nI n) 48 := vp_in_nI (by omega) (by omega)
        refine ⟨in1, nm_e (nm_r (nI_1 n) ?_)⟩
        exact br_f h0 (br_t h3 (br_t (nI_lt (b := 48) (by omega) (by decide)) ⟨in1, nm_e (nm_r (nI_1 n) ⟨rfl, rf_rel0 (by omega)⟩)⟩))
    · exact br_f h0 (br_f h3 (br_f h0 (br_f h3 ⟨rfl, rf_rel hn hS⟩)))
theorem i_vc_pop {k : Nat} {u : SX} {v : SY} (I : i_Rel k u v) (hk : k + 3 ≤ 1536) (v1 : Int32) : wpX_pop (fun r u' => wpY_pop (fun r' v' => r' = r ∧ i_Rel (k + 3) u' v') v v1) u v1 := by
  obtain ⟨n, rc, cu, w, af, fi, la, st, fo, cp, f2, l2, le, rfl, rfl, hn, hS⟩ := I
  by_cases h0 : v1 < 0
  · exact br_t h0 (br_t h0 ⟨rfl, rf_rel hn hS⟩)
  · by_cases h3 : v1 ≤ nI n
    · obtain ⟨j, hj, rfl⟩ := nI_of h0
      have hjn : j ≤ n := (nI_leI hj (by omega)).mp h3
      exact br_f h0 (br_t h3 (nm_r (pk_sub hjn) (br_f h0 (br_t h3 (nm_r (pk_sub hjn) ⟨rfl, rf_rel0 (by omega)⟩)))))
    · exact br_f h0 (br_f h3 (br_f h0 (br_f h3 ⟨rfl, rf_rel hn hS⟩)))
theorem i_vc_repeat {k : Nat} {u : SX} {v : SY} (I : i_Rel k u v) (hk : k + 3 ≤ 1536) (v1 : Int32) (v2 : Int32) : wpX_repeat (fun r u' => wpY_repeat (fun r' v' => r' = r ∧ i_Rel (k + 3) u' v') v v1 v2) u v1 v2 := by
  obtain ⟨n, rc, cu, w, af, fi, la, st, fo, cp, f2, l2, le, rfl, rfl, hn, hS⟩ := I
  unfold wpX_repeat wpY_repeat
  dsimp only
  by_cases hp : ∃ j, j < n ∧ v1 = nI j
  · obtain ⟨a, ha, rfl⟩ := hp
    refine rf_xpl1 hn ha (br_f (by decide) ?_)
    by_cases h1 : v2 < 1
    · exact br_t h1 (rf_yb0 hn ha (br_t rfl (br_t h1 ⟨rfl, rf_rel hn hS⟩)))
    · by_cases h2 : v2 ≤ 48
      · have h0 : ¬ v2 < 0 := fun z => h1 (Int32.lt_trans z (by decide))
        obtain ⟨m, hm, rfl⟩ := nI_of h0
        have hm2 : m ≤ 48 := (nI_leI (b := 48) hm (by decide)).mp h2
        refine br_f h1 (br_t h2 ?_)
        rw [nI_add n m]
        refine pk_le (n + m) 48 (fun z => ⟨m + 1, ?_⟩) (fun z => ?_)
        · refine rf_xrp40 z ha ?_ (m + 1) 0 (by omega) (by omega)
          refine rf_yb0 hn ha (br_t rfl (br_f h1 (br_t h2 (br_t (nI_le (b := 48) z (by decide)) ⟨m + 1, ?_⟩))))
          exact rf_yrp46 z ha ⟨rfl, rf_rel0 z⟩ (m + 1) 0 (by omega) (by omega)
        · exact rf_yb0 hn ha (br_t rfl (br_f h1 (br_t h2 (br_f (nI_ge (a := 48) z (by omega)) ⟨rfl, rf_rel hn hS⟩))))
      · exact br_f h1 (br_f h2 (rf_yb0 hn ha (br_t rfl (br_f h1 (br_f h2 ⟨rfl, rf_rel hn hS⟩)))))
  · exact rf_xpl0 hn hp (br_t rfl (rf_yb1 hn hp (br_f (by decide) ⟨rfl, rf_rel hn hS⟩)))
theorem i_vc_set {k : Nat} {u : SX} {v : SY} (I : i_Rel k u v) (hk : k + 3 ≤ 1536) (v1 : Int32) (v2 : Int32) : wpX_set (fun r u' => wpY_set (fun r' v' => r' = r ∧ i_Rel (k + 3) u' v') v v1 v2) u v1 v2 := by
  obtain ⟨n, rc, cu, w, af, fi, la, st, fo, cp, f2, l2, le, rfl, rfl, hn, hS⟩ := I
  unfold wpX_set wpY_set
  dsimp only
  by_cases hp : ∃ j, j < n ∧ v1 = nI j
  · obtain ⟨a, ha, rfl⟩ := hp
    have in1 : vp_in (nI a) 48 := vp_in_nI (by omega) (by omega)
    refine rf_xpl1 hn ha (br_f (by decide) ?_)
    by_cases h1 : v2 < 0
    · exact br_t h1 (rf_yb0 hn ha (br_t rfl (br_t h1 ⟨rfl, rf_rel hn hS⟩)))
    · by_cases h2 : v2 ≤ 3
      · exact br_f h1 (br_t h2 ⟨in1, nm_e ⟨in1, nm_e (rf_yb0 hn ha (br_t rfl (br_f h1 (br_t h2 ⟨in1, nm_e ⟨in1, nm_e ⟨rfl, rf_rel0 hn⟩⟩⟩))))⟩⟩)
      · exact br_f h1 (br_f h2 (rf_yb0 hn ha (br_t rfl (br_f h1 (br_f h2 ⟨rfl, rf_rel hn hS⟩)))))
  · exact rf_xpl0 hn hp (br_t rfl (rf_yb1 hn hp (br_f (by decide) ⟨rfl, rf_rel hn hS⟩)))
theorem i_vc_reverse {k : Nat} {u : SX} {v : SY} (I : i_Rel k u v) (hk : k + 3 ≤ 1536) : wpX_reverse (fun r u' => wpY_reverse (fun r' v' => r' = r ∧ i_Rel (k + 3) u' v') v) u := by
  obtain ⟨n, rc, cu, w, af, fi, la, st, fo, cp, f2, l2, le, rfl, rfl, hn, hS⟩ := I
  exact rf_xrv hn (rf_yrv hn fun cp' => ⟨rfl, rf_rel0 hn⟩)
theorem i_vc_length {k : Nat} {u : SX} {v : SY} (I : i_Rel k u v) (hk : k + 3 ≤ 1536) : wpX_length (fun r => wpY_length (fun r' => r' = r ∧ i_Rel (k + 3) u v) v) u := by
  obtain ⟨n, rc, cu, w, af, fi, la, st, fo, cp, f2, l2, le, rfl, rfl, hn, hS⟩ := I
  exact ⟨rfl, rf_rel hn hS⟩
theorem i_vc_symbol {k : Nat} {u : SX} {v : SY} (I : i_Rel k u v) (hk : k + 3 ≤ 1536) (v1 : Int32) : wpX_symbol (fun r => wpY_symbol (fun r' => r' = r ∧ i_Rel (k + 3) u v) v v1) u v1 := by
  obtain ⟨n, rc, cu, w, af, fi, la, st, fo, cp, f2, l2, le, rfl, rfl, hn, hS⟩ := I
  unfold wpX_symbol wpY_symbol
  dsimp only
  by_cases hp : ∃ j, j < n ∧ v1 = nI j
  · obtain ⟨a, ha, rfl⟩ := hp
    have in1 : vp_in (nI a) 48 := vp_in_nI (by omega) (by omega)
    exact rf_xpl1 hn ha (br_f (by decide) ⟨in1, rf_yb0 hn ha (br_t rfl ⟨in1, rfl, rf_rel hn hS⟩)⟩)
  · exact rf_xpl0 hn hp (br_t rfl (rf_yb1 hn hp (br_f (by decide) ⟨rfl, rf_rel hn hS⟩)))
theorem i_vc_runs {k : Nat} {u : SX} {v : SY} (I : i_Rel k u v) (hk : k + 3 ≤ 1536) : wpX_runs (fun r u' => wpY_runs (fun r' v' => r' = r ∧ i_Rel (k + 3) u' v') v) u := by
  obtain ⟨n, rc, cu, w, af, fi, la, st, fo, cp, f2, l2, le, rfl, rfl, hn, hS⟩ := I
  unfold wpX_runs wpY_runs
  dsimp only
  refine rf_xref hn hS fun c F E P a g1 g2 g3 hF hR => ?_
  refine rf_ylist hn fun c' F' E' P' h1 h2 h3 hF' hR' => ?_
  obtain ⟨ec, _⟩ := rf_ful_uniq hn hF hF'
  subst ec
  exact ⟨rfl, rf_rel1 hn hF hR⟩
theorem i_vc_start {k : Nat} {u : SX} {v : SY} (I : i_Rel k u v) (hk : k + 3 ≤ 1536) (v1 : Int32) : wpX_start (fun r u' => wpY_start (fun r' v' => r' = r ∧ i_Rel (k + 3) u' v') v v1) u v1 := by
  obtain ⟨n, rc, cu, w, af, fi, la, st, fo, cp, f2, l2, le, rfl, rfl, hn, hS⟩ := I
  unfold wpX_start wpY_start
  dsimp only
  refine rf_xref hn hS fun c F E P a g1 g2 g3 hF hR => ?_
  have hb := rf_bound hF.1 hn
  by_cases hp : ∃ j, j < c ∧ v1 = nI j
  · obtain ⟨j, hj, rfl⟩ := hp
    refine rf_xir1 hb hj (br_f (by decide) ⟨vp_in_nI (by omega) (by omega), ?_⟩)
    refine rf_ylist hn fun c' F' E' P' h1 h2 h3 hF' hR' => ?_
    obtain ⟨ec, eq⟩ := rf_ful_uniq hn hF hF'
    subst ec
    refine br_f (nI_pos (by omega)) (br_t (nI_lt hj (by omega)) ⟨vp_in_nI (by omega) (by omega), ?_, rf_rel1 hn hF hR⟩)
    dsimp only
    rw [nI_clamp (n := j) (by omega), (hR' j hj).1, (hR j hj).1, (eq j hj).1]
  · refine rf_xir0 hb hp (br_t rfl ?_)
    refine rf_ylist hn fun c' F' E' P' h1 h2 h3 hF' hR' => ?_
    obtain ⟨ec, eq⟩ := rf_ful_uniq hn hF hF'
    subst ec
    rcases rf_no (by omega) hp with a | ⟨a, b⟩
    · exact br_t a ⟨rfl, rf_rel1 hn hF hR⟩
    · exact br_f a (br_f (Int32.not_lt.mpr b) ⟨rfl, rf_rel1 hn hF hR⟩)
theorem i_vc_end {k : Nat} {u : SX} {v : SY} (I : i_Rel k u v) (hk : k + 3 ≤ 1536) (v1 : Int32) : wpX_end (fun r u' => wpY_end (fun r' v' => r' = r ∧ i_Rel (k + 3) u' v') v v1) u v1 := by
  obtain ⟨n, rc, cu, w, af, fi, la, st, fo, cp, f2, l2, le, rfl, rfl, hn, hS⟩ := I
  unfold wpX_end wpY_end
  dsimp only
  refine rf_xref hn hS fun c F E P a g1 g2 g3 hF hR => ?_
  have hb := rf_bound hF.1 hn
  by_cases hp : ∃ j, j < c ∧ v1 = nI j
  · obtain ⟨j, hj, rfl⟩ := hp
    refine rf_xir1 hb hj (br_f (by decide) ⟨vp_in_nI (by omega) (by omega), ?_⟩)
    refine rf_ylist hn fun c' F' E' P' h1 h2 h3 hF' hR' => ?_
    obtain ⟨ec, eq⟩ := rf_ful_uniq hn hF hF'
    subst ec
    refine br_f (nI_pos (by omega)) (br_t (nI_lt hj (by omega)) ⟨vp_in_nI (by omega) (by omega), ?_, rf_rel1 hn hF hR⟩)
    dsimp only
    rw [nI_clamp (n := j) (by omega), (hR' j hj).2.1, (hR j hj).2.1, (eq j hj).2.1]
  · refine rf_xir0 hb hp (br_t rfl ?_)
    refine rf_ylist hn fun c' F' E' P' h1 h2 h3 hF' hR' => ?_
    obtain ⟨ec, eq⟩ := rf_ful_uniq hn hF hF'
    subst ec
    rcases rf_no (by omega) hp with a | ⟨a, b⟩
    · exact br_t a ⟨rfl, rf_rel1 hn hF hR⟩
    · exact br_f a (br_f (Int32.not_lt.mpr b) ⟨rfl, rf_rel1 hn hF hR⟩)
theorem i_vc_period {k : Nat} {u : SX} {v : SY} (I : i_Rel k u v) (hk : k + 3 ≤ 1536) (v1 : Int32) : wpX_period (fun r u' => wpY_period (fun r' v' => r' = r ∧ i_Rel (k + 3) u' v') v v1) u v1 := by
  obtain ⟨n, rc, cu, w, af, fi, la, st, fo, cp, f2, l2, le, rfl, rfl, hn, hS⟩ := I
  unfold wpX_period wpY_period
  dsimp only
  refine rf_xref hn hS fun c F E P a g1 g2 g3 hF hR => ?_
  have hb := rf_bound hF.1 hn
  by_cases hp : ∃ j, j < c ∧ v1 = nI j
  · obtain ⟨j, hj, rfl⟩ := hp
    refine rf_xir1 hb hj (br_f (by decide) ⟨vp_in_nI (by omega) (by omega), ?_⟩)
    refine rf_ylist hn fun c' F' E' P' h1 h2 h3 hF' hR' => ?_
    obtain ⟨ec, eq⟩ := rf_ful_uniq hn hF hF'
    subst ec
    refine br_f (nI_pos (by omega)) (br_t (nI_lt hj (by omega)) ⟨vp_in_nI (by omega) (by omega), ?_, rf_rel1 hn hF hR⟩)
    dsimp only
    rw [nI_clamp (n := j) (by omega), (hR' j hj).2.2, (hR j hj).2.2, (eq j hj).2.2]
  · refine rf_xir0 hb hp (br_t rfl ?_)
    refine rf_ylist hn fun c' F' E' P' h1 h2 h3 hF' hR' => ?_
    obtain ⟨ec, eq⟩ := rf_ful_uniq hn hF hF'
    subst ec
    rcases rf_no (by omega) hp with a | ⟨a, b⟩
    · exact br_t a ⟨rfl, rf_rel1 hn hF hR⟩
    · exact br_f a (br_f (Int32.not_lt.mpr b) ⟨rfl, rf_rel1 hn hF hR⟩)
theorem i_vc_runsAt {k : Nat} {u : SX} {v : SY} (I : i_Rel k u v) (hk : k + 3 ≤ 1536) (v1 : Int32) : wpX_runsAt (fun r u' => wpY_runsAt (fun r' v' => r' = r ∧ i_Rel (k + 3) u' v') v v1) u v1 := by
  obtain ⟨n, rc, cu, w, af, fi, la, st, fo, cp, f2, l2, le, rfl, rfl, hn, hS⟩ := I
  unfold wpX_runsAt wpY_runsAt
  dsimp only
  by_cases hp : ∃ j, j < n ∧ v1 = nI j
  · obtain ⟨j, hj, rfl⟩ := hp
    refine rf_xpl1 hn hj (br_f (by decide) ?_)
    refine rf_xref hn hS fun c F E P a g1 g2 g3 hF hR => ⟨c + 1, ?_⟩
    refine rf_xra18 hn hF hR hj ?_ (c + 1) 0 (by omega) (by omega)
    refine rf_yb0 hn hj (br_t rfl ?_)
    refine rf_ylist hn fun c' F' E' P' h1 h2 h3 hF' hR' => ⟨c' + 1, ?_⟩
    obtain ⟨ec, eq⟩ := rf_ful_uniq hn hF hF'
    subst ec
    refine rf_yra18 hn hF' hR' hj ⟨?_, rf_rel1 hn hF hR⟩ (c + 1) 0 (by omega) (by omega)
    exact congrArg nI (rf_sm_congr fun r hr => by
      obtain ⟨q1, q2, q3⟩ := eq r hr
      rw [q1, q2])
  · exact rf_xpl0 hn hp (br_t rfl (rf_yb1 hn hp (br_f (by decide) ⟨rfl, rf_rel hn hS⟩)))
theorem i_vc_squaresFrom {k : Nat} {u : SX} {v : SY} (I : i_Rel k u v) (hk : k + 3 ≤ 1536) (v1 : Int32) : wpX_squaresFrom (fun r u' => wpY_squaresFrom (fun r' => r' = r ∧ i_Rel (k + 3) u' v) v v1) u v1 := by
  obtain ⟨n, rc, cu, w, af, fi, la, st, fo, cp, f2, l2, le, rfl, rfl, hn, hS⟩ := I
  unfold wpX_squaresFrom wpY_squaresFrom
  dsimp only
  by_cases hp : ∃ j, j < n ∧ v1 = nI j
  · obtain ⟨j, hj, rfl⟩ := hp
    refine rf_xpl1 hn hj (br_f (by decide) ?_)
    refine rf_xref hn hS fun c F E P a g1 g2 g3 hF hR => ⟨c + 1, ?_⟩
    refine rf_xsf18 hn hF hR hj ?_ (c + 1) 0 (by omega) (by omega)
    refine rf_yb0 hn hj (br_t rfl ⟨n + 1, ?_⟩)
    refine rf_ysf14 hn hj ⟨?_, rf_rel1 hn hF hR⟩ (n + 1) 0 (by omega) (by omega)
    exact congrArg nI (rf_law_sf hF).symm
  · exact rf_xpl0 hn hp (br_t rfl (rf_yb1 hn hp (br_f (by decide) ⟨rfl, rf_rel hn hS⟩)))
theorem i_vc_squares {k : Nat} {u : SX} {v : SY} (I : i_Rel k u v) (hk : k + 3 ≤ 1536) : wpX_squares (fun r u' => wpY_squares (fun r' => r' = r ∧ i_Rel (k + 3) u' v) v) u := by
  obtain ⟨n, rc, cu, w, af, fi, la, st, fo, cp, f2, l2, le, rfl, rfl, hn, hS⟩ := I
  unfold wpX_squares wpY_squares
  dsimp only
  refine rf_xref hn hS fun c F E P a g1 g2 g3 hF hR => ⟨c + 1, ?_⟩
  refine rf_xsq8 hn hF hR ⟨n + 1, ?_⟩ (c + 1) 0 (by omega) (by omega)
  refine rf_ysq4 hn ⟨?_, rf_rel1 hn hF hR⟩ (n + 1) 0 (by omega) (by omega)
  exact congrArg nI (rf_law_sq hn hF).symm
theorem i_vc_periodOf {k : Nat} {u : SX} {v : SY} (I : i_Rel k u v) (hk : k + 3 ≤ 1536) (v1 : Int32) (v2 : Int32) : wpX_periodOf (fun r u' => wpY_periodOf (fun r' => r' = r ∧ i_Rel (k + 3) u' v) v v1 v2) u v1 v2 := by
  obtain ⟨n, rc, cu, w, af, fi, la, st, fo, cp, f2, l2, le, rfl, rfl, hn, hS⟩ := I
  unfold wpX_periodOf wpY_periodOf
  dsimp only
  by_cases hp : ∃ j, j < n ∧ v1 = nI j
  · obtain ⟨i, hi, rfl⟩ := hp
    refine rf_xpl1 hn hi (br_f (by decide) ?_)
    by_cases hq : ∃ j, j < n ∧ v2 = nI j
    · obtain ⟨j, hj, rfl⟩ := hq
      refine rf_xpl1 hn hj (br_f (by decide) ?_)
      refine pk_le i j (fun hij => ?_) (fun hij => ?_)
      · refine rf_xref hn hS fun c F E P a g1 g2 g3 hF hR => ⟨c + 1, ?_⟩
        refine rf_xpo32 hn hF hR hij hj (fun b hb hb2 => ?_) (c + 1) 0 0 (by omega) (by omega) (by omega) ⟨fun _ r hr => by omega, fun h => absurd rfl h⟩
        refine rf_yb0 hn hi (br_t rfl ?_)
        refine rf_yb0 hn hj (br_t rfl ?_)
        refine br_t (nI_le hij (by omega)) ?_
        refine rf_ylp (by omega) hij fun p hL hp2 => ?_
        have eb := rf_law_po hF hij hj hL hb
        refine pk_lt (j + 1 - i) (2 * p) (fun z => ⟨?_, rf_rel1 hn hF hR⟩) (fun z => ⟨?_, rf_rel1 hn hF hR⟩) (rf_len hij) (rf_2m p)
        · rw [eb, if_neg (by omega)]
          exact rfl
        · rw [eb, if_pos (by omega)]
      · exact rf_yb0 hn hi (br_t rfl (rf_yb0 hn hj (br_t rfl (br_f (nI_ge hij (by omega)) ⟨rfl, rf_rel hn hS⟩))))
    · exact rf_xpl0 hn hq (br_t rfl (rf_yb0 hn hi (br_t rfl (rf_yb1 hn hq (br_f (by decide) ⟨rfl, rf_rel hn hS⟩)))))
  · exact rf_xpl0 hn hp (br_t rfl (rf_yb1 hn hp (br_f (by decide) ⟨rfl, rf_rel hn hS⟩)))
theorem i_vc_longest {k : Nat} {u : SX} {v : SY} (I : i_Rel k u v) (hk : k + 3 ≤ 1536) : wpX_longest (fun r u' => wpY_longest (fun r' v' => r' = r ∧ i_Rel (k + 3) u' v') v) u := by
  obtain ⟨n, rc, cu, w, af, fi, la, st, fo, cp, f2, l2, le, rfl, rfl, hn, hS⟩ := I
  unfold wpX_longest wpY_longest
  dsimp only
  refine rf_xref hn hS fun c F E P a g1 g2 g3 hF hR => ⟨c + 1, ?_⟩
  refine rf_xlo8 hn hF hR ?_ (c + 1) 0 (by omega) (by omega)
  refine rf_ylist hn fun c' F' E' P' h1 h2 h3 hF' hR' => ⟨c' + 1, ?_⟩
  obtain ⟨ec, eq⟩ := rf_ful_uniq hn hF hF'
  subst ec
  refine rf_ylo8 hn hF' hR' ⟨?_, rf_rel1 hn hF hR⟩ (c + 1) 0 (by omega) (by omega)
  exact congrArg nI (rf_mx_congr fun r hr => by
    obtain ⟨q1, q2, q3⟩ := eq r hr
    rw [q1, q2])
theorem i_vc_power {k : Nat} {u : SX} {v : SY} (I : i_Rel k u v) (hk : k + 3 ≤ 1536) : wpX_power (fun r u' => wpY_power (fun r' v' => r' = r ∧ i_Rel (k + 3) u' v') v) u := by
  obtain ⟨n, rc, cu, w, af, fi, la, st, fo, cp, f2, l2, le, rfl, rfl, hn, hS⟩ := I
  unfold wpX_power wpY_power
  dsimp only
  refine rf_xref hn hS fun c F E P a g1 g2 g3 hF hR => ⟨c + 1, ?_⟩
  refine rf_xpw8 hn hF hR ?_ (c + 1) 0 (by omega) (by omega)
  refine rf_ylist hn fun c' F' E' P' h1 h2 h3 hF' hR' => ⟨c' + 1, ?_⟩
  obtain ⟨ec, eq⟩ := rf_ful_uniq hn hF hF'
  subst ec
  refine rf_ypw8 hn hF' hR' ⟨?_, rf_rel1 hn hF hR⟩ (c + 1) 0 (by omega) (by omega)
  exact congrArg nI (rf_mx_congr fun r hr => by
    obtain ⟨q1, q2, q3⟩ := eq r hr
    rw [q1, q2, q3])
theorem i_vc_common {k : Nat} {u : SX} {v : SY} (I : i_Rel k u v) (hk : k + 3 ≤ 1536) (v1 : Int32) (v2 : Int32) : wpX_common (fun r => wpY_common (fun r' => r' = r ∧ i_Rel (k + 3) u v) v v1 v2) u v1 v2 := by
  obtain ⟨n, rc, cu, w, af, fi, la, st, fo, cp, f2, l2, le, rfl, rfl, hn, hS⟩ := I
  unfold wpX_common wpY_common
  dsimp only
  by_cases hp : ∃ j, j < n ∧ v1 = nI j
  · obtain ⟨i, hi, rfl⟩ := hp
    refine rf_xpl1 hn hi (br_f (by decide) ?_)
    by_cases hq : ∃ j, j < n ∧ v2 = nI j
    · obtain ⟨j, hj, rfl⟩ := hq
      refine rf_xpl1 hn hj (br_f (by decide) ?_)
      refine rf_xfw hn (by omega) (by omega) fun L hL => ?_
      refine rf_yb0 hn hi (br_t rfl ?_)
      refine rf_yb0 hn hj (br_t rfl ?_)
      refine rf_ysh hn (by omega) (by omega) fun L' hL' => ?_
      rw [rf_FW_uniq hL' hL]
      exact ⟨rfl, rf_rel hn hS⟩
    · exact rf_xpl0 hn hq (br_t rfl (rf_yb0 hn hi (br_t rfl (rf_yb1 hn hq (br_f (by decide) ⟨rfl, rf_rel hn hS⟩)))))
  · exact rf_xpl0 hn hp (br_t rfl (rf_yb1 hn hp (br_f (by decide) ⟨rfl, rf_rel hn hS⟩)))
theorem i_vc_nextSmaller {k : Nat} {u : SX} {v : SY} (I : i_Rel k u v) (hk : k + 3 ≤ 1536) (v1 : Int32) : wpX_nextSmaller (fun r u' => wpY_nextSmaller (fun r' => r' = r ∧ i_Rel (k + 3) u' v) v v1) u v1 := by
  obtain ⟨n, rc, cu, w, af, fi, la, st, fo, cp, f2, l2, le, rfl, rfl, hn, hS⟩ := I
  unfold wpX_nextSmaller wpY_nextSmaller
  dsimp only
  by_cases hp : ∃ j, j < n ∧ v1 = nI j
  · obtain ⟨i, hi, rfl⟩ := hp
    refine rf_xpl1 hn hi (br_f (by decide) ?_)
    refine rf_xfe (rs := true) hn fun a hA => ⟨vp_in_nI (by omega) (by omega), ?_⟩
    obtain ⟨x, ex, Nx⟩ := hA i (Nat.zero_le i) hi
    dsimp only
    rw [nI_clamp (n := i) (by omega), ex]
    refine rf_yb0 hn hi (br_t rfl (nm_r (nI_1 i) ⟨n + 1, ?_⟩))
    refine rf_yns hn hi (fun y Ny => ?_) (n + 1) (i + 1) (by omega) (by omega) (by omega) (fun m m1 m2 => by omega)
    rw [rf_NS_uniq Ny Nx]
    exact ⟨rfl, rf_rel hn hS⟩
  · exact rf_xpl0 hn hp (br_t rfl (rf_yb1 hn hp (br_f (by decide) ⟨rfl, rf_rel hn hS⟩)))
end
