section
theorem pk_us {f : Nat → Int32} {k : Nat} {x : Int32} : upd f k x k = x := if_pos rfl
theorem pk_un {f : Nat → Int32} {k j : Nat} {x : Int32} (h : j ≠ k) : upd f k x j = f j := if_neg h
theorem pk_sub {a b : Nat} (h : b ≤ a) : nI a - nI b = nI (a - b) := by
  obtain ⟨c, rfl⟩ : ∃ c, a = c + b := ⟨a - b, by omega⟩
  rw [← nI_add, Int32.add_sub_cancel, Nat.add_sub_cancel]
theorem pk_m1 (n : Nat) : nI (n + 1) + (-1) = nI n := by
  rw [← nI_1, Int32.add_assoc, show (1 : Int32) + (-1) = 0 from rfl, Int32.add_zero]
theorem pk_sub_toInt {a b : Nat} (ha : a < 2 ^ 30) (hb : b < 2 ^ 30) : (nI a - nI b).toInt = (a : Int) - b := by
  rw [Int32.toInt_sub, nI_toInt (by omega), nI_toInt (by omega)]
  exact Int.bmod_eq_of_le (by omega) (by omega)
theorem pk_sneg {a b : Nat} (hb : b < 2 ^ 30) (h : a < b) : nI a - nI b < 0 := by
  rw [Int32.lt_iff_toInt_lt, pk_sub_toInt (by omega) hb, show (0 : Int32).toInt = 0 from by decide]
  omega
theorem pk_ix (x : Int32) {n : Nat} (hn : n < 2 ^ 31) : x < 0 ∨ nI n ≤ x ∨ ∃ j : Nat, j < n ∧ x = nI j := by
  by_cases h : x < 0
  · exact Or.inl h
  · obtain ⟨j, hj, rfl⟩ := nI_of h
    by_cases h2 : j < n
    · exact Or.inr (Or.inr ⟨j, h2, rfl⟩)
    · exact Or.inr (Or.inl (nI_le (by omega) hj))
theorem pk_le {x y : Int32} {A B : Prop} (a b : Nat) (f : a ≤ b → A) (g : b < a → B) (hx : x = nI a := by rfl) (hy : y = nI b := by rfl) (ha : a < 2 ^ 31 := by omega) (hb : b < 2 ^ 31 := by omega) : (x ≤ y → A) ∧ (¬ x ≤ y → B) := by
  subst hx hy
  rw [nI_leI ha hb]
  exact ⟨f, fun z => g (by omega)⟩
theorem pk_lt {x y : Int32} {A B : Prop} (a b : Nat) (f : a < b → A) (g : b ≤ a → B) (hx : x = nI a := by rfl) (hy : y = nI b := by rfl) (ha : a < 2 ^ 31 := by omega) (hb : b < 2 ^ 31 := by omega) : (x < y → A) ∧ (¬ x < y → B) := by
  subst hx hy
  rw [nI_ltI ha hb]
  exact ⟨f, fun z => g (by omega)⟩
theorem pk_eq {x y : Int32} {A B : Prop} (a b : Nat) (f : a = b → A) (g : a ≠ b → B) (hx : x = nI a := by rfl) (hy : y = nI b := by rfl) (ha : a < 2 ^ 31 := by omega) (hb : b < 2 ^ 31 := by omega) : (x = y → A) ∧ (¬ x = y → B) := by
  subst hx hy
  rw [nI_eq ha hb]
  exact ⟨f, g⟩
theorem pk_in {x : Int32} (n N : Nat) (h : n < N) (hx : x = nI n := by rfl) (hN : N < 2 ^ 31 := by omega) : vp_in x N := by
  subst hx
  exact vp_in_nI h hN
theorem pk_cl {x : Int32} (n : Nat) (hx : x = nI n := by rfl) (h : n < 2 ^ 31 := by omega) : x.toNatClampNeg = n := by
  subst hx
  exact nI_clamp h
/-- an array of naturals, as ints -/
def oe_A (f : Nat → Nat) : Nat → Int32 := fun i => nI (f i)
def oe_u (f : Nat → Nat) (k v : Nat) : Nat → Nat := fun j => if j = k then v else f j
theorem oe_us {f : Nat → Nat} {k v : Nat} : oe_u f k v k = v := if_pos rfl
theorem oe_un {f : Nat → Nat} {k v j : Nat} (h : j ≠ k) : oe_u f k v j = f j := if_neg h
theorem oe_Au (f : Nat → Nat) (k v : Nat) : upd (oe_A f) k (nI v) = oe_A (oe_u f k v) := by
  funext j
  by_cases h : j = k
  · subst h; rw [pk_us]; show _ = nI (oe_u f j v j); rw [oe_us]
  · rw [pk_un h]; show nI (f j) = nI (oe_u f k v j); rw [oe_un h]
theorem oe_rd (f : Nat → Nat) {c : Nat} (h : c < 2 ^ 31) : oe_A f (nI c).toNatClampNeg = nI (f c) := by
  rw [nI_clamp h]; rfl
theorem oe_st (f : Nat → Nat) {c : Nat} (v : Nat) (h : c < 2 ^ 31) : upd (oe_A f) (nI c).toNatClampNeg (nI v) = oe_A (oe_u f c v) := by
  rw [nI_clamp h, oe_Au]
theorem oe_A0 : (fun _ => 0 : Nat → Int32) = oe_A (fun _ => 0) := by funext j; exact nI_0.symm
theorem oe_nar0 : vp_nar .boolean 0 = nI 0 := rfl
theorem oe_nar1 : vp_nar .boolean 1 = nI 1 := rfl
theorem oe_nar {v : Nat} (h : v ≤ 1) : vp_nar .boolean (nI v) = nI v := by
  rcases Nat.le_one_iff_eq_zero_or_eq_one.mp h with e | e
  · subst e; rfl
  · subst e; rfl
theorem oe_uu (f : Nat → Nat) (k v : Nat) (h : f k = v) : oe_u f k v = f := by
  funext j
  by_cases e : j = k
  · subst e; rw [oe_us, h]
  · rw [oe_un e]
end
section
/-! the level sequence: ends of branches, backward scans -/
def oe_enF (D : Nat → Nat) (d : Nat) : Nat → Nat → Nat
  | 0, j => j
  | f + 1, j => if d < D j then oe_enF D d f (j + 1) else j
/-- the position behind the branch at k -/
def oe_en (D : Nat → Nat) (m k : Nat) : Nat := oe_enF D (D k) (m - (k + 1)) (k + 1)
theorem oe_enF_spec (D : Nat → Nat) (d : Nat) : ∀ f j, j ≤ oe_enF D d f j ∧ oe_enF D d f j ≤ j + f ∧ (∀ q, j ≤ q → q < oe_enF D d f j → d < D q) ∧ (oe_enF D d f j < j + f → D (oe_enF D d f j) ≤ d)
  | 0, j => ⟨Nat.le_refl _, Nat.le_refl _, fun q h1 h2 => absurd h2 (Nat.not_lt.mpr h1), fun h => absurd h (Nat.lt_irrefl _)⟩
  | f + 1, j => by
    obtain ⟨a, b, c, d'⟩ := oe_enF_spec D d f (j + 1)
    unfold oe_enF
    by_cases h : d < D j
    · rw [if_pos h]
      refine ⟨by omega, by omega, fun q h1 h2 => ?_, fun h3 => d' (by omega)⟩
      by_cases e : q = j
      · rw [e]; exact h
      · exact c q (by omega) h2
    · rw [if_neg h]
      exact ⟨Nat.le_refl _, by omega, fun q h1 h2 => by omega, fun _ => by omega⟩
theorem oe_en_lt {D : Nat → Nat} {m k : Nat} : k < oe_en D m k := (oe_enF_spec D (D k) (m - (k + 1)) (k + 1)).1
theorem oe_en_le {D : Nat → Nat} {m k : Nat} (h : k < m) : oe_en D m k ≤ m := by
  have := (oe_enF_spec D (D k) (m - (k + 1)) (k + 1)).2.1
  unfold oe_en; omega
theorem oe_en_in {D : Nat → Nat} {m k q : Nat} (h1 : k < q) (h2 : q < oe_en D m k) : D k < D q :=
  (oe_enF_spec D (D k) (m - (k + 1)) (k + 1)).2.2.1 q h1 h2
theorem oe_en_at {D : Nat → Nat} {m k : Nat} (h : oe_en D m k < m) : D (oe_en D m k) ≤ D k := by
  have hl := oe_en_lt (D := D) (m := m) (k := k)
  refine (oe_enF_spec D (D k) (m - (k + 1)) (k + 1)).2.2.2 ?_
  show oe_en D m k < _
  omega
theorem oe_en_eq {D : Nat → Nat} {m k e : Nat} (h1 : k < e) (h2 : e ≤ m) (h3 : ∀ q, k < q → q < e → D k < D q) (h4 : e < m → D e ≤ D k) : oe_en D m k = e := by
  have a := oe_en_lt (D := D) (m := m) (k := k)
  have b := oe_en_le (D := D) (m := m) (k := k) (by omega)
  rcases Nat.lt_trichotomy (oe_en D m k) e with h | h | h
  · have x := h3 _ a h
    have y := oe_en_at (D := D) (m := m) (k := k) (by omega)
    omega
  · exact h
  · have x := oe_en_in (D := D) (m := m) h1 h
    have y := h4 (by omega)
    omega
/-- the last position below k whose level is below b -/
def oe_sc (D : Nat → Nat) (b : Nat) : Nat → Nat
  | 0 => 0
  | k + 1 => if D k < b then k else oe_sc D b k
theorem oe_sc_spec {D : Nat → Nat} {b : Nat} (h0 : D 0 < b) : ∀ k, 0 < k → oe_sc D b k < k ∧ D (oe_sc D b k) < b ∧ ∀ q, oe_sc D b k < q → q < k → b ≤ D q
  | 0, h => absurd h (Nat.lt_irrefl _)
  | k + 1, _ => by
    unfold oe_sc
    by_cases h : D k < b
    · rw [if_pos h]; exact ⟨by omega, h, fun q h1 h2 => by omega⟩
    · rw [if_neg h]
      have hk : 0 < k := by
        rcases Nat.eq_zero_or_pos k with e | e
        · subst e; exact absurd h0 h
        · exact e
      obtain ⟨a, b', c⟩ := oe_sc_spec h0 k hk
      refine ⟨by omega, b', fun q h1 h2 => ?_⟩
      by_cases e : q = k
      · subst e; omega
      · exact c q h1 (by omega)
theorem oe_sc_eq {D : Nat → Nat} {b j : Nat} : ∀ {k : Nat}, j < k → D j < b → (∀ q, j < q → q < k → b ≤ D q) → oe_sc D b k = j
  | 0, h1, _, _ => absurd h1 (Nat.not_lt_zero _)
  | k + 1, h1, h2, h3 => by
    unfold oe_sc
    by_cases h : D k < b
    · rw [if_pos h]
      rcases Nat.lt_or_ge j k with z | z
      · have := h3 k z (by omega); omega
      · omega
    · rw [if_neg h]
      have z : j ≠ k := by intro e; subst e; exact h h2
      exact oe_sc_eq (by omega) h2 (fun q a b => h3 q a (by omega))
theorem oe_sc_congr {D D' : Nat → Nat} {b : Nat} : ∀ {k : Nat}, (∀ q, q < k → D q = D' q) → oe_sc D b k = oe_sc D' b k
  | 0, _ => rfl
  | k + 1, h => by
    unfold oe_sc
    rw [h k (by omega), oe_sc_congr (k := k) (fun q hq => h q (by omega))]
/-- an outline: the root at level 0, all others deeper, never a step of two down -/
def oe_W (D : Nat → Nat) (m : Nat) : Prop := 0 < m ∧ D 0 = 0 ∧ ∀ k, 0 < k → k < m → 0 < D k ∧ D k ≤ D (k - 1) + 1
theorem oe_sc_lev {D : Nat → Nat} {m b k : Nat} (W : oe_W D m) (hk : 0 < k) (hm : k ≤ m) (hb : 0 < b) (h : b ≤ D (k - 1) + 1) : D (oe_sc D b k) + 1 = b := by
  obtain ⟨a, b', c⟩ := oe_sc_spec (D := D) (b := b) (by rw [W.2.1]; exact hb) k hk
  by_cases e : oe_sc D b k = k - 1
  · rw [e] at b' ⊢; omega
  · have x := c (oe_sc D b k + 1) (by omega) (by omega)
    have y := (W.2.2 (oe_sc D b k + 1) (by omega) (by omega)).2
    rw [Nat.add_sub_cancel] at y
    omega
theorem oe_W_le {D : Nat → Nat} {m : Nat} (W : oe_W D m) : ∀ k, k < m → D k ≤ k
  | 0, _ => by rw [W.2.1]; exact Nat.le_refl _
  | k + 1, h => by
    have x := (W.2.2 (k + 1) (by omega) h).2
    have y := oe_W_le W k (by omega)
    rw [Nat.add_sub_cancel] at x
    omega
/-- the parent's position -/
theorem oe_pa {D : Nat → Nat} {m k : Nat} (W : oe_W D m) (hk : 0 < k) (hm : k < m) : oe_sc D (D k) k < k ∧ D (oe_sc D (D k) k) + 1 = D k ∧ (∀ q, oe_sc D (D k) k < q → q < k → D k ≤ D q) := by
  obtain ⟨h1, h2⟩ := W.2.2 k hk hm
  obtain ⟨a, b', c⟩ := oe_sc_spec (D := D) (b := D k) (by rw [W.2.1]; exact h1) k hk
  exact ⟨a, oe_sc_lev W hk (by omega) h1 h2, c⟩
/-- the sibling ahead, or the first child -/
theorem oe_pb {D : Nat → Nat} {m k : Nat} (W : oe_W D m) (hk : 0 < k) (hm : k < m) :
    (D (oe_sc D (D k + 1) k) = D k ∧ 0 < oe_sc D (D k + 1) k ∧ oe_sc D (D k + 1) k < k ∧ (∀ q, oe_sc D (D k + 1) k < q → q < k → D k < D q) ∧ D k ≤ D (k - 1)) ∨
    (oe_sc D (D k + 1) k = k - 1 ∧ oe_sc D (D k) k = k - 1 ∧ D (k - 1) + 1 = D k) := by
  obtain ⟨h1, h2⟩ := W.2.2 k hk hm
  obtain ⟨a, b', c⟩ := oe_sc_spec (D := D) (b := D k + 1) (by rw [W.2.1]; omega) k hk
  by_cases h : D k ≤ D (k - 1)
  · have e := oe_sc_lev (b := D k + 1) W hk (by omega) (by omega) (by omega)
    refine Or.inl ⟨by omega, ?_, a, fun q x y => c q x y, h⟩
    rcases Nat.eq_zero_or_pos (oe_sc D (D k + 1) k) with z | z
    · rw [z, W.2.1] at e; omega
    · exact z
  · refine Or.inr ⟨oe_sc_eq (by omega) (by omega) (fun q x y => by omega), oe_sc_eq (by omega) (by omega) (fun q x y => by omega), by omega⟩
/-- windows are nested -/
theorem oe_lam {D : Nat → Nat} {m k j : Nat} (hm : k < m) (h1 : k ≤ j) (h2 : j < oe_en D m k) : oe_en D m j ≤ oe_en D m k := by
  have hl := oe_en_le (D := D) hm
  by_cases e : j = k
  · subst e; exact Nat.le_refl _
  · have x := oe_en_in (D := D) (m := m) (k := k) (q := j) (by omega) h2
    rcases Nat.lt_or_ge (oe_en D m k) (oe_en D m j) with z | z
    · have y := oe_en_in (D := D) (m := m) (k := j) h2 z
      have l2 := oe_en_le (D := D) (m := m) (k := j) (by omega)
      have u := oe_en_at (D := D) (m := m) (k := k) (by omega)
      omega
    · exact z
theorem oe_pa_an {D : Nat → Nat} {m k : Nat} (W : oe_W D m) (hk : 0 < k) (hm : k < m) : k < oe_en D m (oe_sc D (D k) k) := by
  obtain ⟨a, b, c⟩ := oe_pa W hk hm
  have l := oe_en_lt (D := D) (m := m) (k := oe_sc D (D k) k)
  rcases Nat.lt_or_ge k (oe_en D m (oe_sc D (D k) k)) with z | z
  · exact z
  · have x := oe_en_at (D := D) (m := m) (k := oe_sc D (D k) k) (by omega)
    by_cases e : oe_en D m (oe_sc D (D k) k) = k
    · rw [e] at x; omega
    · have y := c _ l (by omega); omega
theorem oe_pa_en {D : Nat → Nat} {m k : Nat} (W : oe_W D m) (hk : 0 < k) (hm : k < m) : oe_en D m k ≤ oe_en D m (oe_sc D (D k) k) :=
  oe_lam (by have := (oe_pa W hk hm).1; omega) (Nat.le_of_lt (oe_pa W hk hm).1) (oe_pa_an W hk hm)
/-- an ancestor of k is an ancestor-or-self of k's parent -/
theorem oe_an_pa {D : Nat → Nat} {m k q : Nat} (W : oe_W D m) (hk : 0 < k) (hm : k < m) (h1 : q < k) (h2 : k < oe_en D m q) : q ≤ oe_sc D (D k) k := by
  have x := oe_en_in (D := D) (m := m) h1 h2
  obtain ⟨a, b, c⟩ := oe_pa W hk hm
  rcases Nat.lt_or_ge (oe_sc D (D k) k) q with z | z
  · have := c q z h1; omega
  · exact z
/-- the end of the sibling ahead -/
theorem oe_pb_en {D : Nat → Nat} {m k : Nat} (W : oe_W D m) (hk : 0 < k) (hm : k < m) (h : D (oe_sc D (D k + 1) k) = D k) : oe_en D m (oe_sc D (D k + 1) k) = k := by
  rcases oe_pb W hk hm with ⟨a, b, c, d, e⟩ | ⟨a, b, c⟩
  · exact oe_en_eq c (by omega) (fun q x y => by rw [a]; exact d q x y) (fun _ => by omega)
  · rw [a] at h; omega
/-- a step along the children of k -/
theorem oe_sib {D : Nat → Nat} {m k j : Nat} (hm : k < m) (h1 : k < j) (h2 : j < oe_en D m k) (hd : D j = D k + 1) :
    oe_en D m j ≤ oe_en D m k ∧ (oe_en D m j < oe_en D m k → oe_en D m j < m ∧ D (oe_en D m j) = D j) ∧ (oe_en D m j = oe_en D m k → oe_en D m j < m → D (oe_en D m j) ≠ D j) := by
  have l := oe_lam hm (Nat.le_of_lt h1) h2
  have l2 := oe_en_le (D := D) hm
  have l3 := oe_en_lt (D := D) (m := m) (k := j)
  refine ⟨l, fun z => ⟨by omega, ?_⟩, fun z z2 => ?_⟩
  · have x := oe_en_in (D := D) (m := m) (k := k) (q := oe_en D m j) (by omega) z
    have y := oe_en_at (D := D) (m := m) (k := j) (by omega)
    omega
  · have x := oe_en_at (D := D) (m := m) (k := k) (by omega)
    rw [z]; omega
/-- the same window elsewhere, its levels shifted -/
theorem oe_win {D D' : Nat → Nat} {m m' k k' L c c' : Nat} (hk : k < m) (hL : oe_en D m k = k + L) (hm : k' + L ≤ m') (hD : ∀ t, t < L → D' (k' + t) + c = D (k + t) + c') (he : k' + L < m' → D' (k' + L) ≤ D' k') :
    ∀ t, t < L → oe_en D' m' (k' + t) + k = oe_en D m (k + t) + k' := by
  intro t ht
  have hkm := oe_en_le (D := D) hk
  have l1 := oe_en_lt (D := D) (m := m) (k := k + t)
  have l2 := oe_lam (D := D) (j := k + t) hk (by omega) (by omega)
  have hLp := oe_en_lt (D := D) (m := m) (k := k)
  obtain ⟨s, hs⟩ : ∃ s, oe_en D m (k + t) = k + s := ⟨oe_en D m (k + t) - k, by omega⟩
  have key : oe_en D' m' (k' + t) = k' + s := by
    apply oe_en_eq
    · omega
    · omega
    · intro q h1 h2
      obtain ⟨r, rfl⟩ : ∃ r, q = k' + r := ⟨q - k', by omega⟩
      have x := oe_en_in (D := D) (m := m) (k := k + t) (q := k + r) (by omega) (by omega)
      have y1 := hD t ht
      have y2 := hD r (by omega)
      omega
    · intro h
      by_cases e : s = L
      · subst e
        have x := he h
        have y1 := hD t ht
        have y0 := hD 0 (by omega)
        rw [Nat.add_zero, Nat.add_zero] at y0
        by_cases t0 : t = 0
        · subst t0; rw [Nat.add_zero]; exact x
        · have z := oe_en_in (D := D) (m := m) (k := k) (q := k + t) (by omega) (by omega)
          omega
      · have x := oe_en_at (D := D) (m := m) (k := k + t) (by omega)
        rw [hs] at x
        have y1 := hD t ht
        have y2 := hD s (by omega)
        omega
  omega
end
section
/-! counting, visible positions, sizes -/
noncomputable def oe_b (P : Prop) : Nat := @ite Nat P (Classical.propDecidable P) 1 0
theorem oe_b1 {P : Prop} (h : P) : oe_b P = 1 := by unfold oe_b; rw [if_pos h]
theorem oe_b0 {P : Prop} (h : ¬ P) : oe_b P = 0 := by unfold oe_b; rw [if_neg h]
theorem oe_bc {P Q : Prop} (h : P ↔ Q) : oe_b P = oe_b Q := by
  rcases Classical.em P with hp | hp
  · rw [oe_b1 hp, oe_b1 (h.mp hp)]
  · rw [oe_b0 hp, oe_b0 (fun z => hp (h.mpr z))]
theorem oe_b01 (P : Prop) : oe_b P ≤ 1 := by
  rcases Classical.em P with h | h
  · rw [oe_b1 h]; omega
  · rw [oe_b0 h]; omega
/-- how many of the n positions from lo satisfy P -/
noncomputable def oe_cn (P : Nat → Prop) (lo : Nat) : Nat → Nat
  | 0 => 0
  | n + 1 => oe_cn P lo n + oe_b (P (lo + n))
theorem oe_cn_congr {P P' : Nat → Prop} {lo lo' : Nat} : ∀ {n : Nat}, (∀ t, t < n → (P (lo + t) ↔ P' (lo' + t))) → oe_cn P lo n = oe_cn P' lo' n
  | 0, _ => rfl
  | n + 1, h => by
    unfold oe_cn
    rw [oe_cn_congr (n := n) (fun t ht => h t (by omega)), oe_bc (h n (by omega))]
theorem oe_cn_add (P : Nat → Prop) (lo a : Nat) : ∀ b, oe_cn P lo (a + b) = oe_cn P lo a + oe_cn P (lo + a) b
  | 0 => rfl
  | b + 1 => by
    show oe_cn P lo (a + b) + oe_b (P (lo + (a + b))) = oe_cn P lo a + (oe_cn P (lo + a) b + oe_b (P (lo + a + b)))
    rw [oe_cn_add P lo a b, Nat.add_assoc lo a b, Nat.add_assoc]
theorem oe_cn_zero {P : Nat → Prop} {lo : Nat} : ∀ {n : Nat}, (∀ t, t < n → ¬ P (lo + t)) → oe_cn P lo n = 0
  | 0, _ => rfl
  | n + 1, h => by
    unfold oe_cn
    rw [oe_cn_zero (n := n) (fun t ht => h t (by omega)), oe_b0 (h n (by omega))]
theorem oe_cn_le (P : Nat → Prop) (lo : Nat) : ∀ n, oe_cn P lo n ≤ n
  | 0 => Nat.le_refl _
  | n + 1 => by
    have a := oe_cn_le P lo n
    have b := oe_b01 (P (lo + n))
    show oe_cn P lo n + oe_b (P (lo + n)) ≤ n + 1
    omega
theorem oe_cn_one (P : Nat → Prop) (lo : Nat) : oe_cn P lo 1 = oe_b (P lo) := by
  show 0 + oe_b (P (lo + 0)) = _
  rw [Nat.zero_add, Nat.add_zero]
/-- the first of a run, split off -/
theorem oe_cn_hd (P : Nat → Prop) (lo n : Nat) : oe_cn P lo (n + 1) = oe_b (P lo) + oe_cn P (lo + 1) n := by
  rw [Nat.add_comm n 1, oe_cn_add, oe_cn_one]
/-- split at a place -/
theorem oe_cn_sp (P : Nat → Prop) {lo a b : Nat} (h1 : lo ≤ a) (h2 : a ≤ b) : oe_cn P lo (b - lo) = oe_cn P lo (a - lo) + oe_cn P a (b - a) := by
  have := oe_cn_add P lo (a - lo) (b - a)
  rw [show a - lo + (b - a) = b - lo from by omega, show lo + (a - lo) = a from by omega] at this
  exact this
theorem oe_cn_find {P : Nat → Prop} {lo r : Nat} : ∀ {n : Nat}, r < oe_cn P lo n → ∃ t, t < n ∧ P (lo + t) ∧ oe_cn P lo t = r
  | 0, h => absurd h (Nat.not_lt_zero _)
  | n + 1, h => by
    have h' : r < oe_cn P lo n + oe_b (P (lo + n)) := h
    rcases Nat.lt_or_ge r (oe_cn P lo n) with z | z
    · obtain ⟨t, a, b, c⟩ := oe_cn_find z
      exact ⟨t, by omega, b, c⟩
    · have b := oe_b01 (P (lo + n))
      refine ⟨n, by omega, ?_, by omega⟩
      rcases Classical.em (P (lo + n)) with hp | hp
      · exact hp
      · rw [oe_b0 hp] at h'; omega
/-- a is visible as seen from lo -/
def oe_vs (F D : Nat → Nat) (m lo a : Nat) : Prop := ∀ b, lo ≤ b → b < a → F b ≠ 0 → oe_en D m b ≤ a
theorem oe_vs_self (F D : Nat → Nat) (m k : Nat) : oe_vs F D m k k := fun b h1 h2 => absurd h2 (Nat.not_lt.mpr h1)
theorem oe_vs_drop {F D : Nat → Nat} {m k j a : Nat} (hkj : k ≤ j) (h : ∀ b, k ≤ b → b < j → F b ≠ 0 → oe_en D m b ≤ j) (ha : j ≤ a) : oe_vs F D m k a ↔ oe_vs F D m j a := by
  constructor
  · intro v b h1 h2 h3
    exact v b (by omega) h2 h3
  · intro v b h1 h2 h3
    rcases Nat.lt_or_ge b j with z | z
    · have := h b h1 z h3; omega
    · exact v b z h2 h3
/-- the rows of a branch -/
noncomputable def oe_vc (F D : Nat → Nat) (m k : Nat) : Nat := oe_cn (oe_vs F D m k) k (oe_en D m k - k)
theorem oe_vc_win {F F' D D' : Nat → Nat} {m m' k k' L c c' : Nat} (hk : k < m) (hL : oe_en D m k = k + L) (hm : k' + L ≤ m') (hD : ∀ t, t < L → D' (k' + t) + c = D (k + t) + c') (he : k' + L < m' → D' (k' + L) ≤ D' k') (hF : ∀ t, t < L → F' (k' + t) = F (k + t)) :
    oe_vc F' D' m' k' = oe_vc F D m k := by
  have w := oe_win hk hL hm hD he
  have hl := oe_en_lt (D := D) (m := m) (k := k)
  have w0 := w 0 (by omega)
  rw [Nat.add_zero, Nat.add_zero] at w0
  unfold oe_vc
  rw [show oe_en D' m' k' - k' = L from by omega, show oe_en D m k - k = L from by omega]
  apply oe_cn_congr
  intro t ht
  constructor
  · intro h b h1 h2 h3
    obtain ⟨s, rfl⟩ : ∃ s, b = k + s := ⟨b - k, by omega⟩
    have x := w s (by omega)
    have y := h (k' + s) (by omega) (by omega) (by rw [hF s (by omega)]; exact h3)
    omega
  · intro h b h1 h2 h3
    obtain ⟨s, rfl⟩ : ∃ s, b = k' + s := ⟨b - k', by omega⟩
    have x := w s (by omega)
    have y := h (k + s) (by omega) (by omega) (by rw [← hF s (by omega)]; exact h3)
    omega
theorem oe_vc_fold {F D : Nat → Nat} {m k : Nat} (h : F k ≠ 0) : oe_vc F D m k = 1 := by
  have hl := oe_en_lt (D := D) (m := m) (k := k)
  unfold oe_vc
  rw [show oe_en D m k - k = (oe_en D m k - k - 1) + 1 from by omega, oe_cn_hd, oe_b1 (oe_vs_self F D m k)]
  rw [oe_cn_zero]
  intro t ht v
  have := v k (Nat.le_refl _) (by omega) h
  omega
theorem oe_vc_open (F D : Nat → Nat) (m k : Nat) : oe_vc F D m k = 1 + oe_cn (oe_vs F D m k) (k + 1) (oe_en D m k - (k + 1)) := by
  have hl := oe_en_lt (D := D) (m := m) (k := k)
  unfold oe_vc
  rw [show oe_en D m k - k = (oe_en D m k - (k + 1)) + 1 from by omega, oe_cn_hd, oe_b1 (oe_vs_self F D m k)]
/-- a window seen from an earlier place from which nothing folded reaches into it -/
theorem oe_vc_from {F D : Nat → Nat} {m k j : Nat} (hkj : k ≤ j) (h : ∀ b, k ≤ b → b < j → F b ≠ 0 → oe_en D m b ≤ j) : oe_cn (oe_vs F D m k) j (oe_en D m j - j) = oe_vc F D m j := by
  unfold oe_vc
  apply oe_cn_congr
  intro t ht
  exact oe_vs_drop hkj h (by omega)
/-- nothing between k and its child j reaches over j -/
theorem oe_kid_cut {F D : Nat → Nat} {m k j : Nat} (hF : F k = 0) (h2 : j < oe_en D m k) (hd : D j = D k + 1) : ∀ b, k ≤ b → b < j → F b ≠ 0 → oe_en D m b ≤ j := by
  intro b h3 h4 h5
  rcases Nat.lt_or_ge j (oe_en D m b) with z | z
  · have x := oe_en_in (D := D) (m := m) h4 z
    have e : b ≠ k := by intro e; subst e; exact h5 hF
    have y := oe_en_in (D := D) (m := m) (k := k) (q := b) (by omega) (by omega)
    omega
  · exact z
def oe_z (y : Nat) : Nat := if y = 0 then 1 else 0
theorem oe_z0 : oe_z 0 = 1 := rfl
theorem oe_zp {y : Nat} (h : y ≠ 0) : oe_z y = 0 := if_neg h
/-- the size, the rows at position k are right -/
def oe_S (sz N D : Nat → Nat) (m k : Nat) : Prop := sz (N k) + oe_z (N k) = oe_en D m k - k
def oe_R (ri fo N D : Nat → Nat) (m k : Nat) : Prop := ri (N k) + oe_z (N k) = oe_vc (fun q => fo (N q)) D m k
end
section
/-! the links by position, and a window cut out -/
def oe_N (N : Nat → Nat) (m : Nat) : Prop := (∀ k, k < m → N k < 41) ∧ (∀ k, 0 < k → k < m → 0 < N k) ∧ (∀ j k, j < m → k < m → N j = N k → j = k)
def oe_C (ch N D : Nat → Nat) (m : Nat) : Prop := ∀ k, k < m → (k + 1 < m → D k < D (k + 1) → ch (N k) = N (k + 1)) ∧ ((k + 1 < m → D (k + 1) ≤ D k) → ch (N k) = 0)
def oe_P (ab N D : Nat → Nat) (m : Nat) : Prop := ∀ k, 0 < k → k < m → ab (N k) = N (oe_sc D (D k) k)
def oe_X (nx N D : Nat → Nat) (m : Nat) : Prop := ∀ k, 0 < k → k < m → (oe_en D m k < m → D (oe_en D m k) = D k → nx (N k) = N (oe_en D m k)) ∧ ((oe_en D m k < m → D (oe_en D m k) ≠ D k) → nx (N k) = 0)
def oe_B (bf N D : Nat → Nat) (m : Nat) : Prop := ∀ k, 0 < k → k < m → (D (oe_sc D (D k + 1) k) = D k → bf (N k) = N (oe_sc D (D k + 1) k)) ∧ (D (oe_sc D (D k + 1) k) ≠ D k → bf (N k) = 0)
/-- D2 is D1 with a branch of w positions put in at i -/
def oe_Q (D1 D2 : Nat → Nat) (m1 m2 i w : Nat) : Prop := 0 < i ∧ 0 < w ∧ m2 = m1 + w ∧ i ≤ m1 ∧ (∀ k, k < i → D1 k = D2 k) ∧ (∀ k, i ≤ k → D1 k = D2 (k + w)) ∧ (∀ t, 0 < t → t < w → D2 i < D2 (i + t)) ∧ (i < m1 → D2 (i + w) ≤ D2 i)
section
variable {D1 D2 N1 N2 NB DB : Nat → Nat} {m1 m2 i w : Nat}
theorem oe_Q_ge (Q : oe_Q D1 D2 m1 m2 i w) {q : Nat} (h1 : i ≤ q) (h2 : q < i + w) : D2 i ≤ D2 q := by
  obtain ⟨hi, hw, hm, him, ha, hb, hc, hd⟩ := Q
  by_cases e : q = i
  · subst e; exact Nat.le_refl _
  · have := hc (q - i) (by omega) (by omega)
    rw [show i + (q - i) = q from by omega] at this
    omega
theorem oe_Q_i (Q : oe_Q D1 D2 m1 m2 i w) : oe_en D2 m2 i = i + w := by
  obtain ⟨hi, hw, hm, him, ha, hb, hc, hd⟩ := Q
  apply oe_en_eq
  · omega
  · omega
  · intro q h1 h2
    have := hc (q - i) (by omega) (by omega)
    rw [show i + (q - i) = q from by omega] at this
    exact this
  · intro h; exact hd (by omega)
theorem oe_Q_lo (Q : oe_Q D1 D2 m1 m2 i w) {k : Nat} (hk : k < i) (h : oe_en D2 m2 k ≤ i) : oe_en D1 m1 k = oe_en D2 m2 k := by
  obtain ⟨hi, hw, hm, him, ha, hb, hc, hd⟩ := Q
  have l := oe_en_lt (D := D2) (m := m2) (k := k)
  apply oe_en_eq
  · exact l
  · omega
  · intro q h1 h2
    rw [ha k hk, ha q (by omega)]
    exact oe_en_in h1 h2
  · intro h3
    have x := oe_en_at (D := D2) (m := m2) (k := k) (by omega)
    rcases Nat.lt_or_ge (oe_en D2 m2 k) i with z | z
    · rw [ha k hk, ha _ z]; exact x
    · have e : oe_en D2 m2 k = i := by omega
      rw [e] at x h3 ⊢
      have y := hd h3
      rw [ha k hk, hb i (Nat.le_refl _)]
      omega
theorem oe_Q_mid (Q : oe_Q D1 D2 m1 m2 i w) {k : Nat} (hk : k < i) (h : i < oe_en D2 m2 k) : i + w ≤ oe_en D2 m2 k ∧ oe_en D1 m1 k = oe_en D2 m2 k - w := by
  have e := oe_Q_i Q
  obtain ⟨hi, hw, hm, him, ha, hb, hc, hd⟩ := Q
  have l := oe_lam (D := D2) (m := m2) (k := k) (j := i) (by omega) (by omega) h
  have lm := oe_en_le (D := D2) (m := m2) (k := k) (by omega)
  rw [e] at l
  refine ⟨l, ?_⟩
  apply oe_en_eq
  · omega
  · omega
  · intro q h1 h2
    rcases Nat.lt_or_ge q i with z | z
    · rw [ha k hk, ha q z]; exact oe_en_in (m := m2) h1 (by omega)
    · rw [ha k hk, hb q z]; exact oe_en_in (m := m2) (by omega) (by omega)
  · intro h3
    have x := oe_en_at (D := D2) (m := m2) (k := k) (by omega)
    rw [ha k hk, hb _ (by omega), show oe_en D2 m2 k - w + w = oe_en D2 m2 k from by omega]
    exact x
theorem oe_Q_hi (Q : oe_Q D1 D2 m1 m2 i w) {k : Nat} (hk : i ≤ k) (hm1 : k < m1) : oe_en D1 m1 k = oe_en D2 m2 (k + w) - w ∧ k + w < oe_en D2 m2 (k + w) := by
  obtain ⟨hi, hw, hm, him, ha, hb, hc, hd⟩ := Q
  have l := oe_en_lt (D := D2) (m := m2) (k := k + w)
  have lm := oe_en_le (D := D2) (m := m2) (k := k + w) (by omega)
  refine ⟨?_, l⟩
  apply oe_en_eq
  · omega
  · omega
  · intro q h1 h2
    rw [hb k hk, hb q (by omega)]; exact oe_en_in (m := m2) (by omega) (by omega)
  · intro h3
    have x := oe_en_at (D := D2) (m := m2) (k := k + w) (by omega)
    rw [hb k hk, hb _ (by omega), show oe_en D2 m2 (k + w) - w + w = oe_en D2 m2 (k + w) from by omega]
    exact x
theorem oe_Q_sl (Q : oe_Q D1 D2 m1 m2 i w) {k b : Nat} (hk : k ≤ i) : oe_sc D1 b k = oe_sc D2 b k := by
  obtain ⟨hi, hw, hm, him, ha, hb, hc, hd⟩ := Q
  exact oe_sc_congr (fun q hq => ha q (by omega))
theorem oe_Q_se (Q : oe_Q D1 D2 m1 m2 i w) {b : Nat} (h0 : D1 0 < b) (h : b ≤ D2 i) : oe_sc D2 b (i + w) = oe_sc D1 b i := by
  have hge := @oe_Q_ge D1 D2 m1 m2 i w Q
  obtain ⟨hi, hw, hm, him, ha, hb, hc, hd⟩ := Q
  obtain ⟨x, y, z⟩ := oe_sc_spec h0 i hi
  apply oe_sc_eq
  · omega
  · rw [← ha _ x]; exact y
  · intro q h1 h2
    rcases Nat.lt_or_ge q i with u | u
    · rw [← ha q u]; exact z q h1 u
    · have := hge u h2; omega
theorem oe_Q_sh (Q : oe_Q D1 D2 m1 m2 i w) {k b : Nat} (h0 : D1 0 < b) (hk : i < k) (hm1 : k ≤ m1) :
    (oe_sc D1 b k < i → oe_sc D2 b (k + w) = oe_sc D1 b k) ∧ (i ≤ oe_sc D1 b k → oe_sc D2 b (k + w) = oe_sc D1 b k + w) := by
  have hge := @oe_Q_ge D1 D2 m1 m2 i w Q
  obtain ⟨hi, hw, hm, him, ha, hb, hc, hd⟩ := Q
  obtain ⟨x, y, z⟩ := oe_sc_spec h0 k (by omega)
  constructor
  · intro hj
    apply oe_sc_eq
    · omega
    · rw [← ha _ hj]; exact y
    · intro q h1 h2
      rcases Nat.lt_or_ge q i with u | u
      · rw [← ha q u]; exact z q h1 (by omega)
      · rcases Nat.lt_or_ge q (i + w) with v | v
        · have a1 := z i hj hk
          rw [hb i (Nat.le_refl _)] at a1
          have a2 := hd (by omega)
          have a3 := hge u v
          omega
        · have a1 := z (q - w) (by omega) (by omega)
          rw [hb _ (by omega), show q - w + w = q from by omega] at a1
          exact a1
  · intro hj
    apply oe_sc_eq
    · omega
    · rw [← hb _ hj]; exact y
    · intro q h1 h2
      have a1 := z (q - w) (by omega) (by omega)
      rw [hb _ (by omega), show q - w + w = q from by omega] at a1
      exact a1
/-- the long outline is well formed, so is the short one -/
theorem oe_Q_W1 (Q : oe_Q D1 D2 m1 m2 i w) (W : oe_W D2 m2) : oe_W D1 m1 := by
  obtain ⟨hi, hw, hm, him, ha, hb, hc, hd⟩ := Q
  obtain ⟨w0, w1, w2⟩ := W
  refine ⟨by omega, by rw [ha 0 hi]; exact w1, fun k h1 h2 => ?_⟩
  rcases Nat.lt_or_ge k i with z | z
  · rw [ha k z, ha (k - 1) (by omega)]; exact w2 k h1 (by omega)
  · by_cases e : k = i
    · subst e
      rw [hb k (Nat.le_refl _), ha (k - 1) (by omega)]
      have a1 := hd h2
      have a2 := w2 k h1 (by omega)
      have a3 := w2 (k + w) (by omega) (by omega)
      omega
    · rw [hb k z, hb (k - 1) (by omega), show k - 1 + w = k + w - 1 from by omega]
      exact w2 (k + w) (by omega) (by omega)
/-- the names of the long one, by the short one's -/
def oe_QN (N1 N2 : Nat → Nat) (i w : Nat) : Prop := (∀ k, k < i → N1 k = N2 k) ∧ (∀ k, i ≤ k → N1 k = N2 (k + w))
theorem oe_QN_N (QN : oe_QN N1 N2 i w) (hm : m2 = m1 + w) (hi : 0 < i) (h : oe_N N2 m2) : oe_N N1 m1 := by
  obtain ⟨a, b⟩ := QN
  obtain ⟨x, y, z⟩ := h
  have key : ∀ k, k < m1 → ∃ j, j < m2 ∧ N1 k = N2 j ∧ (0 < k → 0 < j) ∧ ((k < i ∧ j = k) ∨ (i ≤ k ∧ j = k + w)) := by
    intro k hk
    rcases Nat.lt_or_ge k i with u | u
    · exact ⟨k, by omega, a k u, id, Or.inl ⟨u, rfl⟩⟩
    · exact ⟨k + w, by omega, b k u, fun _ => by omega, Or.inr ⟨u, rfl⟩⟩
  refine ⟨fun k hk => ?_, fun k h1 h2 => ?_, fun j k hj hk e => ?_⟩
  · obtain ⟨j, j1, j2, j3, j4⟩ := key k hk
    rw [j2]; exact x j j1
  · obtain ⟨j, j1, j2, j3, j4⟩ := key k h2
    rw [j2]; exact y j (j3 h1) j1
  · obtain ⟨j', a1, a2, a3, a4⟩ := key j hj
    obtain ⟨k', b1, b2, b3, b4⟩ := key k hk
    rw [a2, b2] at e
    have := z j' k' a1 b1 e
    omega
/-- unlink, the children -/
theorem oe_cut_C (Q : oe_Q D1 D2 m1 m2 i w) (QN : oe_QN N1 N2 i w) (W : oe_W D2 m2) {ch ch' : Nat → Nat} {zz : Nat} (hC : oe_C ch N2 D2 m2)
    (hz1 : i + w < m2 → D2 (i + w) = D2 i → zz = N2 (i + w)) (hz0 : (i + w < m2 → D2 (i + w) ≠ D2 i) → zz = 0)
    (h1 : ∀ k, k < m2 → (k + 1 = i → D2 i ≤ D2 k) → ch' (N2 k) = ch (N2 k)) (h2 : D2 (i - 1) < D2 i → ch' (N2 (i - 1)) = zz) : oe_C ch' N1 D1 m1 := by
  obtain ⟨hi, hw, hm, him, ha, hb, hc, hd⟩ := Q
  obtain ⟨na, nb⟩ := QN
  intro k hk
  rcases Nat.lt_or_ge (k + 1) i with z | z
  · rw [na k (by omega), na (k + 1) z, ha k (by omega), ha (k + 1) z, h1 k (by omega) (fun e => by omega)]
    obtain ⟨p, q⟩ := hC k (by omega)
    exact ⟨fun _ x => p (by omega) x, fun x => q (fun _ => x (by omega))⟩
  · by_cases e : k + 1 = i
    · have hk' : k = i - 1 := by omega
      have a2 := (W.2.2 i hi (by omega)).2
      rw [na k (by omega), nb (k + 1) (by omega), ha k (by omega), hb (k + 1) (by omega), e]
      rcases Nat.lt_or_ge (D2 k) (D2 i) with y | y
      · subst hk'
        rw [h2 y]
        refine ⟨fun x1 x2 => ?_, fun x => ?_⟩
        · have a1 := hd (by omega)
          exact hz1 (by omega) (by omega)
        · refine hz0 (fun x1 => ?_)
          have := x (by omega)
          omega
      · rw [h1 k (by omega) (fun _ => y)]
        obtain ⟨p, q⟩ := hC k (by omega)
        refine ⟨fun x1 x2 => ?_, fun x => ?_⟩
        · have a1 := hd (by omega)
          omega
        · refine q (fun _ => ?_)
          rw [e]; exact y
    · rw [nb k (by omega), nb (k + 1) (by omega), hb k (by omega), hb (k + 1) (by omega), h1 (k + w) (by omega) (fun e => by omega), show k + 1 + w = k + w + 1 from by omega]
      obtain ⟨p, q⟩ := hC (k + w) (by omega)
      exact ⟨fun _ x => p (by omega) x, fun x => q (fun _ => x (by omega))⟩
/-- unlink, the parents -/
theorem oe_cut_P (Q : oe_Q D1 D2 m1 m2 i w) (QN : oe_QN N1 N2 i w) (W : oe_W D2 m2) {ab : Nat → Nat} (hP : oe_P ab N2 D2 m2) : oe_P ab N1 D1 m1 := by
  have W1 := oe_Q_W1 Q W
  have Q' := Q
  obtain ⟨hi, hw, hm, him, ha, hb, hc, hd⟩ := Q
  obtain ⟨na, nb⟩ := QN
  intro k k0 hk
  have h0 : D1 0 < D1 k := by rw [W1.2.1]; exact (W1.2.2 k k0 hk).1
  obtain ⟨s1, s2, s3⟩ := oe_sc_spec h0 k k0
  rcases Nat.lt_or_ge k i with z | z
  · rw [na k z, hP k k0 (by omega), oe_Q_sl Q' (by omega), ha k z]
    rw [oe_Q_sl Q' (by omega), ha k z] at s1
    rw [na _ (by omega)]
  · rw [nb k z, hP (k + w) (by omega) (by omega), ← hb k z]
    by_cases e : k = i
    · subst e
      rw [oe_Q_se Q' h0 (by rw [hb k z]; exact hd hk), na _ s1]
    · obtain ⟨u, v⟩ := oe_Q_sh Q' h0 (k := k) (by omega) (by omega)
      rcases Nat.lt_or_ge (oe_sc D1 (D1 k) k) i with y | y
      · rw [u y, na _ y]
      · rw [v y, nb _ y]
/-- unlink, the next siblings; s: the sibling ahead -/
theorem oe_cut_X (Q : oe_Q D1 D2 m1 m2 i w) (QN : oe_QN N1 N2 i w) {nx nx' : Nat → Nat} {zz : Nat} (hX : oe_X nx N2 D2 m2)
    (hz1 : i + w < m2 → D2 (i + w) = D2 i → zz = N2 (i + w)) (hz0 : (i + w < m2 → D2 (i + w) ≠ D2 i) → zz = 0)
    (h1 : ∀ k, 0 < k → k < m2 → (k < i → oe_en D2 m2 k = i → D2 k = D2 i → False) → nx' (N2 k) = nx (N2 k)) (h2 : ∀ k, 0 < k → k < i → oe_en D2 m2 k = i → D2 k = D2 i → nx' (N2 k) = zz) : oe_X nx' N1 D1 m1 := by
  have Q' := Q
  obtain ⟨hi, hw, hm, him, ha, hb, hc, hd⟩ := Q
  obtain ⟨na, nb⟩ := QN
  intro k k0 hk
  rcases Nat.lt_or_ge k i with z | z
  · obtain ⟨p, q⟩ := hX k k0 (by omega)
    rcases Nat.lt_trichotomy (oe_en D2 m2 k) i with y | y | y
    · rw [oe_Q_lo Q' z (by omega), na k z, na _ y, ha k z, ha _ y, h1 k k0 (by omega) (fun _ e _ => by omega)]
      exact ⟨fun _ x => p (by omega) x, fun x => q (fun _ => x (by omega))⟩
    · have a1 := oe_en_at (D := D2) (m := m2) (k := k) (by omega)
      rw [oe_Q_lo Q' z (by omega), na k z, y, nb i (Nat.le_refl _), ha k z, hb i (Nat.le_refl _)]
      rw [y] at p q a1
      by_cases e : D2 i = D2 k
      · rw [h2 k k0 z y e.symm, ← e]
        exact ⟨fun x1 x2 => hz1 (by omega) x2, fun x => hz0 (fun x1 => x (by omega))⟩
      · rw [h1 k k0 (by omega) (fun _ _ e' => e e'.symm)]
        refine ⟨fun x1 x2 => ?_, fun x => q (fun _ => e)⟩
        have := hd x1
        omega
    · obtain ⟨b1, b2⟩ := oe_Q_mid Q' z y
      rw [b2, na k z, nb _ (by omega), ha k z, hb _ (by omega), show oe_en D2 m2 k - w + w = oe_en D2 m2 k from by omega, h1 k k0 (by omega) (fun _ e _ => by omega)]
      exact ⟨fun _ x => p (by omega) x, fun x => q (fun _ => x (by omega))⟩
  · obtain ⟨p, q⟩ := hX (k + w) (by omega) (by omega)
    obtain ⟨b1, b2⟩ := oe_Q_hi Q' z hk
    rw [b1, nb k z, nb _ (by omega), hb k z, hb _ (by omega), show oe_en D2 m2 (k + w) - w + w = oe_en D2 m2 (k + w) from by omega, h1 (k + w) (by omega) (by omega) (fun _ _ _ => by omega)]
    exact ⟨fun _ x => p (by omega) x, fun x => q (fun _ => x (by omega))⟩
/-- unlink, the siblings ahead -/
theorem oe_cut_B (Q : oe_Q D1 D2 m1 m2 i w) (QN : oe_QN N1 N2 i w) (W : oe_W D2 m2) {bf bf' : Nat → Nat} (hB : oe_B bf N2 D2 m2)
    (h1 : ∀ k, 0 < k → k < m2 → (k = i + w → D2 k ≠ D2 i) → bf' (N2 k) = bf (N2 k)) (h2 : i + w < m2 → D2 (i + w) = D2 i → bf' (N2 (i + w)) = bf (N2 i)) : oe_B bf' N1 D1 m1 := by
  have W1 := oe_Q_W1 Q W
  have Q' := Q
  obtain ⟨hi, hw, hm, him, ha, hb, hc, hd⟩ := Q
  obtain ⟨na, nb⟩ := QN
  intro k k0 hk
  have h0 : D1 0 < D1 k + 1 := by rw [W1.2.1]; omega
  obtain ⟨s1, s2, s3⟩ := oe_sc_spec h0 k k0
  rcases Nat.lt_or_ge k i with z | z
  · obtain ⟨p, q⟩ := hB k k0 (by omega)
    rw [oe_Q_sl Q' (by omega), ha k z] at s1 ⊢
    rw [na k z, na _ (by omega), ha _ (by omega), h1 k k0 (by omega) (fun e => by omega)]
    exact ⟨p, q⟩
  · obtain ⟨p, q⟩ := hB (k + w) (by omega) (by omega)
    by_cases e : k = i
    · subst e
      have a1 := hd hk
      have e1 : D1 k = D2 (k + w) := hb k z
      by_cases e2 : D2 (k + w) = D2 k
      · obtain ⟨p', q'⟩ := hB k k0 (by omega)
        have e3 : D1 k = D2 k := by omega
        rw [nb k z, h2 (by omega) e2, na _ s1, ha _ s1, e3, oe_Q_sl Q' (Nat.le_refl _)]
        exact ⟨p', q'⟩
      · have a2 := oe_Q_se Q' (b := D1 k + 1) h0 (by omega)
        rw [← e1, a2, ← ha _ s1] at p q
        rw [← na _ s1] at p
        rw [nb k z, h1 (k + w) (by omega) (by omega) (fun _ => e2)]
        exact ⟨p, q⟩
    · obtain ⟨u, v⟩ := oe_Q_sh Q' h0 (k := k) (by omega) (by omega)
      rw [← hb k z] at p q
      rw [nb k z, h1 (k + w) (by omega) (by omega) (fun _ => by omega)]
      rcases Nat.lt_or_ge (oe_sc D1 (D1 k + 1) k) i with y | y
      · rw [u y, ← ha _ y] at p q
        rw [← na _ y] at p
        exact ⟨p, q⟩
      · rw [v y, ← hb _ y] at p q
        rw [← nb _ y] at p
        exact ⟨p, q⟩
end
end
section
/-! the branch that was cut out; a branch put in; sizes -/
def oe_QB (D2 DB N2 NB : Nat → Nat) (i w : Nat) : Prop := (∀ t, t < w → DB t + D2 i = D2 (i + t)) ∧ (∀ t, t < w → NB t = N2 (i + t))
section
variable {D1 D2 N1 N2 NB DB : Nat → Nat} {m1 m2 i w : Nat}
theorem oe_br_W (Q : oe_Q D1 D2 m1 m2 i w) (QB : oe_QB D2 DB N2 NB i w) (W : oe_W D2 m2) : oe_W DB w := by
  obtain ⟨hi, hw, hm, him, ha, hb, hc, hd⟩ := Q
  obtain ⟨da, na⟩ := QB
  have d0 := da 0 hw
  rw [Nat.add_zero] at d0
  refine ⟨hw, by omega, fun k k0 hk => ?_⟩
  have x := da k hk
  have y := da (k - 1) (by omega)
  have z := (W.2.2 (i + k) (by omega) (by omega)).2
  have u := hc k k0 hk
  rw [show i + k - 1 = i + (k - 1) from by omega] at z
  omega
theorem oe_br_en (Q : oe_Q D1 D2 m1 m2 i w) (QB : oe_QB D2 DB N2 NB i w) {t : Nat} (ht : t < w) : oe_en DB w t + i = oe_en D2 m2 (i + t) := by
  have e := oe_Q_i Q
  obtain ⟨hi, hw, hm, him, ha, hb, hc, hd⟩ := Q
  have := oe_win (D := D2) (D' := DB) (m := m2) (m' := w) (k := i) (k' := 0) (L := w) (c := D2 i) (c' := 0) (by omega) e (by omega) (fun s hs => by rw [Nat.zero_add]; exact QB.1 s hs) (fun h => by omega) t ht
  rw [Nat.zero_add] at this
  omega
theorem oe_br_sc (Q : oe_Q D1 D2 m1 m2 i w) (QB : oe_QB D2 DB N2 NB i w) {t b : Nat} (h0 : DB 0 < b) (t0 : 0 < t) (ht : t ≤ w) : oe_sc D2 (b + D2 i) (i + t) = i + oe_sc DB b t := by
  obtain ⟨da, na⟩ := QB
  obtain ⟨x, y, z⟩ := oe_sc_spec h0 t t0
  apply oe_sc_eq
  · omega
  · have := da _ (show oe_sc DB b t < w by omega); omega
  · intro q h1 h2
    have u := z (q - i) (by omega) (by omega)
    have v := da (q - i) (by omega)
    rw [show i + (q - i) = q from by omega] at v
    omega
theorem oe_br_C (Q : oe_Q D1 D2 m1 m2 i w) (QB : oe_QB D2 DB N2 NB i w) {ch ch' : Nat → Nat} (hC : oe_C ch N2 D2 m2) (h : ∀ t, t < w → ch' (NB t) = ch (NB t)) : oe_C ch' NB DB w := by
  have hge := @oe_Q_ge D1 D2 m1 m2 i w Q
  obtain ⟨hi, hw, hm, him, ha, hb, hc, hd⟩ := Q
  obtain ⟨da, na⟩ := QB
  intro t ht
  obtain ⟨p, q⟩ := hC (i + t) (by omega)
  have d0 := da t ht
  rw [h t ht, na t ht]
  refine ⟨fun x1 x2 => ?_, fun x => q (fun x1 => ?_)⟩
  · have d1 := da (t + 1) x1
    rw [na (t + 1) x1]
    exact p (by omega) (by rw [Nat.add_assoc]; omega)
  · by_cases e : t + 1 < w
    · have d1 := da (t + 1) e
      have := x e
      rw [Nat.add_assoc]; omega
    · have a1 := hd (by omega)
      have a2 := hge (q := i + t) (by omega) (by omega)
      rw [show i + t + 1 = i + w from by omega]; omega
theorem oe_br_P (Q : oe_Q D1 D2 m1 m2 i w) (QB : oe_QB D2 DB N2 NB i w) (W : oe_W D2 m2) {ab ab' : Nat → Nat} (hP : oe_P ab N2 D2 m2) (h : ∀ t, 0 < t → t < w → ab' (NB t) = ab (NB t)) : oe_P ab' NB DB w := by
  have WB := oe_br_W Q QB W
  have Q' := Q
  obtain ⟨hi, hw, hm, him, ha, hb, hc, hd⟩ := Q
  intro t t0 ht
  have h0 : DB 0 < DB t := by rw [WB.2.1]; exact (WB.2.2 t t0 ht).1
  obtain ⟨x, y, z⟩ := oe_sc_spec h0 t t0
  rw [h t t0 ht, QB.2 t ht, hP (i + t) (by omega) (by omega), ← QB.1 t ht, oe_br_sc Q' QB h0 t0 (by omega), QB.2 _ (by omega)]
theorem oe_br_X (Q : oe_Q D1 D2 m1 m2 i w) (QB : oe_QB D2 DB N2 NB i w) {nx nx' : Nat → Nat} (hX : oe_X nx N2 D2 m2) (h : ∀ t, 0 < t → t < w → nx' (NB t) = nx (NB t)) : oe_X nx' NB DB w := by
  have Q' := Q
  obtain ⟨hi, hw, hm, him, ha, hb, hc, hd⟩ := Q
  intro t t0 ht
  obtain ⟨p, q⟩ := hX (i + t) (by omega) (by omega)
  have e := oe_br_en Q' QB ht
  have l := oe_en_le (D := DB) ht
  have dt := QB.1 t ht
  have ct := hc t t0 ht
  rw [h t t0 ht, QB.2 t ht]
  rw [← e] at p q
  refine ⟨fun x1 x2 => ?_, fun x => q (fun x1 => ?_)⟩
  · have d1 := QB.1 _ x1
    rw [QB.2 _ x1]
    rw [Nat.add_comm (oe_en DB w t) i] at p
    exact p (by omega) (by omega)
  · by_cases e2 : oe_en DB w t < w
    · have d1 := QB.1 _ e2
      have := x e2
      rw [Nat.add_comm]; omega
    · have a1 := hd (by omega)
      rw [show oe_en DB w t + i = i + w from by omega]; omega
theorem oe_br_B (Q : oe_Q D1 D2 m1 m2 i w) (QB : oe_QB D2 DB N2 NB i w) (W : oe_W D2 m2) {bf bf' : Nat → Nat} (hB : oe_B bf N2 D2 m2) (h : ∀ t, 0 < t → t < w → bf' (NB t) = bf (NB t)) : oe_B bf' NB DB w := by
  have WB := oe_br_W Q QB W
  have Q' := Q
  obtain ⟨hi, hw, hm, him, ha, hb, hc, hd⟩ := Q
  intro t t0 ht
  have h0 : DB 0 < DB t + 1 := by rw [WB.2.1]; omega
  obtain ⟨x, y, z⟩ := oe_sc_spec h0 t t0
  obtain ⟨p, q⟩ := hB (i + t) (by omega) (by omega)
  have dt := QB.1 t ht
  rw [h t t0 ht, QB.2 t ht]
  rw [show D2 (i + t) + 1 = DB t + 1 + D2 i from by omega, oe_br_sc Q' QB h0 t0 (by omega)] at p q
  have ds := QB.1 (oe_sc DB (DB t + 1) t) (by omega)
  rw [QB.2 (oe_sc DB (DB t + 1) t) (by omega)]
  exact ⟨fun x1 => p (by omega), fun x1 => q (by omega)⟩
theorem oe_br_N (Q : oe_Q D1 D2 m1 m2 i w) (QB : oe_QB D2 DB N2 NB i w) (h : oe_N N2 m2) : oe_N NB w ∧ 0 < NB 0 := by
  obtain ⟨hi, hw, hm, him, ha, hb, hc, hd⟩ := Q
  obtain ⟨x, y, z⟩ := h
  refine ⟨⟨fun k hk => ?_, fun k k0 hk => ?_, fun j k hj hk e => ?_⟩, ?_⟩
  · rw [QB.2 k hk]; exact x _ (by omega)
  · rw [QB.2 k hk]; exact y _ (by omega) (by omega)
  · rw [QB.2 j hj, QB.2 k hk] at e
    have := z _ _ (by omega) (by omega) e
    omega
  · rw [QB.2 0 hw]; exact y _ (by omega) (by omega)
/-! put in -/
theorem oe_ins_W (Q : oe_Q D1 D2 m1 m2 i w) (QB : oe_QB D2 DB N2 NB i w) (W1 : oe_W D1 m1) (WB : oe_W DB w) (d0 : 0 < D2 i) (dd : D2 i ≤ D1 (i - 1) + 1) : oe_W D2 m2 := by
  have hge := @oe_Q_ge D1 D2 m1 m2 i w Q
  obtain ⟨hi, hw, hm, him, ha, hb, hc, hd⟩ := Q
  refine ⟨by omega, by rw [← ha 0 hi]; exact W1.2.1, fun k k0 hk => ?_⟩
  rcases Nat.lt_or_ge k i with z | z
  · rw [← ha k z, ← ha (k - 1) (by omega)]; exact W1.2.2 k k0 (by omega)
  · by_cases e : k = i
    · subst e; rw [← ha (k - 1) (by omega)]; exact ⟨d0, dd⟩
    · rcases Nat.lt_or_ge k (i + w) with y | y
      · have a1 := QB.1 (k - i) (by omega)
        have a2 := QB.1 (k - i - 1) (by omega)
        have a3 := WB.2.2 (k - i) (by omega) (by omega)
        rw [show i + (k - i) = k from by omega] at a1
        rw [show i + (k - i - 1) = k - 1 from by omega] at a2
        omega
      · by_cases e2 : k = i + w
        · have a1 := hd (by omega)
          have a2 := hge (q := k - 1) (by omega) (by omega)
          have a3 := W1.2.2 i hi (by omega)
          rw [hb i (Nat.le_refl _)] at a3
          subst e2
          omega
        · have a1 := W1.2.2 (k - w) (by omega) (by omega)
          rw [hb (k - w) (by omega), hb (k - w - 1) (by omega), show k - w + w = k from by omega, show k - w - 1 + w = k - 1 from by omega] at a1
          exact a1
theorem oe_ins_N (Q : oe_Q D1 D2 m1 m2 i w) (QN : oe_QN N1 N2 i w) (QB : oe_QB D2 DB N2 NB i w) (h1 : oe_N N1 m1) (h2 : oe_N NB w) (h3 : 0 < NB 0) (h4 : ∀ k t, k < m1 → t < w → N1 k ≠ NB t) : oe_N N2 m2 := by
  obtain ⟨hi, hw, hm, him, ha, hb, hc, hd⟩ := Q
  have key : ∀ k, k < m2 → (∃ j, j < m1 ∧ N2 k = N1 j ∧ ((k < i ∧ j = k) ∨ (i + w ≤ k ∧ k = j + w))) ∨ (∃ t, t < w ∧ N2 k = NB t ∧ k = i + t) := by
    intro k hk
    rcases Nat.lt_or_ge k i with u | u
    · exact Or.inl ⟨k, by omega, (QN.1 k u).symm, Or.inl ⟨u, rfl⟩⟩
    · rcases Nat.lt_or_ge k (i + w) with v | v
      · refine Or.inr ⟨k - i, by omega, ?_, by omega⟩
        rw [QB.2 (k - i) (by omega), show i + (k - i) = k from by omega]
      · refine Or.inl ⟨k - w, by omega, ?_, Or.inr ⟨v, by omega⟩⟩
        rw [QN.2 (k - w) (by omega), show k - w + w = k from by omega]
  refine ⟨fun k hk => ?_, fun k k0 hk => ?_, fun j k hj hk e => ?_⟩
  · rcases key k hk with ⟨j, a, b, c⟩ | ⟨t, a, b, c⟩
    · rw [b]; exact h1.1 j a
    · rw [b]; exact h2.1 t a
  · rcases key k hk with ⟨j, a, b, c⟩ | ⟨t, a, b, c⟩
    · rw [b]; exact h1.2.1 j (by omega) a
    · rw [b]
      rcases Nat.eq_zero_or_pos t with e | e
      · rw [e]; exact h3
      · exact h2.2.1 t e a
  · rcases key j hj with ⟨j', a, b, c⟩ | ⟨t, a, b, c⟩ <;> rcases key k hk with ⟨k', a', b', c'⟩ | ⟨t', a', b', c'⟩
    · rw [b, b'] at e
      have := h1.2.2 _ _ a a' e
      omega
    · rw [b, b'] at e
      exact absurd e (h4 _ _ a a')
    · rw [b, b'] at e
      exact absurd e.symm (h4 _ _ a' a)
    · rw [b, b'] at e
      have := h2.2.2 _ _ a a' e
      omega
theorem oe_ins_C (Q : oe_Q D1 D2 m1 m2 i w) (QN : oe_QN N1 N2 i w) (QB : oe_QB D2 DB N2 NB i w) {ch ch' : Nat → Nat} (h1 : oe_C ch N1 D1 m1) (h2 : oe_C ch NB DB w)
    (e1 : ∀ k, k < m1 → (k + 1 = i → D2 i ≤ D1 k) → ch' (N1 k) = ch (N1 k)) (e2 : ∀ t, t < w → ch' (NB t) = ch (NB t)) (e3 : D1 (i - 1) < D2 i → ch' (N1 (i - 1)) = NB 0) : oe_C ch' N2 D2 m2 := by
  have hge := @oe_Q_ge D1 D2 m1 m2 i w Q
  obtain ⟨hi, hw, hm, him, ha, hb, hc, hd⟩ := Q
  intro k hk
  rcases Nat.lt_or_ge (k + 1) i with z | z
  · obtain ⟨p, q⟩ := h1 k (by omega)
    rw [← QN.1 k (by omega), ← QN.1 (k + 1) z, ← ha k (by omega), ← ha (k + 1) z, e1 k (by omega) (fun _ => by omega)]
    exact ⟨fun _ x => p (by omega) x, fun x => q (fun _ => x (by omega))⟩
  · by_cases e : k + 1 = i
    · have b0 := QB.2 0 hw
      rw [Nat.add_zero] at b0
      rw [e, ← QN.1 k (by omega), ← ha k (by omega), ← b0]
      rcases Nat.lt_or_ge (D1 k) (D2 i) with y | y
      · have hk' : k = i - 1 := by omega
        subst hk'
        rw [e3 y]
        exact ⟨fun _ _ => rfl, fun x => absurd (x (by omega)) (by omega)⟩
      · rw [e1 k (by omega) (fun _ => y)]
        obtain ⟨p, q⟩ := h1 k (by omega)
        refine ⟨fun _ x => by omega, fun _ => q (fun x1 => ?_)⟩
        have := hd (by omega)
        rw [e, hb i (Nat.le_refl _)]; omega
    · rcases Nat.lt_or_ge k (i + w) with y | y
      · obtain ⟨t, rfl⟩ : ∃ t, k = i + t := ⟨k - i, by omega⟩
        obtain ⟨p, q⟩ := h2 t (by omega)
        have d0 := QB.1 t (by omega)
        rw [← QB.2 t (by omega), e2 t (by omega)]
        by_cases e4 : t + 1 < w
        · have d1 := QB.1 (t + 1) e4
          rw [Nat.add_assoc, ← QB.2 (t + 1) e4]
          exact ⟨fun _ x => p e4 (by omega), fun x => q (fun _ => by have := x (by omega); omega)⟩
        · refine ⟨fun x1 x2 => ?_, fun _ => q (fun x1 => by omega)⟩
          have a1 := hd (by omega)
          have a2 := hge (q := i + t) (by omega) (by omega)
          rw [show i + t + 1 = i + w from by omega] at x2
          omega
      · obtain ⟨r, rfl⟩ : ∃ r, k = r + w := ⟨k - w, by omega⟩
        obtain ⟨p, q⟩ := h1 r (by omega)
        rw [show r + w + 1 = r + 1 + w from by omega, ← QN.2 r (by omega), ← QN.2 (r + 1) (by omega), ← hb r (by omega), ← hb (r + 1) (by omega), e1 r (by omega) (fun _ => by omega)]
        exact ⟨fun _ x => p (by omega) x, fun x => q (fun _ => x (by omega))⟩
theorem oe_ins_P (Q : oe_Q D1 D2 m1 m2 i w) (QN : oe_QN N1 N2 i w) (QB : oe_QB D2 DB N2 NB i w) (W1 : oe_W D1 m1) (WB : oe_W DB w) (d0 : 0 < D2 i) {ab ab' : Nat → Nat} (h1 : oe_P ab N1 D1 m1) (h2 : oe_P ab NB DB w)
    (e1 : ∀ k, 0 < k → k < m1 → ab' (N1 k) = ab (N1 k)) (e2 : ∀ t, 0 < t → t < w → ab' (NB t) = ab (NB t)) (e3 : ab' (NB 0) = N1 (oe_sc D1 (D2 i) i)) : oe_P ab' N2 D2 m2 := by
  have Q' := Q
  obtain ⟨hi, hw, hm, him, ha, hb, hc, hd⟩ := Q
  intro k k0 hk
  rcases Nat.lt_or_ge k i with z | z
  · have h0 : D1 0 < D1 k := by rw [W1.2.1]; exact (W1.2.2 k k0 (by omega)).1
    obtain ⟨s1, s2, s3⟩ := oe_sc_spec h0 k k0
    rw [← ha k z, ← oe_Q_sl Q' (by omega), ← QN.1 k z, ← QN.1 _ (by omega), e1 k k0 (by omega)]
    exact h1 k k0 (by omega)
  · by_cases e : k = i
    · subst e
      have b0 := QB.2 0 hw
      rw [Nat.add_zero] at b0
      have h0 : D1 0 < D2 k := by rw [W1.2.1]; exact d0
      obtain ⟨s1, s2, s3⟩ := oe_sc_spec h0 k k0
      rw [← oe_Q_sl Q' (Nat.le_refl _), ← QN.1 _ s1, ← b0, e3]
    · rcases Nat.lt_or_ge k (i + w) with y | y
      · obtain ⟨t, rfl⟩ : ∃ t, k = i + t := ⟨k - i, by omega⟩
        have h0 : DB 0 < DB t := by rw [WB.2.1]; exact (WB.2.2 t (by omega) (by omega)).1
        obtain ⟨s1, s2, s3⟩ := oe_sc_spec h0 t (by omega)
        rw [← QB.1 t (by omega), oe_br_sc Q' QB h0 (by omega) (by omega), ← QB.2 t (by omega), ← QB.2 _ (by omega), e2 t (by omega) (by omega)]
        exact h2 t (by omega) (by omega)
      · obtain ⟨r, rfl⟩ : ∃ r, k = r + w := ⟨k - w, by omega⟩
        have h0 : D1 0 < D1 r := by rw [W1.2.1]; exact (W1.2.2 r (by omega) (by omega)).1
        obtain ⟨s1, s2, s3⟩ := oe_sc_spec h0 r (by omega)
        rw [← hb r (by omega), ← QN.2 r (by omega), e1 r (by omega) (by omega), h1 r (by omega) (by omega)]
        by_cases e4 : r = i
        · subst e4
          rw [oe_Q_se Q' h0 (by rw [hb r (Nat.le_refl _)]; exact hd (by omega)), QN.1 _ s1]
        · obtain ⟨u, v⟩ := oe_Q_sh Q' h0 (k := r) (by omega) (by omega)
          rcases Nat.lt_or_ge (oe_sc D1 (D1 r) r) i with y | y
          · rw [u y, QN.1 _ y]
          · rw [v y, QN.2 _ y]
theorem oe_ins_X (Q : oe_Q D1 D2 m1 m2 i w) (QN : oe_QN N1 N2 i w) (QB : oe_QB D2 DB N2 NB i w) {nx nx' : Nat → Nat} {bh : Nat} (h1 : oe_X nx N1 D1 m1) (h2 : oe_X nx NB DB w)
    (hz1 : i < m1 → D1 i = D2 i → bh = N1 i) (hz0 : (i < m1 → D1 i ≠ D2 i) → bh = 0)
    (e1 : ∀ k, 0 < k → k < m1 → (k < i → oe_en D1 m1 k = i → D1 k = D2 i → False) → nx' (N1 k) = nx (N1 k)) (e2 : ∀ t, 0 < t → t < w → nx' (NB t) = nx (NB t)) (e3 : ∀ k, 0 < k → k < i → oe_en D1 m1 k = i → D1 k = D2 i → nx' (N1 k) = NB 0) (e4 : nx' (NB 0) = bh) : oe_X nx' N2 D2 m2 := by
  have Q' := Q
  have ei := oe_Q_i Q
  obtain ⟨hi, hw, hm, him, ha, hb, hc, hd⟩ := Q
  have b0 := QB.2 0 hw
  rw [Nat.add_zero] at b0
  intro k k0 hk
  rcases Nat.lt_or_ge k i with z | z
  · obtain ⟨p, q⟩ := h1 k k0 (by omega)
    rcases Nat.lt_trichotomy (oe_en D2 m2 k) i with y | y | y
    · have l := oe_Q_lo Q' z (by omega)
      rw [l] at p q
      rw [← QN.1 k z, ← QN.1 _ y, ← ha k z, ← ha _ y, e1 k k0 (by omega) (fun _ e _ => by omega)]
      exact ⟨fun _ x => p (by omega) x, fun x => q (fun _ => x (by omega))⟩
    · have l := oe_Q_lo Q' z (by omega)
      have a1 := oe_en_at (D := D2) (m := m2) (k := k) (by omega)
      rw [y] at l a1 ⊢
      rw [l, hb i (Nat.le_refl _)] at p q
      rw [← ha k z] at a1
      rw [← QN.1 k z, ← ha k z, ← b0]
      by_cases e : D2 i = D1 k
      · rw [e3 k k0 z l e.symm]
        exact ⟨fun _ _ => rfl, fun x => absurd e (x (by omega))⟩
      · rw [e1 k k0 (by omega) (fun _ _ e' => e e'.symm)]
        refine ⟨fun _ x => absurd x e, fun _ => q (fun x1 => ?_)⟩
        have := hd x1
        omega
    · obtain ⟨b1, b2⟩ := oe_Q_mid Q' z y
      have hx : oe_en D2 m2 k = oe_en D1 m1 k + w := by omega
      have hlt := oe_en_in (D := D2) (m := m2) z y
      have hak := ha k z
      rw [hx, ← QN.1 k z, ← QN.2 _ (by omega), ← ha k z, ← hb _ (by omega), e1 k k0 (by omega) (fun _ _ e => by omega)]
      exact ⟨fun _ x => p (by omega) x, fun x => q (fun _ => x (by omega))⟩
  · by_cases e : k = i
    · subst e
      rw [ei, ← b0, e4, ← hb k (Nat.le_refl _), ← QN.2 k (Nat.le_refl _)]
      exact ⟨fun x1 x2 => hz1 (by omega) x2, fun x => hz0 (fun x1 => x (by omega))⟩
    · rcases Nat.lt_or_ge k (i + w) with y | y
      · obtain ⟨t, rfl⟩ : ∃ t, k = i + t := ⟨k - i, by omega⟩
        obtain ⟨p, q⟩ := h2 t (by omega) (by omega)
        have l := oe_br_en Q' QB (t := t) (by omega)
        have l2 := oe_en_le (D := DB) (m := w) (k := t) (by omega)
        have dt := QB.1 t (by omega)
        have ct := hc t (by omega) (by omega)
        rw [← QB.2 t (by omega), e2 t (by omega) (by omega), ← l]
        by_cases e5 : oe_en DB w t < w
        · have ds := QB.1 _ e5
          rw [Nat.add_comm (oe_en DB w t) i, ← QB.2 _ e5]
          exact ⟨fun _ x => p e5 (by omega), fun x => q (fun _ => by have := x (by omega); omega)⟩
        · refine ⟨fun x1 x2 => ?_, fun _ => q (fun x1 => by omega)⟩
          have a1 := hd (by omega)
          rw [show oe_en DB w t + i = i + w from by omega] at x2
          omega
      · obtain ⟨r, rfl⟩ : ∃ r, k = r + w := ⟨k - w, by omega⟩
        obtain ⟨p, q⟩ := h1 r (by omega) (by omega)
        obtain ⟨b1, b2⟩ := oe_Q_hi Q' (k := r) (by omega) (by omega)
        have hx : oe_en D2 m2 (r + w) = oe_en D1 m1 r + w := by omega
        rw [hx, ← QN.2 r (by omega), ← QN.2 _ (by omega), ← hb r (by omega), ← hb _ (by omega), e1 r (by omega) (by omega) (fun _ _ _ => by omega)]
        exact ⟨fun _ x => p (by omega) x, fun x => q (fun _ => x (by omega))⟩
theorem oe_ins_B (Q : oe_Q D1 D2 m1 m2 i w) (QN : oe_QN N1 N2 i w) (QB : oe_QB D2 DB N2 NB i w) (W1 : oe_W D1 m1) (WB : oe_W DB w) {bf bf' : Nat → Nat} {s : Nat} (h1 : oe_B bf N1 D1 m1) (h2 : oe_B bf NB DB w)
    (hz1 : D1 (oe_sc D1 (D2 i + 1) i) = D2 i → s = N1 (oe_sc D1 (D2 i + 1) i)) (hz0 : D1 (oe_sc D1 (D2 i + 1) i) ≠ D2 i → s = 0)
    (e1 : ∀ k, 0 < k → k < m1 → (k = i → D1 i ≠ D2 i) → bf' (N1 k) = bf (N1 k)) (e2 : ∀ t, 0 < t → t < w → bf' (NB t) = bf (NB t)) (e3 : bf' (NB 0) = s) (e4 : i < m1 → D1 i = D2 i → bf' (N1 i) = NB 0) : oe_B bf' N2 D2 m2 := by
  have Q' := Q
  obtain ⟨hi, hw, hm, him, ha, hb, hc, hd⟩ := Q
  have b0 := QB.2 0 hw
  rw [Nat.add_zero] at b0
  intro k k0 hk
  rcases Nat.lt_or_ge k i with z | z
  · obtain ⟨p, q⟩ := h1 k k0 (by omega)
    have h0 : D1 0 < D1 k + 1 := by rw [W1.2.1]; omega
    obtain ⟨s1, s2, s3⟩ := oe_sc_spec h0 k k0
    rw [← ha k z, ← oe_Q_sl Q' (by omega), ← QN.1 k z, ← QN.1 _ (by omega), ← ha _ (by omega), e1 k k0 (by omega) (fun e => by omega)]
    exact ⟨p, q⟩
  · by_cases e : k = i
    · subst e
      have h0 : D1 0 < D2 k + 1 := by rw [W1.2.1]; omega
      obtain ⟨s1, s2, s3⟩ := oe_sc_spec h0 k k0
      rw [← oe_Q_sl Q' (Nat.le_refl _), ← QN.1 _ s1, ← ha _ s1, ← b0, e3]
      exact ⟨hz1, hz0⟩
    · rcases Nat.lt_or_ge k (i + w) with y | y
      · obtain ⟨t, rfl⟩ : ∃ t, k = i + t := ⟨k - i, by omega⟩
        obtain ⟨p, q⟩ := h2 t (by omega) (by omega)
        have h0 : DB 0 < DB t + 1 := by rw [WB.2.1]; omega
        obtain ⟨s1, s2, s3⟩ := oe_sc_spec h0 t (by omega)
        have dt := QB.1 t (by omega)
        have ds := QB.1 (oe_sc DB (DB t + 1) t) (by omega)
        rw [show D2 (i + t) + 1 = DB t + 1 + D2 i from by omega, oe_br_sc Q' QB h0 (by omega) (by omega), ← QB.2 t (by omega), ← QB.2 _ (by omega), e2 t (by omega) (by omega)]
        exact ⟨fun x => p (by omega), fun x => q (by omega)⟩
      · obtain ⟨r, rfl⟩ : ∃ r, k = r + w := ⟨k - w, by omega⟩
        obtain ⟨p, q⟩ := h1 r (by omega) (by omega)
        have h0 : D1 0 < D1 r + 1 := by rw [W1.2.1]; omega
        obtain ⟨s1, s2, s3⟩ := oe_sc_spec h0 r (by omega)
        by_cases e5 : r = i
        · subst e5
          have a1 := hd (by omega)
          have e6 : D1 r = D2 (r + w) := hb r (Nat.le_refl _)
          by_cases e7 : D1 r = D2 r
          · have a2 : oe_sc D2 (D2 (r + w) + 1) (r + w) = r := by
              apply oe_sc_eq
              · omega
              · omega
              · intro q' x1 x2
                have := hc (q' - r) (by omega) (by omega)
                rw [show r + (q' - r) = q' from by omega] at this
                omega
            rw [a2, ← QN.2 r (Nat.le_refl _), e4 (by omega) e7, ← b0]
            exact ⟨fun _ => rfl, fun x => absurd (show D2 r = D2 (r + w) by omega) x⟩
          · have a2 := oe_Q_se Q' (b := D1 r + 1) h0 (by omega)
            rw [← e6, a2, ← ha _ s1, ← QN.1 _ s1, ← QN.2 r (Nat.le_refl _), e1 r hi (by omega) (fun _ => e7)]
            exact ⟨p, q⟩
        · obtain ⟨u, v⟩ := oe_Q_sh Q' h0 (k := r) (by omega) (by omega)
          rw [← hb r (by omega), ← QN.2 r (by omega), e1 r (by omega) (by omega) (fun x => absurd x e5)]
          rcases Nat.lt_or_ge (oe_sc D1 (D1 r + 1) r) i with y | y
          · rw [u y, ← QN.1 _ y, ← ha _ y]
            exact ⟨p, q⟩
          · rw [v y, ← QN.2 _ y, ← hb _ y]
            exact ⟨p, q⟩
end
end
section
/-! sizes over the cut; trees -/
def oe_SR (sz ri fo N D : Nat → Nat) (m k : Nat) : Prop := oe_S sz N D m k ∧ oe_R ri fo N D m k
def oe_T (ab ch nx bf N D : Nat → Nat) (m : Nat) : Prop := oe_W D m ∧ oe_N N m ∧ oe_C ch N D m ∧ oe_P ab N D m ∧ oe_X nx N D m ∧ oe_B bf N D m
section
variable {D1 D2 N1 N2 NB DB sz ri fo : Nat → Nat} {m1 m2 i w : Nat}
theorem oe_Q_SRlo (Q : oe_Q D1 D2 m1 m2 i w) (QN : oe_QN N1 N2 i w) {k : Nat} (hk : k < i) (h : oe_en D2 m2 k ≤ i) : oe_SR sz ri fo N1 D1 m1 k ↔ oe_SR sz ri fo N2 D2 m2 k := by
  have e := oe_Q_lo Q hk h
  have v : oe_vc (fun q => fo (N1 q)) D1 m1 k = oe_vc (fun q => fo (N2 q)) D2 m2 k := by
    have l := oe_en_lt (D := D2) (m := m2) (k := k)
    obtain ⟨hi, hw, hm, him, ha, hb, hc, hd⟩ := Q
    refine oe_vc_win (L := oe_en D2 m2 k - k) (c := 0) (c' := 0) (by omega) (by omega) (by omega) (fun t ht => by rw [ha (k + t) (by omega)]) (fun hx => ?_) (fun t ht => ?_)
    · rw [show k + (oe_en D2 m2 k - k) = oe_en D1 m1 k from by omega] at hx ⊢
      exact oe_en_at hx
    · show fo (N1 (k + t)) = fo (N2 (k + t))
      rw [QN.1 _ (by omega)]
  unfold oe_SR oe_S oe_R
  rw [v, e, QN.1 k hk]
theorem oe_Q_SRhi (Q : oe_Q D1 D2 m1 m2 i w) (QN : oe_QN N1 N2 i w) {k : Nat} (hk : i ≤ k) (hk1 : k < m1) : oe_SR sz ri fo N1 D1 m1 k ↔ oe_SR sz ri fo N2 D2 m2 (k + w) := by
  obtain ⟨e, e2⟩ := oe_Q_hi Q hk hk1
  have v : oe_vc (fun q => fo (N1 q)) D1 m1 k = oe_vc (fun q => fo (N2 q)) D2 m2 (k + w) := by
    obtain ⟨hi, hw, hm, him, ha, hb, hc, hd⟩ := Q
    have l := oe_en_le (D := D2) (m := m2) (k := k + w) (by omega)
    refine oe_vc_win (L := oe_en D2 m2 (k + w) - (k + w)) (c := 0) (c' := 0) (by omega) (by omega) (by omega) (fun t ht => ?_) (fun hx => ?_) (fun t ht => ?_)
    · rw [hb (k + t) (by omega), show k + t + w = k + w + t from by omega]
    · rw [show k + (oe_en D2 m2 (k + w) - (k + w)) = oe_en D1 m1 k from by omega] at hx ⊢
      exact oe_en_at hx
    · show fo (N1 (k + t)) = fo (N2 (k + w + t))
      rw [QN.2 _ (by omega), show k + t + w = k + w + t from by omega]
  unfold oe_SR oe_S oe_R
  rw [v, QN.2 k hk, show oe_en D1 m1 k - k = oe_en D2 m2 (k + w) - (k + w) from by omega]
theorem oe_Q_SRbr (Q : oe_Q D1 D2 m1 m2 i w) (QB : oe_QB D2 DB N2 NB i w) {t : Nat} (ht : t < w) : oe_SR sz ri fo NB DB w t ↔ oe_SR sz ri fo N2 D2 m2 (i + t) := by
  have e := oe_br_en Q QB ht
  have l1 := oe_en_le (D := DB) ht
  have l2 := oe_en_lt (D := DB) (m := w) (k := t)
  have v : oe_vc (fun q => fo (NB q)) DB w t = oe_vc (fun q => fo (N2 q)) D2 m2 (i + t) := by
    obtain ⟨hi, hw, hm, him, ha, hb, hc, hd⟩ := Q
    refine oe_vc_win (L := oe_en DB w t - t) (c := D2 i) (c' := 0) (by omega) (by omega) (by omega) (fun s hs => ?_) (fun hx => ?_) (fun s hs => ?_)
    · have := QB.1 (t + s) (by omega)
      rw [Nat.add_assoc i t s]; omega
    · rw [show t + (oe_en DB w t - t) = oe_en DB w t from by omega] at hx ⊢
      exact oe_en_at hx
    · show fo (NB (t + s)) = fo (N2 (i + t + s))
      rw [QB.2 _ (by omega), Nat.add_assoc]
  unfold oe_SR oe_S oe_R
  rw [v, QB.2 t ht, show oe_en DB w t - t = oe_en D2 m2 (i + t) - (i + t) from by omega]
end
/-- positions i .. i+w-1 taken out; a window; a window put in -/
def oe_cu (f : Nat → Nat) (i w : Nat) : Nat → Nat := fun k => if k < i then f k else f (k + w)
def oe_sg (f : Nat → Nat) (i : Nat) : Nat → Nat := fun t => f (i + t)
def oe_sd (D : Nat → Nat) (i : Nat) : Nat → Nat := fun t => D (i + t) - D i
def oe_ad (g : Nat → Nat) (d : Nat) : Nat → Nat := fun t => g t + d
def oe_in (f g : Nat → Nat) (a w : Nat) : Nat → Nat := fun k => if k < a then f k else if k < a + w then g (k - a) else f (k - w)
theorem oe_cu1 {f : Nat → Nat} {i w k : Nat} (h : k < i) : oe_cu f i w k = f k := if_pos h
theorem oe_cu2 {f : Nat → Nat} {i w k : Nat} (h : i ≤ k) : oe_cu f i w k = f (k + w) := if_neg (by omega)
theorem oe_in1 {f g : Nat → Nat} {a w k : Nat} (h : k < a) : oe_in f g a w k = f k := if_pos h
theorem oe_in2 {f g : Nat → Nat} {a w k : Nat} (h1 : a ≤ k) (h2 : k < a + w) : oe_in f g a w k = g (k - a) := by
  unfold oe_in; rw [if_neg (by omega), if_pos h2]
theorem oe_in3 {f g : Nat → Nat} {a w k : Nat} (h1 : a + w ≤ k) : oe_in f g a w k = f (k - w) := by
  unfold oe_in; rw [if_neg (by omega), if_neg (by omega)]
theorem oe_cu_Q {D : Nat → Nat} {m i : Nat} (hi : 0 < i) (hm : i < m) : oe_Q (oe_cu D i (oe_en D m i - i)) D (m - (oe_en D m i - i)) m i (oe_en D m i - i) := by
  have l := oe_en_lt (D := D) (m := m) (k := i)
  have l2 := oe_en_le (D := D) hm
  refine ⟨hi, by omega, by omega, by omega, fun k h => oe_cu1 h, fun k h => oe_cu2 h, fun t h1 h2 => oe_en_in (m := m) (by omega) (by omega), fun h => ?_⟩
  rw [show i + (oe_en D m i - i) = oe_en D m i from by omega]
  exact oe_en_at (by omega)
theorem oe_cu_QN (N : Nat → Nat) (i w : Nat) : oe_QN (oe_cu N i w) N i w := ⟨fun k h => oe_cu1 h, fun k h => oe_cu2 h⟩
theorem oe_cu_QB {D : Nat → Nat} (N : Nat → Nat) {m i : Nat} : oe_QB D (oe_sd D i) N (oe_sg N i) i (oe_en D m i - i) := by
  refine ⟨fun t ht => ?_, fun t _ => rfl⟩
  show D (i + t) - D i + D i = D (i + t)
  by_cases e : t = 0
  · subst e; rw [Nat.add_zero]; omega
  · have := oe_en_in (D := D) (m := m) (k := i) (q := i + t) (by omega) (by omega)
    omega
theorem oe_in_Q {D DB : Nat → Nat} {m a w d : Nat} (WB : oe_W DB w) (ha : 0 < a) (hm : a ≤ m) (hd : a < m → D a ≤ d) : oe_Q D (oe_in D (oe_ad DB d) a w) m (m + w) a w := by
  have w0 := WB.1
  have e0 : oe_in D (oe_ad DB d) a w a = d := by
    rw [oe_in2 (Nat.le_refl _) (by omega), Nat.sub_self]
    show DB 0 + d = d
    rw [WB.2.1, Nat.zero_add]
  refine ⟨ha, w0, rfl, hm, fun k h => (oe_in1 h).symm, fun k h => ?_, fun t h1 h2 => ?_, fun h => ?_⟩
  · rw [oe_in3 (by omega), Nat.add_sub_cancel]
  · rw [e0, oe_in2 (by omega) (by omega), Nat.add_sub_cancel_left]
    have := (WB.2.2 t h1 h2).1
    show d < DB t + d
    omega
  · rw [e0, oe_in3 (Nat.le_refl _), Nat.add_sub_cancel]
    exact hd h
theorem oe_in_e {D DB : Nat → Nat} {a w d : Nat} (WB : oe_W DB w) : oe_in D (oe_ad DB d) a w a = d := by
  have w0 := WB.1
  rw [oe_in2 (Nat.le_refl _) (by omega), Nat.sub_self]
  show DB 0 + d = d
  rw [WB.2.1, Nat.zero_add]
theorem oe_in_QN (N NB : Nat → Nat) (a w : Nat) : oe_QN N (oe_in N NB a w) a w := by
  refine ⟨fun k h => (oe_in1 h).symm, fun k h => ?_⟩
  rw [oe_in3 (by omega), Nat.add_sub_cancel]
theorem oe_in_QB {D DB : Nat → Nat} (N NB : Nat → Nat) {a w d : Nat} (WB : oe_W DB w) : oe_QB (oe_in D (oe_ad DB d) a w) DB (oe_in N NB a w) NB a w := by
  refine ⟨fun t ht => ?_, fun t ht => ?_⟩
  · rw [oe_in_e WB, oe_in2 (by omega) (by omega), Nat.add_sub_cancel_left]; rfl
  · rw [oe_in2 (by omega) (by omega), Nat.add_sub_cancel_left]
/-- only the values below m count -/
theorem oe_en_congr {D D' : Nat → Nat} {m k : Nat} (hk : k < m) (h : ∀ q, q < m → D q = D' q) : oe_en D m k = oe_en D' m k := by
  have l := oe_en_le (D := D') hk
  apply oe_en_eq
  · exact oe_en_lt
  · exact l
  · intro q h1 h2
    rw [h k hk, h q (by omega)]; exact oe_en_in h1 h2
  · intro h1
    rw [h k hk, h _ h1]; exact oe_en_at h1
theorem oe_vc_congr {F F' D D' : Nat → Nat} {m k : Nat} (hk : k < m) (h : ∀ q, q < m → D q = D' q) (hF : ∀ q, q < m → F q = F' q) : oe_vc F D m k = oe_vc F' D' m k := by
  have l := oe_en_le (D := D') hk
  have l2 := oe_en_lt (D := D') (m := m) (k := k)
  refine oe_vc_win (L := oe_en D' m k - k) (c := 0) (c' := 0) hk (by omega) (by omega) (fun t ht => by rw [h _ (by omega)]) (fun hx => ?_) (fun t ht => hF _ (by omega))
  rw [show k + (oe_en D' m k - k) = oe_en D' m k from by omega] at hx ⊢
  rw [h _ hx, h k hk]; exact oe_en_at hx
theorem oe_SR_congr {sz ri fo N D N' D' : Nat → Nat} {m k : Nat} (hk : k < m) (hN : ∀ q, q < m → N q = N' q) (hD : ∀ q, q < m → D q = D' q) (h : oe_SR sz ri fo N D m k) : oe_SR sz ri fo N' D' m k := by
  unfold oe_SR oe_S oe_R at h ⊢
  rw [oe_en_congr hk hD, oe_vc_congr (F' := fun q => fo (N' q)) hk hD (fun q hq => by show fo (N q) = fo (N' q); rw [hN q hq]), hN k hk] at h
  exact h
theorem oe_T_congr {ab ch nx bf N D N' D' : Nat → Nat} {m : Nat} (hN : ∀ q, q < m → N q = N' q) (hD : ∀ q, q < m → D q = D' q) (h : oe_T ab ch nx bf N D m) : oe_T ab ch nx bf N' D' m := by
  obtain ⟨W, HN, HC, HP, HX, HB⟩ := h
  have W' : oe_W D' m := by
    refine ⟨W.1, by rw [← hD 0 W.1]; exact W.2.1, fun k k0 hk => ?_⟩
    rw [← hD k hk, ← hD (k - 1) (by omega)]; exact W.2.2 k k0 hk
  refine ⟨W', ⟨fun k hk => by rw [← hN k hk]; exact HN.1 k hk, fun k k0 hk => by rw [← hN k hk]; exact HN.2.1 k k0 hk, fun j k hj hk e => HN.2.2 j k hj hk (by rw [hN j hj, hN k hk]; exact e)⟩, fun k hk => ?_, fun k k0 hk => ?_, fun k k0 hk => ?_, fun k k0 hk => ?_⟩
  · obtain ⟨p, q⟩ := HC k hk
    refine ⟨fun x1 x2 => ?_, fun x => ?_⟩
    · rw [← hN k hk, ← hN _ x1]
      exact p x1 (by rw [hD k hk, hD _ x1]; exact x2)
    · rw [← hN k hk]
      exact q (fun x1 => by rw [hD k hk, hD _ x1]; exact x x1)
  · have s := (oe_pa W' k0 hk).1
    rw [← hN k hk, ← hN _ (by omega), HP k k0 hk, ← hD k hk, oe_sc_congr (D := D) (D' := D') (fun q hq => hD q (by omega))]
  · obtain ⟨p, q⟩ := HX k k0 hk
    rw [oe_en_congr hk hD] at p q
    refine ⟨fun x1 x2 => ?_, fun x => ?_⟩
    · rw [← hN k hk, ← hN _ x1]
      exact p x1 (by rw [hD k hk, hD _ x1]; exact x2)
    · rw [← hN k hk]
      exact q (fun x1 => by rw [hD k hk, hD _ x1]; exact x x1)
  · obtain ⟨p, q⟩ := HB k k0 hk
    have s := (oe_sc_spec (D := D') (b := D' k + 1) (by rw [W'.2.1]; omega) k k0).1
    rw [oe_sc_congr (D := D) (D' := D') (fun q hq => hD q (by omega)), hD k hk, hD _ (show oe_sc D' (D' k + 1) k < m by omega), hN k hk] at p q
    rw [hN _ (show oe_sc D' (D' k + 1) k < m by omega)] at p
    exact ⟨p, q⟩
end
section
/-! unlink and link as changes of trees, no program in sight -/
section
variable {ab ch nx bf ab' ch' nx' bf' sz ri fo N D NB DB : Nat → Nat} {m i w : Nat}
theorem oe_cut_T (T : oe_T ab ch nx bf N D m) (hi : 0 < i) (hm : i < m)
    (c1 : bf (N i) = 0 → ch' = oe_u ch (ab (N i)) (nx (N i)) ∧ nx' = nx) (c2 : bf (N i) ≠ 0 → ch' = ch ∧ nx' = oe_u nx (bf (N i)) (nx (N i)))
    (c3 : nx (N i) = 0 → bf' = bf) (c4 : nx (N i) ≠ 0 → bf' = oe_u bf (nx (N i)) (bf (N i))) :
    oe_T ab ch' nx' bf' (oe_cu N i (oe_en D m i - i)) (oe_cu D i (oe_en D m i - i)) (m - (oe_en D m i - i)) ∧ oe_T ab ch' nx' bf' (oe_sg N i) (oe_sd D i) (oe_en D m i - i) := by
  have Q := oe_cu_Q (D := D) hi hm
  have QN := oe_cu_QN N i (oe_en D m i - i)
  have QB := oe_cu_QB (D := D) N (m := m) (i := i)
  obtain ⟨W, HN, HC, HP, HX, HB⟩ := T
  have l := oe_en_lt (D := D) (m := m) (k := i)
  have l2 := oe_en_le (D := D) hm
  have ee : i + (oe_en D m i - i) = oe_en D m i := by omega
  obtain ⟨z1, z0⟩ := HX i hi hm
  obtain ⟨y1, y0⟩ := HB i hi hm
  have hP := HP i hi hm
  have inj : ∀ j k, j < m → k < m → j ≠ k → N j ≠ N k := fun j k hj hk h e => h (HN.2.2 j k hj hk e)
  have hch : (∀ k, k < m → (k + 1 = i → D i ≤ D k) → ch' (N k) = ch (N k)) ∧ (D (i - 1) < D i → ch' (N (i - 1)) = nx (N i)) ∧
      (∀ k, 0 < k → k < m → (k < i → oe_en D m k = i → D k = D i → False) → nx' (N k) = nx (N k)) ∧ (∀ k, 0 < k → k < i → oe_en D m k = i → D k = D i → nx' (N k) = nx (N i)) := by
    rcases oe_pb W hi hm with ⟨a, b, c, d, e⟩ | ⟨a, b, c⟩
    · have hb : bf (N i) = N (oe_sc D (D i + 1) i) := y1 a
      have hb0 : bf (N i) ≠ 0 := by
        rw [hb]; have := HN.2.1 _ b (by omega); omega
      have hen := oe_pb_en W hi hm a
      obtain ⟨g1, g2⟩ := c2 hb0
      subst g1; subst g2
      rw [hb]
      refine ⟨fun _ _ _ => rfl, fun h => by omega, fun k k0 hk h => ?_, fun k k0 hk h1 h2 => ?_⟩
      · refine oe_un (inj _ _ hk (by omega) (fun e2 => ?_))
        subst e2
        exact h c hen a
      · have e2 : oe_sc D (D i + 1) i = k := by
          apply oe_sc_eq hk (by omega)
          intro q q1 q2
          have := oe_en_in (D := D) (m := m) (k := k) q1 (by omega)
          omega
        rw [e2]; exact oe_us
    · have hb : bf (N i) = 0 := y0 (by rw [a]; omega)
      obtain ⟨g1, g2⟩ := c1 hb
      subst g1; subst g2
      rw [hP, b]
      refine ⟨fun k hk h => ?_, fun _ => oe_us, fun _ _ _ _ => rfl, fun k k0 hk h1 h2 => ?_⟩
      · refine oe_un (inj _ _ hk (by omega) (fun e2 => ?_))
        have := h (by omega)
        rw [e2] at this; omega
      · rcases Nat.lt_or_ge k (i - 1) with u | u
        · have := oe_en_in (D := D) (m := m) (k := k) (q := i - 1) u (by omega)
          omega
        · have e2 : k = i - 1 := by omega
          rw [e2] at h2; omega
  have hbf : (∀ k, 0 < k → k < m → (k = i + (oe_en D m i - i) → D k ≠ D i) → bf' (N k) = bf (N k)) ∧ (i + (oe_en D m i - i) < m → D (i + (oe_en D m i - i)) = D i → bf' (N (i + (oe_en D m i - i))) = bf (N i)) := by
    rw [ee]
    by_cases h : nx (N i) = 0
    · have g := c3 h
      subst g
      refine ⟨fun _ _ _ _ => rfl, fun h1 h2 => ?_⟩
      have := z1 h1 h2
      have := HN.2.1 _ (show 0 < oe_en D m i by omega) h1
      omega
    · have g := c4 h
      subst g
      have h1 : oe_en D m i < m := by
        rcases Nat.lt_or_ge (oe_en D m i) m with u | u
        · exact u
        · exact absurd (z0 (fun v => by omega)) h
      have h2 : D (oe_en D m i) = D i := by
        rcases Nat.decEq (D (oe_en D m i)) (D i) with u | u
        · exact absurd (z0 (fun _ => u)) h
        · exact u
      rw [z1 h1 h2]
      refine ⟨fun k k0 hk h3 => oe_un (inj _ _ hk h1 (fun e => ?_)), fun _ _ => oe_us⟩
      subst e
      exact h3 rfl h2
  have hbr : (∀ t, t < oe_en D m i - i → ch' (oe_sg N i t) = ch (oe_sg N i t)) ∧ (∀ t, t < oe_en D m i - i → nx' (oe_sg N i t) = nx (oe_sg N i t)) ∧ (∀ t, t < oe_en D m i - i → bf' (oe_sg N i t) = bf (oe_sg N i t)) := by
    refine ⟨fun t ht => ?_, fun t ht => ?_, fun t ht => ?_⟩
    · exact hch.1 (i + t) (by omega) (fun e => by omega)
    · exact hch.2.2.1 (i + t) (by omega) (by omega) (fun e => by omega)
    · exact hbf.1 (i + t) (by omega) (by omega) (fun e => by omega)
  rw [← ee] at z1 z0
  refine ⟨⟨oe_Q_W1 Q W, oe_QN_N QN (by omega) hi HN, oe_cut_C Q QN W HC z1 z0 hch.1 hch.2.1, oe_cut_P Q QN W HP, oe_cut_X Q QN HX z1 z0 hch.2.2.1 hch.2.2.2, oe_cut_B Q QN W HB hbf.1 hbf.2⟩, ?_⟩
  exact ⟨oe_br_W Q QB W, (oe_br_N Q QB HN).1, oe_br_C Q QB HC hbr.1, oe_br_P Q QB W HP (fun _ _ _ => rfl), oe_br_X Q QB HX (fun t _ ht => hbr.2.1 t ht), oe_br_B Q QB W HB (fun t _ ht => hbr.2.2 t ht)⟩
theorem oe_cut_SR (W : oe_W D m) (hi : 0 < i) (hm : i < m) (h : ∀ k, k < m → oe_SR sz ri fo N D m k) :
    (∀ k, k < m - (oe_en D m i - i) → ¬ (k ≤ oe_sc D (D i) i ∧ oe_sc D (D i) i < oe_en (oe_cu D i (oe_en D m i - i)) (m - (oe_en D m i - i)) k) → oe_SR sz ri fo (oe_cu N i (oe_en D m i - i)) (oe_cu D i (oe_en D m i - i)) (m - (oe_en D m i - i)) k) ∧
    (∀ t, t < oe_en D m i - i → oe_SR sz ri fo (oe_sg N i) (oe_sd D i) (oe_en D m i - i) t) := by
  have Q := oe_cu_Q (D := D) hi hm
  have QN := oe_cu_QN N i (oe_en D m i - i)
  have QB := oe_cu_QB (D := D) N (m := m) (i := i)
  have l := oe_en_lt (D := D) (m := m) (k := i)
  have l2 := oe_en_le (D := D) hm
  refine ⟨fun k hk hn => ?_, fun t ht => (oe_Q_SRbr Q QB ht).mpr (h _ (by omega))⟩
  rcases Nat.lt_or_ge k i with z | z
  · rcases Nat.lt_or_ge i (oe_en D m k) with y | y
    · refine absurd ⟨oe_an_pa W hi hm z y, ?_⟩ hn
      have := (oe_pa W hi hm).1
      obtain ⟨a, b⟩ := oe_Q_mid Q z y
      omega
    · exact (oe_Q_SRlo Q QN z y).mpr (h k (by omega))
  · exact (oe_Q_SRhi Q QN z hk).mpr (h _ (by omega))
/-- the place of a new branch at (a, d): its parent, the sibling ahead, what stands behind -/
theorem oe_ins_T {a d p s bh : Nat} (T : oe_T ab ch nx bf N D m) (TB : oe_T ab ch nx bf NB DB w) (hx : 0 < NB 0) (dj : ∀ k t, k < m → t < w → N k ≠ NB t)
    (ha : 0 < a) (hm : a ≤ m) (hd0 : 0 < d) (hd1 : d ≤ D (a - 1) + 1) (hd2 : a < m → D a ≤ d)
    (hp : p = N (oe_sc D d a)) (hs1 : D (oe_sc D (d + 1) a) = d → s = N (oe_sc D (d + 1) a)) (hs0 : D (oe_sc D (d + 1) a) ≠ d → s = 0)
    (hb0 : s = 0 → bh = ch p) (hb1 : s ≠ 0 → bh = nx s)
    (c0 : ab' = oe_u ab (NB 0) p)
    (c1 : s = 0 → ch' = oe_u ch p (NB 0) ∧ nx' = oe_u nx (NB 0) bh) (c2 : s ≠ 0 → ch' = ch ∧ nx' = oe_u (oe_u nx (NB 0) bh) s (NB 0))
    (c3 : bh = 0 → bf' = oe_u bf (NB 0) s) (c4 : bh ≠ 0 → bf' = oe_u (oe_u bf (NB 0) s) bh (NB 0)) :
    oe_T ab' ch' nx' bf' (oe_in N NB a w) (oe_in D (oe_ad DB d) a w) (m + w) := by
  obtain ⟨W, HN, HC, HP, HX, HB⟩ := T
  obtain ⟨WB, BN, BC, BP, BX, BB⟩ := TB
  have Q := oe_in_Q (D := D) WB ha hm hd2
  have QN := oe_in_QN N NB a w
  have QB := oe_in_QB (D := D) (d := d) (a := a) N NB WB
  have e0 := oe_in_e (D := D) (d := d) (a := a) WB
  have w0 := WB.1
  have inj : ∀ j k, j < m → k < m → j ≠ k → N j ≠ N k := fun j k hj hk h e => h (HN.2.2 j k hj hk e)
  have injB : ∀ j k, j < w → k < w → j ≠ k → NB j ≠ NB k := fun j k hj hk h e => h (BN.2.2 j k hj hk e)
  have W2 := oe_ins_W Q QB W WB (by rw [e0]; exact hd0) (by rw [e0]; exact hd1)
  have hN2 := oe_ins_N Q QN QB HN BN hx dj
  obtain ⟨r1, r2, r3⟩ := oe_sc_spec (D := D) (b := d + 1) (by rw [W.2.1]; omega) a ha
  have dj' : ∀ k t, k < m → t < w → NB t ≠ N k := fun k t hk ht e => dj k t hk ht e.symm
  -- what stands behind
  have hbh : (a < m → D a = d → bh = N a) ∧ ((a < m → D a ≠ d) → bh = 0) ∧ (∀ k, k < m → (k + 1 = a → d ≤ D k) → ch' (N k) = ch (N k)) ∧ (∀ t, t < w → ch' (NB t) = ch (NB t)) ∧ (D (a - 1) < d → ch' (N (a - 1)) = NB 0) ∧
      (∀ k, 0 < k → k < m → (k < a → oe_en D m k = a → D k = d → False) → nx' (N k) = nx (N k)) ∧ (∀ t, 0 < t → t < w → nx' (NB t) = nx (NB t)) ∧ (∀ k, 0 < k → k < a → oe_en D m k = a → D k = d → nx' (N k) = NB 0) ∧ nx' (NB 0) = bh := by
    by_cases h : D (oe_sc D (d + 1) a) = d
    · have hr0 : 0 < oe_sc D (d + 1) a := by
        rcases Nat.eq_zero_or_pos (oe_sc D (d + 1) a) with u | u
        · rw [u, W.2.1] at h; omega
        · exact u
      have hs := hs1 h
      have hsn : s ≠ 0 := by
        rw [hs]; have := HN.2.1 _ hr0 (by omega); omega
      have hen : oe_en D m (oe_sc D (d + 1) a) = a := by
        apply oe_en_eq r1 hm
        · intro q q1 q2; have := r3 q q1 q2; omega
        · intro q; rw [h]; exact hd2 q
      obtain ⟨x1, x0⟩ := HX _ hr0 (by omega)
      rw [hen, h] at x1 x0
      have hb := hb1 hsn
      obtain ⟨g1, g2⟩ := c2 hsn
      subst g1; subst g2
      have hda : d ≤ D (a - 1) := by
        by_cases u : oe_sc D (d + 1) a = a - 1
        · rw [u] at h; omega
        · have := r3 (a - 1) (by omega) (by omega); omega
      rw [hs] at hb ⊢
      rw [hb]
      refine ⟨x1, x0, fun _ _ _ => rfl, fun _ _ => rfl, fun u => by omega, fun k k0 hk u => ?_, fun t t0 ht => ?_, fun k k0 hk u1 u2 => ?_, ?_⟩
      · rw [oe_un (inj _ _ hk (by omega) (fun e2 => by subst e2; exact u r1 hen h)), oe_un (dj _ _ hk w0)]
      · rw [oe_un (dj' _ _ (by omega) ht), oe_un (injB _ _ ht w0 (by omega))]
      · have e2 : oe_sc D (d + 1) a = k := by
          apply oe_sc_eq hk (by omega)
          intro q q1 q2
          have := oe_en_in (D := D) (m := m) (k := k) q1 (by omega)
          omega
        rw [e2]; exact oe_us
      · rw [oe_un (dj' _ _ (by omega) w0)]; exact oe_us
    · have hs := hs0 h
      have hda : D (a - 1) + 1 = d := by
        rcases Nat.lt_or_ge (D (a - 1)) d with u | u
        · omega
        · have := oe_sc_lev (b := d + 1) W ha hm (by omega) (by omega)
          omega
      have hq : oe_sc D d a = a - 1 := oe_sc_eq (by omega) (by omega) (fun q q1 q2 => by omega)
      rw [hq] at hp
      have hb := hb0 hs
      obtain ⟨g1, g2⟩ := c1 hs
      subst g1; subst g2
      obtain ⟨x1, x0⟩ := HC (a - 1) (by omega)
      rw [show a - 1 + 1 = a from by omega] at x1 x0
      rw [hb, hp]
      refine ⟨fun u1 u2 => x1 u1 (by omega), fun u => x0 (fun u1 => ?_), fun k hk u => ?_, fun t ht => ?_, fun _ => oe_us, fun k k0 hk u => ?_, fun t t0 ht => ?_, fun k k0 hk u1 u2 => ?_, oe_us⟩
      · have := u u1; have := hd2 u1; omega
      · refine oe_un (inj _ _ hk (by omega) (fun e2 => ?_))
        have := u (by omega)
        rw [e2] at this; omega
      · exact oe_un (dj' _ _ (by omega) ht)
      · exact oe_un (dj _ _ hk w0)
      · exact oe_un (injB _ _ ht w0 (by omega))
      · rcases Nat.lt_or_ge k (a - 1) with v | v
        · have := oe_en_in (D := D) (m := m) (k := k) (q := a - 1) v (by omega)
          omega
        · have e2 : k = a - 1 := by omega
          rw [e2] at u2; omega
  obtain ⟨b1, b0, f1, f2, f3, f4, f5, f6, f7⟩ := hbh
  have hbf : (∀ k, 0 < k → k < m → (k = a → D a ≠ d) → bf' (N k) = bf (N k)) ∧ (∀ t, 0 < t → t < w → bf' (NB t) = bf (NB t)) ∧ bf' (NB 0) = s ∧ (a < m → D a = d → bf' (N a) = NB 0) := by
    by_cases h : bh = 0
    · have g := c3 h
      subst g
      refine ⟨fun k k0 hk _ => oe_un (dj _ _ hk w0), fun t t0 ht => oe_un (injB _ _ ht w0 (by omega)), oe_us, fun h1 h2 => ?_⟩
      have := b1 h1 h2
      have := HN.2.1 a ha h1
      omega
    · have g := c4 h
      subst g
      have h1 : a < m := by
        rcases Nat.lt_or_ge a m with u | u
        · exact u
        · exact absurd (b0 (fun v => by omega)) h
      have h2 : D a = d := by
        rcases Nat.decEq (D a) d with u | u
        · exact absurd (b0 (fun _ => u)) h
        · exact u
      rw [b1 h1 h2]
      refine ⟨fun k k0 hk u => ?_, fun t t0 ht => ?_, ?_, fun _ _ => oe_us⟩
      · rw [oe_un (inj _ _ hk h1 (fun e => by subst e; exact u rfl h2)), oe_un (dj _ _ hk w0)]
      · rw [oe_un (dj' _ _ h1 ht), oe_un (injB _ _ ht w0 (by omega))]
      · rw [oe_un (dj' _ _ h1 w0)]; exact oe_us
  obtain ⟨v1, v2, v3, v4⟩ := hbf
  subst c0
  refine ⟨W2, hN2, oe_ins_C Q QN QB HC BC (by rw [e0]; exact f1) f2 (by rw [e0]; exact f3), ?_, ?_, ?_⟩
  · refine oe_ins_P Q QN QB W WB (by rw [e0]; exact hd0) HP BP (fun k _ hk => oe_un (dj _ _ hk w0)) (fun t t0 ht => oe_un (injB _ _ ht w0 (by omega))) ?_
    rw [e0, ← hp]; exact oe_us
  · exact oe_ins_X Q QN QB HX BX (by rw [e0]; exact b1) (by rw [e0]; exact b0) (by rw [e0]; exact f4) f5 (by rw [e0]; exact f6) f7
  · exact oe_ins_B Q QN QB W WB HB BB (by rw [e0]; exact hs1) (by rw [e0]; exact hs0) (by rw [e0]; exact v1) v2 v3 (by rw [e0]; exact v4)
theorem oe_ins_SR {a d : Nat} (W : oe_W D m) (WB : oe_W DB w) (ha : 0 < a) (hm : a ≤ m) (hd0 : 0 < d) (hd1 : d ≤ D (a - 1) + 1) (hd2 : a < m → D a ≤ d)
    (h : ∀ k, k < m → oe_SR sz ri fo N D m k) (hB : ∀ t, t < w → oe_SR sz ri fo NB DB w t) :
    ∀ k, k < m + w → ¬ (k ≤ oe_sc D d a ∧ oe_sc D d a < oe_en (oe_in D (oe_ad DB d) a w) (m + w) k) → oe_SR sz ri fo (oe_in N NB a w) (oe_in D (oe_ad DB d) a w) (m + w) k := by
  have Q := oe_in_Q (D := D) WB ha hm hd2
  have QN := oe_in_QN N NB a w
  have QB := oe_in_QB (D := D) (d := d) (a := a) N NB WB
  have e0 := oe_in_e (D := D) (d := d) (a := a) WB
  have w0 := WB.1
  have W2 := oe_ins_W Q QB W WB (by rw [e0]; exact hd0) (by rw [e0]; exact hd1)
  intro k hk hn
  rcases Nat.lt_or_ge k a with z | z
  · rcases Nat.lt_or_ge a (oe_en (oe_in D (oe_ad DB d) a w) (m + w) k) with y | y
    · refine absurd ?_ hn
      have x := oe_an_pa W2 ha (by omega) z y
      rw [e0, ← oe_Q_sl Q (Nat.le_refl _)] at x
      have := (oe_sc_spec (D := D) (b := d) (by rw [W.2.1]; exact hd0) a ha).1
      exact ⟨x, by omega⟩
    · exact (oe_Q_SRlo Q QN z y).mp (h k (by omega))
  · rcases Nat.lt_or_ge k (a + w) with y | y
    · have := (oe_Q_SRbr Q QB (t := k - a) (by omega)).mp (hB _ (by omega))
      rw [show a + (k - a) = k from by omega] at this
      exact this
    · have := (oe_Q_SRhi Q QN (k := k - w) (by omega) (by omega)).mp (h _ (by omega))
      rw [show k - w + w = k from by omega] at this
      exact this
end
end
section
/-! X: pull and pullUp -/
section
variable {mk : Nat} {us nm fo ab ch nx bf sz ri N D : Nat → Nat} {m : Nat}
theorem oe_pull_fin {post : SX → Prop} {x a s : Nat} (hx : x < 41) (K : post (nI mk, oe_A us, oe_A nm, oe_A fo, oe_A ab, oe_A ch, oe_A nx, oe_A bf, oe_A (oe_u sz x a), oe_A (oe_u ri x s))) : wX_pull_79 post (nI x) (nI a) (nI s) (nI mk) (oe_A us) (oe_A nm) (oe_A fo) (oe_A ab) (oe_A ch) (oe_A nx) (oe_A bf) (oe_A sz) (oe_A ri) :=
  And.intro (vp_in_nI hx (by decide)) (nm_r (oe_st sz a (by omega)) (And.intro (vp_in_nI hx (by decide)) (nm_r (oe_st ri s (by omega)) K)))
theorem oe_pull_loop {post : SX → Prop} {q : Nat} (hm : m ≤ 41) (hq : q < m) (hfo : ∀ y, fo y ≤ 1) (T : oe_T ab ch nx bf N D m) (hS : ∀ k, q < k → k < oe_en D m q → oe_SR sz ri fo N D m k)
    (K : ∀ S R, S + oe_z (N q) = oe_en D m q - q → R + oe_z (N q) = oe_vc (fun p => fo (N p)) D m q → post (nI mk, oe_A us, oe_A nm, oe_A fo, oe_A ab, oe_A ch, oe_A nx, oe_A bf, oe_A (oe_u sz (N q) S), oe_A (oe_u ri (N q) R))) :
    ∀ n j i c a s, m - j < n → q < j → j ≤ oe_en D m q → (j < oe_en D m q → D j = D q + 1 ∧ c = N j) → (j = oe_en D m q → c = 0) → i + q + 1 ≤ j →
      a + oe_z (N q) = j - q → s + oe_z (N q) = 1 + (if fo (N q) = 0 then oe_cn (oe_vs (fun p => fo (N p)) D m q) (q + 1) (j - (q + 1)) else 0) →
      wX_pull_23 post (nI (N q)) (nI mk) (oe_A us) (oe_A nm) (oe_A fo) (oe_A ab) (oe_A ch) (oe_A nx) (oe_A bf) (oe_A sz) (oe_A ri) n (nI a) (nI s) (nI c) (nI i) := by
  intro n
  induction n with
  | zero => intro j i c a s h; omega
  | succ n ih =>
    intro j i c a s hn hj he hc1 hc0 hi ha hs
    obtain ⟨W, HN, HC, HP, HX, HB⟩ := T
    have lm := oe_en_le (D := D) hq
    have hx := HN.1 q hq
    rcases Nat.lt_or_ge j (oe_en D m q) with z | z
    · obtain ⟨hd, hcj⟩ := hc1 z
      subst hcj
      have hcl := HN.1 j (by omega)
      have hcp := HN.2.1 j (by omega) (by omega)
      obtain ⟨S1, S2⟩ := hS j hj z
      unfold oe_S at S1
      unfold oe_R at S2
      rw [oe_zp (by omega)] at S1 S2
      obtain ⟨b1, b2, b3⟩ := oe_sib hq hj z hd
      have lj := oe_en_lt (D := D) (m := m) (k := j)
      obtain ⟨x1, x0⟩ := HX j (by omega) (by omega)
      have step : ∀ s', s' + oe_z (N q) = 1 + (if fo (N q) = 0 then oe_cn (oe_vs (fun p => fo (N p)) D m q) (q + 1) (oe_en D m j - (q + 1)) else 0) → wX_pull_23 post (nI (N q)) (nI mk) (oe_A us) (oe_A nm) (oe_A fo) (oe_A ab) (oe_A ch) (oe_A nx) (oe_A bf) (oe_A sz) (oe_A ri) n (nI (a + sz (N j))) (nI s') (nI (nx (N j))) (nI (i + 1)) := by
        intro s' hs'
        refine ih (oe_en D m j) (i + 1) (nx (N j)) (a + sz (N j)) s' (by omega) (by omega) b1 (fun u => ?_) (fun u => ?_) (by omega) (by omega) hs'
        · obtain ⟨v1, v2⟩ := b2 u
          exact ⟨by omega, x1 v1 v2⟩
        · exact x0 (fun v => b3 u v)
      refine br_f (nI_ge (b := 40) (by omega) (by decide)) (br_f (nI_ne0 hcp (by omega)) ?_)
      refine And.intro (vp_in_nI hcl (by decide)) (nm_r (e' := nI (a + sz (N j))) (by rw [oe_rd sz (by omega), nI_add]) (And.intro (vp_in_nI hx (by decide)) ?_))
      by_cases hf : fo (N q) = 0
      · refine br_t (by rw [oe_rd fo (by omega), hf]; exact nI_0) ?_
        refine And.intro (vp_in_nI hcl (by decide)) (nm_r (e' := nI (s + ri (N j))) (by rw [oe_rd ri (by omega), nI_add]) (And.intro (vp_in_nI hcl (by decide)) (nm_r (oe_rd nx (by omega)) (nm_r (nI_1 i) ?_))))
        refine step _ ?_
        rw [if_pos hf] at hs ⊢
        have c1 := oe_cn_sp (oe_vs (fun p => fo (N p)) D m q) (lo := q + 1) (a := j) (b := oe_en D m j) (by omega) (by omega)
        have c2 := oe_vc_from (F := fun p => fo (N p)) (D := D) (m := m) (k := q) (j := j) (by omega) (oe_kid_cut hf z hd)
        omega
      · refine br_f (by rw [oe_rd fo (by omega)]; exact nI_ne0 (by omega) (by have := hfo (N q); omega)) ?_
        refine And.intro (vp_in_nI hcl (by decide)) (nm_r (oe_rd nx (by omega)) (nm_r (nI_1 i) ?_))
        refine step _ ?_
        rw [if_neg hf] at hs ⊢
        exact hs
    · have e : j = oe_en D m q := by omega
      have hcz := hc0 e
      subst hcz
      have fin : wX_pull_79 post (nI (N q)) (nI a) (nI s) (nI mk) (oe_A us) (oe_A nm) (oe_A fo) (oe_A ab) (oe_A ch) (oe_A nx) (oe_A bf) (oe_A sz) (oe_A ri) := by
        refine oe_pull_fin hx (K a s (by omega) ?_)
        rw [hs]
        by_cases hf : fo (N q) = 0
        · rw [if_pos hf, oe_vc_open, e]
        · rw [if_neg hf, oe_vc_fold (F := fun p => fo (N p)) hf]
      by_cases h : (40 : Int32) ≤ nI i
      · exact br_t h fin
      · exact br_f h (br_t nI_0 fin)
theorem oe_x_pull {post : SX → Prop} {q : Nat} (hm : m ≤ 41) (hq : q < m) (hfo : ∀ y, fo y ≤ 1) (T : oe_T ab ch nx bf N D m) (hS : ∀ k, q < k → k < oe_en D m q → oe_SR sz ri fo N D m k)
    (K : ∀ S R, S + oe_z (N q) = oe_en D m q - q → R + oe_z (N q) = oe_vc (fun p => fo (N p)) D m q → post (nI mk, oe_A us, oe_A nm, oe_A fo, oe_A ab, oe_A ch, oe_A nx, oe_A bf, oe_A (oe_u sz (N q) S), oe_A (oe_u ri (N q) R))) :
    wpX_pull post (nI mk, oe_A us, oe_A nm, oe_A fo, oe_A ab, oe_A ch, oe_A nx, oe_A bf, oe_A sz, oe_A ri) (nI (N q)) := by
  have hx := T.2.1.1 q hq
  have l := oe_en_lt (D := D) (m := m) (k := q)
  have lm := oe_en_le (D := D) hq
  have main : ∀ zb, zb + oe_z (N q) = 1 → wX_pull_9 post (nI (N q)) (nI zb) (nI mk) (oe_A us) (oe_A nm) (oe_A fo) (oe_A ab) (oe_A ch) (oe_A nx) (oe_A bf) (oe_A sz) (oe_A ri) := by
    intro zb hz
    refine And.intro (vp_in_nI hx (by decide)) (nm_r (oe_rd ch (by omega)) ⟨m + 1, ?_⟩)
    obtain ⟨p, r⟩ := T.2.2.1 q hq
    refine oe_pull_loop hm hq hfo T hS K (m + 1) (q + 1) 0 (ch (N q)) zb zb (by omega) (by omega) (by omega) (fun u => ?_) (fun u => ?_) (by omega) (by omega) ?_
    · have x := oe_en_in (D := D) (m := m) (k := q) (q := q + 1) (by omega) u
      have y := (T.1.2.2 (q + 1) (by omega) (by omega)).2
      rw [Nat.add_sub_cancel] at y
      exact ⟨by omega, p (by omega) x⟩
    · refine r (fun v => ?_)
      have := oe_en_at (D := D) (m := m) (k := q) (by omega)
      rw [← u] at this; exact this
    · rw [Nat.sub_self]
      show zb + oe_z (N q) = 1 + (if fo (N q) = 0 then 0 else 0)
      rw [ite_self]; exact hz
  by_cases h0 : N q = 0
  · exact br_t (by rw [h0]; exact nI_0) (main 0 (by rw [h0]; rfl))
  · exact br_f (nI_ne0 (by omega) (by omega)) (main 1 (by rw [oe_zp h0]))
theorem oe_x_pullE {post : SX → Prop} {q : Nat} {x : Int32} (hxe : x = nI (N q)) (hm : m ≤ 41) (hq : q < m) (hfo : ∀ y, fo y ≤ 1) (T : oe_T ab ch nx bf N D m) (hS : ∀ k, q < k → k < oe_en D m q → oe_SR sz ri fo N D m k)
    (K : ∀ S R, S + oe_z (N q) = oe_en D m q - q → R + oe_z (N q) = oe_vc (fun p => fo (N p)) D m q → post (nI mk, oe_A us, oe_A nm, oe_A fo, oe_A ab, oe_A ch, oe_A nx, oe_A bf, oe_A (oe_u sz (N q) S), oe_A (oe_u ri (N q) R))) :
    wpX_pull post (nI mk, oe_A us, oe_A nm, oe_A fo, oe_A ab, oe_A ch, oe_A nx, oe_A bf, oe_A sz, oe_A ri) x := by
  subst hxe
  exact oe_x_pull hm hq hfo T hS K
theorem oe_SR_u {q k S R : Nat} (HN : oe_N N m) (hq : q < m) (hk : k < m) (hne : k ≠ q) (h : oe_SR sz ri fo N D m k) : oe_SR (oe_u sz (N q) S) (oe_u ri (N q) R) fo N D m k := by
  have e : N k ≠ N q := fun e => hne (HN.2.2 k q hk hq e)
  unfold oe_SR oe_S oe_R at h ⊢
  rw [oe_un e, oe_un e]; exact h
theorem oe_SR_us {q S R : Nat} (h1 : S + oe_z (N q) = oe_en D m q - q) (h2 : R + oe_z (N q) = oe_vc (fun p => fo (N p)) D m q) : oe_SR (oe_u sz (N q) S) (oe_u ri (N q) R) fo N D m q := by
  unfold oe_SR oe_S oe_R
  rw [oe_us, oe_us]; exact ⟨h1, h2⟩
theorem oe_pullUp_loop {post : SX → Prop} {sz0 ri0 : Nat → Nat} (hm : m ≤ 41) (hfo : ∀ y, fo y ≤ 1) (h0 : N 0 = 0) (T : oe_T ab ch nx bf N D m)
    (K : ∀ sz' ri', (∀ k, k < m → oe_SR sz' ri' fo N D m k) → (∀ y, (∀ k, k < m → y ≠ N k) → sz' y = sz0 y ∧ ri' y = ri0 y) → post (nI mk, oe_A us, oe_A nm, oe_A fo, oe_A ab, oe_A ch, oe_A nx, oe_A bf, oe_A sz', oe_A ri')) :
    ∀ n q i sz ri, q < n → q < m → i + q ≤ 40 → (∀ k, k < m → ¬ (k ≤ q ∧ q < oe_en D m k) → oe_SR sz ri fo N D m k) → (∀ y, (∀ k, k < m → y ≠ N k) → sz y = sz0 y ∧ ri y = ri0 y) → wX_pullUp_4 post n (nI (N q)) (nI i) (nI mk) (oe_A us) (oe_A nm) (oe_A fo) (oe_A ab) (oe_A ch) (oe_A nx) (oe_A bf) (oe_A sz) (oe_A ri) := by
  intro n
  induction n with
  | zero => intro q i sz ri h; omega
  | succ n ih =>
    intro q i sz ri hn hq hi hS hF
    rcases Nat.eq_zero_or_pos q with z | z
    · subst z
      have fin : wX_pullUp_32 post (nI mk) (oe_A us) (oe_A nm) (oe_A fo) (oe_A ab) (oe_A ch) (oe_A nx) (oe_A bf) (oe_A sz) (oe_A ri) := by
        refine oe_x_pullE (q := 0) (by rw [h0]; exact nI_0.symm) hm hq hfo T (fun k k0 hk => hS k (by have := oe_en_le (D := D) hq; omega) (fun u => by omega)) (fun S R hs hr => ?_)
        refine K _ _ (fun k hk => ?_) (fun y hy => ?_)
        · by_cases e : k = 0
          · subst e; exact oe_SR_us hs hr
          · exact oe_SR_u T.2.1 hq hk e (hS k hk (fun u => by omega))
        · rw [oe_un (hy 0 hq), oe_un (hy 0 hq)]; exact hF y hy
      rw [h0]
      by_cases h : (40 : Int32) ≤ nI i
      · exact br_t h fin
      · exact br_f h (br_t nI_0 fin)
    · have hx := T.2.1.1 q hq
      have hx0 := T.2.1.2.1 q z hq
      obtain ⟨p1, p2, p3⟩ := oe_pa T.1 z hq
      refine br_f (nI_ge (b := 40) (by omega) (by decide)) (br_f (nI_ne0 hx0 (by omega)) ?_)
      refine oe_x_pull hm hq hfo T (fun k k0 hk => hS k (by have := oe_en_le (D := D) hq; omega) (fun u => by omega)) (fun S R hs hr => ?_)
      refine And.intro (vp_in_nI hx (by decide)) (nm_r (e' := nI (N (oe_sc D (D q) q))) (by rw [oe_rd ab (by omega), T.2.2.2.1 q z hq]) (nm_r (nI_1 i) ?_))
      refine ih _ (i + 1) _ _ (by omega) (by omega) (by omega) (fun k hk hn => ?_) (fun y hy => ?_)
      · by_cases e : k = q
        · subst e; exact oe_SR_us hs hr
        · refine oe_SR_u T.2.1 hq hk e (hS k hk (fun u => ?_))
          have a := oe_an_pa T.1 z hq (by omega) u.2
          exact hn ⟨a, by omega⟩
      · rw [oe_un (hy q hq), oe_un (hy q hq)]; exact hF y hy
theorem oe_x_pullUp {post : SX → Prop} {q : Nat} (hm : m ≤ 41) (hfo : ∀ y, fo y ≤ 1) (h0 : N 0 = 0) (hq : q < m) (T : oe_T ab ch nx bf N D m)
    (hS : ∀ k, k < m → ¬ (k ≤ q ∧ q < oe_en D m k) → oe_SR sz ri fo N D m k)
    (K : ∀ sz' ri', (∀ k, k < m → oe_SR sz' ri' fo N D m k) → (∀ y, (∀ k, k < m → y ≠ N k) → sz' y = sz y ∧ ri' y = ri y) → post (nI mk, oe_A us, oe_A nm, oe_A fo, oe_A ab, oe_A ch, oe_A nx, oe_A bf, oe_A sz', oe_A ri')) : wpX_pullUp post (nI mk, oe_A us, oe_A nm, oe_A fo, oe_A ab, oe_A ch, oe_A nx, oe_A bf, oe_A sz, oe_A ri) (nI (N q)) :=
  ⟨42, oe_pullUp_loop hm hfo h0 T K 42 q 0 sz ri (by omega) hq (by omega) hS (fun _ _ => ⟨rfl, rfl⟩)⟩
end
end
section
/-! X: unlink, link, fresh -/
section
variable {mk : Nat} {us nm fo ab ch nx bf sz ri N D NB DB : Nat → Nat} {m i w : Nat}
theorem oe_SR_fr {sz' ri' : Nat → Nat} {t : Nat} (h : oe_SR sz ri fo NB DB w t) (e : sz' (NB t) = sz (NB t) ∧ ri' (NB t) = ri (NB t)) : oe_SR sz' ri' fo NB DB w t := by
  unfold oe_SR oe_S oe_R at h ⊢
  rw [e.1, e.2]; exact h
theorem oe_unlink_74 {post : SX → Prop} (hm41 : m ≤ 41) (hfo : ∀ y, fo y ≤ 1) (h0 : N 0 = 0) (hi : 0 < i) (hm : i < m) (W : oe_W D m) (HN : oe_N N m) (HP : oe_P ab N D m)
    (hS : ∀ k, k < m → oe_SR sz ri fo N D m k)
    (T1 : oe_T ab ch nx bf (oe_cu N i (oe_en D m i - i)) (oe_cu D i (oe_en D m i - i)) (m - (oe_en D m i - i))) (T2 : oe_T ab ch nx bf (oe_sg N i) (oe_sd D i) (oe_en D m i - i))
    (K : ∀ ch' nx' bf' sz' ri', oe_T ab ch' nx' bf' (oe_cu N i (oe_en D m i - i)) (oe_cu D i (oe_en D m i - i)) (m - (oe_en D m i - i)) → (∀ k, k < m - (oe_en D m i - i) → oe_SR sz' ri' fo (oe_cu N i (oe_en D m i - i)) (oe_cu D i (oe_en D m i - i)) (m - (oe_en D m i - i)) k) →
      oe_T ab ch' nx' bf' (oe_sg N i) (oe_sd D i) (oe_en D m i - i) → (∀ t, t < oe_en D m i - i → oe_SR sz' ri' fo (oe_sg N i) (oe_sd D i) (oe_en D m i - i) t) → post (nI mk, oe_A us, oe_A nm, oe_A fo, oe_A ab, oe_A ch', oe_A nx', oe_A bf', oe_A sz', oe_A ri')) :
    wX_unlink_74 post (nI (ab (N i))) (nI mk) (oe_A us) (oe_A nm) (oe_A fo) (oe_A ab) (oe_A ch) (oe_A nx) (oe_A bf) (oe_A sz) (oe_A ri) := by
  have l := oe_en_lt (D := D) (m := m) (k := i)
  have l2 := oe_en_le (D := D) hm
  have pa := (oe_pa W hi hm).1
  obtain ⟨s1, s2⟩ := oe_cut_SR (N := N) W hi hm hS
  have e : ab (N i) = oe_cu N i (oe_en D m i - i) (oe_sc D (D i) i) := by
    rw [HP i hi hm, oe_cu1 pa]
  rw [e]
  refine oe_x_pullUp (by omega) hfo (by rw [oe_cu1 hi]; exact h0) (by omega) T1 s1 (fun sz' ri' hs hf => ?_)
  refine K _ _ _ _ _ T1 hs T2 (fun t ht => oe_SR_fr (s2 t ht) (hf _ (fun k hk => ?_)))
  show N (i + t) ≠ _
  intro e2
  rcases Nat.lt_or_ge k i with z | z
  · rw [oe_cu1 z] at e2
    have := HN.2.2 _ _ (by omega) (by omega) e2
    omega
  · rw [oe_cu2 z] at e2
    have := HN.2.2 _ _ (by omega) (by omega) e2
    omega
theorem oe_x_unlink {post : SX → Prop} (hm41 : m ≤ 41) (hfo : ∀ y, fo y ≤ 1) (h0 : N 0 = 0) (hi : 0 < i) (hm : i < m) (T : oe_T ab ch nx bf N D m)
    (hS : ∀ k, k < m → oe_SR sz ri fo N D m k)
    (K : ∀ ch' nx' bf' sz' ri', oe_T ab ch' nx' bf' (oe_cu N i (oe_en D m i - i)) (oe_cu D i (oe_en D m i - i)) (m - (oe_en D m i - i)) → (∀ k, k < m - (oe_en D m i - i) → oe_SR sz' ri' fo (oe_cu N i (oe_en D m i - i)) (oe_cu D i (oe_en D m i - i)) (m - (oe_en D m i - i)) k) →
      oe_T ab ch' nx' bf' (oe_sg N i) (oe_sd D i) (oe_en D m i - i) → (∀ t, t < oe_en D m i - i → oe_SR sz' ri' fo (oe_sg N i) (oe_sd D i) (oe_en D m i - i) t) → post (nI mk, oe_A us, oe_A nm, oe_A fo, oe_A ab, oe_A ch', oe_A nx', oe_A bf', oe_A sz', oe_A ri')) :
    wpX_unlink post (nI mk, oe_A us, oe_A nm, oe_A fo, oe_A ab, oe_A ch, oe_A nx, oe_A bf, oe_A sz, oe_A ri) (nI (N i)) := by
  have T' := T
  obtain ⟨W, HN, HC, HP, HX, HB⟩ := T
  have hx := HN.1 i hm
  have hpl : ab (N i) < 41 := by
    rw [HP i hi hm]; exact HN.1 _ (by have := (oe_pa W hi hm).1; omega)
  have l2 := oe_en_le (D := D) hm
  have hnl : nx (N i) < 41 := by
    obtain ⟨z1, z0⟩ := HX i hi hm
    by_cases h : oe_en D m i < m ∧ D (oe_en D m i) = D i
    · rw [z1 h.1 h.2]; exact HN.1 _ h.1
    · rw [z0 (fun u v => h ⟨u, v⟩)]; omega
  have hbl : bf (N i) < 41 := by
    obtain ⟨z1, z0⟩ := HB i hi hm
    by_cases h : D (oe_sc D (D i + 1) i) = D i
    · rw [z1 h]
      exact HN.1 _ (by have := (oe_sc_spec (D := D) (b := D i + 1) (by rw [W.2.1]; omega) i hi).1; omega)
    · rw [z0 h]; omega
  have ix := vp_in_nI hx (show 41 < 2 ^ 31 by decide)
  -- the second store
  have k48 : ∀ ch' nx', nx' (N i) = nx (N i) → (bf (N i) = 0 → ch' = oe_u ch (ab (N i)) (nx (N i)) ∧ nx' = nx) → (bf (N i) ≠ 0 → ch' = ch ∧ nx' = oe_u nx (bf (N i)) (nx (N i))) →
      wX_unlink_48 post (nI (N i)) (nI (ab (N i))) (nI mk) (oe_A us) (oe_A nm) (oe_A fo) (oe_A ab) (oe_A ch') (oe_A nx') (oe_A bf) (oe_A sz) (oe_A ri) := by
    intro ch' nx' hnx c1 c2
    refine And.intro ix ?_
    by_cases h : nx (N i) = 0
    · refine br_t (by rw [oe_rd nx' (by omega), hnx, h]; exact nI_0) ?_
      obtain ⟨t1, t2⟩ := oe_cut_T (bf' := bf) T' hi hm c1 c2 (fun _ => rfl) (fun u => absurd h u)
      exact oe_unlink_74 hm41 hfo h0 hi hm W HN HP hS t1 t2 K
    · refine br_f (by rw [oe_rd nx' (by omega), hnx]; exact nI_ne0 (by omega) (by omega)) ?_
      refine And.intro ix (And.intro ix (And.intro (by rw [oe_rd nx' (by omega), hnx]; exact vp_in_nI hnl (by decide)) ?_))
      refine nm_r (e' := oe_A (oe_u bf (nx (N i)) (bf (N i)))) (by rw [oe_rd nx' (by omega), hnx, oe_rd bf (by omega), oe_st bf _ (by omega)]) ?_
      obtain ⟨t1, t2⟩ := oe_cut_T (bf' := oe_u bf (nx (N i)) (bf (N i))) T' hi hm c1 c2 (fun u => absurd u h) (fun _ => rfl)
      exact oe_unlink_74 hm41 hfo h0 hi hm W HN HP hS t1 t2 K
  refine And.intro ix (nm_r (oe_rd ab (by omega)) (And.intro ix ?_))
  by_cases h : bf (N i) = 0
  · refine br_t (by rw [oe_rd bf (by omega), h]; exact nI_0) ?_
    refine And.intro ix (And.intro (vp_in_nI hpl (by decide)) (nm_r (e' := oe_A (oe_u ch (ab (N i)) (nx (N i)))) (by rw [oe_rd nx (by omega), oe_st ch _ (by omega)]) ?_))
    exact k48 _ _ rfl (fun _ => ⟨rfl, rfl⟩) (fun u => absurd h u)
  · refine br_f (by rw [oe_rd bf (by omega)]; exact nI_ne0 (by omega) (by omega)) ?_
    refine And.intro ix (And.intro ix (And.intro (by rw [oe_rd bf (by omega)]; exact vp_in_nI hbl (by decide)) (nm_r (e' := oe_A (oe_u nx (bf (N i)) (nx (N i)))) (by rw [oe_rd bf (by omega), oe_rd nx (by omega), oe_st nx _ (by omega)]) ?_)))
    refine k48 _ _ ?_ (fun u => absurd u h) (fun _ => ⟨rfl, rfl⟩)
    by_cases e : N i = bf (N i)
    · rw [← e]; exact oe_us
    · exact oe_un e
/-- link a branch at (a, d) -/
theorem oe_x_link {post : SX → Prop} {a d p s : Nat} (hm41 : m + w ≤ 41) (hfo : ∀ y, fo y ≤ 1) (h0 : N 0 = 0) (T : oe_T ab ch nx bf N D m) (TB : oe_T ab ch nx bf NB DB w) (hx : 0 < NB 0) (dj : ∀ k t, k < m → t < w → N k ≠ NB t)
    (ha : 0 < a) (hm : a ≤ m) (hd0 : 0 < d) (hd1 : d ≤ D (a - 1) + 1) (hd2 : a < m → D a ≤ d)
    (hp : p = N (oe_sc D d a)) (hs1 : D (oe_sc D (d + 1) a) = d → s = N (oe_sc D (d + 1) a)) (hs0 : D (oe_sc D (d + 1) a) ≠ d → s = 0)
    (hS : ∀ k, k < m → oe_SR sz ri fo N D m k) (hSB : ∀ t, t < w → oe_SR sz ri fo NB DB w t)
    (K : ∀ ab' ch' nx' bf' sz' ri', oe_T ab' ch' nx' bf' (oe_in N NB a w) (oe_in D (oe_ad DB d) a w) (m + w) → (∀ k, k < m + w → oe_SR sz' ri' fo (oe_in N NB a w) (oe_in D (oe_ad DB d) a w) (m + w) k) → post (nI mk, oe_A us, oe_A nm, oe_A fo, oe_A ab', oe_A ch', oe_A nx', oe_A bf', oe_A sz', oe_A ri')) :
    wpX_link post (nI mk, oe_A us, oe_A nm, oe_A fo, oe_A ab, oe_A ch, oe_A nx, oe_A bf, oe_A sz, oe_A ri) (nI (NB 0)) (nI p) (nI s) := by
  have w0 := TB.1.1
  have hxl := TB.2.1.1 0 w0
  have q1 := (oe_sc_spec (D := D) (b := d) (by rw [T.1.2.1]; exact hd0) a ha).1
  have r1 := (oe_sc_spec (D := D) (b := d + 1) (by rw [T.1.2.1]; omega) a ha).1
  have hpl : p < 41 := by rw [hp]; exact T.2.1.1 _ (by omega)
  have hsl : s < 41 := by
    by_cases h : D (oe_sc D (d + 1) a) = d
    · rw [hs1 h]; exact T.2.1.1 _ (by omega)
    · rw [hs0 h]; omega
  have ix := vp_in_nI hxl (show 41 < 2 ^ 31 by decide)
  have ip := vp_in_nI hpl (show 41 < 2 ^ 31 by decide)
  have is := vp_in_nI hsl (show 41 < 2 ^ 31 by decide)
  have hin := oe_ins_SR (N := N) (NB := NB) T.1 TB.1 ha hm hd0 hd1 hd2 hS hSB
  -- what stands behind is a node or 0
  have hbl : ∀ bh, (s = 0 → bh = ch p) → (s ≠ 0 → bh = nx s) → bh < 41 := by
    intro bh b0 b1
    by_cases h : D (oe_sc D (d + 1) a) = d
    · have hr0 : 0 < oe_sc D (d + 1) a := by
        rcases Nat.eq_zero_or_pos (oe_sc D (d + 1) a) with u | u
        · rw [u, T.1.2.1] at h; omega
        · exact u
      have hs := hs1 h
      have hsn : s ≠ 0 := by
        rw [hs]; have := T.2.1.2.1 _ hr0 (by omega); omega
      rw [b1 hsn, hs]
      obtain ⟨z1, z0⟩ := T.2.2.2.2.1 _ hr0 (by omega)
      by_cases h : oe_en D m (oe_sc D (d + 1) a) < m ∧ D (oe_en D m (oe_sc D (d + 1) a)) = D (oe_sc D (d + 1) a)
      · rw [z1 h.1 h.2]; exact T.2.1.1 _ h.1
      · rw [z0 (fun u v => h ⟨u, v⟩)]; omega
    · rw [b0 (hs0 h), hp]
      obtain ⟨z1, z0⟩ := T.2.2.1 (oe_sc D d a) (by omega)
      by_cases h : oe_sc D d a + 1 < m ∧ D (oe_sc D d a) < D (oe_sc D d a + 1)
      · rw [z1 h.1 h.2]; exact T.2.1.1 _ h.1
      · rw [z0 (fun u => by omega)]; omega
  have k77 : ∀ ab' ch' nx' bf', oe_T ab' ch' nx' bf' (oe_in N NB a w) (oe_in D (oe_ad DB d) a w) (m + w) → wX_link_77 post (nI p) (nI mk) (oe_A us) (oe_A nm) (oe_A fo) (oe_A ab') (oe_A ch') (oe_A nx') (oe_A bf') (oe_A sz) (oe_A ri) := by
    intro ab' ch' nx' bf' T2
    have e : p = oe_in N NB a w (oe_sc D d a) := by rw [oe_in1 q1]; exact hp
    rw [e]
    exact oe_x_pullUp hm41 hfo (by rw [oe_in1 ha]; exact h0) (by omega) T2 hin (fun sz' ri' hs _ => K _ _ _ _ _ _ T2 hs)
  have k64 : ∀ bh ch' nx', (s = 0 → bh = ch p) → (s ≠ 0 → bh = nx s) → (s = 0 → ch' = oe_u ch p (NB 0) ∧ nx' = oe_u nx (NB 0) bh) → (s ≠ 0 → ch' = ch ∧ nx' = oe_u (oe_u nx (NB 0) bh) s (NB 0)) →
      wX_link_64 post (nI (NB 0)) (nI p) (nI bh) (nI mk) (oe_A us) (oe_A nm) (oe_A fo) (oe_A (oe_u ab (NB 0) p)) (oe_A ch') (oe_A nx') (oe_A (oe_u bf (NB 0) s)) (oe_A sz) (oe_A ri) := by
    intro bh ch' nx' b0 b1 c1 c2
    have hb := hbl bh b0 b1
    by_cases h : bh = 0
    · refine br_t (by rw [h]; exact nI_0) ?_
      exact k77 _ _ _ _ (oe_ins_T T TB hx dj ha hm hd0 hd1 hd2 hp hs1 hs0 b0 b1 rfl c1 c2 (fun _ => rfl) (fun u => absurd h u))
    · refine br_f (nI_ne0 (by omega) (by omega)) (And.intro (vp_in_nI hb (by decide)) (nm_r (oe_st _ _ (by omega)) ?_))
      exact k77 _ _ _ _ (oe_ins_T T TB hx dj ha hm hd0 hd1 hd2 hp hs1 hs0 b0 b1 rfl c1 c2 (fun u => absurd u h) (fun _ => rfl))
  have k33 : ∀ bh, (s = 0 → bh = ch p) → (s ≠ 0 → bh = nx s) → wX_link_33 post (nI (NB 0)) (nI p) (nI s) (nI bh) (nI mk) (oe_A us) (oe_A nm) (oe_A fo) (oe_A (oe_u ab (NB 0) p)) (oe_A ch) (oe_A nx) (oe_A (oe_u bf (NB 0) s)) (oe_A sz) (oe_A ri) := by
    intro bh b0 b1
    refine And.intro ix (nm_r (oe_st nx bh (by omega)) ?_)
    by_cases h : s = 0
    · refine br_t (by rw [h]; exact nI_0) (And.intro ip (nm_r (oe_st ch _ (by omega)) ?_))
      exact k64 bh _ _ b0 b1 (fun _ => ⟨rfl, rfl⟩) (fun u => absurd h u)
    · refine br_f (nI_ne0 (by omega) (by omega)) (And.intro is (nm_r (oe_st _ _ (by omega)) ?_))
      exact k64 bh _ _ b0 b1 (fun u => absurd u h) (fun _ => ⟨rfl, rfl⟩)
  refine And.intro ix (nm_r (oe_st ab _ (by omega)) (And.intro ix (nm_r (oe_st bf _ (by omega)) ?_)))
  by_cases h : s = 0
  · refine br_t (by rw [h]; exact nI_0) (And.intro ip ?_)
    rw [oe_rd ch (by omega)]
    exact k33 _ (fun _ => rfl) (fun u => absurd h u)
  · refine br_f (nI_ne0 (by omega) (by omega)) (And.intro is ?_)
    rw [oe_rd nx (by omega)]
    exact k33 _ (fun u => absurd u h) (fun _ => rfl)
end
end
section
/-! X: the walks that only read -/
def oe_lv (d : Nat) : Int32 := nI d - 1
theorem oe_lv0 : (-1 : Int32) = oe_lv 0 := by decide +kernel
theorem oe_lvs (d : Nat) : oe_lv (d + 1) = nI d := nI_pred d
theorem oe_lv1 (d : Nat) : oe_lv d + 1 = oe_lv (d + 1) := by
  rw [oe_lvs]; unfold oe_lv; rw [Int32.sub_add_cancel]
theorem oe_lvp {d : Nat} (h : 0 < d) : oe_lv d = nI (d - 1) := by
  obtain ⟨e, rfl⟩ : ∃ e, d = e + 1 := ⟨d - 1, by omega⟩
  rw [oe_lvs, Nat.add_sub_cancel]
theorem oe_en0 {D : Nat → Nat} {m : Nat} (W : oe_W D m) : oe_en D m 0 = m :=
  oe_en_eq W.1 (Nat.le_refl _) (fun q h1 h2 => by rw [W.2.1]; exact (W.2.2 q h1 h2).1) (fun h => absurd h (Nat.lt_irrefl _))
section
variable {mk : Nat} {us nm fo ab ch nx bf sz ri N D : Nat → Nat} {m : Nat}
theorem oe_nodeAt_loop {post : Int32 → Prop} {P : Nat} (hm : m ≤ 41) (hP : P < m) (T : oe_T ab ch nx bf N D m) (hS : ∀ k, k < m → oe_S sz N D m k) (K : post (nI (N P))) :
    ∀ n j i, P - j < n → 0 < j → j ≤ P → (∀ q, j ≤ q → q ≤ P → D j ≤ D q) → i < j → wX_nodeAt_12 post (nI mk) (oe_A us) (oe_A nm) (oe_A fo) (oe_A ab) (oe_A ch) (oe_A nx) (oe_A bf) (oe_A sz) (oe_A ri) n (nI (N j)) (nI (P - j)) (nI i) := by
  intro n
  induction n with
  | zero => intro j i h; omega
  | succ n ih =>
    intro j i hn j0 hj hI hi
    obtain ⟨W, HN, HC, HP, HX, HB⟩ := T
    have hcl := HN.1 j (by omega)
    have hcp := HN.2.1 j j0 (by omega)
    have ix := vp_in_nI hcl (show 41 < 2 ^ 31 by decide)
    have s := hS j (by omega)
    unfold oe_S at s
    rw [oe_zp (by omega)] at s
    have l := oe_en_lt (D := D) (m := m) (k := j)
    have lm := oe_en_le (D := D) (m := m) (k := j) (by omega)
    refine br_f (nI_ge (b := 80) (by omega) (by decide)) (br_f (nI_pos (by omega)) (br_f (nI_ne0 hcp (by omega)) ?_))
    by_cases h : P = j
    · subst h
      exact br_t (by rw [Nat.sub_self]; exact nI_0) K
    · refine br_f (nI_ne0 (by omega) (by omega)) (And.intro ix ?_)
      by_cases h2 : P < oe_en D m j
      · have x := oe_en_in (D := D) (m := m) (k := j) (q := j + 1) (by omega) (by omega)
        have y := (W.2.2 (j + 1) (by omega) (by omega)).2
        rw [Nat.add_sub_cancel] at y
        refine br_t (by rw [oe_rd sz (by omega)]; exact nI_lt (by omega) (by omega)) ?_
        refine nm_r (e' := nI (P - (j + 1))) (by rw [show P - j = P - (j + 1) + 1 from by omega]; exact pk_m1 _) ?_
        refine And.intro ix (nm_r (e' := nI (N (j + 1))) (by rw [oe_rd ch (by omega), (HC j (by omega)).1 (by omega) x]) (nm_r (nI_1 i) ?_))
        refine ih (j + 1) (i + 1) (by omega) (by omega) (by omega) (fun q q1 q2 => ?_) (by omega)
        have := oe_en_in (D := D) (m := m) (k := j) (q := q) (by omega) (by omega)
        omega
      · have a1 := oe_en_at (D := D) (m := m) (k := j) (by omega)
        have a2 := hI (oe_en D m j) (by omega) (by omega)
        refine br_f (by rw [oe_rd sz (by omega)]; exact nI_nlt (by omega) (by omega)) (And.intro ix ?_)
        refine nm_r (e' := nI (P - oe_en D m j)) (by rw [oe_rd sz (by omega), pk_sub (by omega)]; exact congrArg nI (by omega)) ?_
        refine And.intro ix (nm_r (e' := nI (N (oe_en D m j))) (by rw [oe_rd nx (by omega), (HX j j0 (by omega)).1 (by omega) (by omega)]) (nm_r (nI_1 i) ?_))
        refine ih (oe_en D m j) (i + 1) (by omega) (by omega) (by omega) (fun q q1 q2 => ?_) (by omega)
        have := hI q (by omega) q2
        omega
theorem oe_x_nodeAt {post : Int32 → Prop} {k : Nat} (hm : m ≤ 41) (h0 : N 0 = 0) (hk : k + 1 < m) (T : oe_T ab ch nx bf N D m) (hS : ∀ k, k < m → oe_S sz N D m k) (K : post (nI (N (k + 1)))) : wpX_nodeAt post (nI mk, oe_A us, oe_A nm, oe_A fo, oe_A ab, oe_A ch, oe_A nx, oe_A bf, oe_A sz, oe_A ri) (nI k) := by
  have W := T.1
  have d1 := (W.2.2 1 (by omega) (by omega))
  have c0 := (T.2.2.1 0 (by omega)).1 (by omega) (by rw [W.2.1]; exact d1.1)
  rw [h0] at c0
  refine nm_r (e' := nI (N 1)) (show oe_A ch 0 = _ from congrArg nI c0) ⟨43, ?_⟩
  have := oe_nodeAt_loop (mk := mk) (us := us) (nm := nm) (fo := fo) (ri := ri) hm hk T hS K 43 1 0 (by omega) (by omega) (by omega) (fun q q1 q2 => ?_) (by omega)
  · rw [Nat.add_sub_cancel] at this; exact this
  · have a := (W.2.2 q (by omega) (by omega)).1
    have b := d1.2
    rw [Nat.sub_self, W.2.1] at b
    omega
theorem oe_placeOf_loop {post : Int32 → Prop} {k : Nat} (hm : m ≤ 41) (h0 : N 0 = 0) (T : oe_T ab ch nx bf N D m) (hS : ∀ k, k < m → oe_S sz N D m k) (K : post (nI (k - 1))) :
    ∀ n j i pl, j < n → j < m → i + j ≤ 40 → (0 < j → pl + j = k) → (j = 0 → pl + 1 = k) → wX_placeOf_7 post (nI mk) (oe_A us) (oe_A nm) (oe_A fo) (oe_A ab) (oe_A ch) (oe_A nx) (oe_A bf) (oe_A sz) (oe_A ri) n (nI pl) (nI (N j)) (nI i) := by
  intro n
  induction n with
  | zero => intro j i pl h; omega
  | succ n ih =>
    intro j i pl hn hj hi h1 h2
    obtain ⟨W, HN, HC, HP, HX, HB⟩ := T
    refine br_f (nI_ge (b := 80) (by omega) (by decide)) ?_
    rcases Nat.eq_zero_or_pos j with z | z
    · subst z
      have := h2 rfl
      refine br_t (by rw [h0]; exact nI_0) ?_
      rw [show pl = k - 1 from by omega]; exact K
    · have hcl := HN.1 j hj
      have hcp := HN.2.1 j z hj
      have ix := vp_in_nI hcl (show 41 < 2 ^ 31 by decide)
      obtain ⟨b1, b0⟩ := HB j z hj
      have hp := HP j z hj
      have hk := h1 z
      refine br_f (nI_ne0 hcp (by omega)) (And.intro ix ?_)
      rcases oe_pb W z hj with ⟨a, b, c, d, e⟩ | ⟨a, b, c⟩
      · have hrl := HN.1 (oe_sc D (D j + 1) j) (by omega)
        have hrp := HN.2.1 (oe_sc D (D j + 1) j) b (by omega)
        have hen := oe_pb_en W z hj a
        have s := hS (oe_sc D (D j + 1) j) (by omega)
        unfold oe_S at s
        rw [oe_zp (by omega), hen] at s
        have er : oe_A bf (nI (N j)).toNatClampNeg = nI (N (oe_sc D (D j + 1) j)) := by rw [oe_rd bf (by omega), b1 a]
        refine br_f (by rw [er]; exact nI_ne0 hrp (by omega)) (And.intro ix (nm_r er (And.intro (vp_in_nI hrl (by decide)) ?_)))
        refine nm_r (e' := nI (pl + sz (N (oe_sc D (D j + 1) j)))) (by rw [oe_rd sz (by omega), nI_add]) (nm_r (nI_1 i) ?_)
        exact ih _ (i + 1) _ (by omega) (by omega) (by omega) (fun _ => by omega) (fun u => by omega)
      · refine br_t (by rw [oe_rd bf (by omega), b0 (by rw [a]; omega)]; exact nI_0) (And.intro ix ?_)
        rw [b] at hp
        refine nm_r (e' := nI (N (j - 1))) (by rw [oe_rd ab (by omega), hp]) ?_
        by_cases e : j - 1 = 0
        · rw [e]
          refine br_t (by rw [h0]; exact nI_0) (nm_r (nI_1 i) ?_)
          exact ih 0 (i + 1) pl (by omega) (by omega) (by omega) (fun u => by omega) (fun _ => by omega)
        · have hrp := HN.2.1 (j - 1) (by omega) (by omega)
          have hrl := HN.1 (j - 1) (by omega)
          refine br_f (nI_ne0 hrp (by omega)) (nm_r (nI_1 pl) (nm_r (nI_1 i) ?_))
          exact ih (j - 1) (i + 1) (pl + 1) (by omega) (by omega) (by omega) (fun _ => by omega) (fun u => by omega)
theorem oe_x_placeOf {post : Int32 → Prop} {k : Nat} (hm : m ≤ 41) (h0 : N 0 = 0) (k0 : 0 < k) (hk : k < m) (T : oe_T ab ch nx bf N D m) (hS : ∀ k, k < m → oe_S sz N D m k) (K : post (nI (k - 1))) : wpX_placeOf post (nI mk, oe_A us, oe_A nm, oe_A fo, oe_A ab, oe_A ch, oe_A nx, oe_A bf, oe_A sz, oe_A ri) (nI (N k)) :=
  ⟨42, oe_placeOf_loop hm h0 T hS K 42 k 0 0 (by omega) hk (by omega) (fun _ => by omega) (fun u => by omega)⟩
theorem oe_levelOf_loop {post : Int32 → Prop} {k : Nat} (hm : m ≤ 41) (h0 : N 0 = 0) (T : oe_T ab ch nx bf N D m) (K : post (oe_lv (D k))) :
    ∀ n j i t, j < n → j < m → i + j ≤ 40 → t + D j = D k → wX_levelOf_7 post (nI mk) (oe_A us) (oe_A nm) (oe_A fo) (oe_A ab) (oe_A ch) (oe_A nx) (oe_A bf) (oe_A sz) (oe_A ri) n (oe_lv t) (nI (N j)) (nI i) := by
  intro n
  induction n with
  | zero => intro j i t h; omega
  | succ n ih =>
    intro j i t hn hj hi ht
    obtain ⟨W, HN, HC, HP, HX, HB⟩ := T
    rcases Nat.eq_zero_or_pos j with z | z
    · subst z
      have e : t = D k := by have := W.2.1; omega
      rw [h0, e]
      by_cases h : (40 : Int32) ≤ nI i
      · exact br_t h K
      · exact br_f h (br_t nI_0 K)
    · have hcl := HN.1 j hj
      have hcp := HN.2.1 j z hj
      obtain ⟨p1, p2, p3⟩ := oe_pa W z hj
      refine br_f (nI_ge (b := 40) (by omega) (by decide)) (br_f (nI_ne0 hcp (by omega)) (nm_r (oe_lv1 t) (And.intro (vp_in_nI hcl (by decide)) ?_)))
      refine nm_r (e' := nI (N (oe_sc D (D j) j))) (by rw [oe_rd ab (by omega), HP j z hj]) (nm_r (nI_1 i) ?_)
      exact ih _ (i + 1) (t + 1) (by omega) (by omega) (by omega) (by omega)
theorem oe_x_levelOf {post : Int32 → Prop} {k : Nat} (hm : m ≤ 41) (h0 : N 0 = 0) (hk : k < m) (T : oe_T ab ch nx bf N D m) (K : post (oe_lv (D k))) : wpX_levelOf post (nI mk, oe_A us, oe_A nm, oe_A fo, oe_A ab, oe_A ch, oe_A nx, oe_A bf, oe_A sz, oe_A ri) (nI (N k)) := by
  refine ⟨42, ?_⟩
  rw [oe_lv0]
  exact oe_levelOf_loop hm h0 T K 42 k 0 0 (by omega) hk (by omega) (by omega)
theorem oe_behind_52a {post : Int32 → Prop} (K : post 0) : wX_behind_52 post (nI 0) (nI mk) (oe_A us) (oe_A nm) (oe_A fo) (oe_A ab) (oe_A ch) (oe_A nx) (oe_A bf) (oe_A sz) (oe_A ri) := br_t nI_0 K
theorem oe_behind_52b {post : Int32 → Prop} {x : Nat} (h0 : 0 < x) (h : x < 41) (K : post (nI (nx x))) : wX_behind_52 post (nI x) (nI mk) (oe_A us) (oe_A nm) (oe_A fo) (oe_A ab) (oe_A ch) (oe_A nx) (oe_A bf) (oe_A sz) (oe_A ri) := by
  refine br_f (nI_ne0 h0 (by omega)) (And.intro (vp_in_nI h (by decide)) ?_)
  rw [oe_rd nx (by omega)]; exact K
theorem oe_behind_loop {post : Int32 → Prop} {k : Nat} (hm : m ≤ 41) (h0 : N 0 = 0) (T : oe_T ab ch nx bf N D m) (K1 : k + 1 < m → post (nI (N (k + 1)))) (K0 : k + 1 = m → post 0) :
    ∀ n j i, j < n → j < m → i + j ≤ 40 → oe_en D m j = k + 1 → wX_behind_20 post (nI mk) (oe_A us) (oe_A nm) (oe_A fo) (oe_A ab) (oe_A ch) (oe_A nx) (oe_A bf) (oe_A sz) (oe_A ri) n (nI (N j)) (nI i) := by
  intro n
  induction n with
  | zero => intro j i h; omega
  | succ n ih =>
    intro j i hn hj hi he
    obtain ⟨W, HN, HC, HP, HX, HB⟩ := T
    have lm := oe_en_le (D := D) hj
    rcases Nat.eq_zero_or_pos j with z | z
    · subst z
      rw [oe_en0 W] at he
      rw [h0]
      have fin := oe_behind_52a (mk := mk) (us := us) (nm := nm) (fo := fo) (ab := ab) (ch := ch) (nx := nx) (bf := bf) (sz := sz) (ri := ri) (K0 he.symm)
      by_cases h : (40 : Int32) ≤ nI i
      · exact br_t h fin
      · exact br_f h (br_t nI_0 fin)
    · have hcl := HN.1 j hj
      have hcp := HN.2.1 j z hj
      have ix := vp_in_nI hcl (show 41 < 2 ^ 31 by decide)
      obtain ⟨x1, x0⟩ := HX j z hj
      rw [he] at x1 x0
      refine br_f (nI_ge (b := 40) (by omega) (by decide)) (br_f (nI_ne0 hcp (by omega)) (And.intro ix ?_))
      by_cases h : k + 1 < m ∧ D (k + 1) = D j
      · have hq := HN.2.1 (k + 1) (by omega) h.1
        have hql := HN.1 (k + 1) h.1
        have e := x1 h.1 h.2
        refine br_f (by rw [oe_rd nx (by omega), e]; exact nI_ne0 hq (by omega)) (oe_behind_52b hcp hcl ?_)
        rw [e]; exact K1 h.1
      · have e := x0 (fun u v => h ⟨u, v⟩)
        refine br_t (by rw [oe_rd nx (by omega), e]; exact nI_0) (And.intro ix ?_)
        obtain ⟨p1, p2, p3⟩ := oe_pa W z hj
        refine nm_r (e' := nI (N (oe_sc D (D j) j))) (by rw [oe_rd ab (by omega), HP j z hj]) (nm_r (nI_1 i) ?_)
        refine ih _ (i + 1) (by omega) (by omega) (by omega) ?_
        have lj := oe_en_lt (D := D) (m := m) (k := j)
        apply oe_en_eq
        · omega
        · omega
        · intro q q1 q2
          rcases Nat.lt_or_ge q j with u | u
          · have := p3 q q1 u; omega
          · by_cases e2 : q = j
            · rw [e2]; omega
            · have := oe_en_in (D := D) (m := m) (k := j) (q := q) (by omega) (by omega)
              omega
        · intro u
          have := oe_en_at (D := D) (m := m) (k := j) (by omega)
          rw [he] at this
          by_cases e3 : D (k + 1) = D j
          · exact absurd ⟨u, e3⟩ h
          · omega
theorem oe_x_behind {post : Int32 → Prop} {k : Nat} (hm : m ≤ 41) (h0 : N 0 = 0) (k0 : 0 < k) (hk : k < m) (T : oe_T ab ch nx bf N D m) (K1 : k + 1 < m → post (nI (N (k + 1)))) (K0 : k + 1 = m → post 0) : wpX_behind post (nI mk, oe_A us, oe_A nm, oe_A fo, oe_A ab, oe_A ch, oe_A nx, oe_A bf, oe_A sz, oe_A ri) (nI (N k)) := by
  have T' := T
  obtain ⟨W, HN, HC, HP, HX, HB⟩ := T
  have hcl := HN.1 k hk
  have ix := vp_in_nI hcl (show 41 < 2 ^ 31 by decide)
  obtain ⟨c1, c0⟩ := HC k hk
  refine And.intro ix ?_
  by_cases h : k + 1 < m ∧ D k < D (k + 1)
  · have hq := HN.2.1 (k + 1) (by omega) h.1
    have hql := HN.1 (k + 1) h.1
    have e : oe_A ch (nI (N k)).toNatClampNeg = nI (N (k + 1)) := by rw [oe_rd ch (by omega), c1 h.1 h.2]
    refine br_f (by rw [e]; exact nI_ne0 hq (by omega)) (And.intro ix ?_)
    rw [e]; exact K1 h.1
  · refine br_t (by rw [oe_rd ch (by omega), c0 (fun u => by omega)]; exact nI_0) ⟨42, ?_⟩
    refine oe_behind_loop hm h0 T' K1 K0 42 k 0 (by omega) hk (by omega) ?_
    exact oe_en_eq (by omega) (by omega) (fun q q1 q2 => by omega) (fun u => by omega)
theorem oe_lastChild_loop {post : Int32 → Prop} {q : Nat} (hm : m ≤ 41) (hq : q < m) (T : oe_T ab ch nx bf N D m)
    (K : ∀ s, (D (oe_sc D (D q + 1 + 1) (oe_en D m q)) = D q + 1 → s = N (oe_sc D (D q + 1 + 1) (oe_en D m q))) → (D (oe_sc D (D q + 1 + 1) (oe_en D m q)) ≠ D q + 1 → s = 0) → post (nI s)) :
    ∀ n j i c s, m - j < n → q < j → j ≤ oe_en D m q → (j < oe_en D m q → D j = D q + 1 ∧ c = N j) → (j = oe_en D m q → c = 0) → i + q + 1 ≤ j →
      (D (oe_sc D (D q + 1 + 1) j) = D q + 1 → s = N (oe_sc D (D q + 1 + 1) j)) → (D (oe_sc D (D q + 1 + 1) j) ≠ D q + 1 → s = 0) →
      wX_lastChild_12 post (nI mk) (oe_A us) (oe_A nm) (oe_A fo) (oe_A ab) (oe_A ch) (oe_A nx) (oe_A bf) (oe_A sz) (oe_A ri) n (nI s) (nI c) (nI i) := by
  intro n
  induction n with
  | zero => intro j i c s h; omega
  | succ n ih =>
    intro j i c s hn hj he hc1 hc0 hi s1 s0
    obtain ⟨W, HN, HC, HP, HX, HB⟩ := T
    have lm := oe_en_le (D := D) hq
    rcases Nat.lt_or_ge j (oe_en D m q) with z | z
    · obtain ⟨hd, hcj⟩ := hc1 z
      subst hcj
      have hcl := HN.1 j (by omega)
      have hcp := HN.2.1 j (by omega) (by omega)
      obtain ⟨b1, b2, b3⟩ := oe_sib hq hj z hd
      have lj := oe_en_lt (D := D) (m := m) (k := j)
      obtain ⟨x1, x0⟩ := HX j (by omega) (by omega)
      refine br_f (nI_ge (b := 40) (by omega) (by decide)) (br_f (nI_ne0 hcp (by omega)) ?_)
      refine And.intro (vp_in_nI hcl (by decide)) (nm_r (oe_rd nx (by omega)) (nm_r (nI_1 i) ?_))
      have hsc : oe_sc D (D q + 1 + 1) (oe_en D m j) = j := by
        refine oe_sc_eq lj (by omega) (fun r r1 r2 => ?_)
        have := oe_en_in (D := D) (m := m) r1 r2
        omega
      refine ih (oe_en D m j) (i + 1) (nx (N j)) (N j) (by omega) (by omega) b1 (fun u => ?_) (fun u => ?_) (by omega) (fun _ => by rw [hsc]) (fun u => ?_)
      · obtain ⟨v1, v2⟩ := b2 u
        exact ⟨by omega, x1 v1 v2⟩
      · exact x0 (fun v => b3 u v)
      · rw [hsc] at u; exact absurd hd u
    · have e : j = oe_en D m q := by omega
      have hcz := hc0 e
      subst hcz
      rw [e] at s1 s0
      have fin := K s s1 s0
      by_cases h : (40 : Int32) ≤ nI i
      · exact br_t h fin
      · exact br_f h (br_t nI_0 fin)
theorem oe_x_lastChild {post : Int32 → Prop} {q : Nat} (hm : m ≤ 41) (hq : q < m) (T : oe_T ab ch nx bf N D m)
    (K : ∀ s, (D (oe_sc D (D q + 1 + 1) (oe_en D m q)) = D q + 1 → s = N (oe_sc D (D q + 1 + 1) (oe_en D m q))) → (D (oe_sc D (D q + 1 + 1) (oe_en D m q)) ≠ D q + 1 → s = 0) → post (nI s)) :
    wpX_lastChild post (nI mk, oe_A us, oe_A nm, oe_A fo, oe_A ab, oe_A ch, oe_A nx, oe_A bf, oe_A sz, oe_A ri) (nI (N q)) := by
  have hx := T.2.1.1 q hq
  have l := oe_en_lt (D := D) (m := m) (k := q)
  have lm := oe_en_le (D := D) hq
  obtain ⟨p, r⟩ := T.2.2.1 q hq
  refine And.intro (vp_in_nI hx (by decide)) (nm_r (oe_rd ch (by omega)) ⟨m + 1, ?_⟩)
  have hsc : oe_sc D (D q + 1 + 1) (q + 1) = q := oe_sc_eq (by omega) (by omega) (fun r r1 r2 => by omega)
  refine oe_lastChild_loop hm hq T K (m + 1) (q + 1) 0 (ch (N q)) 0 (by omega) (by omega) (by omega) (fun u => ?_) (fun u => ?_) (by omega) (fun u => ?_) (fun _ => rfl)
  · have x := oe_en_in (D := D) (m := m) (k := q) (q := q + 1) (by omega) u
    have y := (T.1.2.2 (q + 1) (by omega) (by omega)).2
    rw [Nat.add_sub_cancel] at y
    exact ⟨by omega, p (by omega) x⟩
  · refine r (fun v => ?_)
    have := oe_en_at (D := D) (m := m) (k := q) (by omega)
    rw [← u] at this; exact this
  · rw [hsc] at u; omega
theorem oe_inBranch_loop {post : Int32 → Prop} {i j : Nat} (hm : m ≤ 41) (h0 : N 0 = 0) (i0 : 0 < i) (hi : i < m) (T : oe_T ab ch nx bf N D m) (K1 : i ≤ j → j < oe_en D m i → post 1) (K0 : ¬ (i ≤ j ∧ j < oe_en D m i) → post 0) :
    ∀ n q c, q < n → q < m → c + q ≤ 40 → q ≤ j → j < oe_en D m q → (i ≤ j → j < oe_en D m i → i ≤ q) → wX_inBranch_5 post (nI (N i)) (nI mk) (oe_A us) (oe_A nm) (oe_A fo) (oe_A ab) (oe_A ch) (oe_A nx) (oe_A bf) (oe_A sz) (oe_A ri) n (nI (N q)) (nI c) := by
  intro n
  induction n with
  | zero => intro q c h; omega
  | succ n ih =>
    intro q c hn hq hc hqj hqe hI
    obtain ⟨W, HN, HC, HP, HX, HB⟩ := T
    rcases Nat.eq_zero_or_pos q with z | z
    · subst z
      rw [h0]
      have fin : post 0 := K0 (fun u => by have := hI u.1 u.2; omega)
      by_cases h : (40 : Int32) ≤ nI c
      · exact br_t h fin
      · exact br_f h (br_t nI_0 fin)
    · have hcl := HN.1 q hq
      have hil := HN.1 i hi
      have hcp := HN.2.1 q z hq
      refine br_f (nI_ge (b := 40) (by omega) (by decide)) (br_f (nI_ne0 hcp (by omega)) ?_)
      by_cases e : q = i
      · subst e
        exact br_t rfl (K1 hqj hqe)
      · refine br_f (fun u => e (HN.2.2 q i hq hi ((nI_eq (by omega) (by omega)).mp u))) (And.intro (vp_in_nI hcl (by decide)) ?_)
        obtain ⟨p1, p2, p3⟩ := oe_pa W z hq
        have pe := oe_pa_en W z hq
        refine nm_r (e' := nI (N (oe_sc D (D q) q))) (by rw [oe_rd ab (by omega), HP q z hq]) (nm_r (nI_1 c) ?_)
        refine ih _ (c + 1) (by omega) (by omega) (by omega) (by omega) (by omega) (fun u v => ?_)
        have := hI u v
        exact oe_an_pa W z hq (by omega) (by omega)
theorem oe_x_inBranch {post : Int32 → Prop} {i j : Nat} (hm : m ≤ 41) (h0 : N 0 = 0) (i0 : 0 < i) (hi : i < m) (hj : j < m) (T : oe_T ab ch nx bf N D m) (K1 : i ≤ j → j < oe_en D m i → post 1) (K0 : ¬ (i ≤ j ∧ j < oe_en D m i) → post 0) : wpX_inBranch post (nI mk, oe_A us, oe_A nm, oe_A fo, oe_A ab, oe_A ch, oe_A nx, oe_A bf, oe_A sz, oe_A ri) (nI (N i)) (nI (N j)) :=
  ⟨42, oe_inBranch_loop hm h0 i0 hi T K1 K0 42 j 0 (by omega) hj (by omega) (Nat.le_refl _) oe_en_lt (fun u _ => u)⟩
end
/-- the deepest level of n positions from lo -/
def oe_mx (D : Nat → Nat) (lo : Nat) : Nat → Nat
  | 0 => 0
  | n + 1 => if D (lo + n) - 1 ≤ oe_mx D lo n then oe_mx D lo n else D (lo + n) - 1
theorem oe_mx_lt {D : Nat → Nat} {lo b : Nat} (hb : 0 < b) : ∀ {n : Nat}, (∀ t, t < n → D (lo + t) ≤ b) → oe_mx D lo n < b
  | 0, _ => hb
  | n + 1, h => by
    have a := oe_mx_lt hb (n := n) (fun t ht => h t (by omega))
    have b := h n (by omega)
    unfold oe_mx
    split <;> omega
section
variable {mk : Nat} {us nm fo ab ch nx bf sz ri N D : Nat → Nat} {m : Nat}
theorem oe_deepestIn_loop {post : Int32 → Prop} {k w : Nat} (hm : m ≤ 41) (h0 : N 0 = 0) (k0 : 0 < k) (hw : k + w ≤ m) (T : oe_T ab ch nx bf N D m) (K : post (nI (oe_mx D k w))) :
    ∀ n i y, w - i < n → i ≤ w → (i < w → y = N (k + i)) → wX_deepestIn_15 post (nI w) (nI mk) (oe_A us) (oe_A nm) (oe_A fo) (oe_A ab) (oe_A ch) (oe_A nx) (oe_A bf) (oe_A sz) (oe_A ri) n (nI (oe_mx D k i)) (nI y) (nI i) := by
  intro n
  induction n with
  | zero => intro i y h; omega
  | succ n ih =>
    intro i y hn hi hy
    by_cases e : i = w
    · subst e
      exact br_t (nI_le (Nat.le_refl _) (by omega)) K
    · have hy' := hy (by omega)
      subst hy'
      refine br_f (nI_ge (by omega) (by omega)) ?_
      refine oe_x_levelOf hm h0 (by omega) T ?_
      have dp := (T.1.2.2 (k + i) (by omega) (by omega)).1
      have dl := oe_W_le T.1 (k + i) (by omega)
      have ml := oe_mx_lt (D := D) (lo := k) (b := 41) (by omega) (n := i) (fun t ht => by have := oe_W_le T.1 (k + t) (by omega); omega)
      have step : wX_deepestIn_41 post (wX_deepestIn_15 post (nI w) (nI mk) (oe_A us) (oe_A nm) (oe_A fo) (oe_A ab) (oe_A ch) (oe_A nx) (oe_A bf) (oe_A sz) (oe_A ri) n) (nI (N (k + i))) (nI w) (nI i) (nI (oe_mx D k (i + 1))) (nI mk) (oe_A us) (oe_A nm) (oe_A fo) (oe_A ab) (oe_A ch) (oe_A nx) (oe_A bf) (oe_A sz) (oe_A ri) := by
        refine oe_x_behind hm h0 (by omega) (by omega) T (fun u => ?_) (fun u => ?_)
        · exact nm_r (nI_1 i) (ih (i + 1) _ (by omega) (by omega) (fun _ => rfl))
        · refine nm_r (nI_1 i) ?_
          have := ih (i + 1) 0 (by omega) (by omega) (fun _ => by omega)
          exact this
      rw [oe_lvp dp]
      by_cases h : D (k + i) - 1 ≤ oe_mx D k i
      · refine br_t (nI_le h (by omega)) ?_
        have e2 : oe_mx D k (i + 1) = oe_mx D k i := if_pos h
        rw [e2] at step; exact step
      · refine br_f (nI_ge (by omega) (by omega)) ?_
        have e2 : oe_mx D k (i + 1) = D (k + i) - 1 := if_neg h
        rw [e2] at step; exact step
theorem oe_x_deepestIn {post : Int32 → Prop} {k : Nat} (hm : m ≤ 41) (h0 : N 0 = 0) (k0 : 0 < k) (hk : k < m) (T : oe_T ab ch nx bf N D m) (hS : ∀ k, k < m → oe_S sz N D m k) (K : post (nI (oe_mx D k (oe_en D m k - k)))) : wpX_deepestIn post (nI mk, oe_A us, oe_A nm, oe_A fo, oe_A ab, oe_A ch, oe_A nx, oe_A bf, oe_A sz, oe_A ri) (nI (N k)) := by
  have hx := T.2.1.1 k hk
  have hx0 := T.2.1.2.1 k k0 hk
  have lm := oe_en_le (D := D) hk
  have s := hS k hk
  unfold oe_S at s
  rw [oe_zp (by omega)] at s
  refine And.intro (vp_in_nI hx (by decide)) (nm_r (e' := nI (oe_en D m k - k)) (by rw [oe_rd sz (by omega)]; exact congrArg nI (by omega)) ⟨m + 1, ?_⟩)
  exact oe_deepestIn_loop hm h0 k0 (by omega) T K (m + 1) 0 (N k) (by omega) (by omega) (fun _ => rfl)
theorem oe_x_bad1 {post : Int32 → Prop} {v : Int32} (h0 : N 0 = 0) (T : oe_T ab ch nx bf N D m) (hS : ∀ k, k < m → oe_S sz N D m k) (h : v < 0 ∨ nI (m - 1) ≤ v) (K : post 1) : wpX_bad post (nI mk, oe_A us, oe_A nm, oe_A fo, oe_A ab, oe_A ch, oe_A nx, oe_A bf, oe_A sz, oe_A ri) v := by
  have s := hS 0 T.1.1
  unfold oe_S at s
  rw [h0, oe_z0, oe_en0 T.1] at s
  have e : oe_A sz 0 = nI (m - 1) := congrArg nI (by omega)
  by_cases hv : v < 0
  · exact br_t hv K
  · refine br_f hv (br_f ?_ K)
    rw [e]
    rcases h with h | h
    · exact absurd h hv
    · exact Int32.not_lt.mpr h
theorem oe_x_bad0 {post : Int32 → Prop} {j : Nat} (hm : m ≤ 41) (h0 : N 0 = 0) (T : oe_T ab ch nx bf N D m) (hS : ∀ k, k < m → oe_S sz N D m k) (h : j + 1 < m) (K : post 0) : wpX_bad post (nI mk, oe_A us, oe_A nm, oe_A fo, oe_A ab, oe_A ch, oe_A nx, oe_A bf, oe_A sz, oe_A ri) (nI j) := by
  have s := hS 0 T.1.1
  unfold oe_S at s
  rw [h0, oe_z0, oe_en0 T.1] at s
  have e : oe_A sz 0 = nI (m - 1) := congrArg nI (by omega)
  refine br_f (nI_pos (by omega)) (br_t ?_ K)
  rw [e]; exact nI_lt (by omega) (by omega)
theorem oe_x_full1 {post : Int32 → Prop} (h0 : N 0 = 0) (T : oe_T ab ch nx bf N D m) (hS : ∀ k, k < m → oe_S sz N D m k) (h : m = 41) (K : post 1) : wpX_full post (nI mk, oe_A us, oe_A nm, oe_A fo, oe_A ab, oe_A ch, oe_A nx, oe_A bf, oe_A sz, oe_A ri) := by
  have s := hS 0 T.1.1
  unfold oe_S at s
  rw [h0, oe_z0, oe_en0 T.1] at s
  have e : oe_A sz 0 = nI 40 := congrArg nI (by omega)
  exact br_t e K
theorem oe_x_full0 {post : Int32 → Prop} (h0 : N 0 = 0) (T : oe_T ab ch nx bf N D m) (hS : ∀ k, k < m → oe_S sz N D m k) (h : m < 41) (K : post 0) : wpX_full post (nI mk, oe_A us, oe_A nm, oe_A fo, oe_A ab, oe_A ch, oe_A nx, oe_A bf, oe_A sz, oe_A ri) := by
  have s := hS 0 T.1.1
  unfold oe_S at s
  rw [h0, oe_z0, oe_en0 T.1] at s
  have e : oe_A sz 0 = nI (m - 1) := congrArg nI (by omega)
  refine br_f ?_ K
  rw [e]
  exact fun u => absurd ((nI_eq (b := 40) (by omega) (by decide)).mp u) (by omega)
end
end
section
/-! X: rows; a fresh node -/
section
variable {mk : Nat} {us nm fo ab ch nx bf sz ri N D : Nat → Nat} {m : Nat}
theorem oe_rowNode_loop {post : Int32 → Prop} {P : Nat} (hm : m ≤ 41) (hP : P < m) (T : oe_T ab ch nx bf N D m) (hR : ∀ k, k < m → oe_R ri fo N D m k) (vP : oe_vs (fun p => fo (N p)) D m 0 P) (K : post (nI (N P))) :
    ∀ n j i r, P - j < n → 0 < j → j ≤ P → (∀ q, j ≤ q → q ≤ P → D j ≤ D q) → i < j → oe_vs (fun p => fo (N p)) D m 0 j → r = oe_cn (oe_vs (fun p => fo (N p)) D m 0) j (P - j) → wX_rowNode_12 post (nI mk) (oe_A us) (oe_A nm) (oe_A fo) (oe_A ab) (oe_A ch) (oe_A nx) (oe_A bf) (oe_A sz) (oe_A ri) n (nI (N j)) (nI r) (nI i) := by
  intro n
  induction n with
  | zero => intro j i r h; omega
  | succ n ih =>
    intro j i r hn j0 hj hI hi vj hr
    obtain ⟨W, HN, HC, HP, HX, HB⟩ := T
    have hcl := HN.1 j (by omega)
    have hcp := HN.2.1 j j0 (by omega)
    have ix := vp_in_nI hcl (show 41 < 2 ^ 31 by decide)
    have s := hR j (by omega)
    unfold oe_R at s
    rw [oe_zp (by omega)] at s
    have l := oe_en_lt (D := D) (m := m) (k := j)
    have lm := oe_en_le (D := D) (m := m) (k := j) (by omega)
    have hv := oe_vc_from (F := fun p => fo (N p)) (D := D) (m := m) (k := 0) (j := j) (by omega) (fun b b1 b2 b3 => vj b b1 b2 b3)
    have hvl := oe_cn_le (oe_vs (fun p => fo (N p)) D m 0) j (oe_en D m j - j)
    have hrl := oe_cn_le (oe_vs (fun p => fo (N p)) D m 0) j (P - j)
    refine br_f (nI_ge (b := 80) (by omega) (by decide)) ?_
    by_cases h : P = j
    · subst h
      rw [Nat.sub_self] at hr
      have hr0 : r = 0 := hr
      subst hr0
      exact br_t (by rw [nI_0]; exact Int32.le_refl _) K
    · have hd := oe_cn_hd (oe_vs (fun p => fo (N p)) D m 0) j (P - (j + 1))
      rw [show P - (j + 1) + 1 = P - j from by omega, oe_b1 vj] at hd
      refine br_f (nI_nle (by omega) (by omega)) (br_f (nI_ne0 hcp (by omega)) (And.intro ix ?_))
      by_cases h2 : P < oe_en D m j
      · have x := oe_en_in (D := D) (m := m) (k := j) (q := j + 1) (by omega) (by omega)
        have y := (W.2.2 (j + 1) (by omega) (by omega)).2
        rw [Nat.add_sub_cancel] at y
        have sp := oe_cn_sp (oe_vs (fun p => fo (N p)) D m 0) (lo := j) (a := P) (b := oe_en D m j) hj (by omega)
        have hd2 := oe_cn_hd (oe_vs (fun p => fo (N p)) D m 0) P (oe_en D m j - P - 1)
        rw [show oe_en D m j - P - 1 + 1 = oe_en D m j - P from by omega, oe_b1 vP] at hd2
        refine br_t (by rw [oe_rd ri (by omega)]; exact nI_lt (by omega) (by omega)) ?_
        refine nm_r (e' := nI (r - 1)) (by rw [show nI r = nI (r - 1 + 1) from congrArg nI (by omega)]; exact pk_m1 _) ?_
        refine And.intro ix (nm_r (e' := nI (N (j + 1))) (by rw [oe_rd ch (by omega), (HC j (by omega)).1 (by omega) x]) (nm_r (nI_1 i) ?_))
        refine ih (j + 1) (i + 1) (r - 1) (by omega) (by omega) (by omega) (fun q q1 q2 => ?_) (by omega) (fun b b1 b2 b3 => ?_) (by omega)
        · have := oe_en_in (D := D) (m := m) (k := j) (q := q) (by omega) (by omega)
          omega
        · by_cases e : b = j
          · subst e
            have := vP b b1 (by omega) b3
            omega
          · have := vj b b1 (by omega) b3
            omega
      · have a1 := oe_en_at (D := D) (m := m) (k := j) (by omega)
        have a2 := hI (oe_en D m j) (by omega) (by omega)
        have sp := oe_cn_sp (oe_vs (fun p => fo (N p)) D m 0) (lo := j) (a := oe_en D m j) (b := P) (by omega) (by omega)
        refine br_f (by rw [oe_rd ri (by omega)]; exact nI_nlt (by omega) (by omega)) (And.intro ix ?_)
        refine nm_r (e' := nI (r - ri (N j))) (by rw [oe_rd ri (by omega), pk_sub (by omega)]) ?_
        refine And.intro ix (nm_r (e' := nI (N (oe_en D m j))) (by rw [oe_rd nx (by omega), (HX j j0 (by omega)).1 (by omega) (by omega)]) (nm_r (nI_1 i) ?_))
        refine ih (oe_en D m j) (i + 1) _ (by omega) (by omega) (by omega) (fun q q1 q2 => ?_) (by omega) (fun b b1 b2 b3 => ?_) (by omega)
        · have := hI q (by omega) q2
          omega
        · rcases Nat.lt_or_ge b j with u | u
          · have := vj b b1 u b3
            omega
          · exact oe_lam (by omega) u b2
theorem oe_x_rowNode {post : Int32 → Prop} {P : Nat} (hm : m ≤ 41) (h0 : N 0 = 0) (hf0 : fo 0 = 0) (P0 : 0 < P) (hP : P < m) (T : oe_T ab ch nx bf N D m) (hR : ∀ k, k < m → oe_R ri fo N D m k) (vP : oe_vs (fun p => fo (N p)) D m 0 P) (K : post (nI (N P))) : wpX_rowNode post (nI mk, oe_A us, oe_A nm, oe_A fo, oe_A ab, oe_A ch, oe_A nx, oe_A bf, oe_A sz, oe_A ri) (nI (oe_cn (oe_vs (fun p => fo (N p)) D m 0) 1 (P - 1))) := by
  have W := T.1
  have d1 := (W.2.2 1 (by omega) (by omega))
  have c0 := (T.2.2.1 0 (by omega)).1 (by omega) (by rw [W.2.1]; exact d1.1)
  rw [h0] at c0
  refine nm_r (e' := nI (N 1)) (show oe_A ch 0 = _ from congrArg nI c0) ⟨43, ?_⟩
  refine oe_rowNode_loop hm hP T hR vP K 43 1 0 _ (by omega) (by omega) (by omega) (fun q q1 q2 => ?_) (by omega) (fun b b1 b2 b3 => ?_) rfl
  · have a := (W.2.2 q (by omega) (by omega)).1
    have b := d1.2
    rw [Nat.sub_self, W.2.1] at b
    omega
  · have e : b = 0 := by omega
    subst e
    exact absurd (show fo (N 0) = 0 by rw [h0]; exact hf0) b3
theorem oe_rowOf_loop {post : Int32 → Prop} {k : Nat} (hm : m ≤ 41) (h0 : N 0 = 0) (hf0 : fo 0 = 0) (hfo : ∀ y, fo y ≤ 1) (hk : k < m) (T : oe_T ab ch nx bf N D m) (hR : ∀ k, k < m → oe_R ri fo N D m k)
    (K1 : oe_vs (fun p => fo (N p)) D m 0 k → post (nI (oe_cn (oe_vs (fun p => fo (N p)) D m 0) 1 (k - 1)))) (K0 : ¬ oe_vs (fun p => fo (N p)) D m 0 k → post (-4)) :
    ∀ n j i r, j < n → j ≤ k → i + j ≤ 40 → (0 < j → r = oe_cn (oe_vs (fun p => fo (N p)) D m j) j (k - j) ∧ oe_vs (fun p => fo (N p)) D m j k ∧ ∀ q, j ≤ q → q ≤ k → D j ≤ D q) →
      (j = 0 → r = oe_cn (oe_vs (fun p => fo (N p)) D m 0) 1 (k - 1) ∧ oe_vs (fun p => fo (N p)) D m 0 k) → wX_rowOf_21 post (nI mk) (oe_A us) (oe_A nm) (oe_A fo) (oe_A ab) (oe_A ch) (oe_A nx) (oe_A bf) (oe_A sz) (oe_A ri) n (nI (N j)) (nI r) (nI i) := by
  intro n
  induction n with
  | zero => intro j i r h; omega
  | succ n ih =>
    intro j i r hn hjk hi h1 h2
    obtain ⟨W, HN, HC, HP, HX, HB⟩ := T
    have hj : j < m := by omega
    refine br_f (nI_ge (b := 80) (by omega) (by decide)) ?_
    rcases Nat.eq_zero_or_pos j with z | z
    · obtain ⟨e1, e2⟩ := h2 z
      subst z
      refine br_t (by rw [h0]; exact nI_0) ?_
      rw [e1]; exact K1 e2
    · have hcl := HN.1 j hj
      have hcp := HN.2.1 j z hj
      have ix := vp_in_nI hcl (show 41 < 2 ^ 31 by decide)
      obtain ⟨b1, b0⟩ := HB j z hj
      have hp := HP j z hj
      obtain ⟨g1, g2, g3⟩ := h1 z
      refine br_f (nI_ne0 hcp (by omega)) (And.intro ix ?_)
      rcases oe_pb W z hj with ⟨a, b, c, d, e⟩ | ⟨a, b, c⟩
      · have hen := oe_pb_en W z hj a
        generalize hrr : oe_sc D (D j + 1) j = p at *
        have hrl := HN.1 p (by omega)
        have hrp := HN.2.1 p b (by omega)
        have s := hR p (by omega)
        unfold oe_R at s
        rw [oe_zp (by omega)] at s
        unfold oe_vc at s
        rw [hen] at s
        have er : oe_A bf (nI (N j)).toNatClampNeg = nI (N p) := by rw [oe_rd bf (by omega), b1 a]
        have dr : ∀ x, j ≤ x → (oe_vs (fun p => fo (N p)) D m p x ↔ oe_vs (fun p => fo (N p)) D m j x) := fun x hx => oe_vs_drop (by omega) (fun y y1 y2 _ => by have := oe_lam (D := D) (m := m) (k := p) (j := y) (by omega) y1 (by omega); omega) hx
        have sp := oe_cn_sp (oe_vs (fun p => fo (N p)) D m p) (lo := p) (a := j) (b := k) (by omega) hjk
        have sc := oe_cn_congr (P := oe_vs (fun p => fo (N p)) D m p) (P' := oe_vs (fun p => fo (N p)) D m j) (lo := j) (lo' := j) (n := k - j) (fun t _ => dr (j + t) (by omega))
        refine br_f (by rw [er]; exact nI_ne0 hrp (by omega)) (And.intro ix (nm_r er (And.intro (vp_in_nI hrl (by decide)) ?_)))
        refine nm_r (e' := nI (r + ri (N p))) (by rw [oe_rd ri (by omega), nI_add]) (nm_r (nI_1 i) ?_)
        refine ih p (i + 1) _ (by omega) (by omega) (by omega) (fun _ => ⟨by omega, (dr k hjk).mpr g2, fun q q1 q2 => ?_⟩) (fun u => by omega)
        rcases Nat.lt_or_ge q j with u | u
        · by_cases e3 : q = p
          · rw [e3]; exact Nat.le_refl _
          · have := d q (by omega) u; omega
        · have := g3 q u q2; omega
      · refine br_t (by rw [oe_rd bf (by omega), b0 (by rw [a]; omega)]; exact nI_0) (And.intro ix ?_)
        rw [b] at hp
        refine nm_r (e' := nI (N (j - 1))) (by rw [oe_rd ab (by omega), hp]) ?_
        by_cases e : j - 1 = 0
        · have ej : j = 1 := by omega
          subst ej
          have dr : ∀ x, 1 ≤ x → (oe_vs (fun p => fo (N p)) D m 0 x ↔ oe_vs (fun p => fo (N p)) D m 1 x) := fun x hx => oe_vs_drop (by omega) (fun y y1 y2 y3 => by
            have e3 : y = 0 := by omega
            subst e3
            exact absurd (show fo (N 0) = 0 by rw [h0]; exact hf0) y3) hx
          have sc := oe_cn_congr (P := oe_vs (fun p => fo (N p)) D m 0) (P' := oe_vs (fun p => fo (N p)) D m 1) (lo := 1) (lo' := 1) (n := k - 1) (fun t _ => dr (1 + t) (by omega))
          rw [e]
          refine br_t (by rw [h0]; exact nI_0) (br_t (by rw [h0]; exact nI_0) (nm_r (nI_1 i) ?_))
          exact ih 0 (i + 1) r (by omega) (by omega) (by omega) (fun u => by omega) (fun _ => ⟨by omega, (dr k hjk).mpr g2⟩)
        · have hrp := HN.2.1 (j - 1) (by omega) (by omega)
          have hrl := HN.1 (j - 1) (by omega)
          have hfl := hfo (N (j - 1))
          refine br_f (nI_ne0 hrp (by omega)) (And.intro (vp_in_nI hrl (by decide)) ?_)
          by_cases hf : fo (N (j - 1)) = 0
          · have dr : ∀ x, j ≤ x → (oe_vs (fun p => fo (N p)) D m (j - 1) x ↔ oe_vs (fun p => fo (N p)) D m j x) := fun x hx => oe_vs_drop (by omega) (fun y y1 y2 y3 => by
              have e3 : y = j - 1 := by omega
              subst e3
              exact absurd hf y3) hx
            have sc := oe_cn_congr (P := oe_vs (fun p => fo (N p)) D m (j - 1)) (P' := oe_vs (fun p => fo (N p)) D m j) (lo := j) (lo' := j) (n := k - j) (fun t _ => dr (j + t) (by omega))
            have hd := oe_cn_hd (oe_vs (fun p => fo (N p)) D m (j - 1)) (j - 1) (k - j)
            rw [show k - j + 1 = k - (j - 1) from by omega, show j - 1 + 1 = j from by omega, oe_b1 (oe_vs_self _ _ _ _)] at hd
            refine br_t (by rw [oe_rd fo (by omega), hf]; exact nI_0) (br_f (nI_ne0 hrp (by omega)) (nm_r (nI_1 r) (nm_r (nI_1 i) ?_)))
            refine ih (j - 1) (i + 1) (r + 1) (by omega) (by omega) (by omega) (fun _ => ⟨by omega, (dr k hjk).mpr g2, fun q q1 q2 => ?_⟩) (fun u => by omega)
            by_cases e3 : q = j - 1
            · rw [e3]; exact Nat.le_refl _
            · have := g3 q (by omega) q2; omega
          · refine br_f (by rw [oe_rd fo (by omega)]; exact nI_ne0 (by omega) (by omega)) (K0 (fun v => ?_))
            have x := v (j - 1) (by omega) (by omega) hf
            have l := oe_en_lt (D := D) (m := m) (k := j - 1)
            have y := oe_en_at (D := D) (m := m) (k := j - 1) (by omega)
            have y2 := g3 (oe_en D m (j - 1)) (by omega) x
            omega
theorem oe_x_rowOf {post : Int32 → Prop} {k : Nat} (hm : m ≤ 41) (h0 : N 0 = 0) (hf0 : fo 0 = 0) (hfo : ∀ y, fo y ≤ 1) (k0 : 0 < k) (hk : k < m) (T : oe_T ab ch nx bf N D m) (hR : ∀ k, k < m → oe_R ri fo N D m k)
    (K1 : oe_vs (fun p => fo (N p)) D m 0 k → post (nI (oe_cn (oe_vs (fun p => fo (N p)) D m 0) 1 (k - 1)))) (K0 : ¬ oe_vs (fun p => fo (N p)) D m 0 k → post (-4)) : ∃ n, wX_rowOf_21 post (nI mk) (oe_A us) (oe_A nm) (oe_A fo) (oe_A ab) (oe_A ch) (oe_A nx) (oe_A bf) (oe_A sz) (oe_A ri) n (nI (N k)) 0 0 := by
  refine ⟨42, ?_⟩
  exact oe_rowOf_loop hm h0 hf0 hfo hk T hR K1 K0 42 k 0 0 (by omega) (Nat.le_refl _) (by omega) (fun _ => ⟨by rw [Nat.sub_self]; rfl, oe_vs_self _ _ _ _, fun q q1 q2 => by rw [show q = k from by omega]; exact Nat.le_refl _⟩) (fun u => by omega)
end
/-- no more pigeons than holes -/
theorem oe_ph : ∀ (c b : Nat) (f : Nat → Nat), (∀ y, y < c → f y < b) → (∀ y y', y < c → y' < c → f y = f y' → y = y') → c ≤ b
  | 0, _, _, _, _ => Nat.zero_le _
  | c + 1, b, f, h1, h2 => by
    have v := h1 c (by omega)
    have r := oe_ph c (b - 1) (fun y => if f y = b - 1 then f c else f y) (fun y hy => by
      show (if f y = b - 1 then f c else f y) < b - 1
      have a := h1 y (by omega)
      split
      · rename_i e
        have : f c ≠ b - 1 := fun e2 => by have := h2 y c (by omega) (by omega) (by omega); omega
        omega
      · omega) (fun y y' hy hy' e => by
      have e' : (if f y = b - 1 then f c else f y) = (if f y' = b - 1 then f c else f y') := e
      by_cases a : f y = b - 1
      · by_cases a' : f y' = b - 1
        · exact h2 y y' (by omega) (by omega) (by omega)
        · rw [if_pos a, if_neg a'] at e'
          have := h2 c y' (by omega) (by omega) e'; omega
      · by_cases a' : f y' = b - 1
        · rw [if_neg a, if_pos a'] at e'
          have := h2 y c (by omega) (by omega) e'; omega
        · rw [if_neg a, if_neg a'] at e'
          exact h2 y y' (by omega) (by omega) e')
    omega
theorem oe_free {us N : Nat → Nat} {m : Nat} (hm : m < 41) (hu : ∀ y, 0 < y → y < 41 → us y ≠ 0 → ∃ k, 0 < k ∧ k < m ∧ N k = y) : ∃ y, 0 < y ∧ y < 41 ∧ us y = 0 := by
  apply Classical.byContradiction
  intro h
  have H : ∀ y, y < 40 → ∃ k, 0 < k ∧ k < m ∧ N k = y + 1 := by
    intro y hy
    refine hu (y + 1) (by omega) (by omega) (fun e => h ⟨y + 1, by omega, by omega, e⟩)
  have hf : ∃ f : Nat → Nat, ∀ y, y < 40 → 0 < f y ∧ f y < m ∧ N (f y) = y + 1 :=
    ⟨fun y => if h : y < 40 then Classical.choose (H y h) else 0, fun y hy => by
      show 0 < (if h : y < 40 then Classical.choose (H y h) else 0) ∧ (if h : y < 40 then Classical.choose (H y h) else 0) < m ∧ N (if h : y < 40 then Classical.choose (H y h) else 0) = y + 1
      rw [dif_pos hy]
      exact Classical.choose_spec (H y hy)⟩
  obtain ⟨f, hf⟩ := hf
  have := oe_ph 40 (m - 1) (fun y => f y - 1) (fun y hy => by have := hf y hy; show f y - 1 < m - 1; omega) (fun y y' hy hy' e => by
    have e' : f y - 1 = f y' - 1 := e
    obtain ⟨a1, a2, a3⟩ := hf y hy
    obtain ⟨b1, b2, b3⟩ := hf y' hy'
    have e2 : f y = f y' := by omega
    rw [e2] at a3
    omega)
  omega
section
variable {mk : Nat} {us nm fo ab ch nx bf sz ri N D : Nat → Nat} {m : Nat}
theorem oe_SR_c {fo' sz' ri' : Nat → Nat} {k : Nat} (hk : k < m) (h1 : ∀ q, q < m → fo' (N q) = fo (N q)) (h2 : sz' (N k) = sz (N k)) (h3 : ri' (N k) = ri (N k)) (h : oe_SR sz ri fo N D m k) : oe_SR sz' ri' fo' N D m k := by
  unfold oe_SR oe_S oe_R at h ⊢
  rw [h2, h3, oe_vc_congr (F := fun q => fo' (N q)) (F' := fun q => fo (N q)) hk (fun _ _ => rfl) h1]
  exact h
theorem oe_C_c {ch' : Nat → Nat} (h1 : ∀ q, q < m → ch' (N q) = ch (N q)) (h : oe_C ch N D m) : oe_C ch' N D m := by
  intro k hk
  rw [h1 k hk]; exact h k hk
theorem oe_fresh_loop {post : Int32 → SX → Prop} {y0 : Nat} (y00 : 0 < y0)
    (K : ∀ x, 0 < x → x < 41 → us x = 0 → wX_fresh_5 post (nI mk) (oe_A us) (oe_A nm) (oe_A fo) (oe_A ab) (oe_A ch) (oe_A nx) (oe_A bf) (oe_A sz) (oe_A ri) 1 (nI x) 0) (hy : us y0 = 0) (hu : ∀ y, us y ≤ 1) :
    ∀ j x, j < 41 → (us x = 0 ∧ 0 < x ∧ x < 41) ∨ y0 ≤ j → wX_fresh_5 post (nI mk) (oe_A us) (oe_A nm) (oe_A fo) (oe_A ab) (oe_A ch) (oe_A nx) (oe_A bf) (oe_A sz) (oe_A ri) (j + 1) (nI x) (nI j) := by
  intro j
  induction j with
  | zero =>
    intro x hj h
    rcases h with ⟨a, b, c⟩ | h
    · exact K x b c a
    · omega
  | succ j ih =>
    intro x hj h
    refine br_f (nI_nle (by omega) (by omega)) (And.intro (vp_in_nI hj (by decide)) ?_)
    by_cases e : us (j + 1) = 0
    · refine br_t (by rw [oe_rd us (by omega), e]; exact nI_0) (nm_r (pk_m1 j) ?_)
      exact ih (j + 1) (by omega) (Or.inl ⟨e, by omega, hj⟩)
    · refine br_f (by rw [oe_rd us (by omega)]; exact nI_ne0 (by omega) (by have := hu (j + 1); omega)) (nm_r (pk_m1 j) ?_)
      refine ih x (by omega) ?_
      rcases h with h | h
      · exact Or.inl h
      · refine Or.inr ?_
        have : y0 ≠ j + 1 := fun u => e (by rw [← u]; exact hy)
        omega
theorem oe_x_fresh {post : Int32 → SX → Prop} (hm : m < 41) (hfo : ∀ y, fo y ≤ 1) (hu : ∀ y, us y ≤ 1) (hus : ∀ y, 0 < y → y < 41 → (us y = 1 ↔ ∃ k, 0 < k ∧ k < m ∧ N k = y)) (h0 : N 0 = 0)
    (T : oe_T ab ch nx bf N D m) (hS : ∀ k, k < m → oe_SR sz ri fo N D m k)
    (K : ∀ x ch' sz' ri', 0 < x → x < 41 → us x = 0 → (∀ k, k < m → N k ≠ x) → oe_T ab ch' nx bf N D m → (∀ k, k < m → oe_SR sz' ri' (oe_u fo x 0) N D m k) → oe_T ab ch' nx bf (fun _ => x) (fun _ => 0) 1 → (∀ t, t < 1 → oe_SR sz' ri' (oe_u fo x 0) (fun _ => x) (fun _ => 0) 1 t) →
      post (nI x) (nI (mk + 1), oe_A (oe_u us x 1), oe_A (oe_u nm x mk), oe_A (oe_u fo x 0), oe_A ab, oe_A ch', oe_A nx, oe_A bf, oe_A sz', oe_A ri')) : wpX_fresh post (nI mk, oe_A us, oe_A nm, oe_A fo, oe_A ab, oe_A ch, oe_A nx, oe_A bf, oe_A sz, oe_A ri) := by
  obtain ⟨y0, y00, y01, hy0⟩ := oe_free (us := us) (N := N) hm (fun y a b c => (hus y a b).mp (by have := hu y; omega))
  refine ⟨41, oe_fresh_loop (y0 := y0) y00 (fun x x0 x1 hx => ?_) hy0 hu 40 1 (by omega) (Or.inr (by omega))⟩
  have ix := vp_in_nI x1 (show 41 < 2 ^ 31 by decide)
  have hne : ∀ k, k < m → N k ≠ x := by
    intro k hk e
    rcases Nat.eq_zero_or_pos k with z | z
    · subst z; omega
    · have := (hus x x0 x1).mpr ⟨k, z, hk, e⟩
      omega
  refine br_t (Int32.le_refl _) (And.intro ix (nm_r (e' := oe_A (oe_u us x 1)) (by rw [oe_nar1]; exact oe_st us 1 (by omega)) (And.intro ix (nm_r (oe_st nm mk (by omega)) (nm_r (nI_1 mk) (And.intro ix (nm_r (e' := oe_A (oe_u fo x 0)) (by rw [oe_nar0]; exact oe_st fo 0 (by omega)) (And.intro ix (nm_r (oe_st ch 0 (by omega)) ?_)))))))))
  have TB : oe_T ab (oe_u ch x 0) nx bf (fun _ => x) (fun _ => 0) 1 := by
    refine ⟨⟨by omega, rfl, fun k a b => by omega⟩, ⟨fun _ _ => x1, fun k a b => by omega, fun j k a b _ => by omega⟩, fun k hk => ⟨fun u => by omega, fun _ => oe_us⟩, fun k a b => by omega, fun k a b => by omega, fun k a b => by omega⟩
  have e1 : oe_en (fun _ => 0) 1 0 = 1 := oe_en_eq (by omega) (by omega) (fun q a b => by omega) (fun u => by omega)
  refine oe_x_pull (N := fun _ => x) (D := fun _ => 0) (m := 1) (q := 0) (by omega) (by omega) (fun y => ?_) TB (fun k a b => by omega) (fun S R hs hr => ?_)
  · by_cases e : y = x
    · subst e; rw [oe_us]; omega
    · rw [oe_un e]; exact hfo y
  · refine K x _ _ _ x0 x1 hx hne ⟨T.1, T.2.1, oe_C_c (fun q hq => oe_un (hne q hq)) T.2.2.1, T.2.2.2⟩ (fun k hk => ?_) TB (fun t ht => ?_)
    · exact oe_SR_c hk (fun q hq => oe_un (hne q hq)) (oe_un (hne k hk)) (oe_un (hne k hk)) (hS k hk)
    · have e : t = 0 := by omega
      subst e
      exact oe_SR_us (N := fun _ => x) (D := fun _ => 0) (m := 1) (fo := oe_u fo x 0) (q := 0) hs hr
end
end
section
/-! Y: the inner methods -/
theorem oe_lv_toInt {d : Nat} (h : d < 2 ^ 30) : (oe_lv d).toInt = (d : Int) - 1 := by
  have := pk_sub_toInt (a := d) (b := 1) h (by decide)
  exact this
theorem oe_lv_lt {p a : Nat} (hp : p < 2 ^ 30) (ha : a < 2 ^ 30) : oe_lv p < nI a ↔ p ≤ a := by
  rw [Int32.lt_iff_toInt_lt, oe_lv_toInt hp, nI_toInt (by omega)]; omega
theorem oe_lv_m1 (d : Nat) : nI d + (-1) = oe_lv d := by
  unfold oe_lv; rw [Int32.sub_eq_add_neg]
section
variable {n mk : Nat} {yn yl yf kn kl kf : Nat → Nat}
theorem oe_y_isPlace0 {post : Int32 → Prop} {v : Int32} (h : v < 0 ∨ nI n ≤ v) (K : post 0) : wpY_isPlace post (nI n, nI mk, oe_A yn, oe_A yl, oe_A yf, oe_A kn, oe_A kl, oe_A kf) v := by
  by_cases hv : v < 0
  · exact br_t hv K
  · refine br_f hv (br_t ?_ K)
    rcases h with h | h
    · exact absurd h hv
    · exact h
theorem oe_y_isPlace1 {post : Int32 → Prop} {j : Nat} (hn : n ≤ 40) (h : j < n) (K : post 1) : wpY_isPlace post (nI n, nI mk, oe_A yn, oe_A yl, oe_A yf, oe_A kn, oe_A kl, oe_A kf) (nI j) :=
  br_f (nI_pos (by omega)) (br_f (nI_ge h (by omega)) K)
theorem oe_endOf_loop {post : Int32 → Prop} {i : Nat} (hn : n ≤ 40) (hi : i < n) (hl : ∀ k, k < n → yl k < 41) (K : post (nI (oe_en yl n i))) :
    ∀ f j, n - j < f → i < j → j ≤ oe_en yl n i → wY_endOf_4 post (nI i) (nI n) (nI mk) (oe_A yn) (oe_A yl) (oe_A yf) (oe_A kn) (oe_A kl) (oe_A kf) f (nI j) := by
  intro f
  induction f with
  | zero => intro j h; omega
  | succ f ih =>
    intro j hf hj he
    have lm := oe_en_le (D := yl) hi
    have li := hl i hi
    rcases Nat.lt_or_ge j n with z | z
    · have lj := hl j z
      refine br_f (nI_ge z (by omega)) (And.intro (vp_in_nI (by omega) (by decide)) (And.intro (vp_in_nI (by omega) (by decide)) ?_))
      rcases Nat.lt_or_ge j (oe_en yl n i) with y | y
      · have x := oe_en_in (D := yl) (m := n) hj y
        refine br_f (by rw [oe_rd yl (by omega), oe_rd yl (by omega)]; exact nI_ge x (by omega)) (nm_r (nI_1 j) ?_)
        exact ih (j + 1) (by omega) (by omega) (by omega)
      · have e : j = oe_en yl n i := by omega
        have x := oe_en_at (D := yl) (m := n) (k := i) (by omega)
        rw [← e] at x
        refine br_t (by rw [oe_rd yl (by omega), oe_rd yl (by omega)]; exact nI_le x (by omega)) ?_
        rw [e]; exact K
    · have e : j = oe_en yl n i := by omega
      refine br_t (nI_le z (by omega)) ?_
      rw [e]; exact K
theorem oe_y_endOf {post : Int32 → Prop} {i : Nat} (hn : n ≤ 40) (hi : i < n) (hl : ∀ k, k < n → yl k < 41) (K : post (nI (oe_en yl n i))) : wpY_endOf post (nI n, nI mk, oe_A yn, oe_A yl, oe_A yf, oe_A kn, oe_A kl, oe_A kf) (nI i) :=
  nm_r (nI_1 i) ⟨n + 1, oe_endOf_loop hn hi hl K (n + 1) (i + 1) (by omega) (by omega) oe_en_lt⟩
theorem oe_y_copyTo {post : SY → Prop} {a b : Nat} {x y : Int32} (hx : x = nI a) (hy : y = nI b) (ha : a < 40) (hb : b < 40) (hf : yf a ≤ 1) (K : post (nI n, nI mk, oe_A (oe_u yn b (yn a)), oe_A (oe_u yl b (yl a)), oe_A (oe_u yf b (yf a)), oe_A kn, oe_A kl, oe_A kf)) : wpY_copyTo post (nI n, nI mk, oe_A yn, oe_A yl, oe_A yf, oe_A kn, oe_A kl, oe_A kf) x y := by
  subst hx; subst hy
  have ia := vp_in_nI ha (show 40 < 2 ^ 31 by decide)
  have ib := vp_in_nI hb (show 40 < 2 ^ 31 by decide)
  refine And.intro ia (And.intro ib (nm_r (e' := oe_A (oe_u yn b (yn a))) (by rw [oe_rd yn (by omega), oe_st yn _ (by omega)]) (And.intro ia (And.intro ib (nm_r (e' := oe_A (oe_u yl b (yl a))) (by rw [oe_rd yl (by omega), oe_st yl _ (by omega)]) (And.intro ia (And.intro ib (nm_r (e' := oe_A (oe_u yf b (yf a))) (by rw [oe_rd yf (by omega), oe_nar hf, oe_st yf _ (by omega)]) K))))))))
end
/-- entries above p, up to n, moved up by one -/
def oe_su (f : Nat → Nat) (p n : Nat) : Nat → Nat := fun k => if p < k ∧ k ≤ n then f (k - 1) else f k
theorem oe_su_n (f : Nat → Nat) (n : Nat) : oe_su f n n = f := by
  funext k; exact if_neg (by omega)
theorem oe_su_s (f : Nat → Nat) {p n : Nat} (h : p + 1 ≤ n) : oe_u (oe_su f (p + 1) n) (p + 1) (oe_su f (p + 1) n p) = oe_su f p n := by
  funext k
  by_cases e : k = p + 1
  · subst e
    rw [oe_us]
    unfold oe_su
    rw [if_neg (by omega), if_pos (by omega), Nat.add_sub_cancel]
  · rw [oe_un e]
    unfold oe_su
    by_cases h2 : p < k ∧ k ≤ n
    · rw [if_pos h2, if_pos (by omega)]
    · rw [if_neg h2, if_neg (by omega)]
theorem oe_su_le {f : Nat → Nat} {p n b : Nat} (h : ∀ k, f k ≤ b) (k : Nat) : oe_su f p n k ≤ b := by
  unfold oe_su; split <;> exact h _
theorem oe_u_le {f : Nat → Nat} {p v b : Nat} (h : ∀ k, f k ≤ b) (hv : v ≤ b) (k : Nat) : oe_u f p v k ≤ b := by
  unfold oe_u; split
  · exact hv
  · exact h _
/-- entries from i on moved down by w, as far as p -/
def oe_dl (f : Nat → Nat) (i w p : Nat) : Nat → Nat := fun k => if i ≤ k ∧ k + w < p then f (k + w) else f k
theorem oe_dl_0 (f : Nat → Nat) (i w : Nat) : oe_dl f i w (i + w) = f := by
  funext k; exact if_neg (by omega)
theorem oe_dl_s (f : Nat → Nat) {i w p : Nat} (h : i + w ≤ p) : oe_u (oe_dl f i w p) (p - w) (oe_dl f i w p p) = oe_dl f i w (p + 1) := by
  funext k
  by_cases e : k = p - w
  · subst e
    rw [oe_us]
    unfold oe_dl
    rw [if_neg (by omega), if_pos (by omega), show p - w + w = p from by omega]
  · rw [oe_un e]
    unfold oe_dl
    by_cases h2 : i ≤ k ∧ k + w < p
    · rw [if_pos h2, if_pos (by omega)]
    · rw [if_neg h2, if_neg (by omega)]
theorem oe_dl_le {f : Nat → Nat} {i w p b : Nat} (h : ∀ k, f k ≤ b) (k : Nat) : oe_dl f i w p k ≤ b := by
  unfold oe_dl; split <;> exact h _
/-- entries from p on, below q, moved up by w -/
def oe_sv (f : Nat → Nat) (p w q : Nat) : Nat → Nat := fun k => if p + w ≤ k ∧ k < q + w then f (k - w) else f k
theorem oe_sv_0 (f : Nat → Nat) (w q : Nat) : oe_sv f q w q = f := by
  funext k; exact if_neg (by omega)
theorem oe_sv_s (f : Nat → Nat) {p w q : Nat} (hw : 0 < w) (h : p < q) : oe_u (oe_sv f (p + 1) w q) (p + w) (oe_sv f (p + 1) w q p) = oe_sv f p w q := by
  funext k
  by_cases e : k = p + w
  · subst e
    rw [oe_us]
    unfold oe_sv
    rw [if_neg (by omega), if_pos (by omega), Nat.add_sub_cancel]
  · rw [oe_un e]
    unfold oe_sv
    by_cases h2 : p + w ≤ k ∧ k < q + w
    · rw [if_pos h2, if_pos (by omega)]
    · rw [if_neg h2, if_neg (by omega)]
theorem oe_sv_le {f : Nat → Nat} {p w q b : Nat} (h : ∀ k, f k ≤ b) (k : Nat) : oe_sv f p w q k ≤ b := by
  unfold oe_sv; split <;> exact h _
/-- g laid over f at a, its first t entries -/
def oe_ov (f g : Nat → Nat) (a t : Nat) : Nat → Nat := fun k => if a ≤ k ∧ k < a + t then g (k - a) else f k
theorem oe_ov_0 (f g : Nat → Nat) (a : Nat) : oe_ov f g a 0 = f := by
  funext k; exact if_neg (by omega)
theorem oe_ov_s (f g : Nat → Nat) (a t : Nat) : oe_u (oe_ov f g a t) (a + t) (g t) = oe_ov f g a (t + 1) := by
  funext k
  by_cases e : k = a + t
  · subst e
    rw [oe_us]
    unfold oe_ov
    rw [if_pos (by omega), Nat.add_sub_cancel_left]
  · rw [oe_un e]
    unfold oe_ov
    by_cases h2 : a ≤ k ∧ k < a + t
    · rw [if_pos h2, if_pos (by omega)]
    · rw [if_neg h2, if_neg (by omega)]
theorem oe_ov_le {f g : Nat → Nat} {a t b : Nat} (h : ∀ k, f k ≤ b) (h2 : ∀ k, g k ≤ b) (k : Nat) : oe_ov f g a t k ≤ b := by
  unfold oe_ov; split
  · exact h2 _
  · exact h _
section
variable {n mk : Nat} {yn yl yf kn kl kf : Nat → Nat}
theorem oe_insert_loop {post : Int32 → SY → Prop} {a l : Nat} (hn : n < 40) (ha : a ≤ n) (hf : ∀ y, yf y ≤ 1)
    (K : post (nI mk) (nI (n + 1), nI (mk + 1), oe_A (oe_u (oe_su yn a n) a mk), oe_A (oe_u (oe_su yl a n) a l), oe_A (oe_u (oe_su yf a n) a 0), oe_A kn, oe_A kl, oe_A kf)) :
    ∀ t p, p = a + t → p ≤ n → wY_insert_5 post (nI a) (nI l) (t + 1) (nI p) (nI n) (nI mk) (oe_A (oe_su yn p n)) (oe_A (oe_su yl p n)) (oe_A (oe_su yf p n)) (oe_A kn) (oe_A kl) (oe_A kf) := by
  intro t
  have ia := vp_in_nI (show a < 40 by omega) (show 40 < 2 ^ 31 by decide)
  induction t with
  | zero =>
    intro p hp hpn
    have e : p = a := by omega
    subst e
    refine br_t (nI_le (Nat.le_refl _) (by omega)) (And.intro ia (nm_r (oe_st _ mk (by omega)) (And.intro ia (nm_r (oe_st _ l (by omega)) (And.intro ia (nm_r (e' := oe_A (oe_u (oe_su yf p n) p 0)) (by rw [oe_nar0, oe_st _ 0 (by omega)]) (nm_r (nI_1 n) (nm_r (nI_1 mk) ?_))))))))
    rw [nI_pred]
    exact K
  | succ t ih =>
    intro p hp hpn
    obtain ⟨r, rfl⟩ : ∃ r, p = r + 1 := ⟨p - 1, by omega⟩
    refine br_f (nI_ge (by omega) (by omega)) ?_
    refine oe_y_copyTo (a := r) (b := r + 1) (nI_pred r) rfl (by omega) (by omega) (oe_su_le hf r) ?_
    refine nm_r (pk_m1 r) ?_
    rw [oe_su_s yn hpn, oe_su_s yl hpn, oe_su_s yf hpn]
    exact ih r (by omega) (by omega)
theorem oe_y_insert {post : Int32 → SY → Prop} {a l : Nat} (hn : n < 40) (ha : a ≤ n) (hf : ∀ y, yf y ≤ 1)
    (K : ∀ yn' yl' yf', (∀ k, k < n + 1 → yn' k = oe_in yn (fun _ => mk) a 1 k) → (∀ k, k < n + 1 → yl' k = oe_in yl (fun _ => l) a 1 k) → (∀ k, k < n + 1 → yf' k = oe_in yf (fun _ => 0) a 1 k) → (∀ y, yf' y ≤ 1) → post (nI mk) (nI (n + 1), nI (mk + 1), oe_A yn', oe_A yl', oe_A yf', oe_A kn, oe_A kl, oe_A kf)) :
    wpY_insert post (nI n, nI mk, oe_A yn, oe_A yl, oe_A yf, oe_A kn, oe_A kl, oe_A kf) (nI a) (nI l) := by
  have key : ∀ (f : Nat → Nat) v k, k < n + 1 → oe_u (oe_su f a n) a v k = oe_in f (fun _ => v) a 1 k := by
    intro f v k hk
    rcases Nat.lt_trichotomy k a with z | z | z
    · rw [oe_in1 z, oe_un (by omega)]
      unfold oe_su; rw [if_neg (by omega)]
    · subst z
      rw [oe_us, oe_in2 (Nat.le_refl _) (by omega)]
    · rw [oe_in3 (by omega), oe_un (by omega)]
      unfold oe_su; rw [if_pos (by omega)]
  refine ⟨n - a + 1, ?_⟩
  have := oe_insert_loop (kn := kn) (kl := kl) (kf := kf) (yn := yn) (yl := yl) (l := l) hn ha hf (K _ _ _ (key yn mk) (key yl l) (key yf 0) (oe_u_le (oe_su_le hf) (by omega))) (n - a) n (by omega) (Nat.le_refl _)
  rw [oe_su_n, oe_su_n, oe_su_n] at this
  exact this
theorem oe_delete_loop {post : SY → Prop} {i w : Nat} (hn : n ≤ 40) (hw : i + w ≤ n) (hf : ∀ y, yf y ≤ 1)
    (K : post (nI (n - w), nI mk, oe_A (oe_dl yn i w n), oe_A (oe_dl yl i w n), oe_A (oe_dl yf i w n), oe_A kn, oe_A kl, oe_A kf)) :
    ∀ t p, p + t = n → i + w ≤ p → wY_delete_2 post (nI i) (nI (i + w)) (t + 1) (nI p) (nI n) (nI mk) (oe_A (oe_dl yn i w p)) (oe_A (oe_dl yl i w p)) (oe_A (oe_dl yf i w p)) (oe_A kn) (oe_A kl) (oe_A kf) := by
  intro t
  have ew : nI (i + w) - nI i = nI w := by rw [pk_sub (by omega), Nat.add_sub_cancel_left]
  induction t with
  | zero =>
    intro p hp hpi
    have e : p = n := by omega
    subst e
    refine br_t (nI_le (Nat.le_refl _) (by omega)) (nm_r (e' := nI (p - w)) (by rw [ew, pk_sub (by omega)]) K)
  | succ t ih =>
    intro p hp hpi
    refine br_f (nI_ge (by omega) (by omega)) ?_
    refine oe_y_copyTo (a := p) (b := p - w) rfl (by rw [ew, pk_sub (by omega)]) (by omega) (by omega) (oe_dl_le hf p) ?_
    refine nm_r (nI_1 p) ?_
    rw [oe_dl_s yn hpi, oe_dl_s yl hpi, oe_dl_s yf hpi]
    exact ih (p + 1) (by omega) (by omega)
theorem oe_y_delete {post : SY → Prop} {i w : Nat} (hn : n ≤ 40) (hw : i + w ≤ n) (hf : ∀ y, yf y ≤ 1)
    (K : ∀ yn' yl' yf', (∀ k, k < n - w → yn' k = oe_cu yn i w k) → (∀ k, k < n - w → yl' k = oe_cu yl i w k) → (∀ k, k < n - w → yf' k = oe_cu yf i w k) → (∀ y, yf' y ≤ 1) → post (nI (n - w), nI mk, oe_A yn', oe_A yl', oe_A yf', oe_A kn, oe_A kl, oe_A kf)) :
    wpY_delete post (nI n, nI mk, oe_A yn, oe_A yl, oe_A yf, oe_A kn, oe_A kl, oe_A kf) (nI i) (nI (i + w)) := by
  have key : ∀ (f : Nat → Nat) k, k < n - w → oe_dl f i w n k = oe_cu f i w k := by
    intro f k hk
    unfold oe_dl
    rcases Nat.lt_or_ge k i with z | z
    · rw [oe_cu1 z, if_neg (by omega)]
    · rw [oe_cu2 z, if_pos (by omega)]
  refine ⟨n - (i + w) + 1, ?_⟩
  have := oe_delete_loop (mk := mk) (kn := kn) (kl := kl) (kf := kf) (yn := yn) (yl := yl) hn hw hf (K _ _ _ (key yn) (key yl) (key yf) (oe_dl_le hf)) (n - (i + w)) (i + w) (by omega) (Nat.le_refl _)
  rw [oe_dl_0, oe_dl_0, oe_dl_0] at this
  exact this
theorem oe_moveTo_3 {post : SY → Prop} {a w : Nat} (hn : n ≤ 40) (hw : a + w ≤ n) (hg : ∀ y, kf y ≤ 1)
    (K : post (nI n, nI mk, oe_A (oe_ov yn kn a w), oe_A (oe_ov yl kl a w), oe_A (oe_ov yf kf a w), oe_A kn, oe_A kl, oe_A kf)) :
    ∀ f t, t + f = w → wY_moveTo_119 post (nI a) (nI w) (nI n) (nI mk) (f + 1) (nI t) (oe_A (oe_ov yn kn a t)) (oe_A (oe_ov yl kl a t)) (oe_A (oe_ov yf kf a t)) (oe_A kn) (oe_A kl) (oe_A kf) := by
  intro f
  induction f with
  | zero =>
    intro t ht
    have e : t = w := by omega
    subst e
    exact br_t (nI_le (Nat.le_refl _) (by omega)) K
  | succ f ih =>
    intro t ht
    have it := vp_in_nI (show t < 40 by omega) (show 40 < 2 ^ 31 by decide)
    have ia := vp_in_nI (show a + t < 40 by omega) (show 40 < 2 ^ 31 by decide)
    have ht' : t < 2 ^ 31 := by omega
    have ha' : a + t < 2 ^ 31 := by omega
    refine br_f (nI_ge (by omega) (by omega)) ?_
    rw [nI_add]
    refine And.intro it (And.intro ia (nm_r (e' := oe_A (oe_ov yn kn a (t + 1))) (by rw [oe_rd kn ht', oe_st _ _ ha', oe_ov_s]) (And.intro it (And.intro ia (nm_r (e' := oe_A (oe_ov yl kl a (t + 1))) (by rw [oe_rd kl ht', oe_st _ _ ha', oe_ov_s]) (And.intro it (And.intro ia (nm_r (e' := oe_A (oe_ov yf kf a (t + 1))) (by rw [oe_rd kf ht', oe_nar (hg t), oe_st _ _ ha', oe_ov_s]) (nm_r (nI_1 t) ?_)))))))))
    exact ih (t + 1) (by omega)
theorem oe_moveTo_2 {post : SY → Prop} {a w : Nat} (hw0 : 0 < w) (hn : n + w ≤ 40) (ha : a ≤ n) (hf : ∀ y, yf y ≤ 1) (hg : ∀ y, kf y ≤ 1)
    (K : post (nI (n + w), nI mk, oe_A (oe_ov (oe_sv yn a w n) kn a w), oe_A (oe_ov (oe_sv yl a w n) kl a w), oe_A (oe_ov (oe_sv yf a w n) kf a w), oe_A kn, oe_A kl, oe_A kf)) :
    ∀ t p, p = a + t → p ≤ n → wY_moveTo_82 post (nI a) (nI w) (t + 1) (oe_lv p) (nI n) (nI mk) (oe_A (oe_sv yn p w n)) (oe_A (oe_sv yl p w n)) (oe_A (oe_sv yf p w n)) (oe_A kn) (oe_A kl) (oe_A kf) := by
  intro t
  induction t with
  | zero =>
    intro p hp hpn
    have e : p = a := by omega
    subst e
    refine br_t ((oe_lv_lt (by omega) (by omega)).mpr (Nat.le_refl _)) (nm_r (nI_add n w) ⟨w + 1, ?_⟩)
    have := oe_moveTo_3 (n := n + w) (mk := mk) (a := p) (w := w) (yn := oe_sv yn p w n) (yl := oe_sv yl p w n) (yf := oe_sv yf p w n) (kn := kn) (kl := kl) (by omega) (by omega) hg K w 0 (by omega)
    rw [oe_ov_0, oe_ov_0, oe_ov_0] at this
    exact this
  | succ t ih =>
    intro p hp hpn
    obtain ⟨r, rfl⟩ : ∃ r, p = r + 1 := ⟨p - 1, by omega⟩
    refine br_f (fun u => ?_) ?_
    · have := (oe_lv_lt (by omega) (by omega)).mp u
      omega
    · rw [oe_lvs]
      refine oe_y_copyTo (a := r) (b := r + w) rfl (nI_add r w) (by omega) (by omega) (oe_sv_le hf r) ?_
      refine nm_r (oe_lv_m1 r) ?_
      rw [oe_sv_s yn hw0 (by omega), oe_sv_s yl hw0 (by omega), oe_sv_s yf hw0 (by omega)]
      exact ih r (by omega) (by omega)
theorem oe_moveTo_1 {post : SY → Prop} {i w : Nat} {aI : Int32} (hn : n ≤ 40) (hw : i + w ≤ n) (hf : ∀ y, yf y ≤ 1)
    (K : ∀ kn' kl' kf', (∀ t, t < w → kn' t = yn (i + t)) → (∀ t, t < w → kl' t = yl (i + t)) → (∀ t, t < w → kf' t = yf (i + t)) → (∀ y, kf' y ≤ 1) → wY_moveTo_3 post (nI i) (nI (i + w)) aI (nI n) (nI mk) 1 (nI (i + w)) (oe_A yn) (oe_A yl) (oe_A yf) (oe_A kn') (oe_A kl') (oe_A kf')) :
    ∀ f t kn kl kf, t + f = w → (∀ s, s < t → kn s = yn (i + s)) → (∀ s, s < t → kl s = yl (i + s)) → (∀ s, s < t → kf s = yf (i + s)) → (∀ y, kf y ≤ 1) → wY_moveTo_3 post (nI i) (nI (i + w)) aI (nI n) (nI mk) (f + 1) (nI (i + t)) (oe_A yn) (oe_A yl) (oe_A yf) (oe_A kn) (oe_A kl) (oe_A kf) := by
  intro f
  induction f with
  | zero =>
    intro t kn kl kf ht h1 h2 h3 h4
    have e : t = w := by omega
    subst e
    exact K kn kl kf h1 h2 h3 h4
  | succ f ih =>
    intro t kn kl kf ht h1 h2 h3 h4
    have it := vp_in_nI (show t < 40 by omega) (show 40 < 2 ^ 31 by decide)
    have ia := vp_in_nI (show i + t < 40 by omega) (show 40 < 2 ^ 31 by decide)
    have ht' : t < 2 ^ 31 := by omega
    have ha' : i + t < 2 ^ 31 := by omega
    have es : nI (i + t) - nI i = nI t := by rw [pk_sub (by omega), Nat.add_sub_cancel_left]
    refine br_f (nI_ge (by omega) (by omega)) ?_
    rw [es]
    refine And.intro ia (And.intro it (nm_r (e' := oe_A (oe_u kn t (yn (i + t)))) (by rw [oe_rd yn ha', oe_st _ _ ht']) (And.intro ia (And.intro it (nm_r (e' := oe_A (oe_u kl t (yl (i + t)))) (by rw [oe_rd yl ha', oe_st _ _ ht']) (And.intro ia (And.intro it (nm_r (e' := oe_A (oe_u kf t (yf (i + t)))) (by rw [oe_rd yf ha', oe_nar (hf _), oe_st _ _ ht']) (nm_r (nI_1 (i + t)) ?_)))))))))
    have key : ∀ (g h : Nat → Nat), (∀ s, s < t → g s = h (i + s)) → ∀ s, s < t + 1 → oe_u g t (h (i + t)) s = h (i + s) := by
      intro g h hg s hs
      by_cases e : s = t
      · subst e; exact oe_us
      · rw [oe_un e]; exact hg s (by omega)
    exact ih (t + 1) _ _ _ (by omega) (key kn yn h1) (key kl yl h2) (key kf yf h3) (oe_u_le h4 (hf _))
theorem oe_y_moveTo {post : SY → Prop} {i w a : Nat} (hw0 : 0 < w) (hn : n ≤ 40) (hw : i + w ≤ n) (ha : a ≤ n - w) (hf : ∀ y, yf y ≤ 1) (hg : ∀ y, kf y ≤ 1)
    (K : ∀ yn' yl' yf' kn' kl' kf', (∀ k, k < n → yn' k = oe_in (oe_cu yn i w) (oe_sg yn i) a w k) → (∀ k, k < n → yl' k = oe_in (oe_cu yl i w) (oe_sg yl i) a w k) → (∀ k, k < n → yf' k = oe_in (oe_cu yf i w) (oe_sg yf i) a w k) → (∀ y, yf' y ≤ 1) → (∀ y, kf' y ≤ 1) → post (nI n, nI mk, oe_A yn', oe_A yl', oe_A yf', oe_A kn', oe_A kl', oe_A kf')) :
    wpY_moveTo post (nI n, nI mk, oe_A yn, oe_A yl, oe_A yf, oe_A kn, oe_A kl, oe_A kf) (nI i) (nI (i + w)) (nI a) := by
  have ew : nI (i + w) - nI i = nI w := by rw [pk_sub (by omega), Nat.add_sub_cancel_left]
  refine ⟨w + 1, oe_moveTo_1 (t := 0) hn hw hf (fun kn' kl' kf' k1 k2 k3 k4 => ?_) w kn kl kf (by omega) (fun s hs => by omega) (fun s hs => by omega) (fun s hs => by omega) hg⟩
  refine br_t (nI_le (Nat.le_refl _) (by omega)) ?_
  refine oe_y_delete hn hw hf (fun yn1 yl1 yf1 d1 d2 d3 d4 => ?_)
  refine nm_r ew ?_
  have e1 : nI (n - w) - 1 = oe_lv (n - w) := rfl
  refine nm_r e1 ⟨n - w - a + 1, ?_⟩
  have key : ∀ (f f1 g : Nat → Nat), (∀ k, k < n - w → f1 k = oe_cu f i w k) → (∀ t, t < w → g t = f (i + t)) → ∀ k, k < n → oe_ov (oe_sv f1 a w (n - w)) g a w k = oe_in (oe_cu f i w) (oe_sg f i) a w k := by
    intro f f1 g h1 h2 k hk
    unfold oe_ov
    rcases Nat.lt_or_ge k a with z | z
    · rw [oe_in1 z, if_neg (by omega)]
      unfold oe_sv
      rw [if_neg (by omega)]; exact h1 k (by omega)
    · rcases Nat.lt_or_ge k (a + w) with y | y
      · rw [oe_in2 z y, if_pos ⟨z, y⟩]; exact h2 _ (by omega)
      · rw [oe_in3 y, if_neg (by omega)]
        unfold oe_sv
        rw [if_pos (by omega)]; exact h1 _ (by omega)
  have fin := K _ _ _ kn' kl' kf' (key yn yn1 kn' d1 k1) (key yl yl1 kl' d2 k2) (key yf yf1 kf' d3 k3) (oe_ov_le (oe_sv_le d4) k4) k4
  have en : n - w + w = n := by omega
  have := oe_moveTo_2 (post := post) (n := n - w) (mk := mk) (a := a) (w := w) (yn := yn1) (yl := yl1) (yf := yf1) (kn := kn') (kl := kl') (kf := kf') hw0 (by omega) ha d4 k4 (by rw [en]; exact fin) (n - w - a) (n - w) (by omega) (Nat.le_refl _)
  rw [oe_sv_0, oe_sv_0, oe_sv_0] at this
  exact this
theorem oe_addLevels_loop {post : SY → Prop} {i w : Nat} {d : Int32} {g : Nat → Nat} (hn : n ≤ 40) (hw : i + w ≤ n) (hd : ∀ k, i ≤ k → k < i + w → nI (yl k) + d = nI (g k))
    (K : post (nI n, nI mk, oe_A yn, oe_A (fun k => if i ≤ k ∧ k < i + w then g k else yl k), oe_A yf, oe_A kn, oe_A kl, oe_A kf)) :
    ∀ f t, t + f = w → wY_addLevels_3 post (nI (i + w)) d (nI n) (nI mk) (f + 1) (nI (i + t)) (oe_A yn) (oe_A (fun k => if i ≤ k ∧ k < i + t then g k else yl k)) (oe_A yf) (oe_A kn) (oe_A kl) (oe_A kf) := by
  intro f
  induction f with
  | zero =>
    intro t ht
    have e : t = w := by omega
    subst e
    exact br_t (nI_le (Nat.le_refl _) (by omega)) K
  | succ f ih =>
    intro t ht
    have ia := vp_in_nI (show i + t < 40 by omega) (show 40 < 2 ^ 31 by decide)
    have ha' : i + t < 2 ^ 31 := by omega
    refine br_f (nI_ge (by omega) (by omega)) (And.intro ia (And.intro ia (nm_r (e' := oe_A (fun k => if i ≤ k ∧ k < i + (t + 1) then g k else yl k)) ?_ (nm_r (nI_1 (i + t)) (ih (t + 1) (by omega))))))
    rw [oe_rd _ ha']
    have e : nI ((fun k => if i ≤ k ∧ k < i + t then g k else yl k) (i + t)) + d = nI (g (i + t)) := by
      show nI (if i ≤ i + t ∧ i + t < i + t then g (i + t) else yl (i + t)) + d = _
      rw [if_neg (by omega)]; exact hd _ (by omega) (by omega)
    rw [e, oe_st _ _ ha']
    apply congrArg oe_A
    funext k
    by_cases e2 : k = i + t
    · subst e2
      rw [oe_us, if_pos (by omega)]
    · rw [oe_un e2]
      show (if i ≤ k ∧ k < i + t then g k else yl k) = _
      by_cases h2 : i ≤ k ∧ k < i + t
      · rw [if_pos h2, if_pos (by omega)]
      · rw [if_neg h2, if_neg (by omega)]
theorem oe_y_addLevels {post : SY → Prop} {i w : Nat} {d : Int32} (g : Nat → Nat) (hn : n ≤ 40) (hw : i + w ≤ n) (hd : ∀ k, i ≤ k → k < i + w → nI (yl k) + d = nI (g k))
    (K : post (nI n, nI mk, oe_A yn, oe_A (fun k => if i ≤ k ∧ k < i + w then g k else yl k), oe_A yf, oe_A kn, oe_A kl, oe_A kf)) : wpY_addLevels post (nI n, nI mk, oe_A yn, oe_A yl, oe_A yf, oe_A kn, oe_A kl, oe_A kf) (nI i) (nI (i + w)) d := by
  refine ⟨w + 1, ?_⟩
  have := oe_addLevels_loop hn hw hd K w 0 (by omega)
  have e : (fun k => if i ≤ k ∧ k < i + 0 then g k else yl k) = yl := by
    funext k; exact if_neg (by omega)
  rw [e] at this
  exact this
theorem oe_deepest_loop {post : Int32 → Prop} {i w : Nat} (hn : n ≤ 40) (hw : i + w ≤ n) (hl : ∀ k, k < n → yl k < 41) (K : post (nI (oe_mx (fun k => yl k + 1) i w))) :
    ∀ f t, t + f = w → wY_deepest_5 post (nI (i + w)) (nI n) (nI mk) (oe_A yn) (oe_A yl) (oe_A yf) (oe_A kn) (oe_A kl) (oe_A kf) (f + 1) (nI (oe_mx (fun k => yl k + 1) i t)) (nI (i + t)) := by
  intro f
  induction f with
  | zero =>
    intro t ht
    have e : t = w := by omega
    subst e
    exact br_t (nI_le (Nat.le_refl _) (by omega)) K
  | succ f ih =>
    intro t ht
    have ia := vp_in_nI (show i + t < 40 by omega) (show 40 < 2 ^ 31 by decide)
    have ha' : i + t < 2 ^ 31 := by omega
    have lt := hl (i + t) (by omega)
    have ml := oe_mx_lt (D := fun k => yl k + 1) (lo := i) (b := 41) (by omega) (n := t) (fun s hs => by have := hl (i + s) (by omega); show yl (i + s) + 1 ≤ 41; omega)
    refine br_f (nI_ge (by omega) (by omega)) (And.intro ia ?_)
    by_cases h : yl (i + t) ≤ oe_mx (fun k => yl k + 1) i t
    · refine br_t (by rw [oe_rd yl ha']; exact nI_le h (by omega)) (nm_r (nI_1 (i + t)) ?_)
      have e2 : oe_mx (fun k => yl k + 1) i (t + 1) = oe_mx (fun k => yl k + 1) i t := if_pos (by show yl (i + t) + 1 - 1 ≤ _; omega)
      have := ih (t + 1) (by omega)
      rw [e2] at this
      exact this
    · refine br_f (by rw [oe_rd yl ha']; exact nI_ge (by omega) (by omega)) (And.intro ia (nm_r (oe_rd yl ha') (nm_r (nI_1 (i + t)) ?_)))
      have e2 : oe_mx (fun k => yl k + 1) i (t + 1) = yl (i + t) := if_neg (by show ¬ yl (i + t) + 1 - 1 ≤ _; omega)
      have := ih (t + 1) (by omega)
      rw [e2] at this
      exact this
theorem oe_y_deepest {post : Int32 → Prop} {i w : Nat} (hn : n ≤ 40) (hw : i + w ≤ n) (hl : ∀ k, k < n → yl k < 41) (K : post (nI (oe_mx (fun k => yl k + 1) i w))) : wpY_deepest post (nI n, nI mk, oe_A yn, oe_A yl, oe_A yf, oe_A kn, oe_A kl, oe_A kf) (nI i) (nI (i + w)) :=
  ⟨w + 1, oe_deepest_loop hn hw hl K w 0 (by omega)⟩
theorem oe_isVisible_loop {post : Int32 → Prop} {i : Nat} (hn : n ≤ 40) (hi : i < n) (hf : ∀ y, yf y ≤ 1) (hl : ∀ k, k < n → yl k < 41) (K1 : oe_vs yf yl n 0 i → post 1) (K0 : ¬ oe_vs yf yl n 0 i → post 0) :
    ∀ f a, a + f = i → (∀ b, b < a → yf b ≠ 0 → oe_en yl n b ≤ i) → wY_isVisible_2 post (nI i) (nI n) (nI mk) (oe_A yn) (oe_A yl) (oe_A yf) (oe_A kn) (oe_A kl) (oe_A kf) (f + 1) (nI a) := by
  intro f
  induction f with
  | zero =>
    intro a ha h
    have e : a = i := by omega
    subst e
    exact br_t (nI_le (Nat.le_refl _) (by omega)) (K1 (fun b _ b1 b2 => h b b1 b2))
  | succ f ih =>
    intro a ha h
    have ia := vp_in_nI (show a < 40 by omega) (show 40 < 2 ^ 31 by decide)
    have lm := oe_en_le (D := yl) (m := n) (k := a) (by omega)
    refine br_f (nI_ge (by omega) (by omega)) (And.intro ia ?_)
    have step : (yf a ≠ 0 → oe_en yl n a ≤ i) → wY_isVisible_2 post (nI i) (nI n) (nI mk) (oe_A yn) (oe_A yl) (oe_A yf) (oe_A kn) (oe_A kl) (oe_A kf) (f + 1) (nI (a + 1)) := by
      intro h2
      refine ih (a + 1) (by omega) (fun b b1 b2 => ?_)
      by_cases e : b = a
      · subst e; exact h2 b2
      · exact h b (by omega) b2
    by_cases e : yf a = 0
    · exact br_t (by rw [oe_rd yf (by omega), e]; exact nI_0) (nm_r (nI_1 a) (step (fun u => absurd e u)))
    · refine br_f (by rw [oe_rd yf (by omega)]; exact nI_ne0 (by omega) (by have := hf a; omega)) ?_
      refine oe_y_endOf hn (by omega) hl ?_
      by_cases h2 : oe_en yl n a ≤ i
      · exact br_t (nI_le h2 (by omega)) (nm_r (nI_1 a) (step (fun _ => h2)))
      · exact br_f (nI_ge (by omega) (by omega)) (K0 (fun v => h2 (v a (Nat.zero_le _) (by omega) e)))
theorem oe_y_isVisible {post : Int32 → Prop} {i : Nat} (hn : n ≤ 40) (hi : i < n) (hf : ∀ y, yf y ≤ 1) (hl : ∀ k, k < n → yl k < 41) (K1 : oe_vs yf yl n 0 i → post 1) (K0 : ¬ oe_vs yf yl n 0 i → post 0) : wpY_isVisible post (nI n, nI mk, oe_A yn, oe_A yl, oe_A yf, oe_A kn, oe_A kl, oe_A kf) (nI i) :=
  ⟨i + 1, oe_isVisible_loop hn hi hf hl K1 K0 i 0 (by omega) (fun b b1 => by omega)⟩
end
end
section
/-! the relation's two halves; where a branch is put in -/
def oe_E (N : Nat → Nat) (m y : Nat) : Prop := ∃ k, 0 < k ∧ k < m ∧ N k = y
def oe_XC (m : Nat) (N D fo ab ch nx bf sz ri : Nat → Nat) : Prop := m ≤ 41 ∧ N 0 = 0 ∧ fo 0 = 0 ∧ (∀ y, fo y ≤ 1) ∧ oe_T ab ch nx bf N D m ∧ ∀ k, k < m → oe_SR sz ri fo N D m k
/-- used nodes are those of the outline; names are below made and different -/
def oe_G (m mk : Nat) (N nm us : Nat → Nat) : Prop := (∀ y, us y ≤ 1) ∧ (∀ y, 0 < y → y < 41 → (us y = 1 ↔ oe_E N m y)) ∧ (∀ y, 0 < y → y < 41 → us y = 1 → nm y < mk) ∧ (∀ y z, 0 < y → y < 41 → 0 < z → z < 41 → us y = 1 → us z = 1 → nm y = nm z → y = z)
def oe_XR (m mk : Nat) (N D fo nm us : Nat → Nat) (u : SX) : Prop := ∃ ab ch nx bf sz ri, u = (nI mk, oe_A us, oe_A nm, oe_A fo, oe_A ab, oe_A ch, oe_A nx, oe_A bf, oe_A sz, oe_A ri) ∧ oe_XC m N D fo ab ch nx bf sz ri ∧ oe_G m mk N nm us
def oe_YF (m : Nat) (N D fo nm yn yl yf : Nat → Nat) : Prop := ∀ k, k + 1 < m → yn k = nm (N (k + 1)) ∧ yl k + 1 = D (k + 1) ∧ yf k = fo (N (k + 1))
def oe_YR (m mk : Nat) (N D fo nm : Nat → Nat) (v : SY) : Prop := ∃ yn yl yf kn kl kf, v = (nI (m - 1), nI mk, oe_A yn, oe_A yl, oe_A yf, oe_A kn, oe_A kl, oe_A kf) ∧ oe_YF m N D fo nm yn yl yf ∧ (∀ y, yf y ≤ 1) ∧ (∀ y, kf y ≤ 1)
def i_Rel (k : Nat) (u : SX) (v : SY) : Prop := ∃ m mk N D fo nm us, oe_XR m mk N D fo nm us u ∧ oe_YR m mk N D fo nm v ∧ mk ≤ k
theorem i_up {k : Nat} {u : SX} {v : SY} (h : i_Rel k u v) : i_Rel (k + 3) u v := by
  obtain ⟨m, mk, N, D, fo, nm, us, x, y, z⟩ := h
  exact ⟨m, mk, N, D, fo, nm, us, x, y, by omega⟩
section
variable {m mk i w a : Nat} {N NB D DB fo nm us ab ch nx bf sz ri : Nat → Nat}
theorem oe_XC_S (h : oe_XC m N D fo ab ch nx bf sz ri) : ∀ k, k < m → oe_S sz N D m k := fun k hk => (h.2.2.2.2.2 k hk).1
theorem oe_XC_R (h : oe_XC m N D fo ab ch nx bf sz ri) : ∀ k, k < m → oe_R ri fo N D m k := fun k hk => (h.2.2.2.2.2 k hk).2
theorem oe_XR_W {u : SX} (h : oe_XR m mk N D fo nm us u) : oe_W D m ∧ m ≤ 41 ∧ N 0 = 0 ∧ fo 0 = 0 ∧ oe_N N m ∧ (∀ y, fo y ≤ 1) := by
  obtain ⟨ab, ch, nx, bf, sz, ri, _, h1, h2⟩ := h
  exact ⟨h1.2.2.2.2.1.1, h1.1, h1.2.1, h1.2.2.1, h1.2.2.2.2.1.2.1, h1.2.2.2.1⟩
/-- the nodes of the outline after a branch is put in -/
theorem oe_E_in {y : Nat} (ha : 0 < a) (hm : a ≤ m) : oe_E (oe_in N NB a w) (m + w) y ↔ (oe_E N m y ∨ ∃ t, t < w ∧ NB t = y) := by
  constructor
  · rintro ⟨k, k0, hk, e⟩
    rcases Nat.lt_or_ge k a with z | z
    · rw [oe_in1 z] at e; exact Or.inl ⟨k, k0, by omega, e⟩
    · rcases Nat.lt_or_ge k (a + w) with x | x
      · rw [oe_in2 z x] at e; exact Or.inr ⟨k - a, by omega, e⟩
      · rw [oe_in3 x] at e; exact Or.inl ⟨k - w, by omega, by omega, e⟩
  · rintro (⟨k, k0, hk, e⟩ | ⟨t, ht, e⟩)
    · rcases Nat.lt_or_ge k a with z | z
      · exact ⟨k, k0, by omega, by rw [oe_in1 z]; exact e⟩
      · exact ⟨k + w, by omega, by omega, by rw [oe_in3 (by omega), Nat.add_sub_cancel]; exact e⟩
    · exact ⟨a + t, by omega, by omega, by rw [oe_in2 (by omega) (by omega), Nat.add_sub_cancel_left]; exact e⟩
theorem oe_E_cu {y : Nat} (hi : 0 < i) (hm : i + w ≤ m) : oe_E N m y ↔ (oe_E (oe_cu N i w) (m - w) y ∨ ∃ t, t < w ∧ N (i + t) = y) := by
  constructor
  · rintro ⟨k, k0, hk, e⟩
    rcases Nat.lt_or_ge k i with z | z
    · exact Or.inl ⟨k, k0, by omega, by rw [oe_cu1 z]; exact e⟩
    · rcases Nat.lt_or_ge k (i + w) with x | x
      · exact Or.inr ⟨k - i, by omega, by rw [show i + (k - i) = k from by omega]; exact e⟩
      · exact Or.inl ⟨k - w, by omega, by omega, by rw [oe_cu2 (by omega), show k - w + w = k from by omega]; exact e⟩
  · rintro (⟨k, k0, hk, e⟩ | ⟨t, ht, e⟩)
    · rcases Nat.lt_or_ge k i with z | z
      · rw [oe_cu1 z] at e; exact ⟨k, k0, by omega, e⟩
      · rw [oe_cu2 z] at e; exact ⟨k + w, by omega, by omega, e⟩
    · exact ⟨i + t, by omega, by omega, e⟩
theorem oe_E_mv {y : Nat} (hi : 0 < i) (hm : i + w ≤ m) (ha : 0 < a) (ham : a ≤ m - w) : oe_E (oe_in (oe_cu N i w) (oe_sg N i) a w) (m - w + w) y ↔ oe_E N m y := by
  rw [oe_E_in ha ham, oe_E_cu hi hm]
  exact Iff.rfl
theorem oe_G_mv (h : oe_G m mk N nm us) (hi : 0 < i) (hm : i + w ≤ m) (ha : 0 < a) (ham : a ≤ m - w) : oe_G (m - w + w) mk (oe_in (oe_cu N i w) (oe_sg N i) a w) nm us :=
  ⟨h.1, fun y y0 y1 => (h.2.1 y y0 y1).trans (oe_E_mv hi hm ha ham).symm, h.2.2.1, h.2.2.2⟩
theorem oe_G_new {x : Nat} (h : oe_G m mk N nm us) (x0 : 0 < x) (x1 : x < 41) (hx : us x = 0) (ha : 0 < a) (ham : a ≤ m) : oe_G (m + 1) (mk + 1) (oe_in N (fun _ => x) a 1) (oe_u nm x mk) (oe_u us x 1) := by
  obtain ⟨h1, h2, h3, h4⟩ := h
  refine ⟨oe_u_le h1 (by omega), fun y y0 y1 => ?_, fun y y0 y1 hy => ?_, fun y z y0 y1 z0 z1 hy hz e => ?_⟩
  · rw [oe_E_in ha ham]
    by_cases e : y = x
    · subst e
      rw [oe_us]
      exact ⟨fun _ => Or.inr ⟨0, by omega, rfl⟩, fun _ => rfl⟩
    · rw [oe_un e, h2 y y0 y1]
      exact ⟨Or.inl, fun u => u.elim id (fun ⟨t, _, v⟩ => absurd v.symm e)⟩
  · by_cases e : y = x
    · subst e; rw [oe_us]; omega
    · rw [oe_un e] at hy ⊢
      have := h3 y y0 y1 hy; omega
  · by_cases e1 : y = x <;> by_cases e2 : z = x
    · rw [e1, e2]
    · subst e1
      rw [oe_un e2] at hz e
      rw [oe_us] at e
      have := h3 z z0 z1 hz; omega
    · subst e2
      rw [oe_un e1] at hy e
      rw [oe_us] at e
      have := h3 y y0 y1 hy; omega
    · rw [oe_un e1] at hy e
      rw [oe_un e2] at hz e
      exact h4 y z y0 y1 z0 z1 hy hz e
theorem oe_cu_dj (HN : oe_N N m) (hm : i + w ≤ m) : ∀ k t, k < m - w → t < w → oe_cu N i w k ≠ oe_sg N i t := by
  intro k t hk ht e
  have e' : oe_cu N i w k = N (i + t) := e
  rcases Nat.lt_or_ge k i with z | z
  · rw [oe_cu1 z] at e'
    have := HN.2.2 _ _ (by omega) (by omega) e'; omega
  · rw [oe_cu2 z] at e'
    have := HN.2.2 _ _ (by omega) (by omega) e'; omega
/-! the four places -/
theorem oe_at_last {q : Nat} (W : oe_W D m) (hq : q < m) : 0 < oe_en D m q ∧ oe_en D m q ≤ m ∧ 0 < D q + 1 ∧ D q + 1 ≤ D (oe_en D m q - 1) + 1 ∧ (oe_en D m q < m → D (oe_en D m q) ≤ D q + 1) ∧ oe_sc D (D q + 1) (oe_en D m q) = q := by
  have l := oe_en_lt (D := D) (m := m) (k := q)
  have lm := oe_en_le (D := D) hq
  refine ⟨by omega, lm, by omega, ?_, fun h => ?_, ?_⟩
  · by_cases e : oe_en D m q - 1 = q
    · rw [e]; exact Nat.le_refl _
    · have := oe_en_in (D := D) (m := m) (k := q) (q := oe_en D m q - 1) (by omega) (by omega); omega
  · have := oe_en_at h; omega
  · exact oe_sc_eq l (by omega) (fun r r1 r2 => oe_en_in (m := m) r1 r2)
theorem oe_at_behind {j : Nat} (W : oe_W D m) (j0 : 0 < j) (hj : j < m) : 0 < oe_en D m j ∧ oe_en D m j ≤ m ∧ 0 < D j ∧ D j ≤ D (oe_en D m j - 1) + 1 ∧ (oe_en D m j < m → D (oe_en D m j) ≤ D j) ∧ oe_sc D (D j) (oe_en D m j) = oe_sc D (D j) j ∧ oe_sc D (D j + 1) (oe_en D m j) = j := by
  obtain ⟨a, b, c, d, e, f⟩ := oe_at_last W hj
  obtain ⟨p1, p2, p3⟩ := oe_pa W j0 hj
  refine ⟨a, b, (W.2.2 j j0 hj).1, by omega, fun h => oe_en_at h, ?_, f⟩
  refine oe_sc_eq (by have := oe_en_lt (D := D) (m := m) (k := j); omega) (by omega) (fun r r1 r2 => ?_)
  rcases Nat.lt_or_ge r j with z | z
  · exact p3 r r1 z
  · by_cases e2 : r = j
    · rw [e2]; exact Nat.le_refl _
    · have := oe_en_in (D := D) (m := m) (k := j) (q := r) (by omega) r2; omega
theorem oe_at_first {q : Nat} (W : oe_W D m) (hq : q < m) : 0 < q + 1 ∧ q + 1 ≤ m ∧ 0 < D q + 1 ∧ D q + 1 ≤ D (q + 1 - 1) + 1 ∧ (q + 1 < m → D (q + 1) ≤ D q + 1) ∧ oe_sc D (D q + 1) (q + 1) = q ∧ oe_sc D (D q + 1 + 1) (q + 1) = q := by
  refine ⟨by omega, hq, by omega, by rw [Nat.add_sub_cancel]; exact Nat.le_refl _, fun h => ?_, oe_sc_eq (by omega) (by omega) (fun r r1 r2 => by omega), oe_sc_eq (by omega) (by omega) (fun r r1 r2 => by omega)⟩
  have := (W.2.2 (q + 1) (by omega) h).2
  rw [Nat.add_sub_cancel] at this; exact this
/-! Y's numbers -/
theorem oe_en_sh {yl : Nat → Nat} {j : Nat} (h : ∀ k, k + 1 < m → yl k + 1 = D (k + 1)) (hj : j + 1 < m) : oe_en D m (j + 1) = oe_en yl (m - 1) j + 1 := by
  have l := oe_en_lt (D := yl) (m := m - 1) (k := j)
  have lm := oe_en_le (D := yl) (m := m - 1) (k := j) (by omega)
  have hj' := h j hj
  apply oe_en_eq
  · omega
  · omega
  · intro q q1 q2
    obtain ⟨r, rfl⟩ : ∃ r, q = r + 1 := ⟨q - 1, by omega⟩
    have x := oe_en_in (D := yl) (m := m - 1) (k := j) (q := r) (by omega) (by omega)
    have := h r (by omega)
    omega
  · intro u
    have x := oe_en_at (D := yl) (m := m - 1) (k := j) (by omega)
    have := h (oe_en yl (m - 1) j) (by omega)
    omega
theorem oe_YF_l {yn yl yf : Nat → Nat} (h : oe_YF m N D fo nm yn yl yf) : ∀ k, k + 1 < m → yl k + 1 = D (k + 1) := fun k hk => (h k hk).2.1
theorem oe_YF_b {yn yl yf : Nat → Nat} (W : oe_W D m) (hm : m ≤ 41) (h : oe_YF m N D fo nm yn yl yf) : ∀ k, k < m - 1 → yl k < 41 := fun k hk => by
  have a := (h k (by omega)).2.1
  have b := oe_W_le W (k + 1) (by omega)
  omega
/-- Y's arrays after an insertion -/
theorem oe_YF_ins {yn yl yf yn' yl' yf' : Nat → Nat} {x d : Nat} (h : oe_YF m N D fo nm yn yl yf) (hx : ∀ k, k < m → N k ≠ x) (ha : a + 1 ≤ m) (hm : 0 < m) (d0 : 0 < d)
    (h1 : ∀ k, k < m - 1 + 1 → yn' k = oe_in yn (fun _ => mk) a 1 k) (h2 : ∀ k, k < m - 1 + 1 → yl' k = oe_in yl (fun _ => d - 1) a 1 k) (h3 : ∀ k, k < m - 1 + 1 → yf' k = oe_in yf (fun _ => 0) a 1 k) :
    oe_YF (m + 1) (oe_in N (fun _ => x) (a + 1) 1) (oe_in D (oe_ad (fun _ => 0) d) (a + 1) 1) (oe_u fo x 0) (oe_u nm x mk) yn' yl' yf' := by
  intro k hk
  rw [h1 k (by omega), h2 k (by omega), h3 k (by omega)]
  rcases Nat.lt_trichotomy k a with z | z | z
  · rw [oe_in1 z, oe_in1 z, oe_in1 z, oe_in1 (show k + 1 < a + 1 by omega), oe_in1 (show k + 1 < a + 1 by omega), oe_un (hx _ (by omega)), oe_un (hx _ (by omega))]
    exact h k (by omega)
  · subst z
    rw [oe_in2 (Nat.le_refl _) (by omega), oe_in2 (Nat.le_refl _) (by omega), oe_in2 (Nat.le_refl _) (by omega), oe_in2 (Nat.le_refl _) (by omega), oe_in2 (Nat.le_refl _) (by omega), oe_us, oe_us]
    refine ⟨rfl, ?_, rfl⟩
    show d - 1 + 1 = 0 + d
    omega
  · rw [oe_in3 (show a + 1 + 1 ≤ k + 1 by omega), oe_in3 (show a + 1 + 1 ≤ k + 1 by omega), oe_in3 (by omega), oe_in3 (by omega), oe_in3 (by omega), oe_un (hx _ (by omega)), oe_un (hx _ (by omega)), Nat.add_sub_cancel]
    have := h (k - 1) (by omega)
    rw [show k - 1 + 1 = k from by omega] at this
    exact this
/-- Y's arrays after a deletion -/
theorem oe_YF_del {yn yl yf yn' yl' yf' : Nat → Nat} (h : oe_YF m N D fo nm yn yl yf) (hm : i + 1 + w ≤ m)
    (h1 : ∀ k, k < m - 1 - w → yn' k = oe_cu yn i w k) (h2 : ∀ k, k < m - 1 - w → yl' k = oe_cu yl i w k) (h3 : ∀ k, k < m - 1 - w → yf' k = oe_cu yf i w k) :
    oe_YF (m - w) (oe_cu N (i + 1) w) (oe_cu D (i + 1) w) fo nm yn' yl' yf' := by
  intro k hk
  rw [h1 k (by omega), h2 k (by omega), h3 k (by omega)]
  rcases Nat.lt_or_ge k i with z | z
  · rw [oe_cu1 z, oe_cu1 z, oe_cu1 z, oe_cu1 (show k + 1 < i + 1 by omega), oe_cu1 (show k + 1 < i + 1 by omega)]
    exact h k (by omega)
  · rw [oe_cu2 z, oe_cu2 z, oe_cu2 z, oe_cu2 (show i + 1 ≤ k + 1 by omega), oe_cu2 (show i + 1 ≤ k + 1 by omega), show k + 1 + w = k + w + 1 from by omega]
    exact h (k + w) (by omega)
/-- Y's arrays after a move; levels of the window shifted first -/
theorem oe_YF_mv {yn yl yf yl1 yn' yl' yf' : Nat → Nat} {d : Nat} (h : oe_YF m N D fo nm yn yl yf) (hm : i + 1 + w ≤ m) (ham : a + 1 ≤ m - w)
    (g1 : ∀ k, k < i ∨ i + w ≤ k → yl1 k = yl k) (g2 : ∀ t, t < w → yl1 (i + t) + 1 = D (i + 1 + t) - D (i + 1) + d)
    (h1 : ∀ k, k < m - 1 → yn' k = oe_in (oe_cu yn i w) (oe_sg yn i) a w k) (h2 : ∀ k, k < m - 1 → yl' k = oe_in (oe_cu yl1 i w) (oe_sg yl1 i) a w k) (h3 : ∀ k, k < m - 1 → yf' k = oe_in (oe_cu yf i w) (oe_sg yf i) a w k) :
    oe_YF m (oe_in (oe_cu N (i + 1) w) (oe_sg N (i + 1)) (a + 1) w) (oe_in (oe_cu D (i + 1) w) (oe_ad (oe_sd D (i + 1)) d) (a + 1) w) fo nm yn' yl' yf' := by
  have hc : ∀ k, k < m - w - 1 → oe_cu yn i w k = nm (oe_cu N (i + 1) w (k + 1)) ∧ oe_cu yl1 i w k + 1 = oe_cu D (i + 1) w (k + 1) ∧ oe_cu yf i w k = fo (oe_cu N (i + 1) w (k + 1)) := by
    intro k hk
    rcases Nat.lt_or_ge k i with z | z
    · rw [oe_cu1 z, oe_cu1 z, oe_cu1 z, oe_cu1 (show k + 1 < i + 1 by omega), oe_cu1 (show k + 1 < i + 1 by omega), g1 k (Or.inl z)]
      exact h k (by omega)
    · rw [oe_cu2 z, oe_cu2 z, oe_cu2 z, oe_cu2 (show i + 1 ≤ k + 1 by omega), oe_cu2 (show i + 1 ≤ k + 1 by omega), show k + 1 + w = k + w + 1 from by omega, g1 (k + w) (Or.inr (by omega))]
      exact h (k + w) (by omega)
  intro k hk
  rw [h1 k (by omega), h2 k (by omega), h3 k (by omega)]
  rcases Nat.lt_or_ge k a with z | z
  · rw [oe_in1 z, oe_in1 z, oe_in1 z, oe_in1 (show k + 1 < a + 1 by omega), oe_in1 (show k + 1 < a + 1 by omega)]
    exact hc k (by omega)
  · rcases Nat.lt_or_ge k (a + w) with y | y
    · rw [oe_in2 z y, oe_in2 z y, oe_in2 z y, oe_in2 (show a + 1 ≤ k + 1 by omega) (by omega), oe_in2 (show a + 1 ≤ k + 1 by omega) (by omega), show k + 1 - (a + 1) = k - a from by omega]
      have x := h (i + (k - a)) (by omega)
      rw [show i + (k - a) + 1 = i + 1 + (k - a) from by omega] at x
      exact ⟨x.1, g2 (k - a) (by omega), x.2.2⟩
    · rw [oe_in3 y, oe_in3 y, oe_in3 y, oe_in3 (show a + 1 + w ≤ k + 1 by omega), oe_in3 (show a + 1 + w ≤ k + 1 by omega), show k + 1 - w = k - w + 1 from by omega]
      exact hc (k - w) (by omega)
theorem oe_in_id {f : Nat → Nat} (k : Nat) : oe_in (oe_cu f i w) (oe_sg f i) i w k = f k := by
  rcases Nat.lt_or_ge k i with z | z
  · rw [oe_in1 z, oe_cu1 z]
  · rcases Nat.lt_or_ge k (i + w) with y | y
    · rw [oe_in2 z y]
      show f (i + (k - i)) = f k
      rw [show i + (k - i) = k from by omega]
    · rw [oe_in3 y, oe_cu2 (by omega), show k - w + w = k from by omega]
end
theorem i_vc0 : wpX_init (fun u => wpY_init (fun v => i_Rel 0 u v)) := by
  refine ⟨1, 0, fun _ => 0, fun _ => 0, fun _ => 0, fun _ => 0, fun _ => 0, ⟨fun _ => 0, fun _ => 0, fun _ => 0, fun _ => 0, fun _ => 0, fun _ => 0, ?_, ?_, ?_⟩, ⟨fun _ => 0, fun _ => 0, fun _ => 0, fun _ => 0, fun _ => 0, fun _ => 0, ?_, fun k hk => by omega, fun _ => Nat.zero_le _, fun _ => Nat.zero_le _⟩, Nat.le_refl _⟩
  · rw [← oe_A0]; rfl
  · have e1 : oe_en (fun _ => 0) 1 0 = 1 := oe_en_eq (by omega) (by omega) (fun q a b => by omega) (fun u => by omega)
    refine ⟨by omega, rfl, rfl, fun _ => Nat.zero_le _, ⟨⟨by omega, rfl, fun k a b => by omega⟩, ⟨fun _ _ => show 0 < 41 by omega, fun k a b => by omega, fun j k a b _ => by omega⟩, fun k hk => ⟨fun u => by omega, fun _ => rfl⟩, fun k a b => by omega, fun k a b => by omega, fun k a b => by omega⟩, fun k hk => ?_⟩
    have e : k = 0 := by omega
    subst e
    refine ⟨?_, ?_⟩
    · unfold oe_S; rw [e1]; rfl
    · unfold oe_R oe_vc; rw [e1, show 1 - 0 = 1 from rfl, oe_cn_one, oe_b1 (oe_vs_self _ _ _ _)]; rfl
  · refine ⟨fun _ => Nat.zero_le _, fun y y0 y1 => ⟨fun u => absurd u Nat.zero_ne_one, fun ⟨k, a, b, _⟩ => by omega⟩, fun y y0 y1 u => absurd u Nat.zero_ne_one, fun y z _ _ _ _ u => absurd u Nat.zero_ne_one⟩
  · rw [← oe_A0]; rfl
end
section
/-! the methods that only read -/
section
variable {n mk m : Nat} {yn yl yf kn kl kf N D fo nm us ab ch nx bf sz ri : Nat → Nat}
theorem oe_vs_sh (h0 : N 0 = 0) (hf0 : fo 0 = 0) (YF : oe_YF m N D fo nm yn yl yf) {a : Nat} (ha : a + 1 ≤ m) : oe_vs (fun p => fo (N p)) D m 0 (a + 1) ↔ oe_vs yf yl (m - 1) 0 a := by
  constructor
  · intro v b _ b1 b2
    have e := oe_en_sh (D := D) (oe_YF_l YF) (j := b) (by omega)
    have := v (b + 1) (Nat.zero_le _) (by omega) (by show fo (N (b + 1)) ≠ 0; rw [← (YF b (by omega)).2.2]; exact b2)
    omega
  · intro v b _ b1 b2
    rcases Nat.eq_zero_or_pos b with z | z
    · subst z
      exact absurd (show fo (N 0) = 0 by rw [h0]; exact hf0) b2
    · obtain ⟨c, rfl⟩ : ∃ c, b = c + 1 := ⟨b - 1, by omega⟩
      have e := oe_en_sh (D := D) (oe_YF_l YF) (j := c) (by omega)
      have := v c (Nat.zero_le _) (by omega) (by rw [(YF c (by omega)).2.2]; exact b2)
      omega
theorem oe_cn_sh (h0 : N 0 = 0) (hf0 : fo 0 = 0) (YF : oe_YF m N D fo nm yn yl yf) {t : Nat} (ht : t + 1 ≤ m) : oe_cn (oe_vs (fun p => fo (N p)) D m 0) 1 t = oe_cn (oe_vs yf yl (m - 1) 0) 0 t := by
  apply oe_cn_congr
  intro s hs
  rw [Nat.add_comm 1 s, Nat.zero_add]
  exact oe_vs_sh h0 hf0 YF (by omega)
theorem oe_cn_lt {P : Nat → Prop} {lo a b : Nat} (h : a < b) (hp : P (lo + a)) : oe_cn P lo a < oe_cn P lo b := by
  have := oe_cn_add P lo (a + 1) (b - (a + 1))
  rw [show a + 1 + (b - (a + 1)) = b from by omega] at this
  have e : oe_cn P lo (a + 1) = oe_cn P lo a + oe_b (P (lo + a)) := rfl
  rw [oe_b1 hp] at e
  omega
theorem oe_parent_loop {post : Int32 → Prop} {j : Nat} (hn : n ≤ 40) (hj : j < n) (hD : ∀ k, k < n → yl k + 1 = D (k + 1)) (hb : ∀ k, k < n → yl k < 41) (W : oe_W D (n + 1))
    (K0 : oe_sc D (D (j + 1)) (j + 1) = 0 → post (-4)) (K1 : 0 < oe_sc D (D (j + 1)) (j + 1) → post (nI (oe_sc D (D (j + 1)) (j + 1) - 1))) :
    ∀ f q, q < f → q < j + 1 → oe_sc D (D (j + 1)) (j + 1) ≤ q → wY_parent_14 post (nI j) (nI n) (nI mk) (oe_A yn) (oe_A yl) (oe_A yf) (oe_A kn) (oe_A kl) (oe_A kf) f (oe_lv q) := by
  intro f
  obtain ⟨p1, p2, p3⟩ := oe_pa W (k := j + 1) (by omega) (by omega)
  induction f with
  | zero => intro q h; omega
  | succ f ih =>
    intro q hf hq hs
    rcases Nat.eq_zero_or_pos q with z | z
    · subst z
      exact br_t ((oe_lv_lt (a := 0) (by omega) (by omega)).mpr (Nat.le_refl _)) (K0 (by omega))
    · obtain ⟨r, rfl⟩ : ∃ r, q = r + 1 := ⟨q - 1, by omega⟩
      rw [oe_lvs]
      have a1 := hD j hj
      have a2 := hD r (by omega)
      have b1 := hb j hj
      have b2 := hb r (by omega)
      refine br_f (nI_pos (by omega)) (And.intro (vp_in_nI (by omega) (by decide)) (And.intro (vp_in_nI (by omega) (by decide)) ?_))
      rw [oe_rd yl (by omega), oe_rd yl (by omega)]
      by_cases e : oe_sc D (D (j + 1)) (j + 1) = r + 1
      · rw [e] at p2
        refine br_f (nI_ge (by omega) (by omega)) ?_
        have := K1 (by omega)
        rw [e, Nat.add_sub_cancel] at this
        exact this
      · have := p3 (r + 1) (by omega) hq
        refine br_t (nI_le (by omega) (by omega)) (nm_r (oe_lv_m1 r) ?_)
        exact ih r (by omega) (by omega) (by omega)
theorem oe_rows_loop {post : Int32 → Prop} (hn : n ≤ 40) (hf : ∀ y, yf y ≤ 1) (hl : ∀ k, k < n → yl k < 41) (K : post (nI (oe_cn (oe_vs yf yl n 0) 0 n))) :
    ∀ f i, i + f = n → wY_rows_4 post (nI n) (nI mk) (oe_A yn) (oe_A yl) (oe_A yf) (oe_A kn) (oe_A kl) (oe_A kf) (f + 1) (nI (oe_cn (oe_vs yf yl n 0) 0 i)) (nI i) := by
  intro f
  induction f with
  | zero =>
    intro i hi
    have e : i = n := by omega
    subst e
    exact br_t (nI_le (Nat.le_refl _) (by omega)) K
  | succ f ih =>
    intro i hi
    refine br_f (nI_ge (by omega) (by omega)) ?_
    have e : oe_cn (oe_vs yf yl n 0) 0 (i + 1) = oe_cn (oe_vs yf yl n 0) 0 i + oe_b (oe_vs yf yl n 0 (0 + i)) := rfl
    rw [Nat.zero_add] at e
    have := ih (i + 1) (by omega)
    refine oe_y_isVisible hn (by omega) hf hl (fun v => ?_) (fun v => ?_)
    · rw [oe_b1 v] at e
      rw [e] at this
      exact br_f (by decide) (nm_r (nI_1 _) (nm_r (nI_1 i) this))
    · rw [oe_b0 v, Nat.add_zero] at e
      rw [e] at this
      exact br_t rfl (nm_r (nI_1 i) this)
theorem oe_row_loop {post : Int32 → Prop} {x : Int32} (hn : n ≤ 40) (hf : ∀ y, yf y ≤ 1) (hl : ∀ k, k < n → yl k < 41)
    (K1 : ∀ t, t < n → oe_vs yf yl n 0 t → nI (oe_cn (oe_vs yf yl n 0) 0 t) = x → post (nI t)) (K0 : (∀ t, t < n → oe_vs yf yl n 0 t → nI (oe_cn (oe_vs yf yl n 0) 0 t) ≠ x) → post (-4)) :
    ∀ f i, i + f = n → (∀ t, t < i → oe_vs yf yl n 0 t → nI (oe_cn (oe_vs yf yl n 0) 0 t) ≠ x) → wY_row_4 post x (nI n) (nI mk) (oe_A yn) (oe_A yl) (oe_A yf) (oe_A kn) (oe_A kl) (oe_A kf) (f + 1) (nI (oe_cn (oe_vs yf yl n 0) 0 i)) (nI i) := by
  intro f
  induction f with
  | zero =>
    intro i hi hI
    have e : i = n := by omega
    subst e
    exact br_t (nI_le (Nat.le_refl _) (by omega)) (K0 hI)
  | succ f ih =>
    intro i hi hI
    refine br_f (nI_ge (by omega) (by omega)) ?_
    have e : oe_cn (oe_vs yf yl n 0) 0 (i + 1) = oe_cn (oe_vs yf yl n 0) 0 i + oe_b (oe_vs yf yl n 0 (0 + i)) := rfl
    rw [Nat.zero_add] at e
    refine oe_y_isVisible hn (by omega) hf hl (fun v => ?_) (fun v => ?_)
    · rw [oe_b1 v] at e
      refine br_f (by decide) ?_
      by_cases h : nI (oe_cn (oe_vs yf yl n 0) 0 i) = x
      · exact br_t h (K1 i (by omega) v h)
      · have := ih (i + 1) (by omega) (fun t ht hv => by
          by_cases e2 : t = i
          · subst e2; exact h
          · exact hI t (by omega) hv)
        rw [e] at this
        exact br_f h (nm_r (nI_1 _) (nm_r (nI_1 i) this))
    · rw [oe_b0 v, Nat.add_zero] at e
      have := ih (i + 1) (by omega) (fun t ht hv => by
          by_cases e2 : t = i
          · subst e2; exact absurd hv v
          · exact hI t (by omega) hv)
      rw [e] at this
      exact br_t rfl (nm_r (nI_1 i) this)
theorem oe_rowOfY_loop {post : Int32 → Prop} {k : Nat} (hn : n ≤ 40) (hk : k < n) (hf : ∀ y, yf y ≤ 1) (hl : ∀ k, k < n → yl k < 41) (K : post (nI (oe_cn (oe_vs yf yl n 0) 0 k))) :
    ∀ f i, i + f = k → wY_rowOf_25 post (nI k) (nI n) (nI mk) (oe_A yn) (oe_A yl) (oe_A yf) (oe_A kn) (oe_A kl) (oe_A kf) (f + 1) (nI (oe_cn (oe_vs yf yl n 0) 0 i)) (nI i) := by
  intro f
  induction f with
  | zero =>
    intro i hi
    have e : i = k := by omega
    subst e
    exact br_t (nI_le (Nat.le_refl _) (by omega)) K
  | succ f ih =>
    intro i hi
    refine br_f (nI_ge (by omega) (by omega)) ?_
    have e : oe_cn (oe_vs yf yl n 0) 0 (i + 1) = oe_cn (oe_vs yf yl n 0) 0 i + oe_b (oe_vs yf yl n 0 (0 + i)) := rfl
    rw [Nat.zero_add] at e
    have := ih (i + 1) (by omega)
    refine oe_y_isVisible hn (by omega) hf hl (fun v => ?_) (fun v => ?_)
    · rw [oe_b1 v] at e
      rw [e] at this
      exact br_f (by decide) (nm_r (nI_1 _) (nm_r (nI_1 i) this))
    · rw [oe_b0 v, Nat.add_zero] at e
      rw [e] at this
      exact br_t rfl (nm_r (nI_1 i) this)
theorem oe_placeY_loop {post : Int32 → Prop} {x : Int32} (hn : n ≤ 40) (K1 : ∀ t, t < n → nI (yn t) = x → post (nI t)) (K0 : (∀ t, t < n → nI (yn t) ≠ x) → post (-4)) :
    ∀ f i, i + f = n → (∀ t, t < i → nI (yn t) ≠ x) → wY_place_2 post x (nI n) (nI mk) (oe_A yn) (oe_A yl) (oe_A yf) (oe_A kn) (oe_A kl) (oe_A kf) (f + 1) (nI i) := by
  intro f
  induction f with
  | zero =>
    intro i hi hI
    have e : i = n := by omega
    subst e
    exact br_t (nI_le (Nat.le_refl _) (by omega)) (K0 hI)
  | succ f ih =>
    intro i hi hI
    refine br_f (nI_ge (by omega) (by omega)) (And.intro (vp_in_nI (by omega) (by decide)) ?_)
    rw [oe_rd yn (by omega)]
    by_cases h : nI (yn i) = x
    · exact br_t h (K1 i (by omega) h)
    · refine br_f h (nm_r (nI_1 i) (ih (i + 1) (by omega) (fun t ht => ?_)))
      by_cases e2 : t = i
      · subst e2; exact h
      · exact hI t (by omega)
theorem oe_placeX_loop {post : Int32 → Prop} {x : Int32} (XC : oe_XC m N D fo ab ch nx bf sz ri) (G : oe_G m mk N nm us) (K1 : ∀ p, 0 < p → p < m → nI (nm (N p)) = x → post (nI (p - 1))) (K0 : (∀ p, 0 < p → p < m → nI (nm (N p)) ≠ x) → post (-4)) :
    ∀ f i, i + f = 41 → 0 < i → (∀ y, 0 < y → y < i → us y = 1 → nI (nm y) ≠ x) → wX_place_2 post x (nI mk) (oe_A us) (oe_A nm) (oe_A fo) (oe_A ab) (oe_A ch) (oe_A nx) (oe_A bf) (oe_A sz) (oe_A ri) (f + 1) (nI i) := by
  intro f
  induction f with
  | zero =>
    intro i hi i0 hI
    have e : i = 41 := by omega
    subst e
    refine br_t (by decide +kernel) (K0 (fun p p0 hp => ?_))
    have a := XC.2.2.2.2.1.2.1.1 p hp
    have b := XC.2.2.2.2.1.2.1.2.1 p p0 hp
    exact hI (N p) b a ((G.2.1 (N p) b a).mpr ⟨p, p0, hp, rfl⟩)
  | succ f ih =>
    intro i hi i0 hI
    have ix := vp_in_nI (show i < 41 by omega) (show 41 < 2 ^ 31 by decide)
    have hu := G.1 i
    refine br_f (nI_nlt (a := 40) (b := i) (by omega) (by decide)) (And.intro ix ?_)
    rw [oe_rd us (by omega), oe_rd nm (by omega)]
    have step : (us i = 1 → nI (nm i) ≠ x) → wX_place_2 post x (nI mk) (oe_A us) (oe_A nm) (oe_A fo) (oe_A ab) (oe_A ch) (oe_A nx) (oe_A bf) (oe_A sz) (oe_A ri) (f + 1) (nI (i + 1)) := by
      intro h
      refine ih (i + 1) (by omega) (by omega) (fun y y0 y1 hy => ?_)
      by_cases e2 : y = i
      · subst e2; exact h hy
      · exact hI y y0 (by omega) hy
    by_cases e : us i = 0
    · exact br_t (by rw [e]; exact nI_0) (nm_r (nI_1 i) (step (fun u => by omega)))
    · refine br_f (nI_ne0 (by omega) (by omega)) (And.intro ix ?_)
      by_cases h : nI (nm i) = x
      · refine br_t h ?_
        obtain ⟨p, p0, hp, ep⟩ := (G.2.1 i i0 (by omega)).mp (by omega)
        subst ep
        exact oe_x_placeOf XC.1 XC.2.1 p0 hp XC.2.2.2.2.1 (oe_XC_S XC) (K1 p p0 hp h)
      · exact br_f h (nm_r (nI_1 i) (step (fun _ => h)))
end
theorem i_vc_size {k : Nat} {u : SX} {v : SY} (I : i_Rel k u v) (hk : k + 3 ≤ 1536) : wpX_size (fun r => wpY_size (fun r' => r' = r ∧ i_Rel (k + 3) u v) v) u := by
  have I' := i_up I
  obtain ⟨m, mk, N, D, fo, nm, us, ⟨ab, ch, nx, bf, sz, ri, rfl, XC, G⟩, ⟨yn, yl, yf, kn, kl, kf, rfl, YF, yf1, kf1⟩, hmk⟩ := I
  refine ⟨?_, I'⟩
  have s := oe_XC_S XC 0 XC.2.2.2.2.1.1.1
  unfold oe_S at s
  rw [XC.2.1, oe_z0, oe_en0 XC.2.2.2.2.1.1] at s
  exact congrArg nI (by omega)
theorem i_vc_name {k : Nat} {u : SX} {v : SY} (I : i_Rel k u v) (hk : k + 3 ≤ 1536) (v1 : Int32) : wpX_name (fun r => wpY_name (fun r' => r' = r ∧ i_Rel (k + 3) u v) v v1) u v1 := by
  have I' := i_up I
  obtain ⟨m, mk, N, D, fo, nm, us, ⟨ab, ch, nx, bf, sz, ri, rfl, XC, G⟩, ⟨yn, yl, yf, kn, kl, kf, rfl, YF, yf1, kf1⟩, hmk⟩ := I
  have hS := oe_XC_S XC
  obtain ⟨hm, h0, hf0, hfo, T, SR⟩ := XC
  unfold wpX_name wpY_name
  dsimp only
  rcases pk_ix v1 (n := m - 1) (by omega) with h | h | ⟨j, hj, rfl⟩
  · exact oe_x_bad1 h0 T hS (Or.inl h) (br_f (by decide) (oe_y_isPlace0 (Or.inl h) (br_t rfl ⟨rfl, I'⟩)))
  · exact oe_x_bad1 h0 T hS (Or.inr h) (br_f (by decide) (oe_y_isPlace0 (Or.inr h) (br_t rfl ⟨rfl, I'⟩)))
  · have hx := T.2.1.1 (j + 1) (by omega)
    refine oe_x_bad0 hm h0 T hS (by omega) (br_t rfl (oe_x_nodeAt hm h0 (by omega) T hS (And.intro (vp_in_nI hx (by decide)) ?_)))
    refine oe_y_isPlace1 (by omega) hj (br_f (by decide) (And.intro (vp_in_nI (by omega) (by decide)) ⟨?_, I'⟩))
    rw [oe_rd yn (by omega), oe_rd nm (by omega), (YF j (by omega)).1]
theorem i_vc_level {k : Nat} {u : SX} {v : SY} (I : i_Rel k u v) (hk : k + 3 ≤ 1536) (v1 : Int32) : wpX_level (fun r => wpY_level (fun r' => r' = r ∧ i_Rel (k + 3) u v) v v1) u v1 := by
  have I' := i_up I
  obtain ⟨m, mk, N, D, fo, nm, us, ⟨ab, ch, nx, bf, sz, ri, rfl, XC, G⟩, ⟨yn, yl, yf, kn, kl, kf, rfl, YF, yf1, kf1⟩, hmk⟩ := I
  have hS := oe_XC_S XC
  obtain ⟨hm, h0, hf0, hfo, T, SR⟩ := XC
  unfold wpX_level wpY_level
  dsimp only
  rcases pk_ix v1 (n := m - 1) (by omega) with h | h | ⟨j, hj, rfl⟩
  · exact oe_x_bad1 h0 T hS (Or.inl h) (br_f (by decide) (oe_y_isPlace0 (Or.inl h) (br_t rfl ⟨rfl, I'⟩)))
  · exact oe_x_bad1 h0 T hS (Or.inr h) (br_f (by decide) (oe_y_isPlace0 (Or.inr h) (br_t rfl ⟨rfl, I'⟩)))
  · refine oe_x_bad0 hm h0 T hS (by omega) (br_t rfl (oe_x_nodeAt hm h0 (by omega) T hS (oe_x_levelOf hm h0 (by omega) T ?_)))
    refine oe_y_isPlace1 (by omega) hj (br_f (by decide) (And.intro (vp_in_nI (by omega) (by decide)) ⟨?_, I'⟩))
    rw [oe_rd yl (by omega), ← (YF j (by omega)).2.1, oe_lvs]
theorem i_vc_place {k : Nat} {u : SX} {v : SY} (I : i_Rel k u v) (hk : k + 3 ≤ 1536) (v1 : Int32) : wpX_place (fun r => wpY_place (fun r' => r' = r ∧ i_Rel (k + 3) u v) v v1) u v1 := by
  have I' := i_up I
  obtain ⟨m, mk, N, D, fo, nm, us, ⟨ab, ch, nx, bf, sz, ri, rfl, XC, G⟩, ⟨yn, yl, yf, kn, kl, kf, rfl, YF, yf1, kf1⟩, hmk⟩ := I
  have XC' := XC
  obtain ⟨hm, h0, hf0, hfo, T, SR⟩ := XC
  have hmp := T.1.1
  have uniq : ∀ p q, 0 < p → p < m → 0 < q → q < m → nI (nm (N p)) = v1 → nI (nm (N q)) = v1 → p = q := by
    intro p q p0 hp q0 hq e1 e2
    have a1 := T.2.1.1 p hp
    have a2 := T.2.1.2.1 p p0 hp
    have b1 := T.2.1.1 q hq
    have b2 := T.2.1.2.1 q q0 hq
    have u1 := (G.2.1 (N p) a2 a1).mpr ⟨p, p0, hp, rfl⟩
    have u2 := (G.2.1 (N q) b2 b1).mpr ⟨q, q0, hq, rfl⟩
    have c1 := G.2.2.1 (N p) a2 a1 u1
    have c2 := G.2.2.1 (N q) b2 b1 u2
    have e := (nI_eq (by omega) (by omega)).mp (e1.trans e2.symm)
    exact T.2.1.2.2 p q hp hq (G.2.2.2 _ _ a2 a1 b2 b1 u1 u2 e)
  refine ⟨41, oe_placeX_loop XC' G (fun p p0 hp e => ?_) (fun hno => ?_) 40 1 (by omega) (by omega) (fun y y0 y1 => by omega)⟩
  · refine ⟨m - 1 + 1, oe_placeY_loop (by omega) (fun t ht e2 => ⟨?_, I'⟩) (fun hno => ?_) (m - 1) 0 (by omega) (fun t ht => by omega)⟩
    · have := hno (p - 1) (by omega)
      rw [(YF (p - 1) (by omega)).1, show p - 1 + 1 = p from by omega] at this
      exact absurd e this
    · rw [(YF t (by omega)).1] at e2
      have := uniq (t + 1) p (by omega) (by omega) p0 hp e2 e
      exact congrArg nI (by omega)
  · refine ⟨m - 1 + 1, oe_placeY_loop (by omega) (fun t ht e2 => ?_) (fun _ => ⟨rfl, I'⟩) (m - 1) 0 (by omega) (fun t ht => by omega)⟩
    rw [(YF t (by omega)).1] at e2
    exact absurd e2 (hno (t + 1) (by omega) (by omega))
theorem i_vc_parent {k : Nat} {u : SX} {v : SY} (I : i_Rel k u v) (hk : k + 3 ≤ 1536) (v1 : Int32) : wpX_parent (fun r => wpY_parent (fun r' => r' = r ∧ i_Rel (k + 3) u v) v v1) u v1 := by
  have I' := i_up I
  obtain ⟨m, mk, N, D, fo, nm, us, ⟨ab, ch, nx, bf, sz, ri, rfl, XC, G⟩, ⟨yn, yl, yf, kn, kl, kf, rfl, YF, yf1, kf1⟩, hmk⟩ := I
  have hS := oe_XC_S XC
  obtain ⟨hm, h0, hf0, hfo, T, SR⟩ := XC
  unfold wpX_parent
  dsimp only
  rcases pk_ix v1 (n := m - 1) (by omega) with h | h | ⟨j, hj, rfl⟩
  · exact oe_x_bad1 h0 T hS (Or.inl h) (br_f (by decide) (show wpY_parent _ _ _ from by unfold wpY_parent; dsimp only; exact oe_y_isPlace0 (Or.inl h) (br_t rfl ⟨rfl, I'⟩)))
  · exact oe_x_bad1 h0 T hS (Or.inr h) (br_f (by decide) (show wpY_parent _ _ _ from by unfold wpY_parent; dsimp only; exact oe_y_isPlace0 (Or.inr h) (br_t rfl ⟨rfl, I'⟩)))
  · have hx := T.2.1.1 (j + 1) (by omega)
    have ix := vp_in_nI hx (show 41 < 2 ^ 31 by decide)
    have hp := T.2.2.2.1 (j + 1) (by omega) (by omega)
    obtain ⟨p1, p2, p3⟩ := oe_pa T.1 (k := j + 1) (by omega) (by omega)
    have hl := oe_YF_b T.1 hm YF
    have hql := T.2.1.1 (oe_sc D (D (j + 1)) (j + 1)) (by omega)
    have eab : oe_A ab (nI (N (j + 1))).toNatClampNeg = nI (N (oe_sc D (D (j + 1)) (j + 1))) := by rw [oe_rd ab (by omega), hp]
    have W' : oe_W D (m - 1 + 1) := by rw [show m - 1 + 1 = m from by omega]; exact T.1
    have yy : ∀ post : Int32 → Prop, (oe_sc D (D (j + 1)) (j + 1) = 0 → post (-4)) → (0 < oe_sc D (D (j + 1)) (j + 1) → post (nI (oe_sc D (D (j + 1)) (j + 1) - 1))) → wpY_parent post (nI (m - 1), nI mk, oe_A yn, oe_A yl, oe_A yf, oe_A kn, oe_A kl, oe_A kf) (nI j) := by
      intro post K0 K1
      unfold wpY_parent
      dsimp only
      refine oe_y_isPlace1 (by omega) hj (br_f (by decide) ?_)
      refine nm_r (e' := oe_lv j) rfl ⟨j + 1, ?_⟩
      exact oe_parent_loop (by omega) hj (fun k hk => oe_YF_l YF k (by omega)) hl W' K0 K1 (j + 1) j (by omega) (by omega) (by omega)
    refine oe_x_bad0 hm h0 T hS (by omega) (br_t rfl (oe_x_nodeAt hm h0 (by omega) T hS (And.intro ix ?_)))
    rw [eab]
    rcases Nat.eq_zero_or_pos (oe_sc D (D (j + 1)) (j + 1)) with z | z
    · refine br_t (by rw [z, h0]; exact nI_0) (yy _ (fun _ => ⟨rfl, I'⟩) (fun u => by omega))
    · have := T.2.1.2.1 _ z (by omega)
      refine br_f (nI_ne0 this (by omega)) (And.intro ix (oe_x_placeOf hm h0 z (by omega) T hS ?_))
      exact yy _ (fun u => by omega) (fun _ => ⟨rfl, I'⟩)
theorem i_vc_under {k : Nat} {u : SX} {v : SY} (I : i_Rel k u v) (hk : k + 3 ≤ 1536) (v1 : Int32) : wpX_under (fun r => wpY_under (fun r' => r' = r ∧ i_Rel (k + 3) u v) v v1) u v1 := by
  have I' := i_up I
  obtain ⟨m, mk, N, D, fo, nm, us, ⟨ab, ch, nx, bf, sz, ri, rfl, XC, G⟩, ⟨yn, yl, yf, kn, kl, kf, rfl, YF, yf1, kf1⟩, hmk⟩ := I
  have hS := oe_XC_S XC
  obtain ⟨hm, h0, hf0, hfo, T, SR⟩ := XC
  unfold wpX_under wpY_under
  dsimp only
  rcases pk_ix v1 (n := m - 1) (by omega) with h | h | ⟨j, hj, rfl⟩
  · exact oe_x_bad1 h0 T hS (Or.inl h) (br_f (by decide) (oe_y_isPlace0 (Or.inl h) (br_t rfl ⟨rfl, I'⟩)))
  · exact oe_x_bad1 h0 T hS (Or.inr h) (br_f (by decide) (oe_y_isPlace0 (Or.inr h) (br_t rfl ⟨rfl, I'⟩)))
  · have hx := T.2.1.1 (j + 1) (by omega)
    have hx0 := T.2.1.2.1 (j + 1) (by omega) (by omega)
    have s := hS (j + 1) (by omega)
    unfold oe_S at s
    rw [oe_zp (by omega)] at s
    have e := oe_en_sh (D := D) (oe_YF_l YF) (j := j) (by omega)
    have l := oe_en_lt (D := yl) (m := m - 1) (k := j)
    refine oe_x_bad0 hm h0 T hS (by omega) (br_t rfl (oe_x_nodeAt hm h0 (by omega) T hS (And.intro (vp_in_nI hx (by decide)) ?_)))
    refine oe_y_isPlace1 (by omega) hj (br_f (by decide) (oe_y_endOf (by omega) hj (oe_YF_b T.1 hm YF) ⟨?_, I'⟩))
    rw [oe_rd sz (by omega), pk_sub (by omega), show sz (N (j + 1)) = oe_en yl (m - 1) j - j from by omega]
theorem i_vc_rows {k : Nat} {u : SX} {v : SY} (I : i_Rel k u v) (hk : k + 3 ≤ 1536) : wpX_rows (fun r => wpY_rows (fun r' => r' = r ∧ i_Rel (k + 3) u v) v) u := by
  have I' := i_up I
  obtain ⟨m, mk, N, D, fo, nm, us, ⟨ab, ch, nx, bf, sz, ri, rfl, XC, G⟩, ⟨yn, yl, yf, kn, kl, kf, rfl, YF, yf1, kf1⟩, hmk⟩ := I
  have s := oe_XC_R XC 0 XC.2.2.2.2.1.1.1
  obtain ⟨hm, h0, hf0, hfo, T, SR⟩ := XC
  have hmp := T.1.1
  unfold oe_R at s
  rw [h0, oe_z0, oe_vc_open, oe_en0 T.1, Nat.zero_add] at s
  refine ⟨m - 1 + 1, oe_rows_loop (by omega) yf1 (oe_YF_b T.1 hm YF) ⟨?_, I'⟩ (m - 1) 0 (by omega)⟩
  have e := oe_cn_sh h0 hf0 YF (t := m - 1) (by omega)
  exact congrArg nI (by omega)
theorem i_vc_row {k : Nat} {u : SX} {v : SY} (I : i_Rel k u v) (hk : k + 3 ≤ 1536) (v1 : Int32) : wpX_row (fun r => wpY_row (fun r' => r' = r ∧ i_Rel (k + 3) u v) v v1) u v1 := by
  have I' := i_up I
  obtain ⟨m, mk, N, D, fo, nm, us, ⟨ab, ch, nx, bf, sz, ri, rfl, XC, G⟩, ⟨yn, yl, yf, kn, kl, kf, rfl, YF, yf1, kf1⟩, hmk⟩ := I
  have hS := oe_XC_S XC
  have hR := oe_XC_R XC
  have s := hR 0 XC.2.2.2.2.1.1.1
  obtain ⟨hm, h0, hf0, hfo, T, SR⟩ := XC
  have hmp := T.1.1
  unfold oe_R at s
  rw [h0, oe_z0, oe_vc_open, oe_en0 T.1, Nat.zero_add] at s
  have e := oe_cn_sh h0 hf0 YF (t := m - 1) (by omega)
  have tl := oe_cn_le (oe_vs yf yl (m - 1) 0) 0 (m - 1)
  have hl := oe_YF_b T.1 hm YF
  have er : oe_A ri 0 = nI (oe_cn (oe_vs yf yl (m - 1) 0) 0 (m - 1)) := congrArg nI (by omega)
  have yy : ∀ post : Int32 → Prop, (∀ t, t < m - 1 → oe_vs yf yl (m - 1) 0 t → nI (oe_cn (oe_vs yf yl (m - 1) 0) 0 t) = v1 → post (nI t)) → ((∀ t, t < m - 1 → oe_vs yf yl (m - 1) 0 t → nI (oe_cn (oe_vs yf yl (m - 1) 0) 0 t) ≠ v1) → post (-4)) → wpY_row post (nI (m - 1), nI mk, oe_A yn, oe_A yl, oe_A yf, oe_A kn, oe_A kl, oe_A kf) v1 :=
    fun post K1 K0 => ⟨m - 1 + 1, oe_row_loop (by omega) yf1 hl K1 K0 (m - 1) 0 (by omega) (fun t ht => by omega)⟩
  rcases pk_ix v1 (n := oe_cn (oe_vs yf yl (m - 1) 0) 0 (m - 1)) (by omega) with h | h | ⟨r, hr, rfl⟩
  · refine br_t h (yy _ (fun t ht vt et => ?_) (fun _ => ⟨rfl, I'⟩))
    rw [← et] at h
    have := oe_cn_le (oe_vs yf yl (m - 1) 0) 0 t
    exact absurd h (nI_pos (by omega))
  · have hv : ¬ v1 < 0 := by
      intro h2
      have := nI_pos (n := oe_cn (oe_vs yf yl (m - 1) 0) 0 (m - 1)) (by omega)
      exact this (Int32.lt_of_le_of_lt h h2)
    refine br_f hv (br_f (by rw [er]; exact Int32.not_lt.mpr h) (yy _ (fun t ht vt et => ?_) (fun _ => ⟨rfl, I'⟩)))
    rw [← et] at h
    have c := oe_cn_lt (P := oe_vs yf yl (m - 1) 0) (lo := 0) (a := t) (b := m - 1) ht (by rw [Nat.zero_add]; exact vt)
    have := (nI_leI (by omega) (by omega)).mp h
    omega
  · obtain ⟨t, ht, vt, ct⟩ := oe_cn_find hr
    rw [Nat.zero_add] at vt
    have vP := (oe_vs_sh h0 hf0 YF (a := t) (by omega)).mpr vt
    have cP := oe_cn_sh h0 hf0 YF (t := t) (by omega)
    rw [ct] at cP
    refine br_f (nI_pos (by omega)) (br_t (by rw [er]; exact nI_lt hr (by omega)) ?_)
    have x := oe_x_rowNode (mk := mk) (us := us) (nm := nm) (sz := sz) (post := fun r => wpX_placeOf (fun r_14 => wpY_row (fun r' => r' = r_14 ∧ i_Rel (k + 3) (nI mk, oe_A us, oe_A nm, oe_A fo, oe_A ab, oe_A ch, oe_A nx, oe_A bf, oe_A sz, oe_A ri) (nI (m - 1), nI mk, oe_A yn, oe_A yl, oe_A yf, oe_A kn, oe_A kl, oe_A kf)) (nI (m - 1), nI mk, oe_A yn, oe_A yl, oe_A yf, oe_A kn, oe_A kl, oe_A kf) (nI (oe_cn (oe_vs (fun p => fo (N p)) D m 0) 1 (t + 1 - 1)))) (nI mk, oe_A us, oe_A nm, oe_A fo, oe_A ab, oe_A ch, oe_A nx, oe_A bf, oe_A sz, oe_A ri) r) hm h0 hf0 (P := t + 1) (by omega) (by omega) T hR vP
      (oe_x_placeOf hm h0 (by omega) (by omega) T hS (by
        rw [Nat.add_sub_cancel, cP]
        refine yy _ (fun t' ht' vt' et' => ⟨?_, I'⟩) (fun hno => absurd (by rw [ct]) (hno t ht vt))
        have l1 := oe_cn_le (oe_vs yf yl (m - 1) 0) 0 t'
        have e2 := (nI_eq (by omega) (by omega)).mp et'
        rcases Nat.lt_trichotomy t' t with z | z | z
        · have := oe_cn_lt (P := oe_vs yf yl (m - 1) 0) (lo := 0) z (by rw [Nat.zero_add]; exact vt')
          omega
        · rw [z]
        · have := oe_cn_lt (P := oe_vs yf yl (m - 1) 0) (lo := 0) z (by rw [Nat.zero_add]; exact vt)
          omega))
    rw [Nat.add_sub_cancel, cP] at x
    exact x
theorem i_vc_rowOf {k : Nat} {u : SX} {v : SY} (I : i_Rel k u v) (hk : k + 3 ≤ 1536) (v1 : Int32) : wpX_rowOf (fun r => wpY_rowOf (fun r' => r' = r ∧ i_Rel (k + 3) u v) v v1) u v1 := by
  have I' := i_up I
  obtain ⟨m, mk, N, D, fo, nm, us, ⟨ab, ch, nx, bf, sz, ri, rfl, XC, G⟩, ⟨yn, yl, yf, kn, kl, kf, rfl, YF, yf1, kf1⟩, hmk⟩ := I
  have hS := oe_XC_S XC
  have hR := oe_XC_R XC
  obtain ⟨hm, h0, hf0, hfo, T, SR⟩ := XC
  unfold wpX_rowOf wpY_rowOf
  dsimp only
  rcases pk_ix v1 (n := m - 1) (by omega) with h | h | ⟨j, hj, rfl⟩
  · exact oe_x_bad1 h0 T hS (Or.inl h) (br_f (by decide) (oe_y_isPlace0 (Or.inl h) (br_t rfl ⟨rfl, I'⟩)))
  · exact oe_x_bad1 h0 T hS (Or.inr h) (br_f (by decide) (oe_y_isPlace0 (Or.inr h) (br_t rfl ⟨rfl, I'⟩)))
  · have hl := oe_YF_b T.1 hm YF
    have vv := oe_vs_sh h0 hf0 YF (a := j) (by omega)
    have cc := oe_cn_sh h0 hf0 YF (t := j) (by omega)
    refine oe_x_bad0 hm h0 T hS (by omega) (br_t rfl (oe_x_nodeAt hm h0 (by omega) T hS ?_))
    refine oe_x_rowOf hm h0 hf0 hfo (by omega) (by omega) T hR (fun vk => ?_) (fun vk => ?_)
    · rw [Nat.add_sub_cancel, cc]
      refine oe_y_isPlace1 (by omega) hj (br_f (by decide) (oe_y_isVisible (by omega) hj yf1 hl (fun w => ?_) (fun w => absurd (vv.mp vk) w)))
      exact br_f (by decide) ⟨j + 1, oe_rowOfY_loop (by omega) hj yf1 hl ⟨rfl, I'⟩ j 0 (by omega)⟩
    · refine oe_y_isPlace1 (by omega) hj (br_f (by decide) (oe_y_isVisible (by omega) hj yf1 hl (fun w => absurd (vv.mpr w) vk) (fun w => ?_)))
      exact br_t rfl ⟨rfl, I'⟩
end
section
/-! bad places; link with its arguments by equations (printed by a program) -/
theorem oe_ps {post : Int32 → SX → Prop} {r r' : Int32} {u : SX} (e : r = r') (h : post r' u) : post r u := by rw [e]; exact h
theorem oe_qs {post : Int32 → SY → Prop} {r r' : Int32} {u : SY} (e : r = r') (h : post r' u) : post r u := by rw [e]; exact h
section
variable {m mk n w : Nat} {yn yl yf kn kl kf N D NB DB fo nm us ab ch nx bf sz ri : Nat → Nat}
theorem oe_X_addAfter_bad {post : Int32 → SX → Prop} {v : Int32} (XC : oe_XC m N D fo ab ch nx bf sz ri) (h : v < 0 ∨ nI (m - 1) ≤ v) (K : post (-1) (nI mk, oe_A us, oe_A nm, oe_A fo, oe_A ab, oe_A ch, oe_A nx, oe_A bf, oe_A sz, oe_A ri)) : wpX_addAfter post (nI mk, oe_A us, oe_A nm, oe_A fo, oe_A ab, oe_A ch, oe_A nx, oe_A bf, oe_A sz, oe_A ri) v := by
  unfold wpX_addAfter
  exact oe_x_bad1 XC.2.1 XC.2.2.2.2.1 (oe_XC_S XC) h (br_f (by decide) K)
theorem oe_Y_addAfter_bad {post : Int32 → SY → Prop} {v : Int32} (h : v < 0 ∨ nI n ≤ v) (K : post (-1) (nI n, nI mk, oe_A yn, oe_A yl, oe_A yf, oe_A kn, oe_A kl, oe_A kf)) : wpY_addAfter post (nI n, nI mk, oe_A yn, oe_A yl, oe_A yf, oe_A kn, oe_A kl, oe_A kf) v := by
  unfold wpY_addAfter
  exact oe_y_isPlace0 h (br_t rfl K)
theorem oe_X_addUnder_bad {post : Int32 → SX → Prop} {v : Int32} (XC : oe_XC m N D fo ab ch nx bf sz ri) (h : v < 0 ∨ nI (m - 1) ≤ v) (K : post (-1) (nI mk, oe_A us, oe_A nm, oe_A fo, oe_A ab, oe_A ch, oe_A nx, oe_A bf, oe_A sz, oe_A ri)) : wpX_addUnder post (nI mk, oe_A us, oe_A nm, oe_A fo, oe_A ab, oe_A ch, oe_A nx, oe_A bf, oe_A sz, oe_A ri) v := by
  unfold wpX_addUnder
  exact oe_x_bad1 XC.2.1 XC.2.2.2.2.1 (oe_XC_S XC) h (br_f (by decide) K)
theorem oe_Y_addUnder_bad {post : Int32 → SY → Prop} {v : Int32} (h : v < 0 ∨ nI n ≤ v) (K : post (-1) (nI n, nI mk, oe_A yn, oe_A yl, oe_A yf, oe_A kn, oe_A kl, oe_A kf)) : wpY_addUnder post (nI n, nI mk, oe_A yn, oe_A yl, oe_A yf, oe_A kn, oe_A kl, oe_A kf) v := by
  unfold wpY_addUnder
  exact oe_y_isPlace0 h (br_t rfl K)
theorem oe_X_remove_bad {post : Int32 → SX → Prop} {v : Int32} (XC : oe_XC m N D fo ab ch nx bf sz ri) (h : v < 0 ∨ nI (m - 1) ≤ v) (K : post (-1) (nI mk, oe_A us, oe_A nm, oe_A fo, oe_A ab, oe_A ch, oe_A nx, oe_A bf, oe_A sz, oe_A ri)) : wpX_remove post (nI mk, oe_A us, oe_A nm, oe_A fo, oe_A ab, oe_A ch, oe_A nx, oe_A bf, oe_A sz, oe_A ri) v := by
  unfold wpX_remove
  exact oe_x_bad1 XC.2.1 XC.2.2.2.2.1 (oe_XC_S XC) h (br_f (by decide) K)
theorem oe_Y_remove_bad {post : Int32 → SY → Prop} {v : Int32} (h : v < 0 ∨ nI n ≤ v) (K : post (-1) (nI n, nI mk, oe_A yn, oe_A yl, oe_A yf, oe_A kn, oe_A kl, oe_A kf)) : wpY_remove post (nI n, nI mk, oe_A yn, oe_A yl, oe_A yf, oe_A kn, oe_A kl, oe_A kf) v := by
  unfold wpY_remove
  exact oe_y_isPlace0 h (br_t rfl K)
theorem oe_X_dissolve_bad {post : Int32 → SX → Prop} {v : Int32} (XC : oe_XC m N D fo ab ch nx bf sz ri) (h : v < 0 ∨ nI (m - 1) ≤ v) (K : post (-1) (nI mk, oe_A us, oe_A nm, oe_A fo, oe_A ab, oe_A ch, oe_A nx, oe_A bf, oe_A sz, oe_A ri)) : wpX_dissolve post (nI mk, oe_A us, oe_A nm, oe_A fo, oe_A ab, oe_A ch, oe_A nx, oe_A bf, oe_A sz, oe_A ri) v := by
  unfold wpX_dissolve
  exact oe_x_bad1 XC.2.1 XC.2.2.2.2.1 (oe_XC_S XC) h (br_f (by decide) K)
theorem oe_Y_dissolve_bad {post : Int32 → SY → Prop} {v : Int32} (h : v < 0 ∨ nI n ≤ v) (K : post (-1) (nI n, nI mk, oe_A yn, oe_A yl, oe_A yf, oe_A kn, oe_A kl, oe_A kf)) : wpY_dissolve post (nI n, nI mk, oe_A yn, oe_A yl, oe_A yf, oe_A kn, oe_A kl, oe_A kf) v := by
  unfold wpY_dissolve
  exact oe_y_isPlace0 h (br_t rfl K)
theorem oe_X_indent_bad {post : Int32 → SX → Prop} {v : Int32} (XC : oe_XC m N D fo ab ch nx bf sz ri) (h : v < 0 ∨ nI (m - 1) ≤ v) (K : post (-1) (nI mk, oe_A us, oe_A nm, oe_A fo, oe_A ab, oe_A ch, oe_A nx, oe_A bf, oe_A sz, oe_A ri)) : wpX_indent post (nI mk, oe_A us, oe_A nm, oe_A fo, oe_A ab, oe_A ch, oe_A nx, oe_A bf, oe_A sz, oe_A ri) v := by
  unfold wpX_indent
  exact oe_x_bad1 XC.2.1 XC.2.2.2.2.1 (oe_XC_S XC) h (br_f (by decide) K)
theorem oe_Y_indent_bad {post : Int32 → SY → Prop} {v : Int32} (h : v < 0 ∨ nI n ≤ v) (K : post (-1) (nI n, nI mk, oe_A yn, oe_A yl, oe_A yf, oe_A kn, oe_A kl, oe_A kf)) : wpY_indent post (nI n, nI mk, oe_A yn, oe_A yl, oe_A yf, oe_A kn, oe_A kl, oe_A kf) v := by
  unfold wpY_indent
  exact oe_y_isPlace0 h (br_t rfl K)
theorem oe_X_outdent_bad {post : Int32 → SX → Prop} {v : Int32} (XC : oe_XC m N D fo ab ch nx bf sz ri) (h : v < 0 ∨ nI (m - 1) ≤ v) (K : post (-1) (nI mk, oe_A us, oe_A nm, oe_A fo, oe_A ab, oe_A ch, oe_A nx, oe_A bf, oe_A sz, oe_A ri)) : wpX_outdent post (nI mk, oe_A us, oe_A nm, oe_A fo, oe_A ab, oe_A ch, oe_A nx, oe_A bf, oe_A sz, oe_A ri) v := by
  unfold wpX_outdent
  exact oe_x_bad1 XC.2.1 XC.2.2.2.2.1 (oe_XC_S XC) h (br_f (by decide) K)
theorem oe_Y_outdent_bad {post : Int32 → SY → Prop} {v : Int32} (h : v < 0 ∨ nI n ≤ v) (K : post (-1) (nI n, nI mk, oe_A yn, oe_A yl, oe_A yf, oe_A kn, oe_A kl, oe_A kf)) : wpY_outdent post (nI n, nI mk, oe_A yn, oe_A yl, oe_A yf, oe_A kn, oe_A kl, oe_A kf) v := by
  unfold wpY_outdent
  exact oe_y_isPlace0 h (br_t rfl K)
theorem oe_X_up_bad {post : Int32 → SX → Prop} {v : Int32} (XC : oe_XC m N D fo ab ch nx bf sz ri) (h : v < 0 ∨ nI (m - 1) ≤ v) (K : post (-1) (nI mk, oe_A us, oe_A nm, oe_A fo, oe_A ab, oe_A ch, oe_A nx, oe_A bf, oe_A sz, oe_A ri)) : wpX_up post (nI mk, oe_A us, oe_A nm, oe_A fo, oe_A ab, oe_A ch, oe_A nx, oe_A bf, oe_A sz, oe_A ri) v := by
  unfold wpX_up
  exact oe_x_bad1 XC.2.1 XC.2.2.2.2.1 (oe_XC_S XC) h (br_f (by decide) K)
theorem oe_Y_up_bad {post : Int32 → SY → Prop} {v : Int32} (h : v < 0 ∨ nI n ≤ v) (K : post (-1) (nI n, nI mk, oe_A yn, oe_A yl, oe_A yf, oe_A kn, oe_A kl, oe_A kf)) : wpY_up post (nI n, nI mk, oe_A yn, oe_A yl, oe_A yf, oe_A kn, oe_A kl, oe_A kf) v := by
  unfold wpY_up
  exact oe_y_isPlace0 h (br_t rfl K)
theorem oe_X_down_bad {post : Int32 → SX → Prop} {v : Int32} (XC : oe_XC m N D fo ab ch nx bf sz ri) (h : v < 0 ∨ nI (m - 1) ≤ v) (K : post (-1) (nI mk, oe_A us, oe_A nm, oe_A fo, oe_A ab, oe_A ch, oe_A nx, oe_A bf, oe_A sz, oe_A ri)) : wpX_down post (nI mk, oe_A us, oe_A nm, oe_A fo, oe_A ab, oe_A ch, oe_A nx, oe_A bf, oe_A sz, oe_A ri) v := by
  unfold wpX_down
  exact oe_x_bad1 XC.2.1 XC.2.2.2.2.1 (oe_XC_S XC) h (br_f (by decide) K)
theorem oe_Y_down_bad {post : Int32 → SY → Prop} {v : Int32} (h : v < 0 ∨ nI n ≤ v) (K : post (-1) (nI n, nI mk, oe_A yn, oe_A yl, oe_A yf, oe_A kn, oe_A kl, oe_A kf)) : wpY_down post (nI n, nI mk, oe_A yn, oe_A yl, oe_A yf, oe_A kn, oe_A kl, oe_A kf) v := by
  unfold wpY_down
  exact oe_y_isPlace0 h (br_t rfl K)
theorem oe_X_reveal_bad {post : Int32 → SX → Prop} {v : Int32} (XC : oe_XC m N D fo ab ch nx bf sz ri) (h : v < 0 ∨ nI (m - 1) ≤ v) (K : post (-1) (nI mk, oe_A us, oe_A nm, oe_A fo, oe_A ab, oe_A ch, oe_A nx, oe_A bf, oe_A sz, oe_A ri)) : wpX_reveal post (nI mk, oe_A us, oe_A nm, oe_A fo, oe_A ab, oe_A ch, oe_A nx, oe_A bf, oe_A sz, oe_A ri) v := by
  unfold wpX_reveal
  exact oe_x_bad1 XC.2.1 XC.2.2.2.2.1 (oe_XC_S XC) h (br_f (by decide) K)
theorem oe_Y_reveal_bad {post : Int32 → SY → Prop} {v : Int32} (h : v < 0 ∨ nI n ≤ v) (K : post (-1) (nI n, nI mk, oe_A yn, oe_A yl, oe_A yf, oe_A kn, oe_A kl, oe_A kf)) : wpY_reveal post (nI n, nI mk, oe_A yn, oe_A yl, oe_A yf, oe_A kn, oe_A kl, oe_A kf) v := by
  unfold wpY_reveal
  exact oe_y_isPlace0 h (br_t rfl K)
theorem oe_X_fold_bad {post : Int32 → SX → Prop} {v v2 : Int32} (XC : oe_XC m N D fo ab ch nx bf sz ri) (h : v < 0 ∨ nI (m - 1) ≤ v) (K : post (-1) (nI mk, oe_A us, oe_A nm, oe_A fo, oe_A ab, oe_A ch, oe_A nx, oe_A bf, oe_A sz, oe_A ri)) : wpX_fold post (nI mk, oe_A us, oe_A nm, oe_A fo, oe_A ab, oe_A ch, oe_A nx, oe_A bf, oe_A sz, oe_A ri) v v2 := by
  unfold wpX_fold
  exact oe_x_bad1 XC.2.1 XC.2.2.2.2.1 (oe_XC_S XC) h (br_f (by decide) K)
theorem oe_Y_fold_bad {post : Int32 → SY → Prop} {v v2 : Int32} (h : v < 0 ∨ nI n ≤ v) (K : post (-1) (nI n, nI mk, oe_A yn, oe_A yl, oe_A yf, oe_A kn, oe_A kl, oe_A kf)) : wpY_fold post (nI n, nI mk, oe_A yn, oe_A yl, oe_A yf, oe_A kn, oe_A kl, oe_A kf) v v2 := by
  unfold wpY_fold
  exact oe_y_isPlace0 h (br_t rfl K)
theorem oe_X_moveUnder_bad {post : Int32 → SX → Prop} {v v2 : Int32} (XC : oe_XC m N D fo ab ch nx bf sz ri) (h : v < 0 ∨ nI (m - 1) ≤ v) (K : post (-1) (nI mk, oe_A us, oe_A nm, oe_A fo, oe_A ab, oe_A ch, oe_A nx, oe_A bf, oe_A sz, oe_A ri)) : wpX_moveUnder post (nI mk, oe_A us, oe_A nm, oe_A fo, oe_A ab, oe_A ch, oe_A nx, oe_A bf, oe_A sz, oe_A ri) v v2 := by
  unfold wpX_moveUnder
  exact oe_x_bad1 XC.2.1 XC.2.2.2.2.1 (oe_XC_S XC) h (br_f (by decide) K)
theorem oe_Y_moveUnder_bad {post : Int32 → SY → Prop} {v v2 : Int32} (h : v < 0 ∨ nI n ≤ v) (K : post (-1) (nI n, nI mk, oe_A yn, oe_A yl, oe_A yf, oe_A kn, oe_A kl, oe_A kf)) : wpY_moveUnder post (nI n, nI mk, oe_A yn, oe_A yl, oe_A yf, oe_A kn, oe_A kl, oe_A kf) v v2 := by
  unfold wpY_moveUnder
  exact oe_y_isPlace0 h (br_t rfl K)
theorem oe_X_moveUnder_bad2 {post : Int32 → SX → Prop} {v2 : Int32} {j : Nat} (XC : oe_XC m N D fo ab ch nx bf sz ri) (hj : j + 1 < m) (h : v2 < 0 ∨ nI (m - 1) ≤ v2) (K : post (-1) (nI mk, oe_A us, oe_A nm, oe_A fo, oe_A ab, oe_A ch, oe_A nx, oe_A bf, oe_A sz, oe_A ri)) : wpX_moveUnder post (nI mk, oe_A us, oe_A nm, oe_A fo, oe_A ab, oe_A ch, oe_A nx, oe_A bf, oe_A sz, oe_A ri) (nI j) v2 := by
  unfold wpX_moveUnder
  refine oe_x_bad0 XC.1 XC.2.1 XC.2.2.2.2.1 (oe_XC_S XC) hj (br_t rfl ?_)
  exact oe_x_bad1 XC.2.1 XC.2.2.2.2.1 (oe_XC_S XC) h (br_f (by decide) K)
theorem oe_Y_moveUnder_bad2 {post : Int32 → SY → Prop} {v2 : Int32} {j : Nat} (hn : n ≤ 40) (hj : j < n) (h : v2 < 0 ∨ nI n ≤ v2) (K : post (-1) (nI n, nI mk, oe_A yn, oe_A yl, oe_A yf, oe_A kn, oe_A kl, oe_A kf)) : wpY_moveUnder post (nI n, nI mk, oe_A yn, oe_A yl, oe_A yf, oe_A kn, oe_A kl, oe_A kf) (nI j) v2 := by
  unfold wpY_moveUnder
  refine oe_y_isPlace1 hn hj (br_f (by decide) ?_)
  exact oe_y_isPlace0 h (br_t rfl K)
/-- link with its arguments given by equations -/
theorem oe_x_linkE {post : SX → Prop} {a d p s : Nat} {xI pI sI : Int32} (ex : xI = nI (NB 0)) (ep : pI = nI p) (es : sI = nI s) (hm41 : m + w ≤ 41) (hfo : ∀ y, fo y ≤ 1) (h0 : N 0 = 0) (T : oe_T ab ch nx bf N D m) (TB : oe_T ab ch nx bf NB DB w) (hx : 0 < NB 0) (dj : ∀ k t, k < m → t < w → N k ≠ NB t)
    (ha : 0 < a) (hm : a ≤ m) (hd0 : 0 < d) (hd1 : d ≤ D (a - 1) + 1) (hd2 : a < m → D a ≤ d)
    (hp : p = N (oe_sc D d a)) (hs1 : D (oe_sc D (d + 1) a) = d → s = N (oe_sc D (d + 1) a)) (hs0 : D (oe_sc D (d + 1) a) ≠ d → s = 0)
    (hS : ∀ k, k < m → oe_SR sz ri fo N D m k) (hSB : ∀ t, t < w → oe_SR sz ri fo NB DB w t)
    (K : ∀ ab' ch' nx' bf' sz' ri', oe_T ab' ch' nx' bf' (oe_in N NB a w) (oe_in D (oe_ad DB d) a w) (m + w) → (∀ k, k < m + w → oe_SR sz' ri' fo (oe_in N NB a w) (oe_in D (oe_ad DB d) a w) (m + w) k) → post (nI mk, oe_A us, oe_A nm, oe_A fo, oe_A ab', oe_A ch', oe_A nx', oe_A bf', oe_A sz', oe_A ri')) :
    wpX_link post (nI mk, oe_A us, oe_A nm, oe_A fo, oe_A ab, oe_A ch, oe_A nx, oe_A bf, oe_A sz, oe_A ri) xI pI sI := by
  subst ex; subst ep; subst es
  exact oe_x_link hm41 hfo h0 T TB hx dj ha hm hd0 hd1 hd2 hp hs1 hs0 hS hSB K
end
end
section
/-! add, addAfter, addUnder, remove -/
section
variable {m mk a d x : Nat} {yn yl yf kn kl kf N D fo nm us ab ch nx bf sz ri : Nat → Nat}
theorem oe_Y_ins {post : Int32 → SY → Prop} (YF : oe_YF m N D fo nm yn yl yf) (hm : m < 41) (hm0 : 0 < m) (ha : a + 1 ≤ m) (d0 : 0 < d) (hx : ∀ k, k < m → N k ≠ x) (yf1 : ∀ y, yf y ≤ 1) (kf1 : ∀ y, kf y ≤ 1)
    (K : ∀ v', oe_YR (m + 1) (mk + 1) (oe_in N (fun _ => x) (a + 1) 1) (oe_in D (oe_ad (fun _ => 0) d) (a + 1) 1) (oe_u fo x 0) (oe_u nm x mk) v' → post (nI mk) v') : wpY_insert post (nI (m - 1), nI mk, oe_A yn, oe_A yl, oe_A yf, oe_A kn, oe_A kl, oe_A kf) (nI a) (nI (d - 1)) := by
  refine oe_y_insert (by omega) (by omega) yf1 (fun yn' yl' yf' e1 e2 e3 e4 => K _ ?_)
  refine ⟨yn', yl', yf', kn, kl, kf, ?_, oe_YF_ins YF hx ha hm0 d0 e1 e2 e3, e4, kf1⟩
  rw [show m - 1 + 1 = m + 1 - 1 from by omega]
theorem oe_XR_new {ab' ch' nx' bf' sz' ri' : Nat → Nat} (hm : m < 41) (h0 : N 0 = 0) (hf0 : fo 0 = 0) (hfo : ∀ y, fo y ≤ 1) (G : oe_G m mk N nm us) (x0 : 0 < x) (x1 : x < 41) (hx : us x = 0) (ha : 0 < a) (ham : a ≤ m)
    (T2 : oe_T ab' ch' nx' bf' (oe_in N (fun _ => x) a 1) (oe_in D (oe_ad (fun _ => 0) d) a 1) (m + 1)) (S2 : ∀ k, k < m + 1 → oe_SR sz' ri' (oe_u fo x 0) (oe_in N (fun _ => x) a 1) (oe_in D (oe_ad (fun _ => 0) d) a 1) (m + 1) k) :
    oe_XR (m + 1) (mk + 1) (oe_in N (fun _ => x) a 1) (oe_in D (oe_ad (fun _ => 0) d) a 1) (oe_u fo x 0) (oe_u nm x mk) (oe_u us x 1) (nI (mk + 1), oe_A (oe_u us x 1), oe_A (oe_u nm x mk), oe_A (oe_u fo x 0), oe_A ab', oe_A ch', oe_A nx', oe_A bf', oe_A sz', oe_A ri') :=
  ⟨ab', ch', nx', bf', sz', ri', rfl, ⟨by omega, by rw [oe_in1 ha]; exact h0, by rw [oe_un (by omega)]; exact hf0, oe_u_le hfo (by omega), T2, S2⟩, oe_G_new G x0 x1 hx ha ham⟩
theorem oe_add_loop {post : Int32 → SX → Prop} {l : Nat} (hm : m ≤ 41) (T : oe_T ab ch nx bf N D m) (K : ∀ f q, q < m → oe_en D m q = m → D q = l → wX_add_65 post (nI l) (nI mk) (oe_A us) (oe_A nm) (oe_A fo) (oe_A ab) (oe_A ch) (oe_A nx) (oe_A bf) (oe_A sz) (oe_A ri) (f + 1) (nI (N q)) (oe_lv (D q))) :
    ∀ f q, q < f → q < m → oe_en D m q = m → l ≤ D q → wX_add_65 post (nI l) (nI mk) (oe_A us) (oe_A nm) (oe_A fo) (oe_A ab) (oe_A ch) (oe_A nx) (oe_A bf) (oe_A sz) (oe_A ri) f (nI (N q)) (oe_lv (D q)) := by
  intro f
  induction f with
  | zero => intro q h; omega
  | succ f ih =>
    intro q hf hq he hl
    by_cases e : D q = l
    · exact K f q hq he e
    · have q0 : 0 < q := by
        rcases Nat.eq_zero_or_pos q with z | z
        · subst z; have := T.1.2.1; omega
        · exact z
      obtain ⟨p1, p2, p3⟩ := oe_pa T.1 q0 hq
      have pe := oe_pa_en T.1 q0 hq
      have pl := oe_en_le (D := D) (m := m) (k := oe_sc D (D q) q) (by omega)
      have hx := T.2.1.1 q hq
      have dl := oe_W_le T.1 q hq
      refine br_f (fun u => ?_) (And.intro (vp_in_nI hx (by decide)) ?_)
      · have := (oe_lv_lt (by omega) (by omega)).mp u
        omega
      · refine nm_r (e' := nI (N (oe_sc D (D q) q))) (by rw [oe_rd ab (by omega), T.2.2.2.1 q q0 hq]) (nm_r (e' := oe_lv (D (oe_sc D (D q) q))) ?_ ?_)
        · have e3 : oe_lv (D q) = nI (D (oe_sc D (D q) q)) := by
            have := oe_lvs (D (oe_sc D (D q) q))
            rw [p2] at this; exact this
          rw [e3, oe_lv_m1]
        · exact ih _ (by omega) (by omega) (by omega) (by omega)
theorem oe_remove_loop {post : Int32 → SX → Prop} {p w : Nat} {us0 : Nat → Nat} (hm : m ≤ 41) (h0 : N 0 = 0) (p0 : 0 < p) (hw : p + w ≤ m) (T : oe_T ab ch nx bf N D m)
    (K : ∀ us' y, (∀ s, s < w → us' (N (p + s)) = 0) → (∀ y, (∀ s, s < w → y ≠ N (p + s)) → us' y = us0 y) → wX_remove_29 post (nI (N p)) (nI w) (nI mk) 1 (nI y) (nI w) (oe_A us') (oe_A nm) (oe_A fo) (oe_A ab) (oe_A ch) (oe_A nx) (oe_A bf) (oe_A sz) (oe_A ri)) :
    ∀ f t us y, t + f = w → (t < w → y = N (p + t)) → (∀ s, s < t → us (N (p + s)) = 0) → (∀ y, (∀ s, s < t → y ≠ N (p + s)) → us y = us0 y) → wX_remove_29 post (nI (N p)) (nI w) (nI mk) (f + 1) (nI y) (nI t) (oe_A us) (oe_A nm) (oe_A fo) (oe_A ab) (oe_A ch) (oe_A nx) (oe_A bf) (oe_A sz) (oe_A ri) := by
  intro f
  induction f with
  | zero =>
    intro t us y ht hy h1 h2
    have e : t = w := by omega
    subst e
    exact K us y h1 h2
  | succ f ih =>
    intro t us y ht hy h1 h2
    have e := hy (by omega)
    subst e
    have hx := T.2.1.1 (p + t) (by omega)
    have n1 : ∀ s, s < t + 1 → oe_u us (N (p + t)) 0 (N (p + s)) = 0 := by
      intro s hs
      by_cases e2 : s = t
      · subst e2; exact oe_us
      · rw [oe_un (fun e3 => by have := T.2.1.2.2 _ _ (by omega) (by omega) e3; omega)]
        exact h1 s (by omega)
    have n2 : ∀ y, (∀ s, s < t + 1 → y ≠ N (p + s)) → oe_u us (N (p + t)) 0 y = us0 y := by
      intro y hy
      rw [oe_un (hy t (by omega))]
      exact h2 y (fun s hs => hy s (by omega))
    refine br_f (nI_ge (by omega) (by omega)) (And.intro (vp_in_nI hx (by decide)) (nm_r (e' := oe_A (oe_u us (N (p + t)) 0)) (by rw [oe_nar0, oe_st us 0 (by omega)]) ?_))
    refine oe_x_behind hm h0 (by omega) (by omega) T (fun u => ?_) (fun u => ?_)
    · exact nm_r (nI_1 t) (ih (t + 1) _ _ (by omega) (fun _ => rfl) n1 n2)
    · refine nm_r (nI_1 t) ?_
      exact ih (t + 1) _ 0 (by omega) (fun _ => by omega) n1 n2
theorem oe_G_cut {us' : Nat → Nat} {p w : Nat} (HN : oe_N N m) (G : oe_G m mk N nm us) (p0 : 0 < p) (hw : p + w ≤ m) (h1 : ∀ s, s < w → us' (N (p + s)) = 0) (h2 : ∀ y, (∀ s, s < w → y ≠ N (p + s)) → us' y = us y) : oe_G (m - w) mk (oe_cu N p w) nm us' := by
  have key : ∀ y, (∃ s, s < w ∧ y = N (p + s) ∧ us' y = 0) ∨ ((∀ s, s < w → y ≠ N (p + s)) ∧ us' y = us y) := by
    intro y
    rcases Classical.em (∃ s, s < w ∧ y = N (p + s)) with ⟨s, hs, e⟩ | h
    · exact Or.inl ⟨s, hs, e, by rw [e]; exact h1 s hs⟩
    · have : ∀ s, s < w → y ≠ N (p + s) := fun s hs e => h ⟨s, hs, e⟩
      exact Or.inr ⟨this, h2 y this⟩
  have k1 : ∀ y, us' y = 1 → us y = 1 := by
    intro y hy
    rcases key y with ⟨s, hs, e, e2⟩ | ⟨_, e⟩
    · omega
    · omega
  refine ⟨fun y => ?_, fun y y0 y1 => ?_, fun y y0 y1 hy => G.2.2.1 y y0 y1 (k1 y hy), fun y z y0 y1 z0 z1 hy hz e => G.2.2.2 y z y0 y1 z0 z1 (k1 y hy) (k1 z hz) e⟩
  · rcases key y with ⟨s, hs, e, e2⟩ | ⟨_, e⟩
    · omega
    · have := G.1 y; omega
  · rcases key y with ⟨s, hs, e, e2⟩ | ⟨e1, e⟩
    · constructor
      · intro h; omega
      · rintro ⟨k, k0, hk, ek⟩
        exact absurd (ek.trans e) (oe_cu_dj HN hw k s hk hs)
    · rw [e, G.2.1 y y0 y1, oe_E_cu p0 hw]
      exact ⟨fun h => h.elim id (fun ⟨t, ht, et⟩ => absurd et.symm (e1 t ht)), Or.inl⟩
theorem oe_X_addAfter {post : Int32 → SX → Prop} {j : Nat} (XC : oe_XC m N D fo ab ch nx bf sz ri) (G : oe_G m mk N nm us) (hj : j + 1 < m) (K0 : m = 41 → post (-2) (nI mk, oe_A us, oe_A nm, oe_A fo, oe_A ab, oe_A ch, oe_A nx, oe_A bf, oe_A sz, oe_A ri))
    (K : ∀ x u', m < 41 → (∀ k, k < m → N k ≠ x) → oe_XR (m + 1) (mk + 1) (oe_in N (fun _ => x) (oe_en D m (j + 1)) 1) (oe_in D (oe_ad (fun _ => 0) (D (j + 1))) (oe_en D m (j + 1)) 1) (oe_u fo x 0) (oe_u nm x mk) (oe_u us x 1) u' → post (nI mk) u') : wpX_addAfter post (nI mk, oe_A us, oe_A nm, oe_A fo, oe_A ab, oe_A ch, oe_A nx, oe_A bf, oe_A sz, oe_A ri) (nI j) := by
  have hS := oe_XC_S XC
  obtain ⟨hm, h0, hf0, hfo, T, SR⟩ := XC
  unfold wpX_addAfter
  refine oe_x_bad0 hm h0 T hS hj (br_t rfl ?_)
  by_cases h41 : m = 41
  · exact oe_x_full1 h0 T hS h41 (br_f (by decide) (K0 h41))
  · refine oe_x_full0 h0 T hS (by omega) (br_t rfl ?_)
    have hx := T.2.1.1 (j + 1) (by omega)
    refine oe_x_nodeAt hm h0 hj T hS ?_
    refine oe_x_fresh (by omega) hfo G.1 G.2.1 h0 T SR (fun x ch' sz' ri' x0 x1 hux hne T' SR' TB SRB => ?_)
    obtain ⟨a1, a2, a3, a4, a5, a6, a7⟩ := oe_at_behind T.1 (j := j + 1) (by omega) (by omega)
    refine And.intro (vp_in_nI hx (by decide)) ?_
    refine oe_x_linkE (NB := fun _ => x) (DB := fun _ => 0) (w := 1) (a := oe_en D m (j + 1)) (d := D (j + 1)) (p := ab (N (j + 1))) (s := N (j + 1)) rfl (oe_rd ab (by omega)) rfl (by omega) (oe_u_le hfo (by omega)) h0 T' TB x0 (fun k t hk _ => hne k hk) a1 a2 a3 a4 a5 (by rw [a6]; exact T.2.2.2.1 (j + 1) (by omega) (by omega)) (fun _ => by rw [a7]) (fun u => absurd (by rw [a7]) u) SR' SRB (fun ab' ch2 nx' bf' sz2 ri2 T2 S2 => ?_)
    refine And.intro (vp_in_nI x1 (by decide)) ?_
    exact oe_ps (by rw [oe_rd (oe_u nm x mk) (by omega), oe_us]) (K x _ (by omega) hne (oe_XR_new (by omega) h0 hf0 hfo G x0 x1 hux a1 a2 T2 S2))
theorem oe_Y_addAfter {post : Int32 → SY → Prop} {j : Nat} (YF : oe_YF m N D fo nm yn yl yf) (W : oe_W D m) (hm : m < 41) (hj : j + 1 < m) (hx : ∀ k, k < m → N k ≠ x) (yf1 : ∀ y, yf y ≤ 1) (kf1 : ∀ y, kf y ≤ 1)
    (K : ∀ v', oe_YR (m + 1) (mk + 1) (oe_in N (fun _ => x) (oe_en D m (j + 1)) 1) (oe_in D (oe_ad (fun _ => 0) (D (j + 1))) (oe_en D m (j + 1)) 1) (oe_u fo x 0) (oe_u nm x mk) v' → post (nI mk) v') : wpY_addAfter post (nI (m - 1), nI mk, oe_A yn, oe_A yl, oe_A yf, oe_A kn, oe_A kl, oe_A kf) (nI j) := by
  have hn40 : ¬ nI (m - 1) = 40 := fun u => absurd ((nI_eq (b := 40) (by omega) (by decide)).mp u) (by omega)
  have e := oe_en_sh (D := D) (oe_YF_l YF) hj
  have lm := oe_en_le (D := D) hj
  have l1 := (YF j hj).2.1
  unfold wpY_addAfter
  refine oe_y_isPlace1 (by omega) (by omega) (br_f (by decide) (br_f hn40 (oe_y_endOf (by omega) (by omega) (oe_YF_b W (by omega) YF) (And.intro (vp_in_nI (by omega) (by decide)) ?_))))
  rw [oe_rd yl (by omega), show yl j = D (j + 1) - 1 from by omega]
  refine oe_Y_ins YF hm (by omega) (by omega) (by omega) hx yf1 kf1 (fun v' Y2 => ?_)
  rw [← e] at Y2
  exact K v' Y2
theorem oe_X_addUnder {post : Int32 → SX → Prop} {j : Nat} (XC : oe_XC m N D fo ab ch nx bf sz ri) (G : oe_G m mk N nm us) (hj : j + 1 < m) (K0 : m = 41 → post (-2) (nI mk, oe_A us, oe_A nm, oe_A fo, oe_A ab, oe_A ch, oe_A nx, oe_A bf, oe_A sz, oe_A ri)) (K1 : m < 41 → D (j + 1) = 8 → post (-4) (nI mk, oe_A us, oe_A nm, oe_A fo, oe_A ab, oe_A ch, oe_A nx, oe_A bf, oe_A sz, oe_A ri))
    (K : ∀ x u', m < 41 → D (j + 1) ≠ 8 → (∀ k, k < m → N k ≠ x) → oe_XR (m + 1) (mk + 1) (oe_in N (fun _ => x) (j + 1 + 1) 1) (oe_in D (oe_ad (fun _ => 0) (D (j + 1) + 1)) (j + 1 + 1) 1) (oe_u fo x 0) (oe_u nm x mk) (oe_u us x 1) u' → post (nI mk) u') : wpX_addUnder post (nI mk, oe_A us, oe_A nm, oe_A fo, oe_A ab, oe_A ch, oe_A nx, oe_A bf, oe_A sz, oe_A ri) (nI j) := by
  have hS := oe_XC_S XC
  obtain ⟨hm, h0, hf0, hfo, T, SR⟩ := XC
  unfold wpX_addUnder
  refine oe_x_bad0 hm h0 T hS hj (br_t rfl ?_)
  by_cases h41 : m = 41
  · exact oe_x_full1 h0 T hS h41 (br_f (by decide) (K0 h41))
  · refine oe_x_full0 h0 T hS (by omega) (br_t rfl ?_)
    have hx := T.2.1.1 (j + 1) (by omega)
    have dl := oe_W_le T.1 (j + 1) hj
    have dp := (T.1.2.2 (j + 1) (by omega) hj).1
    refine oe_x_nodeAt hm h0 hj T hS ?_
    refine oe_x_levelOf hm h0 hj T ?_
    have e7 : oe_lv (D (j + 1)) = 7 ↔ D (j + 1) = 8 := by
      rw [oe_lvp dp]
      have := nI_eq (a := D (j + 1) - 1) (b := 7) (by omega) (by decide)
      exact this.trans ⟨fun h => by omega, fun h => by omega⟩
    by_cases h8 : D (j + 1) = 8
    · exact br_t (e7.mpr h8) (K1 (by omega) h8)
    · refine br_f (fun u => h8 (e7.mp u)) ?_
      refine oe_x_fresh (by omega) hfo G.1 G.2.1 h0 T SR (fun x ch' sz' ri' x0 x1 hux hne T' SR' TB SRB => ?_)
      obtain ⟨a1, a2, a3, a4, a5, a6, a7⟩ := oe_at_first T.1 (q := j + 1) hj
      refine oe_x_linkE (NB := fun _ => x) (DB := fun _ => 0) (w := 1) (a := j + 1 + 1) (d := D (j + 1) + 1) (p := N (j + 1)) (s := 0) rfl rfl rfl (by omega) (oe_u_le hfo (by omega)) h0 T' TB x0 (fun k t hk _ => hne k hk) a1 a2 a3 a4 a5 (by rw [a6]) (fun u => by rw [a7] at u; omega) (fun _ => rfl) SR' SRB (fun ab' ch2 nx' bf' sz2 ri2 T2 S2 => ?_)
      refine And.intro (vp_in_nI x1 (by decide)) ?_
      exact oe_ps (by rw [oe_rd (oe_u nm x mk) (by omega), oe_us]) (K x _ (by omega) h8 hne (oe_XR_new (by omega) h0 hf0 hfo G x0 x1 hux a1 a2 T2 S2))
theorem oe_Y_addUnder {post : Int32 → SY → Prop} {j : Nat} (YF : oe_YF m N D fo nm yn yl yf) (W : oe_W D m) (hm : m < 41) (hj : j + 1 < m) (yf1 : ∀ y, yf y ≤ 1) (kf1 : ∀ y, kf y ≤ 1) (K1 : D (j + 1) = 8 → post (-4) (nI (m - 1), nI mk, oe_A yn, oe_A yl, oe_A yf, oe_A kn, oe_A kl, oe_A kf))
    (K : D (j + 1) ≠ 8 → (∀ k, k < m → N k ≠ x) ∧ ∀ v', oe_YR (m + 1) (mk + 1) (oe_in N (fun _ => x) (j + 1 + 1) 1) (oe_in D (oe_ad (fun _ => 0) (D (j + 1) + 1)) (j + 1 + 1) 1) (oe_u fo x 0) (oe_u nm x mk) v' → post (nI mk) v') : wpY_addUnder post (nI (m - 1), nI mk, oe_A yn, oe_A yl, oe_A yf, oe_A kn, oe_A kl, oe_A kf) (nI j) := by
  have hn40 : ¬ nI (m - 1) = 40 := fun u => absurd ((nI_eq (b := 40) (by omega) (by decide)).mp u) (by omega)
  have l1 := (YF j hj).2.1
  have lb := oe_YF_b W (by omega) YF j (by omega)
  unfold wpY_addUnder
  refine oe_y_isPlace1 (by omega) (by omega) (br_f (by decide) (br_f hn40 (And.intro (vp_in_nI (by omega) (by decide)) ?_)))
  rw [oe_rd yl (by omega)]
  by_cases h8 : D (j + 1) = 8
  · exact br_t ((nI_eq (b := 7) (by omega) (by decide)).mpr (by omega)) (K1 h8)
  · obtain ⟨hx, K⟩ := K h8
    refine br_f (fun u => absurd ((nI_eq (b := 7) (by omega) (by decide)).mp u) (by omega)) (And.intro (vp_in_nI (by omega) (by decide)) ?_)
    rw [nI_1, nI_1, show yl j + 1 = D (j + 1) + 1 - 1 from by omega]
    exact oe_Y_ins YF hm (by omega) (by omega) (by omega) hx yf1 kf1 K
theorem oe_X_add {post : Int32 → SX → Prop} {l : Nat} (XC : oe_XC m N D fo ab ch nx bf sz ri) (G : oe_G m mk N nm us) (hl : l ≤ 7) (K0 : m = 41 → post (-2) (nI mk, oe_A us, oe_A nm, oe_A fo, oe_A ab, oe_A ch, oe_A nx, oe_A bf, oe_A sz, oe_A ri)) (K1 : m < 41 → D (m - 1) < l → post (-4) (nI mk, oe_A us, oe_A nm, oe_A fo, oe_A ab, oe_A ch, oe_A nx, oe_A bf, oe_A sz, oe_A ri))
    (K : ∀ x u', m < 41 → l ≤ D (m - 1) → (∀ k, k < m → N k ≠ x) → oe_XR (m + 1) (mk + 1) (oe_in N (fun _ => x) m 1) (oe_in D (oe_ad (fun _ => 0) (l + 1)) m 1) (oe_u fo x 0) (oe_u nm x mk) (oe_u us x 1) u' → post (nI mk) u') : wpX_add post (nI mk, oe_A us, oe_A nm, oe_A fo, oe_A ab, oe_A ch, oe_A nx, oe_A bf, oe_A sz, oe_A ri) (nI l) := by
  have hS := oe_XC_S XC
  obtain ⟨hm, h0, hf0, hfo, T, SR⟩ := XC
  have hm0 := T.1.1
  unfold wpX_add
  refine br_f (nI_pos (by omega)) (br_t (nI_le (b := 7) hl (by decide)) ?_)
  by_cases h41 : m = 41
  · exact oe_x_full1 h0 T hS h41 (br_f (by decide) (K0 h41))
  · refine oe_x_full0 h0 T hS (by omega) (br_t rfl ?_)
    have dl := oe_W_le T.1 (m - 1) (by omega)
    have elast : oe_en D m (m - 1) = m := oe_en_eq (by omega) (by omega) (fun q q1 q2 => by omega) (fun u => by omega)
    have s0 := hS 0 hm0
    unfold oe_S at s0
    rw [h0, oe_z0, oe_en0 T.1] at s0
    have es : oe_A sz 0 = nI (m - 1) := congrArg nI (by omega)
    have main : wX_add_46 post (nI l) (nI (N (m - 1))) (nI mk) (oe_A us) (oe_A nm) (oe_A fo) (oe_A ab) (oe_A ch) (oe_A nx) (oe_A bf) (oe_A sz) (oe_A ri) := by
      unfold wX_add_46
      refine oe_x_levelOf hm h0 (by omega) T ?_
      have ed : oe_lv (D (m - 1)) + 1 = nI (D (m - 1)) := by rw [oe_lv1, oe_lvs]
      by_cases hc : l ≤ D (m - 1)
      · refine br_t (by rw [ed]; exact nI_le hc (by omega)) ⟨m + 1, ?_⟩
        refine oe_add_loop hm T (fun f q hq he hql => ?_) (m + 1) (m - 1) (by omega) (by omega) elast hc
        refine br_t ((oe_lv_lt (by omega) (by omega)).mpr (by omega)) ?_
        refine oe_x_fresh (by omega) hfo G.1 G.2.1 h0 T SR (fun x ch' sz' ri' x0 x1 hux hne T' SR' TB SRB => ?_)
        refine oe_x_lastChild hm hq T' (fun s s1 s0 => ?_)
        obtain ⟨a1, a2, a3, a4, a5, a6⟩ := oe_at_last T.1 (q := q) hq
        rw [he, hql] at s1 s0 a6
        rw [he] at a1 a2 a5
        refine oe_x_linkE (NB := fun _ => x) (DB := fun _ => 0) (w := 1) (a := m) (d := l + 1) (p := N q) (s := s) rfl rfl rfl (by omega) (oe_u_le hfo (by omega)) h0 T' TB x0 (fun k t hk _ => hne k hk) a1 a2 (by omega) (by omega) (fun u => by omega) (by rw [a6]) s1 s0 SR' SRB (fun ab' ch2 nx' bf' sz2 ri2 T2 S2 => ?_)
        refine And.intro (vp_in_nI x1 (by decide)) ?_
        exact oe_ps (by rw [oe_rd (oe_u nm x mk) (by omega), oe_us]) (K x _ (by omega) hc hne (oe_XR_new (by omega) h0 hf0 hfo G x0 x1 hux a1 a2 T2 S2))
      · exact br_f (by rw [ed]; exact nI_ge (by omega) (by omega)) (K1 (by omega) (by omega))
    by_cases hz : m - 1 = 0
    · refine br_t (by rw [es, hz, nI_0]; exact Int32.le_refl _) ?_
      have e0 : nI (N (m - 1)) = 0 := by rw [hz, h0]; exact nI_0
      rw [e0] at main
      exact main
    · refine br_f (by rw [es]; exact nI_nle (by omega) (by omega)) ?_
      have ep : oe_A sz 0 - 1 = nI (m - 2) := by rw [es, show m - 1 = m - 2 + 1 from by omega, nI_pred]
      rw [ep]
      refine oe_x_nodeAt hm h0 (by omega) T hS ?_
      rw [show m - 2 + 1 = m - 1 from by omega]
      exact main
theorem oe_Y_add {post : Int32 → SY → Prop} {l : Nat} (YF : oe_YF m N D fo nm yn yl yf) (W : oe_W D m) (hm : m < 41) (hl : l ≤ 7) (yf1 : ∀ y, yf y ≤ 1) (kf1 : ∀ y, kf y ≤ 1) (K1 : D (m - 1) < l → post (-4) (nI (m - 1), nI mk, oe_A yn, oe_A yl, oe_A yf, oe_A kn, oe_A kl, oe_A kf))
    (K : l ≤ D (m - 1) → (∀ k, k < m → N k ≠ x) ∧ ∀ v', oe_YR (m + 1) (mk + 1) (oe_in N (fun _ => x) m 1) (oe_in D (oe_ad (fun _ => 0) (l + 1)) m 1) (oe_u fo x 0) (oe_u nm x mk) v' → post (nI mk) v') : wpY_add post (nI (m - 1), nI mk, oe_A yn, oe_A yl, oe_A yf, oe_A kn, oe_A kl, oe_A kf) (nI l) := by
  have hn40 : ¬ nI (m - 1) = 40 := fun u => absurd ((nI_eq (b := 40) (by omega) (by decide)).mp u) (by omega)
  have hm0 := W.1
  have dl := oe_W_le W (m - 1) (by omega)
  unfold wpY_add
  refine br_f (nI_pos (by omega)) (br_t (nI_le (b := 7) hl (by decide)) (br_f hn40 ?_))
  have fin : ∀ z : Int32, z + 1 = nI (D (m - 1)) → wY_add_46 post (nI l) z (nI (m - 1)) (nI mk) (oe_A yn) (oe_A yl) (oe_A yf) (oe_A kn) (oe_A kl) (oe_A kf) := by
    intro z hz
    unfold wY_add_46
    by_cases hc : l ≤ D (m - 1)
    · obtain ⟨hx, K⟩ := K hc
      refine br_t (by rw [hz]; exact nI_le hc (by omega)) ?_
      have := oe_Y_ins (post := post) (a := m - 1) (d := l + 1) (x := x) (mk := mk) (kn := kn) (kl := kl) YF hm hm0 (by omega) (by omega) hx yf1 kf1 (fun v' Y2 => by rw [show m - 1 + 1 = m from by omega] at Y2; exact K v' Y2)
      exact this
    · exact br_f (by rw [hz]; exact nI_ge (by omega) (by omega)) (K1 (by omega))
  by_cases hz : m - 1 = 0
  · refine br_t (by rw [hz]; exact nI_0) (fin _ ?_)
    rw [hz, W.2.1]; rfl
  · have l1 := (YF (m - 2) (by omega)).2.1
    have ep : nI (m - 1) - 1 = nI (m - 2) := by rw [show m - 1 = m - 2 + 1 from by omega, nI_pred]
    refine br_f (nI_ne0 (by omega) (by omega)) ?_
    rw [ep]
    refine And.intro (vp_in_nI (by omega) (by decide)) (fin _ ?_)
    rw [oe_rd yl (by omega), nI_1, l1, show m - 2 + 1 = m - 1 from by omega]
theorem oe_X_remove {post : Int32 → SX → Prop} {j w : Nat} (XC : oe_XC m N D fo ab ch nx bf sz ri) (G : oe_G m mk N nm us) (hj : j + 1 < m) (hw : oe_en D m (j + 1) = j + 1 + w)
    (K : ∀ us' u', oe_XR (m - w) mk (oe_cu N (j + 1) w) (oe_cu D (j + 1) w) fo nm us' u' → post (nI w) u') : wpX_remove post (nI mk, oe_A us, oe_A nm, oe_A fo, oe_A ab, oe_A ch, oe_A nx, oe_A bf, oe_A sz, oe_A ri) (nI j) := by
  have hS := oe_XC_S XC
  obtain ⟨hm, h0, hf0, hfo, T, SR⟩ := XC
  have hx := T.2.1.1 (j + 1) hj
  have hx0 := T.2.1.2.1 (j + 1) (by omega) hj
  have s := hS (j + 1) hj
  unfold oe_S at s
  rw [oe_zp (by omega)] at s
  have lm := oe_en_le (D := D) hj
  unfold wpX_remove
  refine oe_x_bad0 hm h0 T hS hj (br_t rfl (oe_x_nodeAt hm h0 hj T hS (And.intro (vp_in_nI hx (by decide)) (nm_r (e' := nI w) (by rw [oe_rd sz (by omega)]; exact congrArg nI (by omega)) ⟨w + 1, ?_⟩))))
  refine oe_remove_loop (us0 := us) hm h0 (by omega) (by omega) T (fun us' y u1 u2 => ?_) w 0 us (N (j + 1)) (by omega) (fun _ => rfl) (fun s hs => by omega) (fun _ _ => rfl)
  refine br_t (nI_le (Nat.le_refl _) (by omega)) ?_
  refine oe_x_unlink hm hfo h0 (by omega) hj T SR (fun ch' nx' bf' sz' ri' T1 S1 T2 S2 => ?_)
  rw [show oe_en D m (j + 1) - (j + 1) = w from by omega] at T1 S1
  exact K us' _ ⟨_, _, _, _, _, _, rfl, ⟨by omega, by rw [oe_cu1 (by omega)]; exact h0, hf0, hfo, T1, S1⟩, oe_G_cut T.2.1 G (by omega) (by omega) u1 u2⟩
theorem oe_Y_remove {post : Int32 → SY → Prop} {j w : Nat} (YF : oe_YF m N D fo nm yn yl yf) (W : oe_W D m) (hm : m ≤ 41) (hj : j + 1 < m) (hw : oe_en D m (j + 1) = j + 1 + w) (yf1 : ∀ y, yf y ≤ 1) (kf1 : ∀ y, kf y ≤ 1)
    (K : ∀ v', oe_YR (m - w) mk (oe_cu N (j + 1) w) (oe_cu D (j + 1) w) fo nm v' → post (nI w) v') : wpY_remove post (nI (m - 1), nI mk, oe_A yn, oe_A yl, oe_A yf, oe_A kn, oe_A kl, oe_A kf) (nI j) := by
  have e := oe_en_sh (D := D) (oe_YF_l YF) hj
  have lm := oe_en_le (D := D) hj
  have hw2 : oe_en yl (m - 1) j = j + w := by omega
  unfold wpY_remove
  refine oe_y_isPlace1 (by omega) (by omega) (br_f (by decide) (oe_y_endOf (by omega) (by omega) (oe_YF_b W hm YF) ?_))
  rw [hw2]
  refine oe_y_delete (by omega) (by omega) yf1 (fun yn' yl' yf' e1 e2 e3 e4 => ?_)
  refine oe_qs (by rw [pk_sub (by omega), Nat.add_sub_cancel_left]) (K _ ⟨yn', yl', yf', kn, kl, kf, ?_, oe_YF_del YF (by omega) e1 e2 e3, e4, kf1⟩)
  rw [show m - w - 1 = m - 1 - w from by omega]
end
theorem i_vc_addAfter {k : Nat} {u : SX} {v : SY} (I : i_Rel k u v) (hk : k + 3 ≤ 1536) (v1 : Int32) : wpX_addAfter (fun r u' => wpY_addAfter (fun r' v' => r' = r ∧ i_Rel (k + 3) u' v') v v1) u v1 := by
  have I' := i_up I
  obtain ⟨m, mk, N, D, fo, nm, us, ⟨ab, ch, nx, bf, sz, ri, rfl, XC, G⟩, ⟨yn, yl, yf, kn, kl, kf, rfl, YF, yf1, kf1⟩, hmk⟩ := I
  have hm := XC.1
  have W := XC.2.2.2.2.1.1
  rcases pk_ix v1 (n := m - 1) (by omega) with h | h | ⟨j, hj, rfl⟩
  · exact oe_X_addAfter_bad XC (Or.inl h) (oe_Y_addAfter_bad (Or.inl h) ⟨rfl, I'⟩)
  · exact oe_X_addAfter_bad XC (Or.inr h) (oe_Y_addAfter_bad (Or.inr h) ⟨rfl, I'⟩)
  · refine oe_X_addAfter XC G (by omega) (fun h41 => ?_) (fun x u' h41 hne X2 => ?_)
    · unfold wpY_addAfter
      exact oe_y_isPlace1 (by omega) hj (br_f (by decide) (br_t (by rw [h41]; rfl) ⟨rfl, I'⟩))
    · exact oe_Y_addAfter YF W h41 (by omega) hne yf1 kf1 (fun v' Y2 => ⟨rfl, _, _, _, _, _, _, _, X2, Y2, by omega⟩)
theorem i_vc_addUnder {k : Nat} {u : SX} {v : SY} (I : i_Rel k u v) (hk : k + 3 ≤ 1536) (v1 : Int32) : wpX_addUnder (fun r u' => wpY_addUnder (fun r' v' => r' = r ∧ i_Rel (k + 3) u' v') v v1) u v1 := by
  have I' := i_up I
  obtain ⟨m, mk, N, D, fo, nm, us, ⟨ab, ch, nx, bf, sz, ri, rfl, XC, G⟩, ⟨yn, yl, yf, kn, kl, kf, rfl, YF, yf1, kf1⟩, hmk⟩ := I
  have hm := XC.1
  have W := XC.2.2.2.2.1.1
  rcases pk_ix v1 (n := m - 1) (by omega) with h | h | ⟨j, hj, rfl⟩
  · exact oe_X_addUnder_bad XC (Or.inl h) (oe_Y_addUnder_bad (Or.inl h) ⟨rfl, I'⟩)
  · exact oe_X_addUnder_bad XC (Or.inr h) (oe_Y_addUnder_bad (Or.inr h) ⟨rfl, I'⟩)
  · refine oe_X_addUnder XC G (by omega) (fun h41 => ?_) (fun h41 h8 => ?_) (fun x u' h41 h8 hne X2 => ?_)
    · unfold wpY_addUnder
      exact oe_y_isPlace1 (by omega) hj (br_f (by decide) (br_t (by rw [h41]; rfl) ⟨rfl, I'⟩))
    · exact oe_Y_addUnder (x := 0) YF W h41 (by omega) yf1 kf1 (fun _ => ⟨rfl, I'⟩) (fun u => absurd h8 u)
    · exact oe_Y_addUnder YF W h41 (by omega) yf1 kf1 (fun u => absurd u h8) (fun _ => ⟨hne, fun v' Y2 => ⟨rfl, _, _, _, _, _, _, _, X2, Y2, by omega⟩⟩)
theorem i_vc_add {k : Nat} {u : SX} {v : SY} (I : i_Rel k u v) (hk : k + 3 ≤ 1536) (v1 : Int32) : wpX_add (fun r u' => wpY_add (fun r' v' => r' = r ∧ i_Rel (k + 3) u' v') v v1) u v1 := by
  have I' := i_up I
  obtain ⟨m, mk, N, D, fo, nm, us, ⟨ab, ch, nx, bf, sz, ri, rfl, XC, G⟩, ⟨yn, yl, yf, kn, kl, kf, rfl, YF, yf1, kf1⟩, hmk⟩ := I
  have hm := XC.1
  have W := XC.2.2.2.2.1.1
  by_cases hneg : v1 < 0
  · unfold wpX_add wpY_add
    exact br_t hneg (br_t hneg ⟨rfl, I'⟩)
  · by_cases h7 : v1 ≤ 7
    · obtain ⟨l, hl7, rfl⟩ := nI_of2 (n := 7) (show (7 : Int32).toInt = (7 : Nat) from by decide) hneg h7
      refine oe_X_add XC G hl7 (fun h41 => ?_) (fun h41 h8 => ?_) (fun x u' h41 h8 hne X2 => ?_)
      · unfold wpY_add
        exact br_f hneg (br_t h7 (br_t (by rw [h41]; rfl) ⟨rfl, I'⟩))
      · exact oe_Y_add (x := 0) YF W h41 hl7 yf1 kf1 (fun _ => ⟨rfl, I'⟩) (fun u => by omega)
      · exact oe_Y_add YF W h41 hl7 yf1 kf1 (fun u => by omega) (fun _ => ⟨hne, fun v' Y2 => ⟨rfl, _, _, _, _, _, _, _, X2, Y2, by omega⟩⟩)
    · unfold wpX_add wpY_add
      exact br_f hneg (br_f h7 (br_f hneg (br_f h7 ⟨rfl, I'⟩)))
theorem i_vc_remove {k : Nat} {u : SX} {v : SY} (I : i_Rel k u v) (hk : k + 3 ≤ 1536) (v1 : Int32) : wpX_remove (fun r u' => wpY_remove (fun r' v' => r' = r ∧ i_Rel (k + 3) u' v') v v1) u v1 := by
  have I' := i_up I
  obtain ⟨m, mk, N, D, fo, nm, us, ⟨ab, ch, nx, bf, sz, ri, rfl, XC, G⟩, ⟨yn, yl, yf, kn, kl, kf, rfl, YF, yf1, kf1⟩, hmk⟩ := I
  have hm := XC.1
  have W := XC.2.2.2.2.1.1
  rcases pk_ix v1 (n := m - 1) (by omega) with h | h | ⟨j, hj, rfl⟩
  · exact oe_X_remove_bad XC (Or.inl h) (oe_Y_remove_bad (Or.inl h) ⟨rfl, I'⟩)
  · exact oe_X_remove_bad XC (Or.inr h) (oe_Y_remove_bad (Or.inr h) ⟨rfl, I'⟩)
  · obtain ⟨w, hw⟩ : ∃ w, oe_en D m (j + 1) = j + 1 + w := ⟨oe_en D m (j + 1) - (j + 1), by have := oe_en_lt (D := D) (m := m) (k := j + 1); omega⟩
    exact oe_X_remove XC G (by omega) hw (fun us' u' X2 => oe_Y_remove YF W hm (by omega) hw yf1 kf1 (fun v' Y2 => ⟨rfl, _, _, _, _, _, _, _, X2, Y2, by omega⟩))
end
section
/-! indent, up, down, moveUnder -/
theorem oe_win_ge {D : Nat → Nat} {m p w t : Nat} (hw : oe_en D m p = p + w) (ht : t < w) : D p ≤ D (p + t) := by
  by_cases t0 : t = 0
  · subst t0; exact Nat.le_refl _
  · have := oe_en_in (D := D) (m := m) (k := p) (q := p + t) (by omega) (by omega)
    omega
theorem oe_mx_congr {D D' : Nat → Nat} {lo lo' : Nat} : ∀ {n : Nat}, (∀ t, t < n → D (lo + t) = D' (lo' + t)) → oe_mx D lo n = oe_mx D' lo' n
  | 0, _ => rfl
  | n + 1, h => by
    unfold oe_mx
    rw [oe_mx_congr (n := n) (fun t ht => h t (by omega)), h n (by omega)]
section
variable {m mk w p a d : Nat} {yn yl yf kn kl kf N D NB DB fo nm us ab ch nx bf sz ri : Nat → Nat}
theorem oe_x_levelOfE {post : Int32 → Prop} {k : Nat} {xI : Int32} (e : xI = nI (N k)) (hm : m ≤ 41) (h0 : N 0 = 0) (hk : k < m) (T : oe_T ab ch nx bf N D m) (K : post (oe_lv (D k))) : wpX_levelOf post (nI mk, oe_A us, oe_A nm, oe_A fo, oe_A ab, oe_A ch, oe_A nx, oe_A bf, oe_A sz, oe_A ri) xI := by
  subst e; exact oe_x_levelOf hm h0 hk T K
theorem oe_x_placeOfE {post : Int32 → Prop} {k : Nat} {xI : Int32} (e : xI = nI (N k)) (hm : m ≤ 41) (h0 : N 0 = 0) (k0 : 0 < k) (hk : k < m) (T : oe_T ab ch nx bf N D m) (hS : ∀ k, k < m → oe_S sz N D m k) (K : post (nI (k - 1))) : wpX_placeOf post (nI mk, oe_A us, oe_A nm, oe_A fo, oe_A ab, oe_A ch, oe_A nx, oe_A bf, oe_A sz, oe_A ri) xI := by
  subst e; exact oe_x_placeOf hm h0 k0 hk T hS K
theorem oe_x_lastChildE {post : Int32 → Prop} {q : Nat} {xI : Int32} (e : xI = nI (N q)) (hm : m ≤ 41) (hq : q < m) (T : oe_T ab ch nx bf N D m)
    (K : ∀ s, (D (oe_sc D (D q + 1 + 1) (oe_en D m q)) = D q + 1 → s = N (oe_sc D (D q + 1 + 1) (oe_en D m q))) → (D (oe_sc D (D q + 1 + 1) (oe_en D m q)) ≠ D q + 1 → s = 0) → post (nI s)) :
    wpX_lastChild post (nI mk, oe_A us, oe_A nm, oe_A fo, oe_A ab, oe_A ch, oe_A nx, oe_A bf, oe_A sz, oe_A ri) xI := by
  subst e; exact oe_x_lastChild hm hq T K
theorem oe_XR_mv {ab' ch' nx' bf' sz' ri' : Nat → Nat} (hm : m ≤ 41) (h0 : N 0 = 0) (hf0 : fo 0 = 0) (hfo : ∀ y, fo y ≤ 1) (G : oe_G m mk N nm us) (p0 : 0 < p) (hw : p + w ≤ m) (a0 : 0 < a) (ha : a ≤ m - w)
    (T2 : oe_T ab' ch' nx' bf' (oe_in (oe_cu N p w) (oe_sg N p) a w) (oe_in (oe_cu D p w) (oe_ad (oe_sd D p) d) a w) (m - w + w)) (S2 : ∀ k, k < m - w + w → oe_SR sz' ri' fo (oe_in (oe_cu N p w) (oe_sg N p) a w) (oe_in (oe_cu D p w) (oe_ad (oe_sd D p) d) a w) (m - w + w) k) :
    oe_XR m mk (oe_in (oe_cu N p w) (oe_sg N p) a w) (oe_in (oe_cu D p w) (oe_ad (oe_sd D p) d) a w) fo nm us (nI mk, oe_A us, oe_A nm, oe_A fo, oe_A ab', oe_A ch', oe_A nx', oe_A bf', oe_A sz', oe_A ri') := by
  have G2 := oe_G_mv G p0 hw a0 ha
  rw [show m - w + w = m from by omega] at T2 S2 G2
  exact ⟨_, _, _, _, _, _, rfl, ⟨hm, by rw [oe_in1 a0, oe_cu1 p0]; exact h0, hf0, hfo, T2, S2⟩, G2⟩
/-- unlink as the moves use it -/
theorem oe_x_unlinkW {post : SX → Prop} (hm41 : m ≤ 41) (hfo : ∀ y, fo y ≤ 1) (h0 : N 0 = 0) (p0 : 0 < p) (hp : p < m) (hw : oe_en D m p = p + w) (T : oe_T ab ch nx bf N D m) (hS : ∀ k, k < m → oe_SR sz ri fo N D m k)
    (K : ∀ ch' nx' bf' sz' ri', oe_T ab ch' nx' bf' (oe_cu N p w) (oe_cu D p w) (m - w) → (∀ k, k < m - w → oe_SR sz' ri' fo (oe_cu N p w) (oe_cu D p w) (m - w) k) →
      oe_T ab ch' nx' bf' (oe_sg N p) (oe_sd D p) w → (∀ t, t < w → oe_SR sz' ri' fo (oe_sg N p) (oe_sd D p) w t) → post (nI mk, oe_A us, oe_A nm, oe_A fo, oe_A ab, oe_A ch', oe_A nx', oe_A bf', oe_A sz', oe_A ri')) :
    wpX_unlink post (nI mk, oe_A us, oe_A nm, oe_A fo, oe_A ab, oe_A ch, oe_A nx, oe_A bf, oe_A sz, oe_A ri) (nI (N p)) := by
  refine oe_x_unlink hm41 hfo h0 p0 hp T hS (fun ch' nx' bf' sz' ri' T1 S1 T2 S2 => ?_)
  rw [show oe_en D m p - p = w from by omega] at T1 S1 T2 S2
  exact K _ _ _ _ _ T1 S1 T2 S2
theorem oe_cu_Qw (p0 : 0 < p) (hp : p < m) (hw : oe_en D m p = p + w) : oe_Q (oe_cu D p w) D (m - w) m p w := by
  have := oe_cu_Q (D := D) p0 hp
  rw [show oe_en D m p - p = w from by omega] at this
  exact this
theorem oe_new_at {x : Nat} (w0 : 0 < w) : nI (N p) = nI (oe_in (oe_cu N p w) (oe_sg N p) a w a) := by
  rw [oe_in2 (Nat.le_refl _) (by omega), Nat.sub_self]; rfl
theorem oe_X_indent {post : Int32 → SX → Prop} {j : Nat} (XC : oe_XC m N D fo ab ch nx bf sz ri) (G : oe_G m mk N nm us) (hj : j + 1 < m) (hw : oe_en D m (j + 1) = j + 1 + w) (K0 : D j < D (j + 1) ∨ oe_mx D (j + 1) w = 7 → post (-4) (nI mk, oe_A us, oe_A nm, oe_A fo, oe_A ab, oe_A ch, oe_A nx, oe_A bf, oe_A sz, oe_A ri))
    (K : D (j + 1) ≤ D j → oe_mx D (j + 1) w ≠ 7 → ∀ u', oe_XR m mk (oe_in (oe_cu N (j + 1) w) (oe_sg N (j + 1)) (j + 1) w) (oe_in (oe_cu D (j + 1) w) (oe_ad (oe_sd D (j + 1)) (D (j + 1) + 1)) (j + 1) w) fo nm us u' → post (nI (D (j + 1))) u') : wpX_indent post (nI mk, oe_A us, oe_A nm, oe_A fo, oe_A ab, oe_A ch, oe_A nx, oe_A bf, oe_A sz, oe_A ri) (nI j) := by
  have hS := oe_XC_S XC
  obtain ⟨hm, h0, hf0, hfo, T, SR⟩ := XC
  have hx := T.2.1.1 (j + 1) hj
  have lm := oe_en_le (D := D) hj
  have lt := oe_en_lt (D := D) (m := m) (k := j + 1)
  obtain ⟨b1, b0⟩ := T.2.2.2.2.2 (j + 1) (by omega) hj
  unfold wpX_indent
  refine oe_x_bad0 hm h0 T hS hj (br_t rfl (oe_x_nodeAt hm h0 hj T hS (And.intro (vp_in_nI hx (by decide)) ?_)))
  rcases oe_pb T.1 (k := j + 1) (by omega) hj with ⟨g1, g2, g3, g4, g5⟩ | ⟨g1, g2, g3⟩
  · rw [Nat.add_sub_cancel] at g5
    have hen := oe_pb_en T.1 (by omega) hj g1
    generalize hrr : oe_sc D (D (j + 1) + 1) (j + 1) = r at *
    have hrl := T.2.1.1 r (by omega)
    have hrp := T.2.1.2.1 r g2 (by omega)
    refine nm_r (e' := nI (N r)) (by rw [oe_rd bf (by omega), b1 g1]) (br_f (nI_ne0 hrp (by omega)) ?_)
    refine oe_x_deepestIn hm h0 (by omega) hj T hS ?_
    have ml := oe_mx_lt (D := D) (lo := j + 1) (b := 41) (by omega) (n := w) (fun t ht => by have := oe_W_le T.1 (j + 1 + t) (by omega); omega)
    rw [show oe_en D m (j + 1) - (j + 1) = w from by omega]
    by_cases h7 : oe_mx D (j + 1) w = 7
    · exact br_t (by rw [h7]; rfl) (K0 (Or.inr h7))
    · refine br_f (fun u => h7 ((nI_eq (b := 7) (by omega) (by decide)).mp u)) ?_
      refine oe_x_unlinkW hm hfo h0 (by omega) hj hw T SR (fun ch' nx' bf' sz' ri' T1 S1 TB SB => ?_)
      have Q := oe_cu_Qw (by omega) hj hw
      have eN : N r = oe_cu N (j + 1) w r := (oe_cu1 g3).symm
      have eD : oe_cu D (j + 1) w r = D (j + 1) := by rw [oe_cu1 g3]; exact g1
      have hen1 : oe_en (oe_cu D (j + 1) w) (m - w) r = j + 1 := by rw [oe_Q_lo Q g3 (by omega)]; exact hen
      refine oe_x_lastChildE (q := r) (by rw [← eN]) (by omega) (by omega) T1 (fun s s1 s0 => ?_)
      obtain ⟨a1, a2, a3, a4, a5, a6⟩ := oe_at_last T1.1 (q := r) (by omega)
      rw [hen1, eD] at s1 s0 a4 a5 a6
      rw [hen1] at a1 a2
      refine oe_x_linkE (NB := oe_sg N (j + 1)) (DB := oe_sd D (j + 1)) (w := w) (a := j + 1) (d := D (j + 1) + 1) (p := N r) (s := s) rfl rfl rfl (by omega) hfo (by rw [oe_cu1 (by omega)]; exact h0) T1 TB (T.2.1.2.1 _ (by omega) hj) (oe_cu_dj T.2.1 (by omega)) a1 a2 (by omega) a4 a5 (by rw [a6]; exact eN) s1 s0 S1 SB (fun ab' ch2 nx2 bf2 sz2 ri2 T2 S2 => ?_)
      refine oe_x_levelOfE (k := j + 1) (oe_new_at (x := 0) (by omega)) (by omega) (by rw [oe_in1 (by omega), oe_cu1 (by omega)]; exact h0) (by omega) T2 ?_
      exact oe_ps (by rw [oe_in_e TB.1, oe_lvs]) (K g5 h7 _ (oe_XR_mv hm h0 hf0 hfo G (by omega) (by omega) a1 a2 T2 S2))
  · rw [Nat.add_sub_cancel] at g3
    refine nm_r (e' := nI 0) (by rw [oe_rd bf (by omega), b0 (by rw [g1, Nat.add_sub_cancel]; omega)]) (br_t nI_0 (K0 (Or.inl (by omega))))
theorem oe_Y_indent {post : Int32 → SY → Prop} {j : Nat} (YF : oe_YF m N D fo nm yn yl yf) (W : oe_W D m) (hm : m ≤ 41) (hj : j + 1 < m) (hw : oe_en D m (j + 1) = j + 1 + w) (yf1 : ∀ y, yf y ≤ 1) (kf1 : ∀ y, kf y ≤ 1) (K0 : D j < D (j + 1) ∨ oe_mx D (j + 1) w = 7 → post (-4) (nI (m - 1), nI mk, oe_A yn, oe_A yl, oe_A yf, oe_A kn, oe_A kl, oe_A kf))
    (K : D (j + 1) ≤ D j → oe_mx D (j + 1) w ≠ 7 → ∀ v', oe_YR m mk (oe_in (oe_cu N (j + 1) w) (oe_sg N (j + 1)) (j + 1) w) (oe_in (oe_cu D (j + 1) w) (oe_ad (oe_sd D (j + 1)) (D (j + 1) + 1)) (j + 1) w) fo nm v' → post (nI (D (j + 1))) v') : wpY_indent post (nI (m - 1), nI mk, oe_A yn, oe_A yl, oe_A yf, oe_A kn, oe_A kl, oe_A kf) (nI j) := by
  have e := oe_en_sh (D := D) (oe_YF_l YF) hj
  have lm := oe_en_le (D := D) hj
  have lt := oe_en_lt (D := D) (m := m) (k := j + 1)
  have hl := oe_YF_b W hm YF
  have hw2 : oe_en yl (m - 1) j = j + w := by omega
  have l1 := (YF j hj).2.1
  have lb := hl j (by omega)
  unfold wpY_indent
  refine oe_y_isPlace1 (by omega) (by omega) (br_f (by decide) (oe_y_endOf (by omega) (by omega) hl ?_))
  by_cases hj0 : j = 0
  · subst hj0
    exact br_t nI_0 (K0 (Or.inl (by rw [W.2.1]; exact (W.2.2 (0 + 1) (by omega) hj).1)))
  · obtain ⟨i, rfl⟩ : ∃ i, j = i + 1 := ⟨j - 1, by omega⟩
    have l0 := (YF i (by omega)).2.1
    have lb0 := hl i (by omega)
    refine br_f (nI_ne0 (by omega) (by omega)) (And.intro (vp_in_nI (by omega) (by decide)) (And.intro (by rw [nI_pred]; exact vp_in_nI (by omega) (by decide)) ?_))
    rw [nI_pred, oe_rd yl (by omega), oe_rd yl (by omega)]
    by_cases hd : D (i + 1) < D (i + 1 + 1)
    · exact br_t (nI_lt (by omega) (by omega)) (K0 (Or.inl hd))
    · refine br_f (nI_nlt (by omega) (by omega)) ?_
      rw [hw2]
      refine oe_y_deepest (by omega) (by omega) hl ?_
      have em : oe_mx (fun k => yl k + 1) (i + 1) w = oe_mx D (i + 1 + 1) w := oe_mx_congr (fun t ht => by
        show yl (i + 1 + t) + 1 = D (i + 1 + 1 + t)
        rw [oe_YF_l YF (i + 1 + t) (by omega), show i + 1 + t + 1 = i + 1 + 1 + t from by omega])
      rw [em]
      have ml := oe_mx_lt (D := D) (lo := i + 1 + 1) (b := 41) (by omega) (n := w) (fun t ht => by have := oe_W_le W (i + 1 + 1 + t) (by omega); omega)
      by_cases h7 : oe_mx D (i + 1 + 1) w = 7
      · exact br_t (by rw [h7]; rfl) (K0 (Or.inr h7))
      · refine br_f (fun u => h7 ((nI_eq (b := 7) (by omega) (by decide)).mp u)) ?_
        refine oe_y_addLevels (fun k => yl k + 1) (by omega) (by omega) (fun k _ _ => nI_1 _) ?_
        refine And.intro (vp_in_nI (by omega) (by decide)) ?_
        refine oe_qs (r' := nI (D (i + 1 + 1))) ?_ (K (by omega) h7 _ ⟨_, _, _, kn, kl, kf, rfl, ?_, yf1, kf1⟩)
        · rw [oe_rd _ (by omega), if_pos (by omega)]; exact congrArg nI l1
        · refine oe_YF_mv (yl1 := fun k => if i + 1 ≤ k ∧ k < i + 1 + w then yl k + 1 else yl k) YF (by omega) (by omega) (fun k hk => if_neg (by omega)) (fun t ht => ?_) (fun k _ => (oe_in_id k).symm) (fun k _ => (oe_in_id (f := fun k => if i + 1 ≤ k ∧ k < i + 1 + w then yl k + 1 else yl k) k).symm) (fun k _ => (oe_in_id k).symm)
          show (if i + 1 ≤ i + 1 + t ∧ i + 1 + t < i + 1 + w then yl (i + 1 + t) + 1 else yl (i + 1 + t)) + 1 = _
          rw [if_pos (by omega)]
          have := oe_YF_l YF (i + 1 + t) (by omega)
          rw [show i + 1 + t + 1 = i + 1 + 1 + t from by omega] at this
          have := oe_win_ge hw ht
          omega
theorem oe_X_up {post : Int32 → SX → Prop} {j r : Nat} (XC : oe_XC m N D fo ab ch nx bf sz ri) (G : oe_G m mk N nm us) (hj : j + 1 < m) (hw : oe_en D m (j + 1) = j + 1 + w) (hr : r = oe_sc D (D (j + 1) + 1) (j + 1)) (K0 : D r ≠ D (j + 1) → post (-4) (nI mk, oe_A us, oe_A nm, oe_A fo, oe_A ab, oe_A ch, oe_A nx, oe_A bf, oe_A sz, oe_A ri))
    (K : D r = D (j + 1) → ∀ u', oe_XR m mk (oe_in (oe_cu N (j + 1) w) (oe_sg N (j + 1)) r w) (oe_in (oe_cu D (j + 1) w) (oe_ad (oe_sd D (j + 1)) (D (j + 1))) r w) fo nm us u' → post (nI (r - 1)) u') : wpX_up post (nI mk, oe_A us, oe_A nm, oe_A fo, oe_A ab, oe_A ch, oe_A nx, oe_A bf, oe_A sz, oe_A ri) (nI j) := by
  have hS := oe_XC_S XC
  obtain ⟨hm, h0, hf0, hfo, T, SR⟩ := XC
  have hx := T.2.1.1 (j + 1) hj
  have lm := oe_en_le (D := D) hj
  have lt := oe_en_lt (D := D) (m := m) (k := j + 1)
  obtain ⟨b1, b0⟩ := T.2.2.2.2.2 (j + 1) (by omega) hj
  unfold wpX_up
  refine oe_x_bad0 hm h0 T hS hj (br_t rfl (oe_x_nodeAt hm h0 hj T hS (And.intro (vp_in_nI hx (by decide)) ?_)))
  rcases oe_pb T.1 (k := j + 1) (by omega) hj with ⟨g1, g2, g3, g4, g5⟩ | ⟨g1, g2, g3⟩
  · rw [← hr] at g1 g2 g3 g4 b1 b0
    have hrl := T.2.1.1 r (by omega)
    have hrp := T.2.1.2.1 r g2 (by omega)
    refine nm_r (e' := nI (N r)) (by rw [oe_rd bf (by omega), b1 g1]) (br_f (nI_ne0 hrp (by omega)) ?_)
    refine oe_x_unlinkW hm hfo h0 (by omega) hj hw T SR (fun ch' nx' bf' sz' ri' T1 S1 TB SB => ?_)
    have eN : N r = oe_cu N (j + 1) w r := (oe_cu1 g3).symm
    have eD : oe_cu D (j + 1) w r = D (j + 1) := by rw [oe_cu1 g3]; exact g1
    obtain ⟨wa, wb⟩ := T1.1.2.2 r g2 (by omega)
    have hP1 := T1.2.2.2.1 r g2 (by omega)
    obtain ⟨c1, c0⟩ := T1.2.2.2.2.2 r g2 (by omega)
    rw [← eN] at hP1 c1 c0
    rw [eD] at hP1 c1 c0 wa wb
    have ir := vp_in_nI hrl (show 41 < 2 ^ 31 by decide)
    refine And.intro ir (And.intro ir ?_)
    refine oe_x_linkE (NB := oe_sg N (j + 1)) (DB := oe_sd D (j + 1)) (w := w) (a := r) (d := D (j + 1)) (p := ab (N r)) (s := bf' (N r)) rfl (oe_rd ab (by omega)) (oe_rd bf' (by omega)) (by omega) hfo (by rw [oe_cu1 (by omega)]; exact h0) T1 TB (T.2.1.2.1 _ (by omega) hj) (oe_cu_dj T.2.1 (by omega)) g2 (by omega) wa wb (fun _ => by rw [eD]; exact Nat.le_refl _) hP1 c1 c0 S1 SB (fun ab' ch2 nx2 bf2 sz2 ri2 T2 S2 => ?_)
    refine oe_x_placeOfE (k := r) (oe_new_at (x := 0) (by omega)) (by omega) (by rw [oe_in1 (by omega), oe_cu1 (by omega)]; exact h0) g2 (by omega) T2 (fun k hk => (S2 k hk).1) ?_
    exact K g1 _ (oe_XR_mv hm h0 hf0 hfo G (by omega) (by omega) g2 (by omega) T2 S2)
  · have hne : D r ≠ D (j + 1) := by rw [hr, g1]; omega
    refine nm_r (e' := nI 0) (by rw [oe_rd bf (by omega), b0 (by rw [← hr]; exact hne)]) (br_t nI_0 (K0 hne))
theorem oe_up_loop {post : Int32 → SY → Prop} {n j r : Nat} (hn : n ≤ 40) (hj : j < n) (hD : ∀ k, k < n → yl k + 1 = D (k + 1)) (hb : ∀ k, k < n → yl k < 41) (W : oe_W D (n + 1)) (hr : r = oe_sc D (D (j + 1) + 1) (j + 1))
    (K : wY_up_39 post (nI j) (oe_lv r) (nI n) (nI mk) (oe_A yn) (oe_A yl) (oe_A yf) (oe_A kn) (oe_A kl) (oe_A kf)) :
    ∀ f q, q < f → q < j + 1 → r ≤ q → wY_up_14 post (nI j) (nI n) (nI mk) (oe_A yn) (oe_A yl) (oe_A yf) (oe_A kn) (oe_A kl) (oe_A kf) f (oe_lv q) := by
  intro f
  obtain ⟨p1, p2, p3⟩ := oe_sc_spec (D := D) (b := D (j + 1) + 1) (by rw [W.2.1]; omega) (j + 1) (by omega)
  rw [← hr] at p1 p2 p3
  induction f with
  | zero => intro q h; omega
  | succ f ih =>
    intro q hf hq hs
    rcases Nat.eq_zero_or_pos q with z | z
    · subst z
      have e : r = 0 := by omega
      rw [e] at K
      exact br_t ((oe_lv_lt (a := 0) (by omega) (by omega)).mpr (Nat.le_refl _)) K
    · obtain ⟨s, rfl⟩ : ∃ s, q = s + 1 := ⟨q - 1, by omega⟩
      have a1 := hD j hj
      have a2 := hD s (by omega)
      have b1 := hb j hj
      have b2 := hb s (by omega)
      by_cases e : r = s + 1
      · rw [e] at p2 K
        rw [oe_lvs] at K ⊢
        refine br_f (nI_pos (by omega)) (And.intro (vp_in_nI (by omega) (by decide)) (And.intro (vp_in_nI (by omega) (by decide)) ?_))
        exact br_t (by rw [oe_rd yl (by omega), oe_rd yl (by omega)]; exact nI_le (by omega) (by omega)) K
      · have := p3 (s + 1) (by omega) hq
        rw [oe_lvs]
        refine br_f (nI_pos (by omega)) (And.intro (vp_in_nI (by omega) (by decide)) (And.intro (vp_in_nI (by omega) (by decide)) ?_))
        refine br_f (by rw [oe_rd yl (by omega), oe_rd yl (by omega)]; exact nI_ge (by omega) (by omega)) (nm_r (oe_lv_m1 s) ?_)
        exact ih s (by omega) (by omega) (by omega)
theorem oe_Y_up {post : Int32 → SY → Prop} {j r : Nat} (YF : oe_YF m N D fo nm yn yl yf) (W : oe_W D m) (hm : m ≤ 41) (hj : j + 1 < m) (hw : oe_en D m (j + 1) = j + 1 + w) (yf1 : ∀ y, yf y ≤ 1) (kf1 : ∀ y, kf y ≤ 1) (hr : r = oe_sc D (D (j + 1) + 1) (j + 1)) (K0 : D r ≠ D (j + 1) → post (-4) (nI (m - 1), nI mk, oe_A yn, oe_A yl, oe_A yf, oe_A kn, oe_A kl, oe_A kf))
    (K : D r = D (j + 1) → ∀ v', oe_YR m mk (oe_in (oe_cu N (j + 1) w) (oe_sg N (j + 1)) r w) (oe_in (oe_cu D (j + 1) w) (oe_ad (oe_sd D (j + 1)) (D (j + 1))) r w) fo nm v' → post (nI (r - 1)) v') : wpY_up post (nI (m - 1), nI mk, oe_A yn, oe_A yl, oe_A yf, oe_A kn, oe_A kl, oe_A kf) (nI j) := by
  have e := oe_en_sh (D := D) (oe_YF_l YF) hj
  have lm := oe_en_le (D := D) hj
  have lt := oe_en_lt (D := D) (m := m) (k := j + 1)
  have hl := oe_YF_b W hm YF
  have hw2 : oe_en yl (m - 1) j = j + w := by omega
  have l1 := (YF j hj).2.1
  have lb := hl j (by omega)
  have W' : oe_W D (m - 1 + 1) := by rw [show m - 1 + 1 = m from by omega]; exact W
  obtain ⟨p1, p2, p3⟩ := oe_sc_spec (D := D) (b := D (j + 1) + 1) (by rw [W.2.1]; omega) (j + 1) (by omega)
  rw [← hr] at p1 p2
  unfold wpY_up
  refine oe_y_isPlace1 (by omega) (by omega) (br_f (by decide) (nm_r (e' := oe_lv j) rfl ⟨j + 1, ?_⟩))
  refine oe_up_loop (n := m - 1) (D := D) (by omega) (by omega) (fun k hk => oe_YF_l YF k (by omega)) hl W' hr ?_ (j + 1) j (by omega) (by omega) (by omega)
  unfold wY_up_39
  rcases Nat.eq_zero_or_pos r with z | z
  · refine br_t ((oe_lv_lt (a := 0) (by omega) (by omega)).mpr (by omega)) (K0 ?_)
    rw [z, W.2.1]
    have := (W.2.2 (j + 1) (by omega) hj).1
    omega
  · obtain ⟨s, hs⟩ : ∃ s, r = s + 1 := ⟨r - 1, by omega⟩
    have l2 := (YF s (by omega)).2.1
    have lb2 := hl s (by omega)
    have es : oe_lv r = nI s := by rw [hs, oe_lvs]
    rw [← hs] at l2
    rw [es]
    refine br_f (nI_pos (by omega)) (And.intro (vp_in_nI (by omega) (by decide)) (And.intro (vp_in_nI (by omega) (by decide)) ?_))
    by_cases hd : D r = D (j + 1)
    · refine br_t (by rw [oe_rd yl (by omega), oe_rd yl (by omega)]; exact nI_le (by omega) (by omega)) ?_
      refine oe_y_endOf (by omega) (by omega) hl ?_
      rw [hw2]
      refine oe_y_moveTo (by omega) (by omega) (by omega) (by omega) yf1 kf1 (fun yn' yl' yf' kn' kl' kf' e1 e2 e3 e4 e5 => ?_)
      refine oe_qs (r' := nI (r - 1)) (congrArg nI (by omega)) (K hd _ ⟨yn', yl', yf', kn', kl', kf', rfl, ?_, e4, e5⟩)
      rw [hs]
      refine oe_YF_mv YF (by omega) (by omega) (fun k hk => rfl) (fun t ht => ?_) e1 e2 e3
      have := oe_YF_l YF (j + t) (by omega)
      rw [show j + t + 1 = j + 1 + t from by omega] at this
      have := oe_win_ge hw ht
      omega
    · exact br_f (by rw [oe_rd yl (by omega), oe_rd yl (by omega)]; exact nI_ge (by omega) (by omega)) (K0 hd)
theorem oe_X_down {post : Int32 → SX → Prop} {j : Nat} (XC : oe_XC m N D fo ab ch nx bf sz ri) (G : oe_G m mk N nm us) (hj : j + 1 < m) (hw : oe_en D m (j + 1) = j + 1 + w) (K0 : (j + 1 + w < m → D (j + 1 + w) ≠ D (j + 1)) → post (-4) (nI mk, oe_A us, oe_A nm, oe_A fo, oe_A ab, oe_A ch, oe_A nx, oe_A bf, oe_A sz, oe_A ri))
    (K : j + 1 + w < m → D (j + 1 + w) = D (j + 1) → ∀ u', oe_XR m mk (oe_in (oe_cu N (j + 1) w) (oe_sg N (j + 1)) (oe_en (oe_cu D (j + 1) w) (m - w) (j + 1)) w) (oe_in (oe_cu D (j + 1) w) (oe_ad (oe_sd D (j + 1)) (D (j + 1))) (oe_en (oe_cu D (j + 1) w) (m - w) (j + 1)) w) fo nm us u' → post (nI (oe_en (oe_cu D (j + 1) w) (m - w) (j + 1) - 1)) u') : wpX_down post (nI mk, oe_A us, oe_A nm, oe_A fo, oe_A ab, oe_A ch, oe_A nx, oe_A bf, oe_A sz, oe_A ri) (nI j) := by
  have hS := oe_XC_S XC
  obtain ⟨hm, h0, hf0, hfo, T, SR⟩ := XC
  have hx := T.2.1.1 (j + 1) hj
  have lm := oe_en_le (D := D) hj
  have lt := oe_en_lt (D := D) (m := m) (k := j + 1)
  obtain ⟨x1, x0⟩ := T.2.2.2.2.1 (j + 1) (by omega) hj
  rw [hw] at x1 x0
  unfold wpX_down
  refine oe_x_bad0 hm h0 T hS hj (br_t rfl (oe_x_nodeAt hm h0 hj T hS (And.intro (vp_in_nI hx (by decide)) ?_)))
  by_cases hc : j + 1 + w < m ∧ D (j + 1 + w) = D (j + 1)
  · have hrl := T.2.1.1 (j + 1 + w) hc.1
    have hrp := T.2.1.2.1 (j + 1 + w) (by omega) hc.1
    refine nm_r (e' := nI (N (j + 1 + w))) (by rw [oe_rd nx (by omega), x1 hc.1 hc.2]) (br_f (nI_ne0 hrp (by omega)) ?_)
    refine oe_x_unlinkW hm hfo h0 (by omega) hj hw T SR (fun ch' nx' bf' sz' ri' T1 S1 TB SB => ?_)
    have eN : N (j + 1 + w) = oe_cu N (j + 1) w (j + 1) := (oe_cu2 (Nat.le_refl _)).symm
    have eD : oe_cu D (j + 1) w (j + 1) = D (j + 1) := by rw [oe_cu2 (Nat.le_refl _)]; exact hc.2
    obtain ⟨a1, a2, a3, a4, a5, a6, a7⟩ := oe_at_behind T1.1 (j := j + 1) (by omega) (by omega)
    have hP1 := T1.2.2.2.1 (j + 1) (by omega) (by omega)
    rw [eD] at a3 a4 a5 a6 a7 hP1
    rw [← eN] at hP1
    refine And.intro (vp_in_nI hrl (by decide)) ?_
    refine oe_x_linkE (NB := oe_sg N (j + 1)) (DB := oe_sd D (j + 1)) (w := w) (a := oe_en (oe_cu D (j + 1) w) (m - w) (j + 1)) (d := D (j + 1)) (p := ab (N (j + 1 + w))) (s := N (j + 1 + w)) rfl (oe_rd ab (by omega)) rfl (by omega) hfo (by rw [oe_cu1 (by omega)]; exact h0) T1 TB (T.2.1.2.1 _ (by omega) hj) (oe_cu_dj T.2.1 (by omega)) a1 a2 a3 a4 a5 (by rw [a6]; exact hP1) (fun _ => by rw [a7]; exact eN) (fun u => absurd (by rw [a7]; exact eD) u) S1 SB (fun ab' ch2 nx2 bf2 sz2 ri2 T2 S2 => ?_)
    refine oe_x_placeOfE (k := oe_en (oe_cu D (j + 1) w) (m - w) (j + 1)) (oe_new_at (x := 0) (by omega)) (by omega) (by rw [oe_in1 (by omega), oe_cu1 (by omega)]; exact h0) a1 (by omega) T2 (fun k hk => (S2 k hk).1) ?_
    exact K hc.1 hc.2 _ (oe_XR_mv hm h0 hf0 hfo G (by omega) (by omega) a1 a2 T2 S2)
  · have hne : j + 1 + w < m → D (j + 1 + w) ≠ D (j + 1) := fun u v => hc ⟨u, v⟩
    exact nm_r (e' := nI 0) (by rw [oe_rd nx (by omega), x0 hne]) (br_t nI_0 (K0 hne))
theorem oe_Y_down {post : Int32 → SY → Prop} {j : Nat} (YF : oe_YF m N D fo nm yn yl yf) (W : oe_W D m) (hm : m ≤ 41) (hj : j + 1 < m) (hw : oe_en D m (j + 1) = j + 1 + w) (yf1 : ∀ y, yf y ≤ 1) (kf1 : ∀ y, kf y ≤ 1) (K0 : (j + 1 + w < m → D (j + 1 + w) ≠ D (j + 1)) → post (-4) (nI (m - 1), nI mk, oe_A yn, oe_A yl, oe_A yf, oe_A kn, oe_A kl, oe_A kf))
    (K : j + 1 + w < m → D (j + 1 + w) = D (j + 1) → ∀ v', oe_YR m mk (oe_in (oe_cu N (j + 1) w) (oe_sg N (j + 1)) (oe_en (oe_cu D (j + 1) w) (m - w) (j + 1)) w) (oe_in (oe_cu D (j + 1) w) (oe_ad (oe_sd D (j + 1)) (D (j + 1))) (oe_en (oe_cu D (j + 1) w) (m - w) (j + 1)) w) fo nm v' → post (nI (oe_en (oe_cu D (j + 1) w) (m - w) (j + 1) - 1)) v') : wpY_down post (nI (m - 1), nI mk, oe_A yn, oe_A yl, oe_A yf, oe_A kn, oe_A kl, oe_A kf) (nI j) := by
  have e := oe_en_sh (D := D) (oe_YF_l YF) hj
  have lm := oe_en_le (D := D) hj
  have lt := oe_en_lt (D := D) (m := m) (k := j + 1)
  have hl := oe_YF_b W hm YF
  have hw2 : oe_en yl (m - 1) j = j + w := by omega
  have l1 := (YF j hj).2.1
  have lb := hl j (by omega)
  unfold wpY_down
  refine oe_y_isPlace1 (by omega) (by omega) (br_f (by decide) (oe_y_endOf (by omega) (by omega) hl ?_))
  rw [hw2]
  by_cases hc1 : j + 1 + w < m
  · have l2 := (YF (j + w) (by omega)).2.1
    have lb2 := hl (j + w) (by omega)
    rw [show j + w + 1 = j + 1 + w from by omega] at l2
    refine br_f (fun u => absurd ((nI_eq (by omega) (by omega)).mp u) (by omega)) (And.intro (vp_in_nI (by omega) (by decide)) (And.intro (vp_in_nI (by omega) (by decide)) ?_))
    by_cases hc2 : D (j + 1 + w) = D (j + 1)
    · refine br_t (by rw [oe_rd yl (by omega), oe_rd yl (by omega)]; exact congrArg nI (by omega)) ?_
      have Q := oe_cu_Qw (by omega) hj hw
      obtain ⟨q1, q2⟩ := oe_Q_hi Q (k := j + 1) (Nat.le_refl _) (by omega)
      have e2 := oe_en_sh (D := D) (oe_YF_l YF) (j := j + w) (by omega)
      rw [show j + w + 1 = j + 1 + w from by omega] at e2
      have lm2 := oe_en_le (D := D) hc1
      refine oe_y_endOf (by omega) (by omega) hl ?_
      refine nm_r (e' := nI (oe_en yl (m - 1) (j + w) - (j + w))) (pk_sub (by omega)) ?_
      rw [nI_add]
      refine oe_y_moveTo (by omega) (by omega) (by omega) (by omega) yf1 kf1 (fun yn' yl' yf' kn' kl' kf' e1 e2' e3 e4 e5 => ?_)
      refine oe_qs (r' := nI (oe_en (oe_cu D (j + 1) w) (m - w) (j + 1) - 1)) (congrArg nI (by omega)) (K hc1 hc2 _ ⟨yn', yl', yf', kn', kl', kf', rfl, ?_, e4, e5⟩)
      rw [show oe_en (oe_cu D (j + 1) w) (m - w) (j + 1) = j + (oe_en yl (m - 1) (j + w) - (j + w)) + 1 from by omega]
      refine oe_YF_mv YF (by omega) (by omega) (fun k hk => rfl) (fun t ht => ?_) e1 e2' e3
      have := oe_YF_l YF (j + t) (by omega)
      rw [show j + t + 1 = j + 1 + t from by omega] at this
      have := oe_win_ge hw ht
      omega
    · exact br_f (by rw [oe_rd yl (by omega), oe_rd yl (by omega)]; exact fun u => absurd ((nI_eq (by omega) (by omega)).mp u) (by omega)) (K0 (fun _ => hc2))
  · exact br_t (congrArg nI (by omega)) (K0 (fun u => absurd u hc1))
end
end
section
/-! moveUnder; the owed rows of the moves -/
section
variable {m mk w q1 : Nat} {yn yl yf kn kl kf N D fo nm us ab ch nx bf sz ri : Nat → Nat}
theorem oe_X_moveUnder {post : Int32 → SX → Prop} {j i : Nat} (XC : oe_XC m N D fo ab ch nx bf sz ri) (G : oe_G m mk N nm us) (hj : j + 1 < m) (hi : i + 1 < m) (hw : oe_en D m (j + 1) = j + 1 + w)
    (hq : ¬ (j + 1 ≤ i + 1 ∧ i + 1 < j + 1 + w) → (i < j ∧ q1 = i + 1) ∨ (j + w ≤ i ∧ i + 1 = q1 + w))
    (K0 : (j + 1 ≤ i + 1 ∧ i + 1 < j + 1 + w) ∨ ¬ (nI (oe_mx D (j + 1) w) + (nI (D (i + 1)) - nI (D (j + 1) - 1)) ≤ 7) → post (-4) (nI mk, oe_A us, oe_A nm, oe_A fo, oe_A ab, oe_A ch, oe_A nx, oe_A bf, oe_A sz, oe_A ri))
    (K : ¬ (j + 1 ≤ i + 1 ∧ i + 1 < j + 1 + w) → nI (oe_mx D (j + 1) w) + (nI (D (i + 1)) - nI (D (j + 1) - 1)) ≤ 7 → ∀ u', oe_XR m mk (oe_in (oe_cu N (j + 1) w) (oe_sg N (j + 1)) (oe_en (oe_cu D (j + 1) w) (m - w) q1) w) (oe_in (oe_cu D (j + 1) w) (oe_ad (oe_sd D (j + 1)) (D (i + 1) + 1)) (oe_en (oe_cu D (j + 1) w) (m - w) q1) w) fo nm us u' → post (nI (oe_en (oe_cu D (j + 1) w) (m - w) q1 - 1)) u') : wpX_moveUnder post (nI mk, oe_A us, oe_A nm, oe_A fo, oe_A ab, oe_A ch, oe_A nx, oe_A bf, oe_A sz, oe_A ri) (nI j) (nI i) := by
  have hS := oe_XC_S XC
  obtain ⟨hm, h0, hf0, hfo, T, SR⟩ := XC
  have lm := oe_en_le (D := D) hj
  have lt := oe_en_lt (D := D) (m := m) (k := j + 1)
  have dj := (T.1.2.2 (j + 1) (by omega) hj).1
  unfold wpX_moveUnder
  refine oe_x_bad0 hm h0 T hS hj (br_t rfl (oe_x_bad0 hm h0 T hS hi (br_t rfl (oe_x_nodeAt hm h0 hj T hS (oe_x_nodeAt hm h0 hi T hS ?_)))))
  refine oe_x_inBranch hm h0 (by omega) hj hi T (fun u1 u2 => ?_) (fun hn => ?_)
  · exact br_f (by decide) (K0 (Or.inl ⟨u1, by omega⟩))
  · rw [hw] at hn
    refine br_t rfl (oe_x_levelOf hm h0 hi T (oe_x_levelOf hm h0 hj T ?_))
    refine nm_r (e' := nI (D (i + 1)) - nI (D (j + 1) - 1)) (by rw [oe_lv1, oe_lvs, oe_lvp dj]) ?_
    refine oe_x_deepestIn hm h0 (by omega) hj T hS ?_
    rw [show oe_en D m (j + 1) - (j + 1) = w from by omega]
    by_cases hc : nI (oe_mx D (j + 1) w) + (nI (D (i + 1)) - nI (D (j + 1) - 1)) ≤ 7
    · refine br_t hc ?_
      refine oe_x_unlinkW hm hfo h0 (by omega) hj hw T SR (fun ch' nx' bf' sz' ri' T1 S1 TB SB => ?_)
      have hqq := hq hn
      have q1m : q1 < m - w := by omega
      have eN : N (i + 1) = oe_cu N (j + 1) w q1 := by
        rcases hqq with ⟨u, v⟩ | ⟨u, v⟩
        · rw [v, oe_cu1 (by omega)]
        · rw [oe_cu2 (by omega), ← v]
      have eD : oe_cu D (j + 1) w q1 = D (i + 1) := by
        rcases hqq with ⟨u, v⟩ | ⟨u, v⟩
        · rw [v, oe_cu1 (by omega)]
        · rw [oe_cu2 (by omega), ← v]
      refine oe_x_lastChildE (q := q1) (by rw [← eN]) (by omega) q1m T1 (fun s s1 s0 => ?_)
      obtain ⟨a1, a2, a3, a4, a5, a6⟩ := oe_at_last T1.1 (q := q1) q1m
      rw [eD] at s1 s0 a4 a5 a6
      refine oe_x_linkE (NB := oe_sg N (j + 1)) (DB := oe_sd D (j + 1)) (w := w) (a := oe_en (oe_cu D (j + 1) w) (m - w) q1) (d := D (i + 1) + 1) (p := N (i + 1)) (s := s) rfl rfl rfl (by omega) hfo (by rw [oe_cu1 (by omega)]; exact h0) T1 TB (T.2.1.2.1 _ (by omega) hj) (oe_cu_dj T.2.1 (by omega)) a1 a2 (by omega) a4 a5 (by rw [a6]; exact eN) s1 s0 S1 SB (fun ab' ch2 nx2 bf2 sz2 ri2 T2 S2 => ?_)
      refine oe_x_placeOfE (k := oe_en (oe_cu D (j + 1) w) (m - w) q1) (oe_new_at (x := 0) (by omega)) (by omega) (by rw [oe_in1 (by omega), oe_cu1 (by omega)]; exact h0) a1 (by omega) T2 (fun k hk => (S2 k hk).1) ?_
      exact K hn hc _ (oe_XR_mv hm h0 hf0 hfo G (by omega) (by omega) a1 a2 T2 S2)
    · exact br_f hc (K0 (Or.inr hc))
theorem oe_Y_moveUnder {post : Int32 → SY → Prop} {j i : Nat} (YF : oe_YF m N D fo nm yn yl yf) (W : oe_W D m) (hm : m ≤ 41) (hj : j + 1 < m) (hi : i + 1 < m) (hw : oe_en D m (j + 1) = j + 1 + w) (yf1 : ∀ y, yf y ≤ 1) (kf1 : ∀ y, kf y ≤ 1)
    (hq : ¬ (j + 1 ≤ i + 1 ∧ i + 1 < j + 1 + w) → (i < j ∧ q1 = i + 1) ∨ (j + w ≤ i ∧ i + 1 = q1 + w))
    (K0 : (j + 1 ≤ i + 1 ∧ i + 1 < j + 1 + w) ∨ ¬ (nI (oe_mx D (j + 1) w) + (nI (D (i + 1)) - nI (D (j + 1) - 1)) ≤ 7) → post (-4) (nI (m - 1), nI mk, oe_A yn, oe_A yl, oe_A yf, oe_A kn, oe_A kl, oe_A kf))
    (K : ¬ (j + 1 ≤ i + 1 ∧ i + 1 < j + 1 + w) → nI (oe_mx D (j + 1) w) + (nI (D (i + 1)) - nI (D (j + 1) - 1)) ≤ 7 → ∀ v', oe_YR m mk (oe_in (oe_cu N (j + 1) w) (oe_sg N (j + 1)) (oe_en (oe_cu D (j + 1) w) (m - w) q1) w) (oe_in (oe_cu D (j + 1) w) (oe_ad (oe_sd D (j + 1)) (D (i + 1) + 1)) (oe_en (oe_cu D (j + 1) w) (m - w) q1) w) fo nm v' → post (nI (oe_en (oe_cu D (j + 1) w) (m - w) q1 - 1)) v') : wpY_moveUnder post (nI (m - 1), nI mk, oe_A yn, oe_A yl, oe_A yf, oe_A kn, oe_A kl, oe_A kf) (nI j) (nI i) := by
  have e := oe_en_sh (D := D) (oe_YF_l YF) hj
  have ei := oe_en_sh (D := D) (oe_YF_l YF) hi
  have lm := oe_en_le (D := D) hj
  have lt := oe_en_lt (D := D) (m := m) (k := j + 1)
  have lmi := oe_en_le (D := D) hi
  have lti := oe_en_lt (D := D) (m := m) (k := i + 1)
  have hl := oe_YF_b W hm YF
  have hw2 : oe_en yl (m - 1) j = j + w := by omega
  have l1 := (YF j hj).2.1
  have l2 := (YF i hi).2.1
  have lb := hl j (by omega)
  have lb2 := hl i (by omega)
  have eyj : yl j = D (j + 1) - 1 := by omega
  unfold wpY_moveUnder
  refine oe_y_isPlace1 (by omega) (by omega) (br_f (by decide) (oe_y_isPlace1 (by omega) (by omega) (br_f (by decide) (oe_y_endOf (by omega) (by omega) hl ?_))))
  rw [hw2]
  have k37 : ¬ (j + 1 ≤ i + 1 ∧ i + 1 < j + 1 + w) → wY_moveUnder_37 post (nI j) (nI i) (nI (j + w)) (nI (m - 1)) (nI mk) (oe_A yn) (oe_A yl) (oe_A yf) (oe_A kn) (oe_A kl) (oe_A kf) := by
    intro hn
    have hqq := hq hn
    unfold wY_moveUnder_37
    refine And.intro (vp_in_nI (by omega) (by decide)) (And.intro (vp_in_nI (by omega) (by decide)) (nm_r (e' := nI (D (i + 1)) - nI (D (j + 1) - 1)) (by rw [oe_rd yl (by omega), oe_rd yl (by omega), nI_1, l2, eyj]) ?_))
    refine oe_y_deepest (by omega) (by omega) hl ?_
    have em : oe_mx (fun k => yl k + 1) j w = oe_mx D (j + 1) w := oe_mx_congr (fun t ht => by
      show yl (j + t) + 1 = D (j + 1 + t)
      rw [oe_YF_l YF (j + t) (by omega), show j + t + 1 = j + 1 + t from by omega])
    rw [em]
    by_cases hc : nI (oe_mx D (j + 1) w) + (nI (D (i + 1)) - nI (D (j + 1) - 1)) ≤ 7
    · refine br_t hc (nm_r (e' := nI w) (by rw [pk_sub (by omega), Nat.add_sub_cancel_left]) ?_)
      refine oe_y_endOf (by omega) (by omega) hl ?_
      -- the place where it comes to stand
      have Q := oe_cu_Qw (by omega) hj hw
      have dij := oe_W_le W (i + 1) hi
      have hA : (j < oe_en yl (m - 1) i → oe_en (oe_cu D (j + 1) w) (m - w) q1 = oe_en yl (m - 1) i - w + 1 ∧ w ≤ oe_en yl (m - 1) i) ∧ (¬ j < oe_en yl (m - 1) i → oe_en (oe_cu D (j + 1) w) (m - w) q1 = oe_en yl (m - 1) i + 1) := by
        rcases hqq with ⟨u, v⟩ | ⟨u, v⟩
        · rw [v]
          constructor
          · intro hlt
            obtain ⟨x1, x2⟩ := oe_Q_mid Q (k := i + 1) (by omega) (by omega)
            omega
          · intro hlt
            have := oe_Q_lo Q (k := i + 1) (by omega) (by omega)
            omega
        · obtain ⟨x1, x2⟩ := oe_Q_hi Q (k := q1) (by omega) (by omega)
          rw [← v] at x1 x2
          constructor
          · intro _; omega
          · intro hlt; omega
      have k99 : ∀ z, z + 1 = oe_en (oe_cu D (j + 1) w) (m - w) q1 → z ≤ m - 1 - w → wY_moveUnder_99 post (nI j) (nI (j + w)) (nI (D (i + 1)) - nI (D (j + 1) - 1)) (nI z) (nI (m - 1)) (nI mk) (oe_A yn) (oe_A yl) (oe_A yf) (oe_A kn) (oe_A kl) (oe_A kf) := by
        intro z hz hzm
        unfold wY_moveUnder_99
        have hy : ∀ t, t < w → yl j ≤ yl (j + t) ∧ yl (j + t) + 1 = D (j + 1 + t) ∧ D (j + 1) ≤ D (j + 1 + t) := by
          intro t ht
          have a := oe_YF_l YF (j + t) (by omega)
          rw [show j + t + 1 = j + 1 + t from by omega] at a
          have b := oe_win_ge hw ht
          exact ⟨by omega, a, b⟩
        refine oe_y_addLevels (fun k => yl k - yl j + D (i + 1)) (by omega) (by omega) (fun k k1 k2 => ?_) ?_
        · obtain ⟨t, rfl⟩ : ∃ t, k = j + t := ⟨k - j, by omega⟩
          obtain ⟨y1, y2, y3⟩ := hy t (by omega)
          show nI (yl (j + t)) + (nI (D (i + 1)) - nI (D (j + 1) - 1)) = nI (yl (j + t) - yl j + D (i + 1))
          rw [← nI_add, ← pk_sub y1, ← eyj]
          grind
        · refine oe_y_moveTo (by omega) (by omega) (by omega) (by omega) yf1 kf1 (fun yn' yl' yf' kn' kl' kf' e1 e2 e3 e4 e5 => ?_)
          refine oe_qs (r' := nI (oe_en (oe_cu D (j + 1) w) (m - w) q1 - 1)) (congrArg nI (by omega)) (K hn hc _ ⟨yn', yl', yf', kn', kl', kf', rfl, ?_, e4, e5⟩)
          rw [← hz]
          refine oe_YF_mv (yl1 := fun k => if j ≤ k ∧ k < j + w then yl k - yl j + D (i + 1) else yl k) YF (by omega) (by omega) (fun k hk => if_neg (by omega)) (fun t ht => ?_) e1 e2 e3
          show (if j ≤ j + t ∧ j + t < j + w then yl (j + t) - yl j + D (i + 1) else yl (j + t)) + 1 = _
          rw [if_pos (by omega)]
          obtain ⟨y1, y2, y3⟩ := hy t ht
          omega
      by_cases hlt : j < oe_en yl (m - 1) i
      · obtain ⟨z1, z2⟩ := hA.1 hlt
        refine br_t (nI_lt hlt (by omega)) ?_
        rw [pk_sub z2]
        exact k99 _ z1.symm (by omega)
      · have z1 := hA.2 hlt
        refine br_f (nI_nlt (by omega) (by omega)) (k99 _ z1.symm ?_)
        omega
    · exact br_f hc (K0 (Or.inr hc))
  by_cases h1 : i < j
  · exact br_t (nI_lt h1 (by omega)) (k37 (fun u => by omega))
  · refine br_f (nI_nlt (by omega) (by omega)) ?_
    by_cases h2 : j + w ≤ i
    · exact br_t (nI_le h2 (by omega)) (k37 (fun u => by omega))
    · exact br_f (nI_ge (by omega) (by omega)) (K0 (Or.inl ⟨by omega, by omega⟩))
end
theorem i_vc_indent {k : Nat} {u : SX} {v : SY} (I : i_Rel k u v) (hk : k + 3 ≤ 1536) (v1 : Int32) : wpX_indent (fun r u' => wpY_indent (fun r' v' => r' = r ∧ i_Rel (k + 3) u' v') v v1) u v1 := by
  have I' := i_up I
  obtain ⟨m, mk, N, D, fo, nm, us, ⟨ab, ch, nx, bf, sz, ri, rfl, XC, G⟩, ⟨yn, yl, yf, kn, kl, kf, rfl, YF, yf1, kf1⟩, hmk⟩ := I
  have hm := XC.1
  have W := XC.2.2.2.2.1.1
  rcases pk_ix v1 (n := m - 1) (by omega) with h | h | ⟨j, hj, rfl⟩
  · exact oe_X_indent_bad XC (Or.inl h) (oe_Y_indent_bad (Or.inl h) ⟨rfl, I'⟩)
  · exact oe_X_indent_bad XC (Or.inr h) (oe_Y_indent_bad (Or.inr h) ⟨rfl, I'⟩)
  · obtain ⟨w, hw⟩ : ∃ w, oe_en D m (j + 1) = j + 1 + w := ⟨oe_en D m (j + 1) - (j + 1), by have := oe_en_lt (D := D) (m := m) (k := j + 1); omega⟩
    refine oe_X_indent XC G (by omega) hw (fun hc => ?_) (fun c1 c2 u' X2 => ?_)
    · exact oe_Y_indent YF W hm (by omega) hw yf1 kf1 (fun _ => ⟨rfl, I'⟩) (fun c1 c2 => by rcases hc with hc | hc <;> omega)
    · exact oe_Y_indent YF W hm (by omega) hw yf1 kf1 (fun hc => by rcases hc with hc | hc <;> omega) (fun _ _ v' Y2 => ⟨rfl, _, _, _, _, _, _, _, X2, Y2, by omega⟩)
theorem i_vc_up {k : Nat} {u : SX} {v : SY} (I : i_Rel k u v) (hk : k + 3 ≤ 1536) (v1 : Int32) : wpX_up (fun r u' => wpY_up (fun r' v' => r' = r ∧ i_Rel (k + 3) u' v') v v1) u v1 := by
  have I' := i_up I
  obtain ⟨m, mk, N, D, fo, nm, us, ⟨ab, ch, nx, bf, sz, ri, rfl, XC, G⟩, ⟨yn, yl, yf, kn, kl, kf, rfl, YF, yf1, kf1⟩, hmk⟩ := I
  have hm := XC.1
  have W := XC.2.2.2.2.1.1
  rcases pk_ix v1 (n := m - 1) (by omega) with h | h | ⟨j, hj, rfl⟩
  · exact oe_X_up_bad XC (Or.inl h) (oe_Y_up_bad (Or.inl h) ⟨rfl, I'⟩)
  · exact oe_X_up_bad XC (Or.inr h) (oe_Y_up_bad (Or.inr h) ⟨rfl, I'⟩)
  · obtain ⟨w, hw⟩ : ∃ w, oe_en D m (j + 1) = j + 1 + w := ⟨oe_en D m (j + 1) - (j + 1), by have := oe_en_lt (D := D) (m := m) (k := j + 1); omega⟩
    refine oe_X_up XC G (by omega) hw rfl (fun hc => ?_) (fun c1 u' X2 => ?_)
    · exact oe_Y_up YF W hm (by omega) hw yf1 kf1 rfl (fun _ => ⟨rfl, I'⟩) (fun c1 => absurd c1 hc)
    · exact oe_Y_up YF W hm (by omega) hw yf1 kf1 rfl (fun hc => absurd c1 hc) (fun _ v' Y2 => ⟨rfl, _, _, _, _, _, _, _, X2, Y2, by omega⟩)
theorem i_vc_down {k : Nat} {u : SX} {v : SY} (I : i_Rel k u v) (hk : k + 3 ≤ 1536) (v1 : Int32) : wpX_down (fun r u' => wpY_down (fun r' v' => r' = r ∧ i_Rel (k + 3) u' v') v v1) u v1 := by
  have I' := i_up I
  obtain ⟨m, mk, N, D, fo, nm, us, ⟨ab, ch, nx, bf, sz, ri, rfl, XC, G⟩, ⟨yn, yl, yf, kn, kl, kf, rfl, YF, yf1, kf1⟩, hmk⟩ := I
  have hm := XC.1
  have W := XC.2.2.2.2.1.1
  rcases pk_ix v1 (n := m - 1) (by omega) with h | h | ⟨j, hj, rfl⟩
  · exact oe_X_down_bad XC (Or.inl h) (oe_Y_down_bad (Or.inl h) ⟨rfl, I'⟩)
  · exact oe_X_down_bad XC (Or.inr h) (oe_Y_down_bad (Or.inr h) ⟨rfl, I'⟩)
  · obtain ⟨w, hw⟩ : ∃ w, oe_en D m (j + 1) = j + 1 + w := ⟨oe_en D m (j + 1) - (j + 1), by have := oe_en_lt (D := D) (m := m) (k := j + 1); omega⟩
    refine oe_X_down XC G (by omega) hw (fun hc => ?_) (fun c1 c2 u' X2 => ?_)
    · exact oe_Y_down YF W hm (by omega) hw yf1 kf1 (fun _ => ⟨rfl, I'⟩) (fun c1 c2 => absurd c2 (hc c1))
    · exact oe_Y_down YF W hm (by omega) hw yf1 kf1 (fun hc => absurd c2 (hc c1)) (fun _ _ v' Y2 => ⟨rfl, _, _, _, _, _, _, _, X2, Y2, by omega⟩)
theorem i_vc_moveUnder {k : Nat} {u : SX} {v : SY} (I : i_Rel k u v) (hk : k + 3 ≤ 1536) (v1 : Int32) (v2 : Int32) : wpX_moveUnder (fun r u' => wpY_moveUnder (fun r' v' => r' = r ∧ i_Rel (k + 3) u' v') v v1 v2) u v1 v2 := by
  have I' := i_up I
  obtain ⟨m, mk, N, D, fo, nm, us, ⟨ab, ch, nx, bf, sz, ri, rfl, XC, G⟩, ⟨yn, yl, yf, kn, kl, kf, rfl, YF, yf1, kf1⟩, hmk⟩ := I
  have hm := XC.1
  have W := XC.2.2.2.2.1.1
  rcases pk_ix v1 (n := m - 1) (by omega) with h | h | ⟨j, hj, rfl⟩
  · exact oe_X_moveUnder_bad XC (Or.inl h) (oe_Y_moveUnder_bad (Or.inl h) ⟨rfl, I'⟩)
  · exact oe_X_moveUnder_bad XC (Or.inr h) (oe_Y_moveUnder_bad (Or.inr h) ⟨rfl, I'⟩)
  · rcases pk_ix v2 (n := m - 1) (by omega) with h | h | ⟨i, hi, rfl⟩
    · exact oe_X_moveUnder_bad2 XC (by omega) (Or.inl h) (oe_Y_moveUnder_bad2 (by omega) hj (Or.inl h) ⟨rfl, I'⟩)
    · exact oe_X_moveUnder_bad2 XC (by omega) (Or.inr h) (oe_Y_moveUnder_bad2 (by omega) hj (Or.inr h) ⟨rfl, I'⟩)
    · obtain ⟨w, hw⟩ : ∃ w, oe_en D m (j + 1) = j + 1 + w := ⟨oe_en D m (j + 1) - (j + 1), by have := oe_en_lt (D := D) (m := m) (k := j + 1); omega⟩
      obtain ⟨q1, hq⟩ : ∃ q1, ¬ (j + 1 ≤ i + 1 ∧ i + 1 < j + 1 + w) → (i < j ∧ q1 = i + 1) ∨ (j + w ≤ i ∧ i + 1 = q1 + w) := by
        by_cases hij : i < j
        · exact ⟨i + 1, fun _ => Or.inl ⟨hij, rfl⟩⟩
        · exact ⟨i + 1 - w, fun hn => Or.inr ⟨by omega, by omega⟩⟩
      refine oe_X_moveUnder XC G (by omega) (by omega) hw hq (fun hc => ?_) (fun c1 c2 u' X2 => ?_)
      · exact oe_Y_moveUnder YF W hm (by omega) (by omega) hw yf1 kf1 hq (fun _ => ⟨rfl, I'⟩) (fun c1 c2 => by rcases hc with hc | hc; exact absurd hc c1; exact absurd c2 hc)
      · exact oe_Y_moveUnder YF W hm (by omega) (by omega) hw yf1 kf1 hq (fun hc => by rcases hc with hc | hc; exact absurd hc c1; exact absurd c2 hc) (fun _ _ v' Y2 => ⟨rfl, _, _, _, _, _, _, _, X2, Y2, by omega⟩)
end
section
/-! fold, reveal, foldLevel -/
section
variable {m mk n : Nat} {yn yl yf kn kl kf N D fo nm us ab ch nx bf sz ri : Nat → Nat}
theorem oe_SR_fo {fo' : Nat → Nat} {k : Nat} (hk : k < m) (h : ∀ q, k ≤ q → q < oe_en D m k → fo' (N q) = fo (N q)) (s : oe_SR sz ri fo N D m k) : oe_SR sz ri fo' N D m k := by
  have l := oe_en_lt (D := D) (m := m) (k := k)
  have lm := oe_en_le (D := D) hk
  have e : oe_vc (fun q => fo' (N q)) D m k = oe_vc (fun q => fo (N q)) D m k := by
    refine oe_vc_win (L := oe_en D m k - k) (c := 0) (c' := 0) hk (by omega) (by omega) (fun t ht => rfl) (fun hx => ?_) (fun t ht => h (k + t) (by omega) (by omega))
    rw [show k + (oe_en D m k - k) = oe_en D m k from by omega] at hx ⊢
    exact oe_en_at hx
  unfold oe_SR oe_S oe_R at s ⊢
  rw [e]; exact s
theorem oe_X_fold {post : Int32 → SX → Prop} {j b : Nat} {v2 : Int32} (XC : oe_XC m N D fo ab ch nx bf sz ri) (G : oe_G m mk N nm us) (hj : j + 1 < m) (b0 : v2 = 0 → b = 0) (b1 : v2 ≠ 0 → b = 1)
    (K : ∀ u', oe_XR m mk N D (oe_u fo (N (j + 1)) b) nm us u' → post (nI (fo (N (j + 1)))) u') : wpX_fold post (nI mk, oe_A us, oe_A nm, oe_A fo, oe_A ab, oe_A ch, oe_A nx, oe_A bf, oe_A sz, oe_A ri) (nI j) v2 := by
  have hS := oe_XC_S XC
  obtain ⟨hm, h0, hf0, hfo, T, SR⟩ := XC
  have hx := T.2.1.1 (j + 1) hj
  have hx0 := T.2.1.2.1 (j + 1) (by omega) hj
  have ix := vp_in_nI hx (show 41 < 2 ^ 31 by decide)
  have hb : b ≤ 1 := by
    by_cases e : v2 = 0
    · rw [b0 e]; omega
    · rw [b1 e]; omega
  have hfo' : ∀ y, oe_u fo (N (j + 1)) b y ≤ 1 := oe_u_le hfo hb
  have main : ∀ z : Int32, wX_fold_46 post (nI (N (j + 1))) (nI (fo (N (j + 1)))) z (nI (N (j + 1))) (nI mk) (oe_A us) (oe_A nm) (oe_A fo) (oe_A ab) (oe_A ch) (oe_A nx) (oe_A bf) (oe_A sz) (oe_A ri) ∨ z ≠ nI b := by
    intro z
    by_cases e : z = nI b
    · refine Or.inl ?_
      subst e
      refine And.intro ix (nm_r (e' := oe_A (oe_u fo (N (j + 1)) b)) (by rw [oe_nar hb, oe_st fo b (by omega)]) ?_)
      refine oe_x_pullUp hm hfo' h0 hj T (fun k hk hn => ?_) (fun sz' ri' hs _ => ?_)
      · refine oe_SR_fo hk (fun q q1 q2 => oe_un (fun e2 => ?_)) (SR k hk)
        have lm := oe_en_le (D := D) hk
        have := T.2.1.2.2 _ _ (by omega) hj e2
        subst this
        exact hn ⟨q1, q2⟩
      · exact K _ ⟨_, _, _, _, _, _, rfl, ⟨hm, h0, by rw [oe_un (by omega)]; exact hf0, hfo', T, hs⟩, G⟩
    · exact Or.inr e
  have m0 : v2 = 0 → wX_fold_46 post (nI (N (j + 1))) (nI (fo (N (j + 1)))) 0 (nI (N (j + 1))) (nI mk) (oe_A us) (oe_A nm) (oe_A fo) (oe_A ab) (oe_A ch) (oe_A nx) (oe_A bf) (oe_A sz) (oe_A ri) := fun e => (main 0).resolve_right (fun u => u (by rw [b0 e]; exact nI_0.symm))
  have m1 : v2 ≠ 0 → wX_fold_46 post (nI (N (j + 1))) (nI (fo (N (j + 1)))) 1 (nI (N (j + 1))) (nI mk) (oe_A us) (oe_A nm) (oe_A fo) (oe_A ab) (oe_A ch) (oe_A nx) (oe_A bf) (oe_A sz) (oe_A ri) := fun e => (main 1).resolve_right (fun u => u (by rw [b1 e]; rfl))
  unfold wpX_fold
  refine oe_x_bad0 hm h0 T hS hj (br_t rfl (oe_x_nodeAt hm h0 hj T hS (And.intro ix ?_)))
  by_cases hf : fo (N (j + 1)) = 0
  · rw [hf] at m0 m1
    exact br_t (by rw [oe_rd fo (by omega), hf]; exact nI_0) (br_c m0 m1)
  · have hf1 : fo (N (j + 1)) = 1 := by have := hfo (N (j + 1)); omega
    rw [hf1] at m0 m1
    exact br_f (by rw [oe_rd fo (by omega), hf1]; decide) (br_c m0 m1)
theorem oe_Y_fold {post : Int32 → SY → Prop} {j b : Nat} {v2 : Int32} (YF : oe_YF m N D fo nm yn yl yf) (HN : oe_N N m) (hm : m ≤ 41) (hj : j + 1 < m) (yf1 : ∀ y, yf y ≤ 1) (kf1 : ∀ y, kf y ≤ 1) (b0 : v2 = 0 → b = 0) (b1 : v2 ≠ 0 → b = 1)
    (K : ∀ v', oe_YR m mk N D (oe_u fo (N (j + 1)) b) nm v' → post (nI (fo (N (j + 1)))) v') : wpY_fold post (nI (m - 1), nI mk, oe_A yn, oe_A yl, oe_A yf, oe_A kn, oe_A kl, oe_A kf) (nI j) v2 := by
  have ix := vp_in_nI (show j < 40 by omega) (show 40 < 2 ^ 31 by decide)
  have hb : b ≤ 1 := by
    by_cases e : v2 = 0
    · rw [b0 e]; omega
    · rw [b1 e]; omega
  have ej := (YF j hj).2.2
  have fin : post (nI (fo (N (j + 1)))) (nI (m - 1), nI mk, oe_A yn, oe_A yl, oe_A (oe_u yf j b), oe_A kn, oe_A kl, oe_A kf) := by
    refine K _ ⟨_, _, _, _, _, _, rfl, fun k hk => ?_, oe_u_le yf1 hb, kf1⟩
    obtain ⟨y1, y2, y3⟩ := YF k hk
    refine ⟨y1, y2, ?_⟩
    by_cases e : k = j
    · subst e; rw [oe_us, oe_us]
    · rw [oe_un e, oe_un (fun e2 => by have := HN.2.2 _ _ (by omega) (by omega) e2; omega)]; exact y3
  have main : ∀ z : Int32, z = nI (fo (N (j + 1))) → wY_fold_24 post (nI j) v2 z (nI (m - 1)) (nI mk) (oe_A yn) (oe_A yl) (oe_A yf) (oe_A kn) (oe_A kl) (oe_A kf) := by
    intro z hz
    subst hz
    by_cases e : v2 = 0
    · refine br_t e (And.intro ix (nm_r (e' := oe_A (oe_u yf j b)) ?_ fin))
      rw [b0 e, oe_nar0, oe_st yf 0 (by omega)]
    · refine br_f e (And.intro ix (nm_r (e' := oe_A (oe_u yf j b)) ?_ fin))
      rw [b1 e, oe_nar1, oe_st yf 1 (by omega)]
  unfold wpY_fold
  refine oe_y_isPlace1 (by omega) (by omega) (br_f (by decide) (And.intro ix ?_))
  by_cases hf : yf j = 0
  · exact br_t (by rw [oe_rd yf (by omega), hf]; exact nI_0) (main 0 (by rw [← ej, hf]; exact nI_0.symm))
  · have hf1 : yf j = 1 := by have := yf1 j; omega
    exact br_f (by rw [oe_rd yf (by omega), hf1]; decide) (main 1 (by rw [← ej, hf1]; rfl))
/-- what reveal leaves: nothing folded above p, below q's position -/
def oe_rv (N D fo fo' : Nat → Nat) (m p q : Nat) : Prop := (∀ k, k < m → (q < k ∧ k < p ∧ p < oe_en D m k → fo' (N k) = 0) ∧ (¬ (q < k ∧ k < p ∧ p < oe_en D m k) → fo' (N k) = fo (N k))) ∧ (∀ y, fo' y ≤ 1)
theorem oe_reveal_loop {post : Int32 → SX → Prop} {p : Nat} {fo0 : Nat → Nat} (hm : m ≤ 41) (h0 : N 0 = 0) (hf0 : fo0 0 = 0) (hp : p < m) (T : oe_T ab ch nx bf N D m)
    (K : ∀ fo', oe_rv N D fo0 fo' m p 0 → wX_reveal_77 post (nI (N p)) (nI (oe_cn (fun a => p < oe_en D m a ∧ fo0 (N a) ≠ 0) 0 p)) (nI mk) (oe_A us) (oe_A nm) (oe_A fo') (oe_A ab) (oe_A ch) (oe_A nx) (oe_A bf) (oe_A sz) (oe_A ri)) :
    ∀ f q i c fo, q < f → q < p → p < oe_en D m q → i + q ≤ 40 → c + oe_cn (fun a => p < oe_en D m a ∧ fo0 (N a) ≠ 0) 0 (q + 1) = oe_cn (fun a => p < oe_en D m a ∧ fo0 (N a) ≠ 0) 0 p → oe_rv N D fo0 fo m p q → wX_reveal_29 post (nI (N p)) (nI mk) f (nI c) (nI (N q)) (nI i) (oe_A us) (oe_A nm) (oe_A fo) (oe_A ab) (oe_A ch) (oe_A nx) (oe_A bf) (oe_A sz) (oe_A ri) := by
  intro f
  induction f with
  | zero => intro q i c fo h; omega
  | succ f ih =>
    intro q i c fo hf hqp hqe hi hc hr
    obtain ⟨W, HN, HC, HP, HX, HB⟩ := T
    have hq : q < m := by omega
    rcases Nat.eq_zero_or_pos q with z | z
    · subst z
      have e1 : oe_cn (fun a => p < oe_en D m a ∧ fo0 (N a) ≠ 0) 0 (0 + 1) = 0 := by
        rw [Nat.zero_add, oe_cn_one, oe_b0 (fun u => u.2 (by rw [h0]; exact hf0))]
      rw [e1, Nat.add_zero] at hc
      have fin := K fo hr
      rw [← hc] at fin
      rw [h0]
      by_cases h : (40 : Int32) ≤ nI i
      · exact br_t h fin
      · exact br_f h (br_t nI_0 fin)
    · have hx := HN.1 q hq
      have hx0 := HN.2.1 q z hq
      have ix := vp_in_nI hx (show 41 < 2 ^ 31 by decide)
      obtain ⟨p1, p2, p3⟩ := oe_pa W z hq
      have pe := oe_pa_en W z hq
      have fq : fo (N q) = fo0 (N q) := (hr.1 q hq).2 (fun u => by omega)
      -- the count
      have sp := oe_cn_sp (fun a => p < oe_en D m a ∧ fo0 (N a) ≠ 0) (lo := 0) (a := oe_sc D (D q) q + 1) (b := q) (by omega) (by omega)
      have zz : oe_cn (fun a => p < oe_en D m a ∧ fo0 (N a) ≠ 0) (oe_sc D (D q) q + 1) (q - (oe_sc D (D q) q + 1)) = 0 := by
        apply oe_cn_zero
        intro t ht u
        have := oe_an_pa W z hq (q := oe_sc D (D q) q + 1 + t) (by omega) (by omega)
        omega
      have ss : oe_cn (fun a => p < oe_en D m a ∧ fo0 (N a) ≠ 0) 0 (q + 1) = oe_cn (fun a => p < oe_en D m a ∧ fo0 (N a) ≠ 0) 0 q + oe_b (p < oe_en D m (0 + q) ∧ fo0 (N (0 + q)) ≠ 0) := rfl
      rw [Nat.zero_add] at ss
      rw [zz, Nat.sub_zero, Nat.sub_zero, Nat.add_zero] at sp
      have hr' : oe_rv N D fo0 (oe_u fo (N q) 0) m p (oe_sc D (D q) q) := by
        refine ⟨fun k hk => ?_, oe_u_le hr.2 (by omega)⟩
        by_cases e : k = q
        · subst e
          rw [oe_us]
          exact ⟨fun _ => rfl, fun u => absurd ⟨p1, hqp, hqe⟩ u⟩
        · rw [oe_un (fun e2 => e (HN.2.2 k q hk hq e2))]
          obtain ⟨r1, r0⟩ := hr.1 k hk
          refine ⟨fun u => ?_, fun u => r0 (fun v => u ⟨by omega, v.2⟩)⟩
          rcases Nat.lt_or_ge q k with y | y
          · exact r1 ⟨y, u.2⟩
          · have := oe_an_pa W z hq (q := k) (by omega) (by omega)
            omega
      have step : ∀ c', c' + oe_cn (fun a => p < oe_en D m a ∧ fo0 (N a) ≠ 0) 0 (oe_sc D (D q) q + 1) = oe_cn (fun a => p < oe_en D m a ∧ fo0 (N a) ≠ 0) 0 p → wX_reveal_54 post (wX_reveal_29 post (nI (N p)) (nI mk) f) (nI (N p)) (nI c') (nI (N q)) (nI i) (nI mk) (oe_A us) (oe_A nm) (oe_A fo) (oe_A ab) (oe_A ch) (oe_A nx) (oe_A bf) (oe_A sz) (oe_A ri) := by
        intro c' hc'
        refine And.intro ix (nm_r (e' := oe_A (oe_u fo (N q) 0)) (by rw [oe_nar0, oe_st fo 0 (by omega)]) (And.intro ix (nm_r (e' := nI (N (oe_sc D (D q) q))) (by rw [oe_rd ab (by omega), HP q z hq]) (nm_r (nI_1 i) ?_))))
        exact ih _ (i + 1) c' _ (by omega) (by omega) (by omega) (by omega) hc' hr'
      refine br_f (nI_ge (b := 40) (by omega) (by decide)) (br_f (nI_ne0 hx0 (by omega)) (And.intro ix ?_))
      by_cases hfq : fo (N q) = 0
      · rw [oe_b0 (fun u => u.2 (by rw [← fq]; exact hfq))] at ss
        exact br_t (by rw [oe_rd fo (by omega), hfq]; exact nI_0) (step c (by omega))
      · rw [oe_b1 ⟨hqe, by rw [← fq]; exact hfq⟩] at ss
        exact br_f (by rw [oe_rd fo (by omega)]; exact nI_ne0 (by omega) (by have := hr.2 (N q); omega)) (nm_r (nI_1 c) (step (c + 1) (by omega)))
theorem oe_X_reveal {post : Int32 → SX → Prop} {j : Nat} (XC : oe_XC m N D fo ab ch nx bf sz ri) (G : oe_G m mk N nm us) (hj : j + 1 < m)
    (K : ∀ fo' u', oe_rv N D fo fo' m (j + 1) 0 → oe_XR m mk N D fo' nm us u' → post (nI (oe_cn (fun a => j + 1 < oe_en D m a ∧ fo (N a) ≠ 0) 0 (j + 1))) u') : wpX_reveal post (nI mk, oe_A us, oe_A nm, oe_A fo, oe_A ab, oe_A ch, oe_A nx, oe_A bf, oe_A sz, oe_A ri) (nI j) := by
  have hS := oe_XC_S XC
  obtain ⟨hm, h0, hf0, hfo, T, SR⟩ := XC
  have hx := T.2.1.1 (j + 1) hj
  have ix := vp_in_nI hx (show 41 < 2 ^ 31 by decide)
  obtain ⟨p1, p2, p3⟩ := oe_pa T.1 (k := j + 1) (by omega) hj
  have pan := oe_pa_an T.1 (k := j + 1) (by omega) hj
  unfold wpX_reveal
  refine oe_x_bad0 hm h0 T hS hj (br_t rfl (oe_x_nodeAt hm h0 hj T hS (And.intro ix (nm_r (e' := nI (N (oe_sc D (D (j + 1)) (j + 1)))) (by rw [oe_rd ab (by omega), T.2.2.2.1 (j + 1) (by omega) hj]) ⟨42, ?_⟩))))
  refine oe_reveal_loop (fo0 := fo) hm h0 hf0 hj T (fun fo' hr => ?_) 42 _ 0 0 fo (by omega) p1 pan (by omega) ?_ ⟨fun k hk => ⟨fun u => ?_, fun _ => rfl⟩, hfo⟩
  · refine oe_x_pullUp hm hr.2 h0 hj T (fun k hk hn => ?_) (fun sz' ri' hs _ => ?_)
    · refine oe_SR_fo hk (fun a a1 a2 => ?_) (SR k hk)
      have lm := oe_en_le (D := D) hk
      refine (hr.1 a (by omega)).2 (fun u => hn ⟨by omega, ?_⟩)
      have := oe_lam (D := D) hk a1 a2
      omega
    · refine K _ _ hr ⟨_, _, _, _, _, _, rfl, ⟨hm, h0, ?_, hr.2, T, hs⟩, G⟩
      have := (hr.1 0 T.1.1).2 (fun u => by omega)
      rw [h0] at this
      rw [this]; exact hf0
  · have sp := oe_cn_sp (fun a => j + 1 < oe_en D m a ∧ fo (N a) ≠ 0) (lo := 0) (a := oe_sc D (D (j + 1)) (j + 1) + 1) (b := j + 1) (by omega) (by omega)
    have zz : oe_cn (fun a => j + 1 < oe_en D m a ∧ fo (N a) ≠ 0) (oe_sc D (D (j + 1)) (j + 1) + 1) (j + 1 - (oe_sc D (D (j + 1)) (j + 1) + 1)) = 0 := by
      apply oe_cn_zero
      intro t ht u
      have := oe_an_pa T.1 (k := j + 1) (by omega) hj (q := oe_sc D (D (j + 1)) (j + 1) + 1 + t) (by omega) u.1
      omega
    rw [zz, Nat.sub_zero, Nat.sub_zero, Nat.add_zero] at sp
    omega
  · have := oe_an_pa T.1 (k := j + 1) (by omega) hj (q := k) u.2.1 u.2.2
    omega
theorem oe_revealY_loop {post : Int32 → SY → Prop} {j : Nat} {yf0 : Nat → Nat} (hn : n ≤ 40) (hj : j < n) (hl : ∀ k, k < n → yl k < 41)
    (K : ∀ yf, (∀ k, k < n → (k < j ∧ j < oe_en yl n k → yf k = 0) ∧ (¬ (k < j ∧ j < oe_en yl n k) → yf k = yf0 k)) → (∀ y, yf y ≤ 1) → post (nI (oe_cn (fun b => j < oe_en yl n b ∧ yf0 b ≠ 0) 0 j)) (nI n, nI mk, oe_A yn, oe_A yl, oe_A yf, oe_A kn, oe_A kl, oe_A kf)) :
    ∀ f a yf, a + f = j → (∀ k, k < n → (k < a ∧ j < oe_en yl n k → yf k = 0) ∧ (¬ (k < a ∧ j < oe_en yl n k) → yf k = yf0 k)) → (∀ y, yf y ≤ 1) → wY_reveal_14 post (nI j) (nI n) (nI mk) (f + 1) (nI (oe_cn (fun b => j < oe_en yl n b ∧ yf0 b ≠ 0) 0 a)) (nI a) (oe_A yn) (oe_A yl) (oe_A yf) (oe_A kn) (oe_A kl) (oe_A kf) := by
  intro f
  induction f with
  | zero =>
    intro a yf ha hr h1
    have e : a = j := by omega
    subst e
    exact br_t (nI_le (Nat.le_refl _) (by omega)) (K yf hr h1)
  | succ f ih =>
    intro a yf ha hr h1
    have ia := vp_in_nI (show a < 40 by omega) (show 40 < 2 ^ 31 by decide)
    have lm := oe_en_le (D := yl) (m := n) (k := a) (by omega)
    have ss : oe_cn (fun b => j < oe_en yl n b ∧ yf0 b ≠ 0) 0 (a + 1) = oe_cn (fun b => j < oe_en yl n b ∧ yf0 b ≠ 0) 0 a + oe_b (j < oe_en yl n (0 + a) ∧ yf0 (0 + a) ≠ 0) := rfl
    rw [Nat.zero_add] at ss
    have fa : yf a = yf0 a := (hr a (by omega)).2 (fun u => by omega)
    refine br_f (nI_ge (by omega) (by omega)) (oe_y_endOf hn (by omega) hl ?_)
    by_cases he : oe_en yl n a ≤ j
    · rw [oe_b0 (fun u => by omega), Nat.add_zero] at ss
      have := ih (a + 1) yf (by omega) (fun k hk => ⟨fun u => ?_, fun u => (hr k hk).2 (fun v => u ⟨by omega, v.2⟩)⟩) h1
      · rw [ss] at this
        exact br_t (nI_le he (by omega)) (nm_r (nI_1 a) this)
      · refine (hr k hk).1 ⟨?_, u.2⟩
        have : k ≠ a := fun e => by subst e; omega
        omega
    · refine br_f (nI_ge (by omega) (by omega)) (And.intro ia ?_)
      by_cases hf : yf a = 0
      · rw [oe_b0 (fun u => u.2 (by rw [← fa]; exact hf)), Nat.add_zero] at ss
        have := ih (a + 1) yf (by omega) (fun k hk => ⟨fun u => ?_, fun u => (hr k hk).2 (fun v => u ⟨by omega, v.2⟩)⟩) h1
        · rw [ss] at this
          exact br_t (by rw [oe_rd yf (by omega), hf]; exact nI_0) (nm_r (nI_1 a) this)
        · by_cases e : k = a
          · subst e; exact hf
          · exact (hr k hk).1 ⟨by omega, u.2⟩
      · rw [oe_b1 ⟨by omega, by rw [← fa]; exact hf⟩] at ss
        have := ih (a + 1) (oe_u yf a 0) (by omega) (fun k hk => ?_) (oe_u_le h1 (by omega))
        · rw [ss] at this
          refine br_f (by rw [oe_rd yf (by omega)]; exact nI_ne0 (by omega) (by have := h1 a; omega)) (And.intro ia (nm_r (e' := oe_A (oe_u yf a 0)) (by rw [oe_nar0, oe_st yf 0 (by omega)]) (nm_r (nI_1 _) (nm_r (nI_1 a) this))))
        · by_cases e : k = a
          · subst e
            rw [oe_us]
            exact ⟨fun _ => rfl, fun u => absurd ⟨by omega, by omega⟩ u⟩
          · rw [oe_un e]
            exact ⟨fun u => (hr k hk).1 ⟨by omega, u.2⟩, fun u => (hr k hk).2 (fun v => u ⟨by omega, v.2⟩)⟩
theorem oe_Y_reveal {post : Int32 → SY → Prop} {j : Nat} {fo' : Nat → Nat} (YF : oe_YF m N D fo nm yn yl yf) (W : oe_W D m) (h0 : N 0 = 0) (hf0 : fo 0 = 0) (hm : m ≤ 41) (hj : j + 1 < m) (yf1 : ∀ y, yf y ≤ 1) (kf1 : ∀ y, kf y ≤ 1) (hr : oe_rv N D fo fo' m (j + 1) 0)
    (K : ∀ v', oe_YR m mk N D fo' nm v' → post (nI (oe_cn (fun a => j + 1 < oe_en D m a ∧ fo (N a) ≠ 0) 0 (j + 1))) v') : wpY_reveal post (nI (m - 1), nI mk, oe_A yn, oe_A yl, oe_A yf, oe_A kn, oe_A kl, oe_A kf) (nI j) := by
  have hl := oe_YF_b W hm YF
  unfold wpY_reveal
  refine oe_y_isPlace1 (by omega) (by omega) (br_f (by decide) ⟨j + 1, ?_⟩)
  refine oe_revealY_loop (n := m - 1) (yf0 := yf) (by omega) (by omega) hl (fun yf' h1 h2 => ?_) j 0 yf (by omega) (fun k hk => ⟨fun u => by omega, fun _ => rfl⟩) yf1
  refine oe_qs (r' := nI (oe_cn (fun a => j + 1 < oe_en D m a ∧ fo (N a) ≠ 0) 0 (j + 1))) ?_ (K _ ⟨_, _, _, _, _, _, rfl, fun k hk => ?_, h2, kf1⟩)
  · rw [oe_cn_hd, oe_b0 (fun u => u.2 (by rw [h0]; exact hf0)), Nat.zero_add]
    apply congrArg nI
    apply oe_cn_congr
    intro t ht
    have e := oe_en_sh (D := D) (oe_YF_l YF) (j := t) (by omega)
    have f := (YF t (by omega)).2.2
    show (j < oe_en yl (m - 1) (0 + t) ∧ yf (0 + t) ≠ 0) ↔ (j + 1 < oe_en D m (0 + 1 + t) ∧ fo (N (0 + 1 + t)) ≠ 0)
    rw [Nat.zero_add, Nat.zero_add, Nat.add_comm 1 t, e, f]
    exact ⟨fun u => ⟨by omega, u.2⟩, fun u => ⟨by omega, u.2⟩⟩
  · obtain ⟨y1, y2, y3⟩ := YF k hk
    refine ⟨y1, y2, ?_⟩
    have e := oe_en_sh (D := D) (oe_YF_l YF) hk
    obtain ⟨r1, r0⟩ := hr.1 (k + 1) hk
    obtain ⟨q1, q0⟩ := h1 k (by omega)
    by_cases c : k < j ∧ j < oe_en yl (m - 1) k
    · rw [q1 c, r1 ⟨by omega, by omega, by omega⟩]
    · rw [q0 c, r0 (fun u => c ⟨by omega, by omega⟩)]; exact y3
end
end
section
/-! foldLevel; the owed rows of the folds -/
/-- whether position k is folded behind foldLevel(l) -/
def oe_fl (D : Nat → Nat) (m l k : Nat) : Nat := if D k = l + 1 ∧ k + 1 < oe_en D m k then 1 else 0
theorem oe_fl_le (D : Nat → Nat) (m l k : Nat) : oe_fl D m l k ≤ 1 := by
  unfold oe_fl; split <;> omega
section
variable {m mk n : Nat} {yn yl yf kn kl kf N D fo nm us ab ch nx bf sz ri : Nat → Nat}
/-- the folds as far as position q, from behind -/
def oe_fq (N D fo fo' : Nat → Nat) (m l q : Nat) : Prop := (∀ k, k < m → (q < k → fo' (N k) = oe_fl D m l k) ∧ (k ≤ q → fo' (N k) = fo (N k))) ∧ (∀ y, fo' y ≤ 1)
theorem oe_foldLevel_loop {post : Int32 → SX → Prop} {l : Nat} {fo0 : Nat → Nat} (hm : m ≤ 41) (h0 : N 0 = 0) (hf0 : fo0 0 = 0) (hl : l ≤ 7) (T : oe_T ab ch nx bf N D m)
    (K : ∀ fo' sz' ri', oe_fq N D fo0 fo' m l 0 → (∀ k, k < m → oe_SR sz' ri' fo' N D m k) → post (nI (oe_cn (fun k => oe_fl D m l k ≠ 0) 1 (m - 1))) (nI mk, oe_A us, oe_A nm, oe_A fo', oe_A ab, oe_A ch, oe_A nx, oe_A bf, oe_A sz', oe_A ri')) :
    ∀ f q c fo sz ri, q < f → q < m → c = oe_cn (fun k => oe_fl D m l k ≠ 0) (q + 1) (m - (q + 1)) → oe_fq N D fo0 fo m l q → (∀ k, k < m → oe_S sz N D m k) → (∀ k, q < k → k < m → oe_R ri fo N D m k) → wX_foldLevel_23 post (nI l) f (nI c) (oe_lv q) (nI mk) (oe_A us) (oe_A nm) (oe_A fo) (oe_A ab) (oe_A ch) (oe_A nx) (oe_A bf) (oe_A sz) (oe_A ri) := by
  intro f
  induction f with
  | zero => intro q c fo sz ri h; omega
  | succ f ih =>
    intro q c fo sz ri hf hq hc hr hS hR
    have T' := T
    obtain ⟨W, HN, HC, HP, HX, HB⟩ := T
    rcases Nat.eq_zero_or_pos q with z | z
    · subst z
      refine br_t ((oe_lv_lt (a := 0) (by omega) (by omega)).mpr (Nat.le_refl _)) ?_
      refine oe_x_pullE (q := 0) (by rw [h0]; exact nI_0.symm) hm hq hr.2 T' (fun k k0 hk => ⟨hS k (by have := oe_en_le (D := D) hq; omega), hR k k0 (by have := oe_en_le (D := D) hq; omega)⟩) (fun S R hs hr2 => ?_)
      subst hc
      refine K _ _ _ hr (fun k hk => ?_)
      by_cases e : k = 0
      · subst e; exact oe_SR_us hs hr2
      · exact oe_SR_u HN hq hk e ⟨hS k hk, hR k (by omega) hk⟩
    · obtain ⟨r, rfl⟩ : ∃ r, q = r + 1 := ⟨q - 1, by omega⟩
      have hx := HN.1 (r + 1) hq
      have hx0 := HN.2.1 (r + 1) z hq
      have ix := vp_in_nI hx (show 41 < 2 ^ 31 by decide)
      have dp := (W.2.2 (r + 1) z hq).1
      have dl := oe_W_le W (r + 1) hq
      have lt := oe_en_lt (D := D) (m := m) (k := r + 1)
      have lm := oe_en_le (D := D) hq
      have hfl := oe_fl_le D m l (r + 1)
      have hr' : oe_fq N D fo0 (oe_u fo (N (r + 1)) (oe_fl D m l (r + 1))) m l r := by
        refine ⟨fun k hk => ?_, oe_u_le hr.2 hfl⟩
        by_cases e : k = r + 1
        · subst e
          rw [oe_us]
          exact ⟨fun _ => rfl, fun u => by omega⟩
        · rw [oe_un (fun e2 => e (HN.2.2 _ _ hk hq e2))]
          exact ⟨fun u => (hr.1 k hk).1 (by omega), fun u => (hr.1 k hk).2 (by omega)⟩
      have hc2 : oe_cn (fun k => oe_fl D m l k ≠ 0) (r + 1) (m - (r + 1)) = oe_b (oe_fl D m l (r + 1) ≠ 0) + c := by
        have := oe_cn_hd (fun k => oe_fl D m l k ≠ 0) (r + 1) (m - (r + 1 + 1))
        rw [show m - (r + 1 + 1) + 1 = m - (r + 1) from by omega] at this
        rw [this, hc]
      have k83 : ∀ c', c' = oe_cn (fun k => oe_fl D m l k ≠ 0) (r + 1) (m - (r + 1)) → wX_foldLevel_83 post (wX_foldLevel_23 post (nI l) f) (nI l) (nI c') (nI r) (nI (N (r + 1))) (nI mk) (oe_A us) (oe_A nm) (oe_A (oe_u fo (N (r + 1)) (oe_fl D m l (r + 1)))) (oe_A ab) (oe_A ch) (oe_A nx) (oe_A bf) (oe_A sz) (oe_A ri) := by
        intro c' hc'
        have fine : ∀ k, r + 1 < k → k < m → oe_SR sz ri (oe_u fo (N (r + 1)) (oe_fl D m l (r + 1))) N D m k := by
          intro k k1 k2
          refine oe_SR_fo k2 (fun a a1 a2 => oe_un (fun e2 => ?_)) ⟨hS k k2, hR k k1 k2⟩
          have lk := oe_en_le (D := D) k2
          have := HN.2.2 _ _ (by omega) hq e2
          omega
        refine oe_x_pull hm hq hr'.2 T' (fun k k1 k2 => fine k k1 (by omega)) (fun S R hs hr2 => ?_)
        refine nm_r (oe_lv_m1 r) ?_
        refine ih r c' _ _ _ (by omega) (by omega) hc' hr' (fun k hk => ?_) (fun k k1 k2 => ?_)
        · by_cases e : k = r + 1
          · subst e; exact (oe_SR_us (sz := sz) (ri := ri) hs hr2).1
          · have e3 : N k ≠ N (r + 1) := fun e2 => e (HN.2.2 _ _ hk hq e2)
            have := hS k hk
            unfold oe_S at this ⊢
            rw [oe_un e3]; exact this
        · by_cases e : k = r + 1
          · subst e; exact (oe_SR_us (sz := sz) (ri := ri) hs hr2).2
          · exact (oe_SR_u (S := S) (R := R) HN hq k2 e (fine k (by omega) k2)).2
      have k69 : ∀ zI : Int32, zI = nI (oe_fl D m l (r + 1)) → wX_foldLevel_69 post (wX_foldLevel_23 post (nI l) f) (nI l) (nI c) (nI r) (nI (N (r + 1))) zI (nI (N (r + 1))) (nI mk) (oe_A us) (oe_A nm) (oe_A fo) (oe_A ab) (oe_A ch) (oe_A nx) (oe_A bf) (oe_A sz) (oe_A ri) := by
        intro zI hz
        subst hz
        refine And.intro ix (nm_r (e' := oe_A (oe_u fo (N (r + 1)) (oe_fl D m l (r + 1)))) (by rw [oe_nar hfl, oe_st fo _ (by omega)]) (And.intro ix ?_))
        have er : oe_A (oe_u fo (N (r + 1)) (oe_fl D m l (r + 1))) (nI (N (r + 1))).toNatClampNeg = nI (oe_fl D m l (r + 1)) := by rw [oe_rd _ (by omega), oe_us]
        by_cases hz : oe_fl D m l (r + 1) = 0
        · refine br_t (by rw [er, hz]; exact nI_0) (k83 c ?_)
          rw [hc2, oe_b0 (fun u => u hz), Nat.zero_add]
        · refine br_f (by rw [er]; exact nI_ne0 (by omega) (by omega)) (nm_r (nI_1 c) (k83 (c + 1) ?_))
          rw [hc2, oe_b1 hz, Nat.add_comm]
      obtain ⟨c1, c0⟩ := HC (r + 1) hq
      rw [oe_lvs]
      refine br_f (nI_pos (by omega)) (oe_x_nodeAt hm h0 hq T' hS (oe_x_levelOf hm h0 hq T' ?_))
      by_cases hd : D (r + 1) = l + 1
      · refine br_t (by rw [hd, oe_lvs]) (And.intro ix ?_)
        by_cases he : r + 1 + 1 < oe_en D m (r + 1)
        · have x := oe_en_in (D := D) (m := m) (k := r + 1) (q := r + 1 + 1) (by omega) he
          have hy := HN.2.1 (r + 1 + 1) (by omega) (by omega)
          have hy2 := HN.1 (r + 1 + 1) (by omega)
          refine br_f (by rw [oe_rd ch (by omega), c1 (by omega) x]; exact nI_ne0 hy (by omega)) (k69 1 ?_)
          unfold oe_fl
          rw [if_pos ⟨hd, he⟩]; rfl
        · refine br_t ?_ (k69 0 ?_)
          · rw [oe_rd ch (by omega), c0 (fun u => ?_)]
            · exact nI_0
            · have := oe_en_at (D := D) (m := m) (k := r + 1) (by omega)
              rw [show oe_en D m (r + 1) = r + 1 + 1 from by omega] at this
              exact this
          · unfold oe_fl
            rw [if_neg (fun u => he u.2)]; exact nI_0.symm
      · refine br_f (fun u => ?_) (k69 0 ?_)
        · rw [oe_lvp dp] at u
          have := (nI_eq (by omega) (by omega)).mp u
          omega
        · unfold oe_fl
          rw [if_neg (fun u => hd u.1)]; exact nI_0.symm
theorem oe_X_foldLevel {post : Int32 → SX → Prop} {l : Nat} (XC : oe_XC m N D fo ab ch nx bf sz ri) (G : oe_G m mk N nm us) (hl : l ≤ 7)
    (K : ∀ fo' u', oe_fq N D fo fo' m l 0 → oe_XR m mk N D fo' nm us u' → post (nI (oe_cn (fun k => oe_fl D m l k ≠ 0) 1 (m - 1))) u') : wpX_foldLevel post (nI mk, oe_A us, oe_A nm, oe_A fo, oe_A ab, oe_A ch, oe_A nx, oe_A bf, oe_A sz, oe_A ri) (nI l) := by
  have hS := oe_XC_S XC
  obtain ⟨hm, h0, hf0, hfo, T, SR⟩ := XC
  have hm0 := T.1.1
  have s0 := hS 0 hm0
  unfold oe_S at s0
  rw [h0, oe_z0, oe_en0 T.1] at s0
  have es : oe_A sz 0 = nI (m - 1) := congrArg nI (by omega)
  unfold wpX_foldLevel
  refine br_f (nI_pos (by omega)) (br_t (nI_le (b := 7) hl (by decide)) (nm_r (e' := oe_lv (m - 1)) (by rw [es]; rfl) ⟨m, ?_⟩))
  refine oe_foldLevel_loop (fo0 := fo) hm h0 hf0 hl T (fun fo' sz' ri' hr hs => ?_) m (m - 1) 0 fo sz ri (by omega) (by omega) ?_ ⟨fun k hk => ⟨fun u => by omega, fun _ => rfl⟩, hfo⟩ hS (fun k k1 k2 => by omega)
  · refine K fo' _ hr ⟨_, _, _, _, _, _, rfl, ⟨hm, h0, ?_, hr.2, T, hs⟩, G⟩
    have := (hr.1 0 hm0).2 (Nat.le_refl _)
    rw [h0] at this
    rw [this]; exact hf0
  · rw [show m - (m - 1 + 1) = 0 from by omega]; rfl
theorem oe_foldLevelY_loop {post : Int32 → SY → Prop} {l : Nat} (hn : n ≤ 40) (hll : l ≤ 7) (hl : ∀ k, k < n → yl k < 41) (fl : Nat → Nat) (hfl : ∀ k, k < n → fl k = if yl k = l ∧ k + 1 < oe_en yl n k then 1 else 0)
    (K : ∀ yf, (∀ k, k < n → yf k = fl k) → (∀ y, yf y ≤ 1) → post (nI (oe_cn (fun k => fl k ≠ 0) 0 n)) (nI n, nI mk, oe_A yn, oe_A yl, oe_A yf, oe_A kn, oe_A kl, oe_A kf)) :
    ∀ f i yf, i + f = n → (∀ k, k < i → yf k = fl k) → (∀ y, yf y ≤ 1) → wY_foldLevel_16 post (nI l) (nI n) (nI mk) (f + 1) (nI (oe_cn (fun k => fl k ≠ 0) 0 i)) (nI i) (oe_A yn) (oe_A yl) (oe_A yf) (oe_A kn) (oe_A kl) (oe_A kf) := by
  intro f
  induction f with
  | zero =>
    intro i yf hi hr h1
    have e : i = n := by omega
    subst e
    exact br_t (nI_le (Nat.le_refl _) (by omega)) (K yf hr h1)
  | succ f ih =>
    intro i yf hi hr h1
    have ix := vp_in_nI (show i < 40 by omega) (show 40 < 2 ^ 31 by decide)
    have lm := oe_en_le (D := yl) (m := n) (k := i) (by omega)
    have hli := hl i (by omega)
    have hf := hfl i (by omega)
    have hf1 : fl i ≤ 1 := by rw [hf]; split <;> omega
    have ss : oe_cn (fun k => fl k ≠ 0) 0 (i + 1) = oe_cn (fun k => fl k ≠ 0) 0 i + oe_b (fl (0 + i) ≠ 0) := rfl
    rw [Nat.zero_add] at ss
    have k55 : ∀ zI : Int32, zI = nI (fl i) → wY_foldLevel_55 post (wY_foldLevel_16 post (nI l) (nI n) (nI mk) (f + 1)) (nI l) (nI (oe_cn (fun k => fl k ≠ 0) 0 i)) (nI i) zI (nI i) (nI n) (nI mk) (oe_A yn) (oe_A yl) (oe_A yf) (oe_A kn) (oe_A kl) (oe_A kf) := by
      intro zI hz
      subst hz
      have := ih (i + 1) (oe_u yf i (fl i)) (by omega) (fun k hk => by
        by_cases e : k = i
        · subst e; exact oe_us
        · rw [oe_un e]; exact hr k (by omega)) (oe_u_le h1 hf1)
      have er : oe_A (oe_u yf i (fl i)) (nI i).toNatClampNeg = nI (fl i) := by rw [oe_rd _ (by omega), oe_us]
      refine And.intro ix (nm_r (e' := oe_A (oe_u yf i (fl i))) (by rw [oe_nar hf1, oe_st yf _ (by omega)]) (And.intro ix ?_))
      by_cases hz : fl i = 0
      · rw [oe_b0 (fun u => u hz), Nat.add_zero] at ss
        rw [ss] at this
        exact br_t (by rw [er, hz]; exact nI_0) (nm_r (nI_1 i) this)
      · rw [oe_b1 hz] at ss
        rw [ss] at this
        exact br_f (by rw [er]; exact nI_ne0 (by omega) (by omega)) (nm_r (nI_1 _) (nm_r (nI_1 i) this))
    refine br_f (nI_ge (by omega) (by omega)) (And.intro ix ?_)
    by_cases hd : yl i = l
    · refine br_t (by rw [oe_rd yl (by omega), hd]) (oe_y_endOf hn (by omega) hl ?_)
      by_cases he : i + 1 < oe_en yl n i
      · refine br_f (by rw [nI_1]; exact nI_ge he (by omega)) (k55 1 ?_)
        rw [hf, if_pos ⟨hd, he⟩]; rfl
      · refine br_t (by rw [nI_1]; exact nI_le (by omega) (by omega)) (k55 0 ?_)
        rw [hf, if_neg (fun u => he u.2)]; exact nI_0.symm
    · refine br_f (by rw [oe_rd yl (by omega)]; exact fun u => hd ((nI_eq (by omega) (by omega)).mp u)) (k55 0 ?_)
      rw [hf, if_neg (fun u => hd u.1)]; exact nI_0.symm
theorem oe_Y_foldLevel {post : Int32 → SY → Prop} {l : Nat} {fo' : Nat → Nat} (YF : oe_YF m N D fo nm yn yl yf) (W : oe_W D m) (hm : m ≤ 41) (hl7 : l ≤ 7) (yf1 : ∀ y, yf y ≤ 1) (kf1 : ∀ y, kf y ≤ 1) (hr : oe_fq N D fo fo' m l 0)
    (K : ∀ v', oe_YR m mk N D fo' nm v' → post (nI (oe_cn (fun k => oe_fl D m l k ≠ 0) 1 (m - 1))) v') : wpY_foldLevel post (nI (m - 1), nI mk, oe_A yn, oe_A yl, oe_A yf, oe_A kn, oe_A kl, oe_A kf) (nI l) := by
  have hl := oe_YF_b W hm YF
  unfold wpY_foldLevel
  refine br_f (nI_pos (by omega)) (br_t (nI_le (b := 7) hl7 (by decide)) ⟨m - 1 + 1, ?_⟩)
  refine oe_foldLevelY_loop (n := m - 1) (by omega) hl7 hl (fun k => oe_fl D m l (k + 1)) (fun k hk => ?_) (fun yf' h1 h2 => ?_) (m - 1) 0 yf (by omega) (fun k hk => by omega) yf1
  · have e := oe_en_sh (D := D) (oe_YF_l YF) (j := k) (by omega)
    have f := oe_YF_l YF k (by omega)
    show oe_fl D m l (k + 1) = _
    unfold oe_fl
    rw [e]
    by_cases c : yl k = l ∧ k + 1 < oe_en yl (m - 1) k
    · rw [if_pos c, if_pos ⟨by omega, by omega⟩]
    · rw [if_neg c, if_neg (fun u => c ⟨by omega, by omega⟩)]
  · refine oe_qs (r' := nI (oe_cn (fun k => oe_fl D m l k ≠ 0) 1 (m - 1))) ?_ (K _ ⟨_, _, _, _, _, _, rfl, fun k hk => ?_, h2, kf1⟩)
    · apply congrArg nI
      apply oe_cn_congr
      intro t ht
      show oe_fl D m l (0 + t + 1) ≠ 0 ↔ oe_fl D m l (1 + t) ≠ 0
      rw [Nat.zero_add, Nat.add_comm 1 t]
    · obtain ⟨y1, y2, y3⟩ := YF k hk
      refine ⟨y1, y2, ?_⟩
      rw [h1 k (by omega), (hr.1 (k + 1) hk).1 (by omega)]
end
theorem i_vc_fold {k : Nat} {u : SX} {v : SY} (I : i_Rel k u v) (hk : k + 3 ≤ 1536) (v1 : Int32) (v2 : Int32) : wpX_fold (fun r u' => wpY_fold (fun r' v' => r' = r ∧ i_Rel (k + 3) u' v') v v1 v2) u v1 v2 := by
  have I' := i_up I
  obtain ⟨m, mk, N, D, fo, nm, us, ⟨ab, ch, nx, bf, sz, ri, rfl, XC, G⟩, ⟨yn, yl, yf, kn, kl, kf, rfl, YF, yf1, kf1⟩, hmk⟩ := I
  have hm := XC.1
  have W := XC.2.2.2.2.1.1
  rcases pk_ix v1 (n := m - 1) (by omega) with h | h | ⟨j, hj, rfl⟩
  · exact oe_X_fold_bad XC (Or.inl h) (oe_Y_fold_bad (Or.inl h) ⟨rfl, I'⟩)
  · exact oe_X_fold_bad XC (Or.inr h) (oe_Y_fold_bad (Or.inr h) ⟨rfl, I'⟩)
  · obtain ⟨b, b0, b1⟩ : ∃ b, (v2 = 0 → b = 0) ∧ (v2 ≠ 0 → b = 1) := by
      by_cases e : v2 = 0
      · exact ⟨0, fun _ => rfl, fun u => absurd e u⟩
      · exact ⟨1, fun u => absurd u e, fun _ => rfl⟩
    exact oe_X_fold XC G (by omega) b0 b1 (fun u' X2 => oe_Y_fold YF XC.2.2.2.2.1.2.1 hm (by omega) yf1 kf1 b0 b1 (fun v' Y2 => ⟨rfl, _, _, _, _, _, _, _, X2, Y2, by omega⟩))
theorem i_vc_reveal {k : Nat} {u : SX} {v : SY} (I : i_Rel k u v) (hk : k + 3 ≤ 1536) (v1 : Int32) : wpX_reveal (fun r u' => wpY_reveal (fun r' v' => r' = r ∧ i_Rel (k + 3) u' v') v v1) u v1 := by
  have I' := i_up I
  obtain ⟨m, mk, N, D, fo, nm, us, ⟨ab, ch, nx, bf, sz, ri, rfl, XC, G⟩, ⟨yn, yl, yf, kn, kl, kf, rfl, YF, yf1, kf1⟩, hmk⟩ := I
  have hm := XC.1
  have W := XC.2.2.2.2.1.1
  rcases pk_ix v1 (n := m - 1) (by omega) with h | h | ⟨j, hj, rfl⟩
  · exact oe_X_reveal_bad XC (Or.inl h) (oe_Y_reveal_bad (Or.inl h) ⟨rfl, I'⟩)
  · exact oe_X_reveal_bad XC (Or.inr h) (oe_Y_reveal_bad (Or.inr h) ⟨rfl, I'⟩)
  · exact oe_X_reveal XC G (by omega) (fun fo' u' hr X2 => oe_Y_reveal YF W XC.2.1 XC.2.2.1 hm (by omega) yf1 kf1 hr (fun v' Y2 => ⟨rfl, _, _, _, _, _, _, _, X2, Y2, by omega⟩))
theorem i_vc_foldLevel {k : Nat} {u : SX} {v : SY} (I : i_Rel k u v) (hk : k + 3 ≤ 1536) (v1 : Int32) : wpX_foldLevel (fun r u' => wpY_foldLevel (fun r' v' => r' = r ∧ i_Rel (k + 3) u' v') v v1) u v1 := by
  have I' := i_up I
  obtain ⟨m, mk, N, D, fo, nm, us, ⟨ab, ch, nx, bf, sz, ri, rfl, XC, G⟩, ⟨yn, yl, yf, kn, kl, kf, rfl, YF, yf1, kf1⟩, hmk⟩ := I
  have hm := XC.1
  have W := XC.2.2.2.2.1.1
  by_cases hneg : v1 < 0
  · unfold wpX_foldLevel wpY_foldLevel
    exact br_t hneg (br_t hneg ⟨rfl, I'⟩)
  · by_cases h7 : v1 ≤ 7
    · obtain ⟨l, hl7, rfl⟩ := nI_of2 (n := 7) (show (7 : Int32).toInt = (7 : Nat) from by decide) hneg h7
      exact oe_X_foldLevel XC G hl7 (fun fo' u' hr X2 => oe_Y_foldLevel YF W hm hl7 yf1 kf1 hr (fun v' Y2 => ⟨rfl, _, _, _, _, _, _, _, X2, Y2, by omega⟩))
    · unfold wpX_foldLevel wpY_foldLevel
      exact br_f hneg (br_f h7 (br_f hneg (br_f h7 ⟨rfl, I'⟩)))
end
section
/-! outdent -/
/-- levels of positions e0 .. e-1 one deeper -/
def oe_oD (D : Nat → Nat) (e0 e : Nat) : Nat → Nat := fun k => if e0 ≤ k ∧ k < e then D k + 1 else D k
theorem oe_oD1 {D : Nat → Nat} {e0 e k : Nat} (h1 : e0 ≤ k) (h2 : k < e) : oe_oD D e0 e k = D k + 1 := if_pos ⟨h1, h2⟩
theorem oe_oD0 {D : Nat → Nat} {e0 e k : Nat} (h : k < e0 ∨ e ≤ k) : oe_oD D e0 e k = D k := if_neg (by omega)
/-- levels of positions p .. e-1 one higher -/
def oe_hD (D : Nat → Nat) (p e : Nat) : Nat → Nat := fun k => if p ≤ k ∧ k < e then D k - 1 else D k
theorem oe_hD1 {D : Nat → Nat} {p e k : Nat} (h1 : p ≤ k) (h2 : k < e) : oe_hD D p e k = D k - 1 := if_pos ⟨h1, h2⟩
theorem oe_hD0 {D : Nat → Nat} {p e k : Nat} (h : k < p ∨ e ≤ k) : oe_hD D p e k = D k := if_neg (by omega)
section
variable {m mk : Nat} {yn yl yf kn kl kf N D fo nm us ab ch nx bf sz ri : Nat → Nat}
theorem oe_outdent_98 {post : Int32 → SX → Prop} {p q e0 e : Nat} (hm : m ≤ 41) (h0 : N 0 = 0) (hf0 : fo 0 = 0) (hfo : ∀ y, fo y ≤ 1) (G : oe_G m mk N nm us)
    (q0 : 0 < q) (hqp : q < p) (hpe : p < e0) (hee : e0 ≤ e) (hem : e ≤ m) (hdq : D q + 1 = D p) (hb : ∀ k, q < k → k < p → D p ≤ D k) (hw0 : ∀ k, p < k → k < e0 → D p < D k) (hw1 : ∀ k, e0 ≤ k → k < e → D p ≤ D k) (hend : e < m → D e < D p)
    (T : oe_T ab ch nx bf N (oe_oD D e0 e) m) (SR : ∀ k, k < m → oe_SR sz ri fo N (oe_oD D e0 e) m k)
    (K : ∀ u', oe_XR m mk N (oe_hD D p e0) fo nm us u' → post (oe_lv (D p - 1)) u') : wX_outdent_98 post (nI (N p)) (nI (N q)) (nI mk) (oe_A us) (oe_A nm) (oe_A fo) (oe_A ab) (oe_A ch) (oe_A nx) (oe_A bf) (oe_A sz) (oe_A ri) := by
  have ep : oe_oD D e0 e p = D p := oe_oD0 (by omega)
  have eq : oe_oD D e0 e q = D q := oe_oD0 (by omega)
  have hin : ∀ k, p < k → k < e → D p < oe_oD D e0 e k := by
    intro k k1 k2
    rcases Nat.lt_or_ge k e0 with z | z
    · rw [oe_oD0 (by omega)]; exact hw0 k k1 z
    · rw [oe_oD1 z k2]; have := hw1 k z k2; omega
  have hen : oe_en (oe_oD D e0 e) m p = p + (e - p) := by
    rw [show p + (e - p) = e from by omega]
    refine oe_en_eq (by omega) hem (fun k k1 k2 => ?_) (fun h => ?_)
    · rw [ep]; exact hin k k1 k2
    · rw [ep, oe_oD0 (by omega)]; have := hend h; omega
  have henq : oe_en (oe_oD D e0 e) m q = e := by
    refine oe_en_eq (by omega) hem (fun k k1 k2 => ?_) (fun h => ?_)
    · rw [eq]
      rcases Nat.lt_trichotomy k p with z | z | z
      · rw [oe_oD0 (by omega)]; have := hb k k1 z; omega
      · rw [z, ep]; omega
      · have := hin k z k2; omega
    · rw [eq, oe_oD0 (by omega)]; have := hend h; omega
  have hxq := T.2.1.1 q (by omega)
  unfold wX_outdent_98
  refine oe_x_unlinkW (p := p) (w := e - p) hm hfo h0 (by omega) (by omega) hen T SR (fun ch' nx' bf' sz' ri' T1 S1 TB SB => ?_)
  have Q := oe_cu_Qw (D := oe_oD D e0 e) (by omega) (by omega) hen
  have eN : N q = oe_cu N p (e - p) q := (oe_cu1 hqp).symm
  have eD : oe_cu (oe_oD D e0 e) p (e - p) q = D q := by rw [oe_cu1 hqp]; exact eq
  have hen1 : oe_en (oe_cu (oe_oD D e0 e) p (e - p)) (m - (e - p)) q = p := by
    obtain ⟨x1, x2⟩ := oe_Q_mid Q (k := q) hqp (by omega)
    omega
  obtain ⟨a1, a2, a3, a4, a5, a6, a7⟩ := oe_at_behind T1.1 (j := q) q0 (by omega)
  have hP1 := T1.2.2.2.1 q q0 (by omega)
  rw [eD] at a3
  rw [hen1, eD] at a4 a5 a6 a7
  rw [hen1] at a1 a2
  rw [eD, ← eN] at hP1
  refine And.intro (vp_in_nI hxq (by decide)) ?_
  refine oe_x_linkE (NB := oe_sg N p) (DB := oe_sd (oe_oD D e0 e) p) (w := e - p) (a := p) (d := D q) (p := ab (N q)) (s := N q) rfl (oe_rd ab (by omega)) rfl (by omega) hfo (by rw [oe_cu1 (by omega)]; exact h0) T1 TB (T.2.1.2.1 _ (by omega) (by omega)) (oe_cu_dj T.2.1 (by omega)) a1 a2 (by have := a3; omega) a4 a5 (by rw [a6]; exact hP1) (fun _ => by rw [a7]; exact eN) (fun u => absurd (by rw [a7]; exact eD) u) S1 SB (fun ab' ch2 nx2 bf2 sz2 ri2 T2 S2 => ?_)
  have hN : ∀ k, k < m → oe_in (oe_cu N p (e - p)) (oe_sg N p) p (e - p) k = N k := fun k _ => oe_in_id k
  have hD : ∀ k, k < m → oe_in (oe_cu (oe_oD D e0 e) p (e - p)) (oe_ad (oe_sd (oe_oD D e0 e) p) (D q)) p (e - p) k = oe_hD D p e0 k := by
    intro k hk
    rcases Nat.lt_or_ge k p with z | z
    · rw [oe_in1 z, oe_cu1 z, oe_oD0 (by omega), oe_hD0 (by omega)]
    · rcases Nat.lt_or_ge k e with y | y
      · rw [oe_in2 z (by omega)]
        show oe_oD D e0 e (p + (k - p)) - oe_oD D e0 e p + D q = _
        rw [show p + (k - p) = k from by omega, ep]
        rcases Nat.lt_or_ge k e0 with x | x
        · rw [oe_oD0 (by omega), oe_hD1 z x]
          by_cases e2 : k = p
          · subst e2; omega
          · have := hw0 k (by omega) x; omega
        · rw [oe_oD1 x y, oe_hD0 (by omega)]
          have := hw1 k x y; omega
      · rw [oe_in3 (by omega), oe_cu2 (by omega), show k - (e - p) + (e - p) = k from by omega, oe_oD0 (by omega), oe_hD0 (by omega)]
  rw [show m - (e - p) + (e - p) = m from by omega] at T2 S2
  have T3 := oe_T_congr hN hD T2
  have S3 := fun k hk => oe_SR_congr hk hN hD (S2 k hk)
  refine oe_x_levelOf (k := p) hm h0 (by omega) T3 ?_
  refine oe_ps (r' := oe_lv (D p - 1)) (by rw [oe_hD1 (Nat.le_refl _) hpe]) (K _ ⟨_, _, _, _, _, _, rfl, ⟨hm, h0, hf0, hfo, T3, S3⟩, G⟩)
theorem oe_outdent_loop {post : Int32 → SX → Prop} {p q e0 : Nat} (hm : m ≤ 41) (h0 : N 0 = 0) (hf0 : fo 0 = 0) (hfo : ∀ y, fo y ≤ 1) (G : oe_G m mk N nm us)
    (q0 : 0 < q) (hqp : q < p) (hpe : p < e0) (hdq : D q + 1 = D p) (hb : ∀ k, q < k → k < p → D p ≤ D k) (hw0 : ∀ k, p < k → k < e0 → D p < D k)
    (K : ∀ u', oe_XR m mk N (oe_hD D p e0) fo nm us u' → post (oe_lv (D p - 1)) u') :
    ∀ f e i c s ab ch nx bf sz ri, m - e < f → e0 ≤ e → e ≤ m → (∀ k, e0 ≤ k → k < e → D p ≤ D k) → (e < m → D e ≤ D p) → (e < m → D e = D p → c = N e) → ((e < m → D e ≠ D p) → c = 0) → i + e0 ≤ e →
      (oe_oD D e0 e (oe_sc (oe_oD D e0 e) (D p + 1 + 1) e) = D p + 1 → s = N (oe_sc (oe_oD D e0 e) (D p + 1 + 1) e)) → (oe_oD D e0 e (oe_sc (oe_oD D e0 e) (D p + 1 + 1) e) ≠ D p + 1 → s = 0) →
      oe_T ab ch nx bf N (oe_oD D e0 e) m → (∀ k, k < m → oe_SR sz ri fo N (oe_oD D e0 e) m k) →
      wX_outdent_48 post (nI (N p)) (nI (N q)) f (nI s) (nI c) (nI i) (nI mk) (oe_A us) (oe_A nm) (oe_A fo) (oe_A ab) (oe_A ch) (oe_A nx) (oe_A bf) (oe_A sz) (oe_A ri) := by
  intro f
  induction f with
  | zero => intro e i c s ab ch nx bf sz ri h; omega
  | succ f ih =>
    intro e i c s ab ch nx bf sz ri hf hee hem hw1 hle hc1 hc0 hi hs1 hs0 T SR
    have h40 : ¬ (40 : Int32) ≤ nI i := nI_ge (b := 40) (by omega) (by decide)
    by_cases hc : e < m ∧ D e = D p
    · have hcN := hc1 hc.1 hc.2
      subst hcN
      have hx := T.2.1.1 e hc.1
      have hx0 := T.2.1.2.1 e (by omega) hc.1
      have ep : oe_oD D e0 e p = D p := oe_oD0 (by omega)
      have ee : oe_oD D e0 e e = D p := by rw [oe_oD0 (by omega)]; exact hc.2
      have hin : ∀ k, p < k → k < e → D p < oe_oD D e0 e k := by
        intro k k1 k2
        rcases Nat.lt_or_ge k e0 with z | z
        · rw [oe_oD0 (by omega)]; exact hw0 k k1 z
        · rw [oe_oD1 z k2]; have := hw1 k z k2; omega
      have henp : oe_en (oe_oD D e0 e) m p = e := by
        refine oe_en_eq (by omega) hem (fun k k1 k2 => by rw [ep]; exact hin k k1 k2) (fun h => ?_)
        rw [ep, ee]; exact Nat.le_refl _
      have lt := oe_en_lt (D := oe_oD D e0 e) (m := m) (k := e)
      have lm := oe_en_le (D := oe_oD D e0 e) hc.1
      obtain ⟨w, hw⟩ : ∃ w, oe_en (oe_oD D e0 e) m e = e + w := ⟨oe_en (oe_oD D e0 e) m e - e, by omega⟩
      obtain ⟨x1, x0⟩ := T.2.2.2.2.1 e (by omega) hc.1
      rw [hw, ee] at x1 x0
      have hat : e + w < m → D (e + w) ≤ D p := by
        intro h
        have := oe_en_at (D := oe_oD D e0 e) (m := m) (k := e) (by omega)
        rw [hw, ee, oe_oD0 (by omega)] at this
        exact this
      have hwin : ∀ k, e < k → k < e + w → D p < D k := by
        intro k k1 k2
        have := oe_en_in (D := oe_oD D e0 e) (m := m) (k := e) (q := k) k1 (by omega)
        rw [ee, oe_oD0 (by omega)] at this
        exact this
      refine br_f h40 (br_f (nI_ne0 hx0 (by omega)) (And.intro (vp_in_nI hx (by decide)) (nm_r (oe_rd nx (by omega)) ?_)))
      refine oe_x_unlinkW (p := e) (w := w) hm hfo h0 (by omega) hc.1 hw T SR (fun ch' nx' bf' sz' ri' T1 S1 TB SB => ?_)
      have Q := oe_cu_Qw (D := oe_oD D e0 e) (by omega) hc.1 hw
      have eN : N p = oe_cu N e w p := (oe_cu1 (by omega)).symm
      have eD : oe_cu (oe_oD D e0 e) e w p = D p := by rw [oe_cu1 (by omega)]; exact ep
      have hen1 : oe_en (oe_cu (oe_oD D e0 e) e w) (m - w) p = e := by rw [oe_Q_lo Q (by omega) (by omega)]; exact henp
      obtain ⟨a1, a2, a3, a4, a5, a6⟩ := oe_at_last T1.1 (q := p) (by omega)
      rw [hen1, eD] at a4 a5 a6
      rw [hen1] at a1 a2
      have scl := oe_Q_sl Q (k := e) (b := D p + 1 + 1) (Nat.le_refl _)
      have scs := (oe_sc_spec (D := oe_oD D e0 e) (b := D p + 1 + 1) (by rw [T.1.2.1]; omega) e (by omega)).1
      refine oe_x_linkE (NB := oe_sg N e) (DB := oe_sd (oe_oD D e0 e) e) (w := w) (a := e) (d := D p + 1) (p := N p) (s := s) rfl rfl rfl (by omega) hfo (by rw [oe_cu1 (by omega)]; exact h0) T1 TB (T.2.1.2.1 _ (by omega) hc.1) (oe_cu_dj T.2.1 (by omega)) a1 a2 (by omega) a4 a5 (by rw [a6]; exact eN) (fun u => ?_) (fun u => ?_) S1 SB (fun ab' ch2 nx2 bf2 sz2 ri2 T2 S2 => ?_)
      · rw [scl, oe_cu1 scs] at u
        rw [scl, oe_cu1 scs]
        exact hs1 u
      · rw [scl, oe_cu1 scs] at u
        exact hs0 u
      · have hN : ∀ k, k < m → oe_in (oe_cu N e w) (oe_sg N e) e w k = N k := fun k _ => oe_in_id k
        have hD : ∀ k, k < m → oe_in (oe_cu (oe_oD D e0 e) e w) (oe_ad (oe_sd (oe_oD D e0 e) e) (D p + 1)) e w k = oe_oD D e0 (e + w) k := by
          intro k hk
          rcases Nat.lt_or_ge k e with z | z
          · rw [oe_in1 z, oe_cu1 z]
            rcases Nat.lt_or_ge k e0 with y | y
            · rw [oe_oD0 (by omega), oe_oD0 (by omega)]
            · rw [oe_oD1 y z, oe_oD1 y (by omega)]
          · rcases Nat.lt_or_ge k (e + w) with y | y
            · rw [oe_in2 z y, oe_oD1 (by omega) y]
              show oe_oD D e0 e (e + (k - e)) - oe_oD D e0 e e + (D p + 1) = _
              rw [show e + (k - e) = k from by omega, ee, oe_oD0 (by omega)]
              by_cases e2 : k = e
              · subst e2; omega
              · have := hwin k (by omega) y; omega
            · rw [oe_in3 (by omega), oe_cu2 (by omega), show k - w + w = k from by omega, oe_oD0 (by omega), oe_oD0 (by omega)]
        rw [show m - w + w = m from by omega] at T2 S2
        have T3 := oe_T_congr hN hD T2
        have S3 := fun k hk => oe_SR_congr hk hN hD (S2 k hk)
        have e1' : oe_oD D e0 (e + w) e = D p + 1 := by rw [oe_oD1 hee (by omega), hc.2]
        have hsc : oe_sc (oe_oD D e0 (e + w)) (D p + 1 + 1) (e + w) = e := by
          refine oe_sc_eq (by omega) (by omega) (fun k k1 k2 => ?_)
          rw [oe_oD1 (by omega) k2]
          have := hwin k k1 k2; omega
        refine nm_r (nI_1 i) ?_
        refine ih (e + w) (i + 1) (nx (N e)) (N e) _ _ _ _ _ _ (by omega) (by omega) (by omega) (fun k k1 k2 => ?_) hat (fun u v => ?_) (fun u => ?_) (by omega) (fun _ => by rw [hsc]) (fun u => ?_) T3 S3
        · rcases Nat.lt_or_ge k e with z | z
          · exact hw1 k k1 z
          · by_cases e2 : k = e
            · rw [e2, hc.2]; exact Nat.le_refl _
            · have := hwin k (by omega) k2; omega
        · exact x1 u (by rw [oe_oD0 (by omega)]; exact v)
        · exact x0 (fun v => by rw [oe_oD0 (by omega)]; exact u v)
        · rw [hsc] at u; exact absurd e1' u
    · have hcz := hc0 (fun u v => hc ⟨u, v⟩)
      subst hcz
      refine br_f h40 (br_t nI_0 ?_)
      exact oe_outdent_98 hm h0 hf0 hfo G q0 hqp hpe hee hem hdq hb hw0 hw1 (fun h => by have := hle h; have : D e ≠ D p := fun v => hc ⟨h, v⟩; omega) T SR K
theorem oe_X_outdent {post : Int32 → SX → Prop} {j w : Nat} (XC : oe_XC m N D fo ab ch nx bf sz ri) (G : oe_G m mk N nm us) (hj : j + 1 < m) (hw : oe_en D m (j + 1) = j + 1 + w) (K0 : D (j + 1) = 1 → post (-4) (nI mk, oe_A us, oe_A nm, oe_A fo, oe_A ab, oe_A ch, oe_A nx, oe_A bf, oe_A sz, oe_A ri))
    (K : D (j + 1) ≠ 1 → ∀ u', oe_XR m mk N (oe_hD D (j + 1) (j + 1 + w)) fo nm us u' → post (oe_lv (D (j + 1) - 1)) u') : wpX_outdent post (nI mk, oe_A us, oe_A nm, oe_A fo, oe_A ab, oe_A ch, oe_A nx, oe_A bf, oe_A sz, oe_A ri) (nI j) := by
  have hS := oe_XC_S XC
  obtain ⟨hm, h0, hf0, hfo, T, SR⟩ := XC
  have hx := T.2.1.1 (j + 1) hj
  have ix := vp_in_nI hx (show 41 < 2 ^ 31 by decide)
  have lm := oe_en_le (D := D) hj
  have lt := oe_en_lt (D := D) (m := m) (k := j + 1)
  obtain ⟨p1, p2, p3⟩ := oe_pa T.1 (k := j + 1) (by omega) hj
  have hP := T.2.2.2.1 (j + 1) (by omega) hj
  obtain ⟨x1, x0⟩ := T.2.2.2.2.1 (j + 1) (by omega) hj
  rw [hw] at x1 x0
  unfold wpX_outdent
  refine oe_x_bad0 hm h0 T hS hj (br_t rfl (oe_x_nodeAt hm h0 hj T hS (And.intro ix (nm_r (e' := nI (N (oe_sc D (D (j + 1)) (j + 1)))) (by rw [oe_rd ab (by omega), hP]) ?_))))
  generalize hqq : oe_sc D (D (j + 1)) (j + 1) = q at *
  rcases Nat.eq_zero_or_pos q with z | z
  · subst z
    have := T.1.2.1
    exact br_t (by rw [h0]; exact nI_0) (K0 (by omega))
  · have hql := T.2.1.1 q (by omega)
    have hqp := T.2.1.2.1 q z (by omega)
    have dq0 := (T.1.2.2 q z (by omega)).1
    refine br_f (nI_ne0 hqp (by omega)) ?_
    refine oe_x_lastChild hm hj T (fun s s1 s0 => ?_)
    refine And.intro ix (nm_r (oe_rd nx (by omega)) ⟨m + 1, ?_⟩)
    rw [hw] at s1 s0
    have eD : oe_oD D (j + 1 + w) (j + 1 + w) = D := by funext k; exact oe_oD0 (by omega)
    refine oe_outdent_loop (e0 := j + 1 + w) (D := D) hm h0 hf0 hfo G z p1 (by omega) p2 p3 (fun k k1 k2 => oe_en_in (m := m) k1 (by omega)) (K (by omega)) (m + 1) (j + 1 + w) 0 (nx (N (j + 1))) s ab ch nx bf sz ri (by omega) (Nat.le_refl _) (by omega) (fun k k1 k2 => by omega) (fun h => ?_) x1 x0 (by omega) (by rw [eD]; exact s1) (by rw [eD]; exact s0) (by rw [eD]; exact T) (by rw [eD]; exact SR)
    have := oe_en_at (D := D) (m := m) (k := j + 1) (by omega)
    rw [hw] at this; exact this
theorem oe_Y_outdent {post : Int32 → SY → Prop} {j w : Nat} (YF : oe_YF m N D fo nm yn yl yf) (W : oe_W D m) (hm : m ≤ 41) (hj : j + 1 < m) (hw : oe_en D m (j + 1) = j + 1 + w) (yf1 : ∀ y, yf y ≤ 1) (kf1 : ∀ y, kf y ≤ 1) (K0 : D (j + 1) = 1 → post (-4) (nI (m - 1), nI mk, oe_A yn, oe_A yl, oe_A yf, oe_A kn, oe_A kl, oe_A kf))
    (K : D (j + 1) ≠ 1 → ∀ v', oe_YR m mk N (oe_hD D (j + 1) (j + 1 + w)) fo nm v' → post (oe_lv (D (j + 1) - 1)) v') : wpY_outdent post (nI (m - 1), nI mk, oe_A yn, oe_A yl, oe_A yf, oe_A kn, oe_A kl, oe_A kf) (nI j) := by
  have e := oe_en_sh (D := D) (oe_YF_l YF) hj
  have lm := oe_en_le (D := D) hj
  have lt := oe_en_lt (D := D) (m := m) (k := j + 1)
  have hl := oe_YF_b W hm YF
  have hw2 : oe_en yl (m - 1) j = j + w := by omega
  have l1 := (YF j hj).2.1
  have lb := hl j (by omega)
  unfold wpY_outdent
  refine oe_y_isPlace1 (by omega) (by omega) (br_f (by decide) (And.intro (vp_in_nI (by omega) (by decide)) ?_))
  by_cases h1 : D (j + 1) = 1
  · exact br_t (by rw [oe_rd yl (by omega), show yl j = 0 from by omega]; exact nI_0) (K0 h1)
  · refine br_f (by rw [oe_rd yl (by omega)]; exact nI_ne0 (by omega) (by omega)) ?_
    refine oe_y_endOf (by omega) (by omega) hl ?_
    rw [hw2]
    have hy : ∀ t, t < w → yl j ≤ yl (j + t) := by
      intro t ht
      have a := oe_YF_l YF (j + t) (by omega)
      rw [show j + t + 1 = j + 1 + t from by omega] at a
      have b := oe_win_ge hw ht
      omega
    refine oe_y_addLevels (fun k => yl k - 1) (by omega) (by omega) (fun k k1 k2 => ?_) ?_
    · obtain ⟨t, rfl⟩ : ∃ t, k = j + t := ⟨k - j, by omega⟩
      have := hy t (by omega)
      show nI (yl (j + t)) + (-1) = nI (yl (j + t) - 1)
      have e2 := pk_m1 (yl (j + t) - 1)
      rw [show yl (j + t) - 1 + 1 = yl (j + t) from by omega] at e2
      exact e2
    · refine And.intro (vp_in_nI (by omega) (by decide)) ?_
      refine oe_qs (r' := oe_lv (D (j + 1) - 1)) ?_ (K h1 _ ⟨_, _, _, kn, kl, kf, rfl, fun k hk => ?_, yf1, kf1⟩)
      · rw [oe_rd _ (by omega), if_pos (by omega), oe_lvp (by omega)]
        exact congrArg nI (by omega)
      · obtain ⟨y1, y2, y3⟩ := YF k hk
        refine ⟨y1, ?_, y3⟩
        show (if j ≤ k ∧ k < j + w then yl k - 1 else yl k) + 1 = _
        by_cases c : j ≤ k ∧ k < j + w
        · rw [if_pos c, oe_hD1 (by omega) (by omega)]
          obtain ⟨t, rfl⟩ : ∃ t, k = j + t := ⟨k - j, by omega⟩
          have := hy t (by omega)
          omega
        · rw [if_neg c, oe_hD0 (by omega)]; exact y2
end
theorem i_vc_outdent {k : Nat} {u : SX} {v : SY} (I : i_Rel k u v) (hk : k + 3 ≤ 1536) (v1 : Int32) : wpX_outdent (fun r u' => wpY_outdent (fun r' v' => r' = r ∧ i_Rel (k + 3) u' v') v v1) u v1 := by
  have I' := i_up I
  obtain ⟨m, mk, N, D, fo, nm, us, ⟨ab, ch, nx, bf, sz, ri, rfl, XC, G⟩, ⟨yn, yl, yf, kn, kl, kf, rfl, YF, yf1, kf1⟩, hmk⟩ := I
  have hm := XC.1
  have W := XC.2.2.2.2.1.1
  rcases pk_ix v1 (n := m - 1) (by omega) with h | h | ⟨j, hj, rfl⟩
  · exact oe_X_outdent_bad XC (Or.inl h) (oe_Y_outdent_bad (Or.inl h) ⟨rfl, I'⟩)
  · exact oe_X_outdent_bad XC (Or.inr h) (oe_Y_outdent_bad (Or.inr h) ⟨rfl, I'⟩)
  · obtain ⟨w, hw⟩ : ∃ w, oe_en D m (j + 1) = j + 1 + w := ⟨oe_en D m (j + 1) - (j + 1), by have := oe_en_lt (D := D) (m := m) (k := j + 1); omega⟩
    refine oe_X_outdent XC G (by omega) hw (fun hc => ?_) (fun c1 u' X2 => ?_)
    · exact oe_Y_outdent YF W hm (by omega) hw yf1 kf1 (fun _ => ⟨rfl, I'⟩) (fun c1 => absurd hc c1)
    · exact oe_Y_outdent YF W hm (by omega) hw yf1 kf1 (fun hc => absurd hc c1) (fun _ v' Y2 => ⟨rfl, _, _, _, _, _, _, _, X2, Y2, by omega⟩)
end
section
/-! dissolve -/
/-- the region behind p, below E, its first t entries turned to its end -/
def oe_dN (N : Nat → Nat) (p E t : Nat) : Nat → Nat := fun k => if p < k ∧ k < E then (if k + t < E then N (k + t) else N (k + t - (E - p - 1))) else N k
def oe_dD (D : Nat → Nat) (p E t : Nat) : Nat → Nat := fun k => if p < k ∧ k < E then (if k + t < E then D (k + t) else D (k + t - (E - p - 1)) - 1) else D k
theorem oe_dN0 {N : Nat → Nat} {p E t k : Nat} (h : k ≤ p ∨ E ≤ k) : oe_dN N p E t k = N k := if_neg (by omega)
theorem oe_dN1 {N : Nat → Nat} {p E t k : Nat} (h1 : p < k) (h2 : k + t < E) : oe_dN N p E t k = N (k + t) := by
  unfold oe_dN; rw [if_pos (by omega), if_pos h2]
theorem oe_dN2 {N : Nat → Nat} {p E t k : Nat} (h1 : p < k) (h2 : k < E) (h3 : E ≤ k + t) : oe_dN N p E t k = N (k + t - (E - p - 1)) := by
  unfold oe_dN; rw [if_pos ⟨h1, h2⟩, if_neg (by omega)]
theorem oe_dD0 {D : Nat → Nat} {p E t k : Nat} (h : k ≤ p ∨ E ≤ k) : oe_dD D p E t k = D k := if_neg (by omega)
theorem oe_dD1 {D : Nat → Nat} {p E t k : Nat} (h1 : p < k) (h2 : k + t < E) : oe_dD D p E t k = D (k + t) := by
  unfold oe_dD; rw [if_pos (by omega), if_pos h2]
theorem oe_dD2 {D : Nat → Nat} {p E t k : Nat} (h1 : p < k) (h2 : k < E) (h3 : E ≤ k + t) : oe_dD D p E t k = D (k + t - (E - p - 1)) - 1 := by
  unfold oe_dD; rw [if_pos ⟨h1, h2⟩, if_neg (by omega)]
section
variable {m mk : Nat} {yn yl yf kn kl kf N D fo nm us ab ch nx bf sz ri : Nat → Nat}
/-- levels in the region -/
theorem oe_dD_ge {p E t k : Nat} (ht : t ≤ E - p - 1) (hin : ∀ k, p < k → k < E → D p < D k) (h1 : p < k) (h2 : k < E) : D p ≤ oe_dD D p E t k := by
  rcases Nat.lt_or_ge (k + t) E with z | z
  · rw [oe_dD1 h1 z]; have := hin (k + t) (by omega) z; omega
  · rw [oe_dD2 h1 h2 z]; have := hin (k + t - (E - p - 1)) (by omega) (by omega); omega
/-- the tree after a child of w positions is moved behind: the functions agree -/
theorem oe_dN_s {p E t w : Nat} (hpE : p < E) (hw : 0 < w) (htw : t + w ≤ E - p - 1) (k : Nat) : oe_in (oe_cu (oe_dN N p E t) (p + 1) w) (oe_sg (oe_dN N p E t) (p + 1)) (E - w) w k = oe_dN N p E (t + w) k := by
  rcases Nat.lt_or_ge k (E - w) with z | z
  · rw [oe_in1 z]
    rcases Nat.lt_or_ge k (p + 1) with y | y
    · rw [oe_cu1 y, oe_dN0 (by omega), oe_dN0 (by omega)]
    · rw [oe_cu2 y]
      rcases Nat.lt_or_ge (k + w + t) E with x | x
      · rw [oe_dN1 (by omega) x, oe_dN1 (by omega) (by omega), show k + w + t = k + (t + w) from by omega]
      · rw [oe_dN2 (by omega) (by omega) x, oe_dN2 (by omega) (by omega) (by omega), show k + w + t = k + (t + w) from by omega]
  · rcases Nat.lt_or_ge k E with y | y
    · rw [oe_in2 z (by omega), oe_dN2 (by omega) y (by omega)]
      show oe_dN N p E t (p + 1 + (k - (E - w))) = _
      rw [oe_dN1 (by omega) (by omega), show p + 1 + (k - (E - w)) + t = k + (t + w) - (E - p - 1) from by omega]
    · rw [oe_in3 (by omega), oe_cu2 (by omega), show k - w + w = k from by omega, oe_dN0 (by omega), oe_dN0 (by omega)]
theorem oe_dD_s {p E t w : Nat} (hpE : p < E) (hw : 0 < w) (htw : t + w ≤ E - p - 1) (hc : D (p + 1 + t) = D p + 1) (hwin : ∀ r, r < w → D p + 1 ≤ D (p + 1 + r + t)) (k : Nat) : oe_in (oe_cu (oe_dD D p E t) (p + 1) w) (oe_ad (oe_sd (oe_dD D p E t) (p + 1)) (D p)) (E - w) w k = oe_dD D p E (t + w) k := by
  rcases Nat.lt_or_ge k (E - w) with z | z
  · rw [oe_in1 z]
    rcases Nat.lt_or_ge k (p + 1) with y | y
    · rw [oe_cu1 y, oe_dD0 (by omega), oe_dD0 (by omega)]
    · rw [oe_cu2 y]
      rcases Nat.lt_or_ge (k + w + t) E with x | x
      · rw [oe_dD1 (by omega) x, oe_dD1 (by omega) (by omega), show k + w + t = k + (t + w) from by omega]
      · rw [oe_dD2 (by omega) (by omega) x, oe_dD2 (by omega) (by omega) (by omega), show k + w + t = k + (t + w) from by omega]
  · rcases Nat.lt_or_ge k E with y | y
    · rw [oe_in2 z (by omega), oe_dD2 (by omega) y (by omega)]
      show oe_dD D p E t (p + 1 + (k - (E - w))) - oe_dD D p E t (p + 1) + D p = _
      have h2 := hwin (k - (E - w)) (by omega)
      rw [oe_dD1 (by omega) (by omega), oe_dD1 (by omega) (by omega), hc, show k + (t + w) - (E - p - 1) = p + 1 + (k - (E - w)) + t from by omega]
      omega
    · rw [oe_in3 (by omega), oe_cu2 (by omega), show k - w + w = k from by omega, oe_dD0 (by omega), oe_dD0 (by omega)]
theorem oe_dissolve_98 {post : Int32 → SX → Prop} {p E : Nat} {x3 : Int32} (hm : m ≤ 41) (h0 : N 0 = 0) (hf0 : fo 0 = 0) (hfo : ∀ y, fo y ≤ 1) (G : oe_G m mk N nm us)
    (p0 : 0 < p) (hpE : p < E) (hEm : E ≤ m) (hE : E < m → D E ≤ D p) (hc1 : p + 1 < E → D (p + 1) = D p + 1)
    (T : oe_T ab ch nx bf (oe_dN N p E (E - p - 1)) (oe_dD D p E (E - p - 1)) m) (SR : ∀ k, k < m → oe_SR sz ri fo (oe_dN N p E (E - p - 1)) (oe_dD D p E (E - p - 1)) m k)
    (K : ∀ u', oe_XR (m - 1) mk (oe_cu N p 1) (oe_cu (oe_hD D (p + 1) E) p 1) fo nm (oe_u us (N p) 0) u' → post x3 u') : wX_dissolve_98 post (nI (N p)) x3 (nI mk) (oe_A us) (oe_A nm) (oe_A fo) (oe_A ab) (oe_A ch) (oe_A nx) (oe_A bf) (oe_A sz) (oe_A ri) := by
  have hN : ∀ k, k < m → oe_dN N p E (E - p - 1) k = N k := by
    intro k hk
    by_cases c : p < k ∧ k < E
    · rw [oe_dN2 c.1 c.2 (by omega), show k + (E - p - 1) - (E - p - 1) = k from by omega]
    · rw [oe_dN0 (by omega)]
  have hD : ∀ k, k < m → oe_dD D p E (E - p - 1) k = oe_hD D (p + 1) E k := by
    intro k hk
    by_cases c : p < k ∧ k < E
    · rw [oe_dD2 c.1 c.2 (by omega), show k + (E - p - 1) - (E - p - 1) = k from by omega, oe_hD1 (by omega) c.2]
    · rw [oe_dD0 (by omega), oe_hD0 (by omega)]
  have T2 := oe_T_congr hN hD T
  have S2 := fun k hk => oe_SR_congr hk hN hD (SR k hk)
  have hx := T2.2.1.1 p (by omega)
  have hen : oe_en (oe_hD D (p + 1) E) m p = p + 1 := by
    refine oe_en_eq (by omega) (by omega) (fun q q1 q2 => by omega) (fun h => ?_)
    rw [oe_hD0 (k := p) (by omega)]
    by_cases c : p + 1 < E
    · rw [oe_hD1 (Nat.le_refl _) c]; have := hc1 c; omega
    · rw [oe_hD0 (by omega)]
      have e : p + 1 = E := by omega
      rw [e] at h ⊢
      exact hE h
  unfold wX_dissolve_98
  refine And.intro (vp_in_nI hx (by decide)) (nm_r (e' := oe_A (oe_u us (N p) 0)) (by rw [oe_nar0, oe_st us 0 (by omega)]) ?_)
  refine oe_x_unlinkW (p := p) (w := 1) hm hfo h0 p0 (by omega) hen T2 S2 (fun ch' nx' bf' sz' ri' T1 S1 TB SB => ?_)
  refine K _ ⟨_, _, _, _, _, _, rfl, ⟨by omega, by rw [oe_cu1 p0]; exact h0, hf0, hfo, T1, S1⟩, oe_G_cut T2.2.1 G p0 (by omega) (fun s hs => ?_) (fun y hy => ?_)⟩
  · rw [show s = 0 from by omega]; exact oe_us
  · exact oe_un (hy 0 (by omega))
theorem oe_dissolve_loop {post : Int32 → SX → Prop} {p q E : Nat} {x3 : Int32} (hm : m ≤ 41) (h0 : N 0 = 0) (hf0 : fo 0 = 0) (hfo : ∀ y, fo y ≤ 1) (G : oe_G m mk N nm us)
    (p0 : 0 < p) (hqp : q < p) (hpE : p < E) (hEm : E ≤ m) (hE : E < m → D E ≤ D p) (hc1 : p + 1 < E → D (p + 1) = D p + 1) (hdq : D q + 1 = D p) (hb : ∀ k, q < k → k < p → D p ≤ D k) (hin : ∀ k, p < k → k < E → D p < D k)
    (K : ∀ u', oe_XR (m - 1) mk (oe_cu N p 1) (oe_cu (oe_hD D (p + 1) E) p 1) fo nm (oe_u us (N p) 0) u' → post x3 u') :
    ∀ f t i c s ab ch nx bf sz ri, E - p - 1 - t < f → t ≤ E - p - 1 → (t < E - p - 1 → D (p + 1 + t) = D p + 1 ∧ c = N (p + 1 + t)) → (t = E - p - 1 → c = 0) → i ≤ t →
      oe_dD D p E t (oe_sc (oe_dD D p E t) (D p + 1) E) = D p → s = oe_dN N p E t (oe_sc (oe_dD D p E t) (D p + 1) E) →
      oe_T ab ch nx bf (oe_dN N p E t) (oe_dD D p E t) m → (∀ k, k < m → oe_SR sz ri fo (oe_dN N p E t) (oe_dD D p E t) m k) →
      wX_dissolve_47 post (nI (N p)) x3 (nI (N q)) f (nI s) (nI c) (nI i) (nI mk) (oe_A us) (oe_A nm) (oe_A fo) (oe_A ab) (oe_A ch) (oe_A nx) (oe_A bf) (oe_A sz) (oe_A ri) := by
  intro f
  induction f with
  | zero => intro t i c s ab ch nx bf sz ri h; omega
  | succ f ih =>
    intro t i c s ab ch nx bf sz ri hf ht hct hcz hi hs1 hs2 T SR
    have h40 : ¬ (40 : Int32) ≤ nI i := nI_ge (b := 40) (by omega) (by decide)
    rcases Nat.lt_or_ge t (E - p - 1) with z | z
    · obtain ⟨hd1, hcN⟩ := hct z
      have hL1 := hc1 (by omega)
      have e1 : oe_dN N p E t (p + 1) = N (p + 1 + t) := oe_dN1 (by omega) (by omega)
      have d1 : oe_dD D p E t (p + 1) = D p + 1 := by rw [oe_dD1 (by omega) (by omega)]; exact hd1
      have dp : oe_dD D p E t p = D p := oe_dD0 (by omega)
      have np : oe_dN N p E t p = N p := oe_dN0 (by omega)
      have nq : oe_dN N p E t q = N q := oe_dN0 (by omega)
      have n0 : oe_dN N p E t 0 = 0 := by rw [oe_dN0 (by omega)]; exact h0
      rw [← e1] at hcN
      subst hcN
      have hx := T.2.1.1 (p + 1) (by omega)
      have hx0 := T.2.1.2.1 (p + 1) (by omega) (by omega)
      have lt := oe_en_lt (D := oe_dD D p E t) (m := m) (k := p + 1)
      have lm := oe_en_le (D := oe_dD D p E t) (m := m) (k := p + 1) (by omega)
      obtain ⟨w, hw⟩ : ∃ w, oe_en (oe_dD D p E t) m (p + 1) = p + 1 + w := ⟨oe_en (oe_dD D p E t) m (p + 1) - (p + 1), by omega⟩
      -- the place behind the rest of the children
      have dEt : E - t < m → oe_dD D p E t (E - t) ≤ D p := by
        intro h
        by_cases t0 : t = 0
        · subst t0; rw [oe_dD0 (by omega)]; exact hE (by omega)
        · rw [oe_dD2 (by omega) (by omega) (by omega), show E - t + t - (E - p - 1) = p + 1 from by omega, hL1]; omega
      have hgt : p + 1 + w ≤ E - t := by
        rcases Nat.lt_or_ge (E - t) (p + 1 + w) with y | y
        · have a := oe_en_in (D := oe_dD D p E t) (m := m) (k := p + 1) (q := E - t) (by omega) (by omega)
          have b := dEt (by omega)
          omega
        · exact y
      have hwin : ∀ r, r < w → D p + 1 ≤ D (p + 1 + r + t) := by
        intro r hr
        have := hin (p + 1 + r + t) (by omega) (by omega)
        omega
      have hwin2 : ∀ r, 0 < r → r < w → D p + 1 < D (p + 1 + r + t) := by
        intro r r0 hr
        have a := oe_en_in (D := oe_dD D p E t) (m := m) (k := p + 1) (q := p + 1 + r) (by omega) (by omega)
        rw [d1, oe_dD1 (by omega) (by omega)] at a
        exact a
      obtain ⟨x1, x0⟩ := T.2.2.2.2.1 (p + 1) (by omega) (by omega)
      rw [hw, d1] at x1 x0
      refine br_f h40 (br_f (nI_ne0 hx0 (by omega)) (And.intro (vp_in_nI hx (by decide)) (nm_r (oe_rd nx (by omega)) ?_)))
      refine oe_x_unlinkW (p := p + 1) (w := w) hm hfo n0 (by omega) (by omega) hw T SR (fun ch' nx' bf' sz' ri' T1 S1 TB SB => ?_)
      have Q := oe_cu_Qw (D := oe_dD D p E t) (by omega) (by omega) hw
      -- the parent's place in the cut outline
      have cg : ∀ k, p < k → k < E - w → D p ≤ oe_cu (oe_dD D p E t) (p + 1) w k := by
        intro k k1 k2
        rw [oe_cu2 (by omega)]
        exact oe_dD_ge ht hin (by omega) (by omega)
      have cl : ∀ k, k ≤ p → oe_cu (oe_dD D p E t) (p + 1) w k = D k := by
        intro k k1
        rw [oe_cu1 (by omega), oe_dD0 (by omega)]
      have hscq : oe_sc (oe_cu (oe_dD D p E t) (p + 1) w) (D p) (E - w) = q := by
        refine oe_sc_eq (by omega) (by rw [cl q (by omega)]; omega) (fun k k1 k2 => ?_)
        rcases Nat.lt_trichotomy k p with y | y | y
        · rw [cl k (by omega)]; exact hb k k1 y
        · rw [y, cl p (Nat.le_refl _)]; exact Nat.le_refl _
        · exact cg k y k2
      have hD10 : oe_cu (oe_dD D p E t) (p + 1) w 0 < D p + 1 := by rw [T1.1.2.1]; omega
      have hscs := (oe_sc_spec hD10 (E - w) (by omega)).1
      -- the sibling ahead in the cut outline
      have hsib : oe_cu (oe_dD D p E t) (p + 1) w (oe_sc (oe_cu (oe_dD D p E t) (p + 1) w) (D p + 1) (E - w)) = D p ∧ s = oe_cu (oe_dN N p E t) (p + 1) w (oe_sc (oe_cu (oe_dD D p E t) (p + 1) w) (D p + 1) (E - w)) := by
        by_cases c : E - w = p + 1
        · have a := oe_Q_se Q (b := D p + 1) hD10 (by rw [d1]; exact Nat.le_refl _)
          rw [show p + 1 + w = E from by omega, ← c] at a
          rw [a] at hs1 hs2
          rw [c] at hscs
          rw [c] at hs1 hs2 ⊢
          rw [oe_cu1 hscs, oe_cu1 hscs]
          exact ⟨hs1, hs2⟩
        · obtain ⟨u1, u2⟩ := oe_Q_sh Q (k := E - w) (b := D p + 1) hD10 (by omega) (by omega)
          rw [show E - w + w = E from by omega] at u1 u2
          rcases Nat.lt_or_ge (oe_sc (oe_cu (oe_dD D p E t) (p + 1) w) (D p + 1) (E - w)) (p + 1) with y | y
          · rw [u1 y] at hs1 hs2
            rw [oe_cu1 y, oe_cu1 y]
            exact ⟨hs1, hs2⟩
          · rw [u2 y] at hs1 hs2
            rw [oe_cu2 y, oe_cu2 y]
            exact ⟨hs1, hs2⟩
      have hqN : N q = oe_cu (oe_dN N p E t) (p + 1) w q := by rw [oe_cu1 (by omega)]; exact nq.symm
      refine oe_x_linkE (NB := oe_sg (oe_dN N p E t) (p + 1)) (DB := oe_sd (oe_dD D p E t) (p + 1)) (w := w) (a := E - w) (d := D p) (p := N q) (s := s) rfl rfl rfl (by omega) hfo (by rw [oe_cu1 (by omega)]; exact n0) T1 TB hx0 (oe_cu_dj T.2.1 (by omega)) (by omega) (by omega) (by omega) ?_ ?_ (by rw [hscq]; exact hqN) (fun _ => hsib.2) (fun u => absurd hsib.1 u) S1 SB (fun ab' ch2 nx2 bf2 sz2 ri2 T2 S2 => ?_)
      · by_cases c : E - w - 1 = p
        · rw [c, cl p (Nat.le_refl _)]; omega
        · have := cg (E - w - 1) (by omega) (by omega); omega
      · intro h
        rw [oe_cu2 (by omega), show E - w + w = E from by omega, oe_dD0 (by omega)]
        exact hE (by omega)
      · have hN : ∀ k, k < m → oe_in (oe_cu (oe_dN N p E t) (p + 1) w) (oe_sg (oe_dN N p E t) (p + 1)) (E - w) w k = oe_dN N p E (t + w) k := fun k _ => oe_dN_s hpE (by omega) (by omega) k
        have hD : ∀ k, k < m → oe_in (oe_cu (oe_dD D p E t) (p + 1) w) (oe_ad (oe_sd (oe_dD D p E t) (p + 1)) (D p)) (E - w) w k = oe_dD D p E (t + w) k := fun k _ => oe_dD_s hpE (by omega) (by omega) hd1 hwin k
        rw [show m - w + w = m from by omega] at T2 S2
        have T3 := oe_T_congr hN hD T2
        have S3 := fun k hk => oe_SR_congr hk hN hD (S2 k hk)
        have dw : oe_dD D p E (t + w) (E - w) = D p := by
          rw [oe_dD2 (by omega) (by omega) (by omega), show E - w + (t + w) - (E - p - 1) = p + 1 + t from by omega, hd1]; omega
        have nw : oe_dN N p E (t + w) (E - w) = N (p + 1 + t) := by
          rw [oe_dN2 (by omega) (by omega) (by omega), show E - w + (t + w) - (E - p - 1) = p + 1 + t from by omega]
        have hsc : oe_sc (oe_dD D p E (t + w)) (D p + 1) E = E - w := by
          refine oe_sc_eq (by omega) (by omega) (fun k k1 k2 => ?_)
          rw [oe_dD2 (by omega) k2 (by omega), show k + (t + w) - (E - p - 1) = p + 1 + (k - (E - w)) + t from by omega]
          have := hwin2 (k - (E - w)) (by omega) (by omega)
          omega
        refine nm_r (nI_1 i) ?_
        refine ih (t + w) (i + 1) _ _ _ _ _ _ _ _ (by omega) (by omega) (fun u => ?_) (fun u => ?_) (by omega) (by rw [hsc]; exact dw) (by rw [hsc, nw]; exact e1) T3 S3
        · have gl : oe_dD D p E t (p + 1 + w) = D (p + 1 + (t + w)) := by
            rw [oe_dD1 (by omega) (by omega), show p + 1 + w + t = p + 1 + (t + w) from by omega]
          have ga := oe_en_at (D := oe_dD D p E t) (m := m) (k := p + 1) (by omega)
          rw [hw, d1, gl] at ga
          have gb := hin (p + 1 + (t + w)) (by omega) (by omega)
          have gd : D (p + 1 + (t + w)) = D p + 1 := by omega
          refine ⟨gd, ?_⟩
          rw [x1 (by omega) (by rw [gl]; exact gd), oe_dN1 (by omega) (by omega), show p + 1 + w + t = p + 1 + (t + w) from by omega]
        · refine x0 (fun v => ?_)
          have := dEt (by omega)
          rw [show p + 1 + w = E - t from by omega]
          omega
    · have e : t = E - p - 1 := by omega
      have c0 := hcz e
      subst c0
      subst e
      exact br_f h40 (br_t nI_0 (oe_dissolve_98 hm h0 hf0 hfo G p0 hpE hEm hE hc1 T SR K))
theorem oe_X_dissolve {post : Int32 → SX → Prop} {j w : Nat} (XC : oe_XC m N D fo ab ch nx bf sz ri) (G : oe_G m mk N nm us) (hj : j + 1 < m) (hw : oe_en D m (j + 1) = j + 1 + w)
    (K : ∀ u', oe_XR (m - 1) mk (oe_cu N (j + 1) 1) (oe_cu (oe_hD D (j + 1 + 1) (j + 1 + w)) (j + 1) 1) fo nm (oe_u us (N (j + 1)) 0) u' → post (oe_lv w) u') : wpX_dissolve post (nI mk, oe_A us, oe_A nm, oe_A fo, oe_A ab, oe_A ch, oe_A nx, oe_A bf, oe_A sz, oe_A ri) (nI j) := by
  have hS := oe_XC_S XC
  obtain ⟨hm, h0, hf0, hfo, T, SR⟩ := XC
  have hx := T.2.1.1 (j + 1) hj
  have hx0 := T.2.1.2.1 (j + 1) (by omega) hj
  have ix := vp_in_nI hx (show 41 < 2 ^ 31 by decide)
  have lm := oe_en_le (D := D) hj
  have lt := oe_en_lt (D := D) (m := m) (k := j + 1)
  have s := hS (j + 1) hj
  unfold oe_S at s
  rw [oe_zp (by omega)] at s
  obtain ⟨p1, p2, p3⟩ := oe_pa T.1 (k := j + 1) (by omega) hj
  have hP := T.2.2.2.1 (j + 1) (by omega) hj
  obtain ⟨c1, c0⟩ := T.2.2.1 (j + 1) hj
  have hin : ∀ k, j + 1 < k → k < j + 1 + w → D (j + 1) < D k := fun k k1 k2 => oe_en_in (m := m) k1 (by omega)
  have hc1 : j + 1 + 1 < j + 1 + w → D (j + 1 + 1) = D (j + 1) + 1 := by
    intro h
    have a := hin (j + 1 + 1) (by omega) h
    have b := (T.1.2.2 (j + 1 + 1) (by omega) (by omega)).2
    rw [Nat.add_sub_cancel] at b
    omega
  have hE : j + 1 + w < m → D (j + 1 + w) ≤ D (j + 1) := by
    intro h
    have := oe_en_at (D := D) (m := m) (k := j + 1) (by omega)
    rw [hw] at this; exact this
  have eN : oe_dN N (j + 1) (j + 1 + w) 0 = N := by
    funext k
    by_cases c : j + 1 < k ∧ k < j + 1 + w
    · rw [oe_dN1 c.1 (by omega), Nat.add_zero]
    · rw [oe_dN0 (by omega)]
  have eD : oe_dD D (j + 1) (j + 1 + w) 0 = D := by
    funext k
    by_cases c : j + 1 < k ∧ k < j + 1 + w
    · rw [oe_dD1 c.1 (by omega), Nat.add_zero]
    · rw [oe_dD0 (by omega)]
  have hsc : oe_sc D (D (j + 1) + 1) (j + 1 + w) = j + 1 := oe_sc_eq (by omega) (by omega) (fun k k1 k2 => hin k k1 k2)
  unfold wpX_dissolve
  refine oe_x_bad0 hm h0 T hS hj (br_t rfl (oe_x_nodeAt hm h0 hj T hS (And.intro ix (nm_r (e' := oe_lv w) (by rw [oe_rd sz (by omega), show sz (N (j + 1)) = w from by omega]; rfl) (And.intro ix (nm_r (e' := nI (N (oe_sc D (D (j + 1)) (j + 1)))) (by rw [oe_rd ab (by omega), hP]) (And.intro ix (nm_r (oe_rd ch (by omega)) ⟨m + 1, ?_⟩))))))))
  refine oe_dissolve_loop (E := j + 1 + w) (D := D) hm h0 hf0 hfo G (by omega) p1 (by omega) (by omega) hE hc1 p2 p3 hin K (m + 1) 0 0 (ch (N (j + 1))) (N (j + 1)) ab ch nx bf sz ri (by omega) (by omega) (fun u => ?_) (fun u => ?_) (by omega) (by rw [eD, hsc]) (by rw [eD, eN, hsc]) (by rw [eD, eN]; exact T) (by rw [eD, eN]; exact SR)
  · have := hc1 (by omega)
    exact ⟨this, c1 (by omega) (by omega)⟩
  · refine c0 (fun v => ?_)
    have := hE (by omega)
    rw [show j + 1 + w = j + 1 + 1 from by omega] at this
    exact this
theorem oe_Y_dissolve {post : Int32 → SY → Prop} {j w : Nat} (YF : oe_YF m N D fo nm yn yl yf) (W : oe_W D m) (hm : m ≤ 41) (hj : j + 1 < m) (hw : oe_en D m (j + 1) = j + 1 + w) (yf1 : ∀ y, yf y ≤ 1) (kf1 : ∀ y, kf y ≤ 1)
    (K : ∀ v', oe_YR (m - 1) mk (oe_cu N (j + 1) 1) (oe_cu (oe_hD D (j + 1 + 1) (j + 1 + w)) (j + 1) 1) fo nm v' → post (oe_lv w) v') : wpY_dissolve post (nI (m - 1), nI mk, oe_A yn, oe_A yl, oe_A yf, oe_A kn, oe_A kl, oe_A kf) (nI j) := by
  have e := oe_en_sh (D := D) (oe_YF_l YF) hj
  have lm := oe_en_le (D := D) hj
  have lt := oe_en_lt (D := D) (m := m) (k := j + 1)
  have hl := oe_YF_b W hm YF
  have hw2 : oe_en yl (m - 1) j = j + w := by omega
  obtain ⟨L, hL⟩ : ∃ L, w = L + 1 := ⟨w - 1, by omega⟩
  have hy : ∀ k, j + 1 ≤ k → k < j + w → 0 < yl k := by
    intro k k1 k2
    have a := oe_YF_l YF k (by omega)
    have b := oe_YF_l YF j hj
    have c := oe_en_in (D := D) (m := m) (k := j + 1) (q := k + 1) (by omega) (by omega)
    omega
  unfold wpY_dissolve
  refine oe_y_isPlace1 (by omega) (by omega) (br_f (by decide) (oe_y_endOf (by omega) (by omega) hl ?_))
  rw [hw2, nI_1, show j + w = j + 1 + L from by omega]
  refine oe_y_addLevels (fun k => yl k - 1) (by omega) (by omega) (fun k k1 k2 => ?_) ?_
  · have := hy k k1 (by omega)
    show nI (yl k) + (-1) = nI (yl k - 1)
    have e2 := pk_m1 (yl k - 1)
    rw [show yl k - 1 + 1 = yl k from by omega] at e2
    exact e2
  · have YF2 : oe_YF m N (oe_hD D (j + 1 + 1) (j + 1 + w)) fo nm yn (fun k => if j + 1 ≤ k ∧ k < j + 1 + L then yl k - 1 else yl k) yf := by
      intro k hk
      obtain ⟨y1, y2, y3⟩ := YF k hk
      refine ⟨y1, ?_, y3⟩
      show (if j + 1 ≤ k ∧ k < j + 1 + L then yl k - 1 else yl k) + 1 = _
      by_cases c : j + 1 ≤ k ∧ k < j + 1 + L
      · rw [if_pos c, oe_hD1 (by omega) (by omega)]
        have := hy k c.1 (by omega)
        omega
      · rw [if_neg c, oe_hD0 (by omega)]; exact y2
    refine oe_y_delete (by omega) (by omega) yf1 (fun yn' yl' yf' e1 e2 e3 e4 => ?_)
    refine oe_qs (r' := oe_lv w) ?_ (K _ ⟨yn', yl', yf', kn, kl, kf, rfl, oe_YF_del YF2 (by omega) e1 e2 e3, e4, kf1⟩)
    rw [pk_sub (by omega), show j + 1 + L - j = w from by omega]; rfl
end
end
section
/-! the last owed row -/
theorem i_vc_dissolve {k : Nat} {u : SX} {v : SY} (I : i_Rel k u v) (hk : k + 3 ≤ 1536) (v1 : Int32) : wpX_dissolve (fun r u' => wpY_dissolve (fun r' v' => r' = r ∧ i_Rel (k + 3) u' v') v v1) u v1 := by
  have I' := i_up I
  obtain ⟨m, mk, N, D, fo, nm, us, ⟨ab, ch, nx, bf, sz, ri, rfl, XC, G⟩, ⟨yn, yl, yf, kn, kl, kf, rfl, YF, yf1, kf1⟩, hmk⟩ := I
  have hm := XC.1
  have W := XC.2.2.2.2.1.1
  rcases pk_ix v1 (n := m - 1) (by omega) with h | h | ⟨j, hj, rfl⟩
  · exact oe_X_dissolve_bad XC (Or.inl h) (oe_Y_dissolve_bad (Or.inl h) ⟨rfl, I'⟩)
  · exact oe_X_dissolve_bad XC (Or.inr h) (oe_Y_dissolve_bad (Or.inr h) ⟨rfl, I'⟩)
  · obtain ⟨w, hw⟩ : ∃ w, oe_en D m (j + 1) = j + 1 + w := ⟨oe_en D m (j + 1) - (j + 1), by have := oe_en_lt (D := D) (m := m) (k := j + 1); omega⟩
    exact oe_X_dissolve XC G (by omega) hw (fun u' X2 => oe_Y_dissolve YF W hm (by omega) hw yf1 kf1 (fun v' Y2 => ⟨rfl, _, _, _, _, _, _, _, X2, Y2, by omega⟩))
end
