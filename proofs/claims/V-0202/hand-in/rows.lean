section
/-! numbers, stores, branches -/
theorem lr_us {f : Nat → Int32} {k : Nat} {x : Int32} : upd f k x k = x := if_pos rfl
theorem lr_un {f : Nat → Int32} {k j : Nat} {x : Int32} (h : j ≠ k) : upd f k x j = f j := if_neg h
theorem lr_uu {f : Nat → Int32} {k : Nat} {x y : Int32} : upd (upd f k x) k y = upd f k y := by
  funext j
  by_cases h : j = k
  · subst h; rw [lr_us, lr_us]
  · rw [lr_un h, lr_un h, lr_un h]
theorem lr_m1 (n : Nat) : nI (n + 1) + (-1) = nI n := by
  rw [← nI_1, Int32.add_assoc, show (1 : Int32) + (-1) = 0 from rfl, Int32.add_zero]
theorem lr_m {n : Nat} (h : 0 < n) : nI n + (-1) = nI (n - 1) := by
  obtain ⟨m, rfl⟩ : ∃ m, n = m + 1 := ⟨n - 1, by omega⟩
  exact lr_m1 m
theorem lr_s {n : Nat} (h : 0 < n) : nI n - 1 = nI (n - 1) := by
  obtain ⟨m, rfl⟩ : ∃ m, n = m + 1 := ⟨n - 1, by omega⟩
  exact nI_pred m
theorem lr_mul (a b : Nat) : nI a * nI b = nI (a * b) := (Int32.ofNat_mul a b).symm
theorem lr_128 (a : Nat) : nI a * 128 = nI (a * 128) := lr_mul a 128
theorem lr_le0 {a : Nat} (h : a < 2 ^ 31) : nI a ≤ 0 ↔ a = 0 := by
  rw [← nI_0, nI_leI h (by omega)]; omega
theorem lr_eq0 {a : Nat} (h : a < 2 ^ 31) : nI a = 0 ↔ a = 0 := by
  rw [← nI_0, nI_eq h (by omega)]
theorem lr_0lt {a : Nat} (h : a < 2 ^ 31) : 0 < nI a ↔ 0 < a := by
  rw [← nI_0, nI_ltI (by omega) h]
theorem lr_ne1 {a : Nat} (h : a < 2 ^ 31) : ¬ nI a = -1 := by
  intro e
  have := nI_pos (n := a) h
  rw [e] at this
  exact this (by decide)
theorem lr_1ne {a : Nat} (h : a < 2 ^ 31) : ¬ (-1 : Int32) = nI a := fun e => lr_ne1 h e.symm
theorem lr_im {a b : Nat} (h : nI a = nI b) (ha : a < 2 ^ 31) (hb : b < 2 ^ 31) : a = b := (nI_eq ha hb).mp h
theorem lr_z1 : (nI 0 - 1 : Int32) = -1 := by decide
theorem lr_n1 : (-1 : Int32) < 0 := by decide
theorem lr_cn1 : (-1 : Int32).toNatClampNeg = 0 := by decide
/-- a store -/
theorem lr_w {N n : Nat} {x v : Int32} {f : Nat → Int32} {P : (Nat → Int32) → Prop} (e : x = nI n) (h : n < N) (hN : N < 2 ^ 31) (k : P (upd f n v)) : vp_in x N ∧ ∀ y : Nat → Int32, y = upd f x.toNatClampNeg v → P y := by
  subst e
  refine ⟨vp_in_nI h hN, fun y ey => ?_⟩
  rw [ey, nI_clamp (by omega)]
  exact k
/-- a read under a name -/
theorem lr_r {N n : Nat} {x : Int32} {f : Nat → Int32} {P : Int32 → Prop} (e : x = nI n) (h : n < N) (hN : N < 2 ^ 31) (k : P (f n)) : vp_in x N ∧ ∀ y : Int32, y = f x.toNatClampNeg → P y := by
  subst e
  refine ⟨vp_in_nI h hN, fun y ey => ?_⟩
  rw [ey, nI_clamp (by omega)]
  exact k
theorem lr_rd {n : Nat} {x : Int32} {f : Nat → Int32} (e : x = nI n) (h : n < 2 ^ 31) : f x.toNatClampNeg = f n := by
  subst e
  rw [nI_clamp h]
theorem lr_in {n N : Nat} {x : Int32} (e : x = nI n) (h : n < N) (hN : N < 2 ^ 31) : vp_in x N := by
  subst e
  exact vp_in_nI h hN
theorem lr_up {n : Nat} {x v : Int32} {f : Nat → Int32} (e : x = nI n) (h : n < 2 ^ 31) : upd f x.toNatClampNeg v = upd f n v := by
  subst e
  rw [nI_clamp h]
/-- a branch decided by an equivalence -/
theorem lr_if {c d A B : Prop} (e : c ↔ d) (f : d → A) (g : ¬ d → B) : (c → A) ∧ (¬ c → B) := ⟨fun h => f (e.mp h), fun h => g (fun x => h (e.mpr x))⟩
theorem lr_le {a b : Nat} {A B : Prop} (ha : a < 2 ^ 31) (hb : b < 2 ^ 31) (f : a ≤ b → A) (g : b < a → B) : (nI a ≤ nI b → A) ∧ (¬ nI a ≤ nI b → B) :=
  lr_if (nI_leI ha hb) f (fun h => g (by omega))
theorem lr_lt {a b : Nat} {A B : Prop} (ha : a < 2 ^ 31) (hb : b < 2 ^ 31) (f : a < b → A) (g : b ≤ a → B) : (nI a < nI b → A) ∧ (¬ nI a < nI b → B) :=
  lr_if (nI_ltI ha hb) f (fun h => g (by omega))
theorem lr_div {a d : Nat} (ha : a < 2 ^ 31) (h0 : 0 < d) (hd : d < 2 ^ 31) : nI a / nI d = nI (a / d) := by
  apply Int32.toInt_inj.mp
  rw [lg_idiv_nonneg (by rw [nI_toInt ha]; omega) (by rw [nI_toInt hd]; omega), nI_toInt ha, nI_toInt hd, nI_toInt (Nat.lt_of_le_of_lt (Nat.div_le_self a d) ha)]
  first | rfl | exact (Int.natCast_ediv _ _).symm
theorem lr_nn {a b : Nat} (ha : a < 2 ^ 31) (hb : b < 2 ^ 31) (h : a ≠ b) : ¬ nI a = nI b := fun e => h (lr_im e ha hb)
/-- Int32 order by integers -/
theorem lr_tle {x y : Int32} : x ≤ y ↔ x.toInt ≤ y.toInt := Int32.le_iff_toInt_le
theorem lr_tlt {x y : Int32} : x < y ↔ x.toInt < y.toInt := Int32.lt_iff_toInt_lt
theorem lr_t0 : (0 : Int32).toInt = 0 := by decide
theorem lr_t1 : (-1 : Int32).toInt = -1 := by decide
theorem lr_t3 : (-3 : Int32).toInt = -3 := by decide
theorem lr_neg1 {x : Int32} : ¬ x ≤ -1 ↔ 0 ≤ x := by
  rw [lr_tle, lr_tle, lr_t0, lr_t1]; omega
theorem lr_nlt {x : Int32} : ¬ x < 0 ↔ 0 ≤ x := by
  rw [lr_tlt, lr_tle, lr_t0]; omega
theorem lr_pne1 {x : Int32} (h : 0 ≤ x) : ¬ x = -1 := by
  intro e; subst e; exact absurd h (by decide)
theorem lr_lel {x y : Int32} (hx : x < 0) (hy : 0 ≤ y) : x ≤ y := by
  rw [lr_tlt, lr_t0] at hx; rw [lr_tle, lr_t0] at hy; rw [lr_tle]; omega
theorem lr_gtp {x y : Int32} (hx : 0 ≤ x) (h : ¬ y ≤ x) : 0 ≤ y := by
  rw [lr_tle] at h; rw [lr_tle, lr_t0] at hx ⊢; omega
/-- characters -/
abbrev lr_ok (c : Int32) : Prop := (97 ≤ c ∧ c ≤ 122) ∨ c = 32 ∨ c = 9 ∨ c = 10 ∨ c = 40 ∨ c = 41 ∨ c = 123 ∨ c = 125 ∨ c = 59 ∨ c = 44 ∨ c = 58
abbrev lr_let (c : Int32) : Prop := 97 ≤ c ∧ c ≤ 122
abbrev lr_bl (c : Int32) : Prop := c = 32 ∨ c = 9 ∨ c = 10
/-- a copy under way -/
def lr_cp (g : Nat → Int32) (k : Nat) (f : Nat → Int32) : Nat → Int32 := fun j => if j < k then g j else f j
theorem lr_cps {g f : Nat → Int32} {k : Nat} : upd (lr_cp g k f) k (g k) = lr_cp g (k + 1) f := by
  funext j
  by_cases h : j = k
  · subst h
    rw [lr_us]
    exact (if_pos (Nat.lt_succ_self j)).symm
  · rw [lr_un h]
    by_cases h2 : j < k
    · exact (if_pos h2).trans (if_pos (show j < k + 1 by omega)).symm
    · exact (if_neg h2).trans (if_neg (show ¬ j < k + 1 by omega)).symm
theorem lr_cpl {g f : Nat → Int32} {k j : Nat} (h : j < k) : lr_cp g k f j = g j := if_pos h
theorem lr_cpr {g f : Nat → Int32} {k j : Nat} (h : ¬ j < k) : lr_cp g k f j = f j := if_neg h
theorem lr_cpe {g g' f : Nat → Int32} {k : Nat} (h : ∀ j, j < k → g j = g' j) : lr_cp g k f = lr_cp g' k f := by
  funext j
  by_cases h2 : j < k
  · rw [lr_cpl h2, lr_cpl h2, h j h2]
  · rw [lr_cpr h2, lr_cpr h2]
end
section
/-! ancestors -/
def lr_it (P : Nat → Nat) : Nat → Nat → Nat
  | 0, q => q
  | i + 1, q => lr_it P i (P q)
def lr_A (P : Nat → Nat) (p q : Nat) : Prop := ∃ i, lr_it P i q = p
theorem lr_Arf (P : Nat → Nat) (q : Nat) : lr_A P q q := ⟨0, rfl⟩
theorem lr_Aup {P : Nat → Nat} {p q : Nat} (h : lr_A P p (P q)) : lr_A P p q := by
  obtain ⟨i, e⟩ := h
  exact ⟨i + 1, e⟩
theorem lr_Ainv {P : Nat → Nat} {p q : Nat} (h : lr_A P p q) : p = q ∨ lr_A P p (P q) := by
  obtain ⟨i, e⟩ := h
  cases i with
  | zero => exact Or.inl e.symm
  | succ i => exact Or.inr ⟨i, e⟩
theorem lr_Atr {P : Nat → Nat} {p q : Nat} (h : lr_A P p q) : ∀ r, lr_A P q r → lr_A P p r := by
  intro r k
  obtain ⟨i, e⟩ := k
  induction i generalizing r with
  | zero =>
    have e' : r = q := e
    rw [e']; exact h
  | succ i ih => exact lr_Aup (ih (P r) e)
theorem lr_Ale {P : Nat → Nat} {m p : Nat} (hP : ∀ k, k < m → P k ≤ k) : ∀ q, q < m → lr_A P p q → p ≤ q := by
  intro q hq h
  obtain ⟨i, e⟩ := h
  induction i generalizing q with
  | zero =>
    have e' : q = p := e
    omega
  | succ i ih =>
    have h1 := hP q hq
    have h2 := ih (P q) (by omega) e
    omega
theorem lr_Acg {P P' : Nat → Nat} {m p : Nat} (hP : ∀ k, k < m → P k ≤ k) (hE : ∀ k, k < m → P' k = P k) : ∀ q, q < m → lr_A P p q → lr_A P' p q := by
  intro q hq h
  obtain ⟨i, e⟩ := h
  induction i generalizing q with
  | zero => exact ⟨0, e⟩
  | succ i ih =>
    have h1 := hP q hq
    have h2 := ih (P q) (by omega) e
    rw [← hE q hq] at h2
    exact lr_Aup h2
def lr_PO (P : Nat → Nat) (m : Nat) : Prop := ∀ k, 0 < k → k < m → P k < k ∧ lr_A P (P k) (k - 1)
theorem lr_POle {P : Nat → Nat} {m : Nat} (h0 : P 0 = 0) (h : lr_PO P m) : ∀ k, k < m → P k ≤ k := by
  intro k hk
  by_cases z : k = 0
  · subst z; omega
  · have := (h k (by omega) hk).1
    omega
/-- the descendants of a node are an interval -/
theorem lr_Act {P : Nat → Nat} {m c j : Nat} (h : lr_PO P m) (hc : c ≤ j) : ∀ t q, q = j + t → q < m → lr_A P c q → lr_A P c j := by
  intro t
  induction t with
  | zero => intro q e _ k; rw [show j = q by omega]; exact k
  | succ t ih =>
    intro q e hq k
    rcases lr_Ainv k with z | k'
    · omega
    · exact ih (q - 1) (by omega) (by omega) (lr_Atr k' _ (h q (by omega) hq).2)
theorem lr_Act' {P : Nat → Nat} {m c j q : Nat} (h : lr_PO P m) (hc : c ≤ j) (hj : j ≤ q) (hq : q < m) (k : lr_A P c q) : lr_A P c j :=
  lr_Act h hc (q - j) q (by omega) hq k
/-- no later child between a child and a descendant of it -/
theorem lr_Ano {P : Nat → Nat} {m c q j : Nat} (h0 : P 0 = 0) (h : lr_PO P m) (hc : 0 < c) (hq : q < m) (k : lr_A P c q) (h1 : c < j) (h2 : j ≤ q) : P j ≠ P c := by
  intro e
  have k1 := lr_Act' h (Nat.le_of_lt h1) h2 hq k
  rcases lr_Ainv k1 with z | k2
  · omega
  · rw [e] at k2
    have hcm : c < m := by omega
    have h3 := (h c hc hcm).1
    have h4 := lr_Ale (lr_POle h0 h) (P c) (by omega) k2
    omega
/-! the tree in two arrays -/
def lr_P (np : Nat → Int32) (b : Nat) : Nat → Nat := fun k => (np (b + k)).toNatClampNeg
def lr_K (c p : Int32) : Prop := (c = 3 ∧ (p = 1 ∨ p = 2)) ∨ ((c = 1 ∨ c = 2 ∨ lr_let c) ∧ p = 3)
def lr_T (b m : Nat) (nk np : Nat → Int32) : Prop :=
  0 < m ∧ m ≤ 128 ∧ np b = -1 ∧ nk b = 1 ∧ ∀ k, 0 < k → k < m → ∃ p, p < k ∧ np (b + k) = nI p ∧ lr_A (lr_P np b) p (k - 1) ∧ lr_K (nk (b + k)) (nk (b + p))
theorem lr_P0 {b : Nat} {np : Nat → Int32} (h : np b = -1) : lr_P np b 0 = 0 := by
  show (np (b + 0)).toNatClampNeg = 0
  rw [Nat.add_zero, h]; exact lr_cn1
theorem lr_Pe {b k p : Nat} {np : Nat → Int32} (h : np (b + k) = nI p) (hp : p < 2 ^ 31) : lr_P np b k = p := by
  show (np (b + k)).toNatClampNeg = p
  rw [h, nI_clamp hp]
theorem lr_T0 {b m : Nat} {nk np : Nat → Int32} (h : lr_T b m nk np) : lr_P np b 0 = 0 := lr_P0 h.2.2.1
theorem lr_TPO {b m : Nat} {nk np : Nat → Int32} (h : lr_T b m nk np) : lr_PO (lr_P np b) m := by
  intro k h0 hk
  obtain ⟨p, h1, h2, h3, _⟩ := h.2.2.2.2 k h0 hk
  have := h.2.1
  rw [lr_Pe h2 (by omega)]
  exact ⟨h1, h3⟩
theorem lr_Tle {b m : Nat} {nk np : Nat → Int32} (h : lr_T b m nk np) : ∀ k, k < m → lr_P np b k ≤ k := lr_POle (lr_T0 h) (lr_TPO h)
theorem lr_Tp {b m k : Nat} {nk np : Nat → Int32} (h : lr_T b m nk np) (h0 : 0 < k) (hk : k < m) : np (b + k) = nI (lr_P np b k) := by
  obtain ⟨p, h1, h2, h3, _⟩ := h.2.2.2.2 k h0 hk
  have := h.2.1
  rw [lr_Pe h2 (by omega), h2]
theorem lr_Tk {b m k : Nat} {nk np : Nat → Int32} (h : lr_T b m nk np) (h0 : 0 < k) (hk : k < m) : lr_K (nk (b + k)) (nk (b + lr_P np b k)) := by
  obtain ⟨p, h1, h2, h3, h4⟩ := h.2.2.2.2 k h0 hk
  have := h.2.1
  rw [lr_Pe h2 (by omega)]; exact h4
theorem lr_Pu {np : Nat → Int32} {b m k : Nat} {v : Int32} (h : k ≠ m) : lr_P (upd np (b + m) v) b k = lr_P np b k := by
  show (upd np (b + m) v (b + k)).toNatClampNeg = _
  rw [lr_un (by omega)]; rfl
theorem lr_Pn {np : Nat → Int32} {b m p : Nat} (hp : p < 2 ^ 31) : lr_P (upd np (b + m) (nI p)) b m = p := by
  show (upd np (b + m) (nI p) (b + m)).toNatClampNeg = _
  rw [lr_us, nI_clamp hp]
theorem lr_Ax {b m p q : Nat} {v : Int32} {nk np : Nat → Int32} (h : lr_T b m nk np) (hq : q < m) (k : lr_A (lr_P np b) p q) : lr_A (lr_P (upd np (b + m) v) b) p q :=
  lr_Acg (m := m) (lr_Tle h) (fun k hk => lr_Pu (by omega)) q hq k
/-- an ancestor of the new node's parent is one of the new node -/
theorem lr_Am {b m p q : Nat} {nk np : Nat → Int32} (h : lr_T b m nk np) (hp : p < m) (hpa : lr_A (lr_P np b) p (m - 1)) (k : lr_A (lr_P np b) q (m - 1)) (hq : q ≤ p) : lr_A (lr_P (upd np (b + m) (nI p)) b) q m := by
  have h2 := h.2.1
  have k1 : lr_A (lr_P np b) q p := lr_Act' (lr_TPO h) hq (by omega) (by omega) k
  have k2 : lr_A (lr_P (upd np (b + m) (nI p)) b) q p := lr_Ax h hp k1
  apply lr_Aup
  rw [lr_Pn (by omega)]; exact k2
theorem lr_Tm {b m p : Nat} {c : Int32} {nk np : Nat → Int32} (h : lr_T b m nk np) (hm : m < 128) (hp : p < m) (hpa : lr_A (lr_P np b) p (m - 1)) (hk : lr_K c (nk (b + p))) : lr_T b (m + 1) (upd nk (b + m) c) (upd np (b + m) (nI p)) := by
  have h0 := h.1
  refine ⟨by omega, by omega, ?_, ?_, ?_⟩
  · rw [lr_un (by omega)]; exact h.2.2.1
  · rw [lr_un (by omega)]; exact h.2.2.2.1
  · intro k k0 k1
    by_cases e : k = m
    · subst e
      refine ⟨p, hp, lr_us, lr_Ax h (by omega) hpa, ?_⟩
      rw [lr_us, lr_un (by omega)]; exact hk
    · obtain ⟨q, h1, h2, h3, h4⟩ := h.2.2.2.2 k k0 (by omega)
      refine ⟨q, h1, ?_, lr_Ax h (by omega) h3, ?_⟩
      · rw [lr_un (by omega)]; exact h2
      · rw [lr_un (by omega), lr_un (by omega)]; exact h4
theorem lr_T1 {b : Nat} {nk np : Nat → Int32} : lr_T b 1 (upd nk b 1) (upd np b (-1)) :=
  ⟨by omega, by omega, lr_us, lr_us, fun k h0 h1 => absurd h1 (by omega)⟩
/-! links -/
def lr_F (b m : Nat) (np : Nat → Int32) (k : Nat) (r : Int32) : Prop :=
  (r = -1 ∧ ∀ j, j < m → np (b + j) ≠ nI k) ∨ ∃ f, f < m ∧ r = nI f ∧ np (b + f) = nI k ∧ ∀ j, j < f → np (b + j) ≠ nI k
def lr_N (b m : Nat) (np : Nat → Int32) (k : Nat) (r : Int32) : Prop :=
  (r = -1 ∧ ∀ j, k < j → j < m → np (b + j) ≠ np (b + k)) ∨ ∃ f, k < f ∧ f < m ∧ r = nI f ∧ np (b + f) = np (b + k) ∧ ∀ j, k < j → j < f → np (b + j) ≠ np (b + k)
def lr_L (b m : Nat) (np : Nat → Int32) (k : Nat) (r : Int32) : Prop :=
  (r = -1 ∧ ∀ j, j < m → np (b + j) ≠ nI k) ∨ ∃ f, f < m ∧ r = nI f ∧ np (b + f) = nI k ∧ ∀ j, f < j → j < m → np (b + j) ≠ nI k
def lr_LF (b m : Nat) (np nf nn : Nat → Int32) : Prop := ∀ k, k < m → lr_F b m np k (nf (b + k)) ∧ lr_N b m np k (nn (b + k))
def lr_LL (b m : Nat) (np lc : Nat → Int32) : Prop := ∀ k, k < m → lr_L b m np k (lc k)
theorem lr_Fx {b m p k : Nat} {np : Nat → Int32} {r : Int32} (hm : m < 128) (hp : p < m) (hk : k < m) (h : lr_F b m np k r) (c : k ≠ p ∨ r ≠ -1) : lr_F b (m + 1) (upd np (b + m) (nI p)) k r := by
  rcases h with ⟨e, h⟩ | ⟨f, h1, h2, h3, h4⟩
  · refine Or.inl ⟨e, fun j hj => ?_⟩
    by_cases z : j = m
    · subst z
      rw [lr_us]
      rcases c with c | c
      · exact lr_nn (by omega) (by omega) (fun z => c z.symm)
      · exact absurd e c
    · rw [lr_un (by omega)]; exact h j (by omega)
  · refine Or.inr ⟨f, by omega, h2, ?_, fun j hj => ?_⟩
    · rw [lr_un (by omega)]; exact h3
    · rw [lr_un (by omega)]; exact h4 j hj
theorem lr_Fn {b m p : Nat} {np : Nat → Int32} (h : ∀ j, j < m → np (b + j) ≠ nI p) : lr_F b (m + 1) (upd np (b + m) (nI p)) p (nI m) := by
  refine Or.inr ⟨m, by omega, rfl, lr_us, fun j hj => ?_⟩
  rw [lr_un (by omega)]; exact h j hj
theorem lr_Tno {b m j : Nat} {nk np : Nat → Int32} (h : lr_T b m nk np) (hj : j < m) : np (b + j) ≠ nI m := by
  have h2 := h.2.1
  by_cases z : j = 0
  · subst z
    rw [Nat.add_zero, h.2.2.1]; exact lr_1ne (by omega)
  · rw [lr_Tp h (by omega) hj]
    have := lr_Tle h j hj
    exact lr_nn (by omega) (by omega) (by omega)
theorem lr_Fm {b m p : Nat} {nk np : Nat → Int32} (h : lr_T b m nk np) (hp : p < m) : lr_F b (m + 1) (upd np (b + m) (nI p)) m (-1) := by
  have h2 := h.2.1
  refine Or.inl ⟨rfl, fun j hj => ?_⟩
  by_cases z : j = m
  · subst z; rw [lr_us]; exact lr_nn (by omega) (by omega) (by omega)
  · rw [lr_un (by omega)]; exact lr_Tno h (by omega)
theorem lr_Nx {b m p k : Nat} {np : Nat → Int32} {r : Int32} (hk : k < m) (h : lr_N b m np k r) (c : np (b + k) ≠ nI p ∨ r ≠ -1) : lr_N b (m + 1) (upd np (b + m) (nI p)) k r := by
  have ek : upd np (b + m) (nI p) (b + k) = np (b + k) := lr_un (by omega)
  rcases h with ⟨e, h⟩ | ⟨f, h1, h2, h3, h4, h5⟩
  · refine Or.inl ⟨e, fun j j0 hj => ?_⟩
    rw [ek]
    by_cases z : j = m
    · subst z
      rw [lr_us]
      rcases c with c | c
      · exact fun z => c z.symm
      · exact absurd e c
    · rw [lr_un (by omega)]; exact h j j0 (by omega)
  · refine Or.inr ⟨f, h1, by omega, h3, ?_, fun j j0 hj => ?_⟩
    · rw [ek, lr_un (by omega)]; exact h4
    · rw [ek, lr_un (by omega)]; exact h5 j j0 hj
theorem lr_Nn {b m p k : Nat} {np : Nat → Int32} (hk : k < m) (e : np (b + k) = nI p) (h : ∀ j, k < j → j < m → np (b + j) ≠ nI p) : lr_N b (m + 1) (upd np (b + m) (nI p)) k (nI m) := by
  have ek : upd np (b + m) (nI p) (b + k) = np (b + k) := lr_un (by omega)
  refine Or.inr ⟨m, hk, by omega, rfl, ?_, fun j j0 hj => ?_⟩
  · rw [ek, lr_us, e]
  · rw [ek, lr_un (by omega), e]; exact h j j0 hj
theorem lr_Nm {b m : Nat} {np : Nat → Int32} : lr_N b (m + 1) np m (-1) := Or.inl ⟨rfl, fun j h1 h2 => absurd h1 (by omega)⟩
theorem lr_Lx {b m p k : Nat} {np : Nat → Int32} {r : Int32} (hm : m < 128) (hp : p < m) (hk : k < m) (h : lr_L b m np k r) (c : k ≠ p) : lr_L b (m + 1) (upd np (b + m) (nI p)) k r := by
  rcases h with ⟨e, h⟩ | ⟨f, h1, h2, h3, h4⟩
  · refine Or.inl ⟨e, fun j hj => ?_⟩
    by_cases z : j = m
    · subst z; rw [lr_us]; exact lr_nn (by omega) (by omega) (fun z => c z.symm)
    · rw [lr_un (by omega)]; exact h j (by omega)
  · refine Or.inr ⟨f, by omega, h2, ?_, fun j j0 hj => ?_⟩
    · rw [lr_un (by omega)]; exact h3
    · by_cases z : j = m
      · subst z; rw [lr_us]; exact lr_nn (by omega) (by omega) (fun z => c z.symm)
      · rw [lr_un (by omega)]; exact h4 j j0 (by omega)
theorem lr_Ln {b m p : Nat} {np : Nat → Int32} : lr_L b (m + 1) (upd np (b + m) (nI p)) p (nI m) :=
  Or.inr ⟨m, by omega, rfl, lr_us, fun j h1 h2 => absurd h1 (by omega)⟩
theorem lr_Lm {b m p : Nat} {nk np : Nat → Int32} (h : lr_T b m nk np) (hp : p < m) : lr_L b (m + 1) (upd np (b + m) (nI p)) m (-1) := by
  rcases lr_Fm h hp with h | ⟨f, h1, h2, h3, h4⟩
  · exact Or.inl h
  · have := h.2.1
    exact absurd h2 (lr_1ne (by omega))
theorem lr_LLm {b m p : Nat} {nk np lc : Nat → Int32} (hT : lr_T b m nk np) (hm : m < 128) (hp : p < m) (h : lr_LL b m np lc) : lr_LL b (m + 1) (upd np (b + m) (nI p)) (upd (upd lc m (-1)) p (nI m)) := by
  intro k hk
  by_cases z : k = p
  · subst z; rw [lr_us]; exact lr_Ln
  · rw [lr_un z]
    by_cases y : k = m
    · subst y; rw [lr_us]; exact lr_Lm hT hp
    · rw [lr_un y]; exact lr_Lx hm hp (by omega) (h k (by omega)) z
/-- the first child -/
theorem lr_LFa {b m p : Nat} {nk np nf nn lc : Nat → Int32} (hT : lr_T b m nk np) (hm : m < 128) (hp : p < m) (h : lr_LF b m np nf nn) (hL : lr_LL b m np lc) (e : lc p = -1) : lr_LF b (m + 1) (upd np (b + m) (nI p)) (upd (upd nf (b + m) (-1)) (b + p) (nI m)) (upd nn (b + m) (-1)) := by
  have hno : ∀ j, j < m → np (b + j) ≠ nI p := by
    rcases hL p hp with ⟨_, h1⟩ | ⟨f, h1, h2, h3, h4⟩
    · exact h1
    · exact absurd (e.symm.trans h2) (lr_1ne (by omega))
  intro k hk
  by_cases y : k = m
  · subst y
    rw [lr_un (by omega), lr_us, lr_us]
    exact ⟨lr_Fm hT hp, lr_Nm⟩
  · have hk' : k < m := by omega
    refine ⟨?_, ?_⟩
    · by_cases z : k = p
      · subst z; rw [lr_us]; exact lr_Fn hno
      · rw [lr_un (by omega), lr_un (by omega)]; exact lr_Fx hm hp hk' (h k hk').1 (Or.inl z)
    · rw [lr_un (by omega)]; exact lr_Nx hk' (h k hk').2 (Or.inl (hno k hk'))
/-- a further child -/
theorem lr_LFb {b m p l : Nat} {nk np nf nn lc : Nat → Int32} (hT : lr_T b m nk np) (hm : m < 128) (hp : p < m) (h : lr_LF b m np nf nn) (hL : lr_LL b m np lc) (e : lc p = nI l) (hl : l < 2 ^ 31) : l < m ∧ lr_LF b (m + 1) (upd np (b + m) (nI p)) (upd nf (b + m) (-1)) (upd (upd nn (b + m) (-1)) (b + l) (nI m)) := by
  obtain ⟨l1, l2, l3⟩ : l < m ∧ np (b + l) = nI p ∧ ∀ j, l < j → j < m → np (b + j) ≠ nI p := by
    rcases hL p hp with ⟨h0, _⟩ | ⟨f, h1, h2, h3, h4⟩
    · exact absurd (h0.symm.trans e) (lr_1ne hl)
    · have : f = l := lr_im (h2.symm.trans e) (by omega) hl
      subst this
      exact ⟨h1, h3, h4⟩
  refine ⟨l1, ?_⟩
  intro k hk
  by_cases y : k = m
  · subst y
    rw [lr_us, lr_un (by omega), lr_us]
    exact ⟨lr_Fm hT hp, lr_Nm⟩
  · have hk' : k < m := by omega
    refine ⟨?_, ?_⟩
    · rw [lr_un (by omega)]
      refine lr_Fx hm hp hk' (h k hk').1 ?_
      by_cases z : k = p
      · right
        subst z
        rcases (h k hk').1 with ⟨_, h1⟩ | ⟨f, h1, h2, _⟩
        · exact absurd l2 (h1 l l1)
        · rw [h2]; exact lr_ne1 (by omega)
      · exact Or.inl z
    · by_cases z : k = l
      · subst z; rw [lr_us]; exact lr_Nn hk' l2 l3
      · rw [lr_un (by omega), lr_un (by omega)]
        refine lr_Nx hk' (h k hk').2 ?_
        by_cases w : np (b + k) = nI p
        · right
          have hkl : k < l := by
            by_cases q : k < l
            · exact q
            · exact absurd w (l3 k (by omega) hk')
          rcases (h k hk').2 with ⟨_, h1⟩ | ⟨f, _, h1, h2, _⟩
          · exact absurd (l2.trans w.symm) (h1 l hkl l1)
          · rw [h2]; exact lr_ne1 (by omega)
        · exact Or.inl w
theorem lr_LF1 {b : Nat} {np nf nn : Nat → Int32} : lr_LF b 1 (upd np b (-1)) (upd nf b (-1)) (upd nn b (-1)) := by
  intro k hk
  have : k = 0 := by omega
  subst this
  rw [Nat.add_zero, lr_us, lr_us]
  refine ⟨Or.inl ⟨rfl, fun j hj => ?_⟩, lr_Nm⟩
  have : j = 0 := by omega
  subst this
  rw [Nat.add_zero, lr_us]; exact lr_1ne (by omega)
theorem lr_LL1 {b : Nat} {np lc : Nat → Int32} : lr_LL b 1 (upd np b (-1)) (upd lc 0 (-1)) := by
  intro k hk
  have : k = 0 := by omega
  subst this
  rw [lr_us]
  refine Or.inl ⟨rfl, fun j hj => ?_⟩
  have : j = 0 := by omega
  subst this
  rw [Nat.add_zero, lr_us]; exact lr_1ne (by omega)
end
section
/-! blocks -/
def lr_B (b m : Nat) (pe : Int32) (nk nc nz mk cl op : Nat → Int32) : Prop :=
  ∀ k, k < m → nk (b + k) = 1 → pe = nI k ∨ (nc (b + k) = mk (b + k) ∧ (op k ≠ 0 ∨ nz (b + k) = cl (b + k)))
theorem lr_Bm {b m : Nat} {pe pe' c : Int32} {nk nc nz mk cl op : Nat → Int32} (hm : m < 128) (h : lr_B b m pe nk nc nz mk cl op) (hc : (c ≠ 1 ∧ pe' = pe) ∨ (pe' = nI m ∧ pe = -1)) :
    lr_B b (m + 1) pe' (upd nk (b + m) c) (upd nc (b + m) (-1)) (upd nz (b + m) (-1)) (upd mk (b + m) 0) (upd cl (b + m) 0) op := by
  intro k hk h1
  by_cases z : k = m
  · subst z
    rw [lr_us] at h1
    rcases hc with hc | hc
    · exact absurd h1 hc.1
    · exact Or.inl hc.1
  · rw [lr_un (by omega)] at h1
    rw [lr_un (by omega), lr_un (by omega), lr_un (by omega), lr_un (by omega)]
    rcases hc with hc | hc
    · rw [hc.2]; exact h k (by omega) h1
    · rcases h k (by omega) h1 with h2 | h2
      · exact absurd (hc.2.symm.trans h2) (lr_1ne (by omega))
      · exact Or.inr h2
theorem lr_Bp {b m q : Nat} {v : Int32} {nk nc nz mk cl op : Nat → Int32} (hm : m ≤ 128) (h : lr_B b m (-1) nk nc nz mk cl op) :
    lr_B b m (-1) nk nc (upd nz (b + q) v) mk (upd cl (b + q) v) (upd op q 0) := by
  intro k hk h1
  rcases h k hk h1 with h2 | ⟨h2, h3⟩
  · exact absurd h2 (lr_1ne (by omega))
  · refine Or.inr ⟨h2, ?_⟩
    by_cases z : k = q
    · subst z; right; rw [lr_us, lr_us]
    · rw [lr_un z, lr_un (by omega), lr_un (by omega)]; exact h3
theorem lr_Bg {b m q : Nat} {v : Int32} {nk nc nz mk cl op : Nat → Int32} (hq : nk (b + q) = 2) (h : lr_B b m (-1) nk nc nz mk cl op) :
    lr_B b m (-1) nk nc nz mk (upd cl (b + q) v) (upd op q 0) := by
  intro k hk h1
  have z : k ≠ q := by
    intro z; subst z
    exact absurd (h1.symm.trans hq) (by decide)
  rw [lr_un z, lr_un (by omega)]
  exact h k hk h1
theorem lr_Bo {b m q : Nat} {pe v o : Int32} {nk nc nz mk cl op : Nat → Int32} (hm : m ≤ 128) (hq : q < m) (ho : o ≠ 0) (hpe : pe = nI q) (h : lr_B b m pe nk nc nz mk cl op) :
    lr_B b m (-1) nk (upd nc (b + q) v) nz (upd mk (b + q) v) cl (upd op q o) := by
  intro k hk h1
  right
  by_cases z : k = q
  · subst z; rw [lr_us, lr_us, lr_us]; exact ⟨rfl, Or.inl ho⟩
  · rw [lr_un z, lr_un (by omega), lr_un (by omega)]
    rcases h k hk h1 with h2 | h2
    · exact absurd (hpe.symm.trans h2) (lr_nn (by omega) (by omega) (fun e => z e.symm))
    · exact h2
theorem lr_Bu {b m q : Nat} {pe v w : Int32} {nk nc nz mk cl op : Nat → Int32} (hm : m ≤ 128) (hq : q < m) (hpe : pe = nI q) (h : lr_B b m pe nk nc nz mk cl op) :
    lr_B b m (-1) nk (upd nc (b + q) v) (upd nz (b + q) w) (upd mk (b + q) v) (upd cl (b + q) w) op := by
  intro k hk h1
  right
  by_cases z : k = q
  · subst z; rw [lr_us, lr_us, lr_us, lr_us]; exact ⟨rfl, Or.inr rfl⟩
  · rw [lr_un (by omega), lr_un (by omega), lr_un (by omega), lr_un (by omega)]
    rcases h k hk h1 with h2 | h2
    · exact absurd (hpe.symm.trans h2) (lr_nn (by omega) (by omega) (fun e => z e.symm))
    · exact h2
theorem lr_Bq {b m q : Nat} {pe o : Int32} {nk nc nz mk cl op : Nat → Int32} (ho : o ≠ 0) (h : lr_B b m pe nk nc nz mk cl op) :
    lr_B b m pe nk nc nz mk cl (upd op q o) := by
  intro k hk h1
  rcases h k hk h1 with h2 | ⟨h2, h3⟩
  · exact Or.inl h2
  · refine Or.inr ⟨h2, ?_⟩
    by_cases z : k = q
    · subst z; rw [lr_us]; exact Or.inl ho
    · rw [lr_un z]; exact h3
/-! the stack -/
def lr_n (f : Nat → Int32) (j : Nat) : Nat := (f j).toNatClampNeg
theorem lr_nu {f : Nat → Int32} {j k : Nat} {v : Int32} (h : j ≠ k) : lr_n (upd f k v) j = lr_n f j := by
  show (upd f k v j).toNatClampNeg = _
  rw [lr_un h]; rfl
theorem lr_ns {f : Nat → Int32} {k q : Nat} (h : q < 2 ^ 31) : lr_n (upd f k (nI q)) k = q := by
  show (upd f k (nI q) k).toNatClampNeg = _
  rw [lr_us, nI_clamp h]
theorem lr_nk {f : Nat → Int32} {j q : Nat} (h : q < 2 ^ 31) (e : f j = nI q) : lr_n f j = q := by
  show (f j).toNatClampNeg = _
  rw [e, nI_clamp h]
def lr_M (s o k u : Int32) : Prop := (s = -1 ∧ o = 3 ∧ k = 2) ∨ (s = -3 ∧ o = 1 ∧ k = 1) ∨ (0 ≤ s ∧ o = 2 ∧ u = s ∧ k = 1)
theorem lr_Mo {s o k u : Int32} (h : lr_M s o k u) : o ≠ 0 := by
  rcases h with h | h | h
  · rw [h.2.1]; decide
  · rw [h.2.1]; decide
  · rw [h.2.1]; decide
def lr_S1 (b m d : Nat) (nk np sN sM sI mk op it : Nat → Int32) : Prop :=
  ∀ j, j < d → sN j = nI (lr_n sN j) ∧ lr_n sN j < m ∧ lr_A (lr_P np b) (lr_n sN j) (m - 1) ∧ it (lr_n sN j) = sI j ∧ lr_M (sM j) (op (lr_n sN j)) (nk (b + lr_n sN j)) (mk (b + lr_n sN j))
def lr_S2 (d : Nat) (sN : Nat → Int32) : Prop := ∀ i j, i < j → j < d → lr_n sN i < lr_n sN j
def lr_S3 (b m d : Nat) (nk np sN sI : Nat → Int32) : Prop :=
  ∀ j, j < d → sI j = -1 ∨ (sI j = nI (lr_n sI j) ∧ lr_n sN j < lr_n sI j ∧ lr_n sI j < m ∧ lr_A (lr_P np b) (lr_n sI j) (m - 1) ∧ nk (b + lr_n sI j) = 3)
def lr_S4 (d : Nat) (sN sI : Nat → Int32) : Prop := ∀ i j, i < j → j < d → sI i = -1 ∨ lr_n sI i < lr_n sN j
def lr_S5 (d : Nat) (sN op : Nat → Int32) : Prop := ∀ k, k < 128 → op k = 0 ∨ ∃ j, j < d ∧ lr_n sN j = k
def lr_S6 (m : Nat) (it : Nat → Int32) : Prop := ∀ k, m ≤ k → k < 128 → it k = -1
def lr_S (b m d : Nat) (nk np sN sM sI mk op it : Nat → Int32) : Prop :=
  lr_S1 b m d nk np sN sM sI mk op it ∧ lr_S2 d sN ∧ lr_S3 b m d nk np sN sI ∧ lr_S4 d sN sI ∧ lr_S5 d sN op ∧ lr_S6 m it
/-- a node made below p -/
theorem lr_Sm {b m d p : Nat} {c w : Int32} {nk np sN sM sI mk op it : Nat → Int32} (hT : lr_T b m nk np) (hp : p < m) (hpa : lr_A (lr_P np b) p (m - 1))
    (hs : ∀ j, j < d → lr_n sN j ≤ p ∧ (sI j = -1 ∨ lr_n sI j ≤ p)) (h : lr_S b m d nk np sN sM sI mk op it) :
    lr_S b (m + 1) d (upd nk (b + m) c) (upd np (b + m) (nI p)) sN sM sI (upd mk (b + m) w) op it := by
  obtain ⟨h1, h2, h3, h4, h5, h6⟩ := h
  refine ⟨?_, h2, ?_, h4, h5, fun k k1 k2 => h6 k (by omega) k2⟩
  · intro j hj
    obtain ⟨a1, a2, a3, a4, a5⟩ := h1 j hj
    refine ⟨a1, by omega, lr_Am hT hp hpa a3 (hs j hj).1, a4, ?_⟩
    rw [lr_un (by omega), lr_un (by omega)]; exact a5
  · intro j hj
    rcases h3 j hj with a | ⟨a1, a2, a3, a4, a5⟩
    · exact Or.inl a
    · refine Or.inr ⟨a1, a2, by omega, ?_, ?_⟩
      · rcases (hs j hj).2 with e | e
        · exact absurd (e.symm.trans a1) (lr_1ne (by have := hT.2.1; omega))
        · exact lr_Am hT hp hpa a4 e
      · rw [lr_un (by omega)]; exact a5
/-- the top's item is set -/
theorem lr_Si {b m d : Nat} {v : Int32} {nk np sN sM sI mk op it : Nat → Int32} (hm : m ≤ 128)
    (hv : v = -1 ∨ ∃ e, v = nI e ∧ lr_n sN d < e ∧ e < m ∧ lr_A (lr_P np b) e (m - 1) ∧ nk (b + e) = 3) (h : lr_S b m (d + 1) nk np sN sM sI mk op it) :
    lr_S b m (d + 1) nk np sN sM (upd sI d v) mk op (upd it (lr_n sN d) v) := by
  obtain ⟨h1, h2, h3, h4, h5, h6⟩ := h
  have hd := (h1 d (by omega)).2.1
  refine ⟨?_, h2, ?_, ?_, h5, ?_⟩
  · intro j hj
    obtain ⟨a1, a2, a3, a4, a5⟩ := h1 j hj
    refine ⟨a1, a2, a3, ?_, a5⟩
    by_cases z : j = d
    · subst z; rw [lr_us, lr_us]
    · have := h2 j d (by omega) (by omega)
      rw [lr_un (by omega), lr_un z]; exact a4
  · intro j hj
    by_cases z : j = d
    · subst z
      rw [lr_us]
      rcases hv with hv | ⟨e, e1, e2, e3, e4, e5⟩
      · exact Or.inl hv
      · right
        rw [e1, lr_ns (by omega)]
        exact ⟨rfl, e2, e3, e4, e5⟩
    · rw [lr_un z, lr_nu z]; exact h3 j hj
  · intro i j hi hj
    rw [lr_un (by omega), lr_nu (by omega)]; exact h4 i j hi hj
  · intro k k1 k2
    rw [lr_un (by omega)]; exact h6 k k1 k2
/-- a container is closed -/
theorem lr_Sp {b m d : Nat} {nk np sN sM sI mk op it : Nat → Int32} (h : lr_S b m (d + 1) nk np sN sM sI mk op it) :
    lr_S b m d nk np sN sM sI mk (upd op (lr_n sN d) 0) it := by
  obtain ⟨h1, h2, h3, h4, h5, h6⟩ := h
  refine ⟨?_, fun i j hi hj => h2 i j hi (by omega), fun j hj => h3 j (by omega), fun i j hi hj => h4 i j hi (by omega), ?_, h6⟩
  · intro j hj
    obtain ⟨a1, a2, a3, a4, a5⟩ := h1 j (by omega)
    have := h2 j d (by omega) (by omega)
    refine ⟨a1, a2, a3, a4, ?_⟩
    rw [lr_un (by omega)]; exact a5
  · intro k hk
    by_cases z : k = lr_n sN d
    · rw [z, lr_us]; exact Or.inl rfl
    · rw [lr_un z]
      rcases h5 k hk with e | ⟨j, j1, j2⟩
      · exact Or.inl e
      · refine Or.inr ⟨j, ?_, j2⟩
        by_cases y : j = d
        · subst y; exact absurd j2.symm z
        · omega
/-- a container is opened: the node made last -/
theorem lr_Sq {b m d q : Nat} {s o : Int32} {nk np sN sM sI mk mk' op it : Nat → Int32} (hT : lr_T b m nk np) (hq : q + 1 = m) (ho : op q = 0) (hi : it q = -1) (hk : nk (b + q) ≠ 3)
    (hM : lr_M s o (nk (b + q)) (mk' (b + q))) (hmk : ∀ j, j ≠ q → mk' (b + j) = mk (b + j)) (h : lr_S b m d nk np sN sM sI mk op it) :
    lr_S b m (d + 1) nk np (upd sN d (nI q)) (upd sM d s) (upd sI d (-1)) mk' (upd op q o) it := by
  have hm := hT.2.1
  obtain ⟨h1, h2, h3, h4, h5, h6⟩ := h
  have hn : ∀ j, j < d → lr_n sN j < q := by
    intro j hj
    obtain ⟨a1, a2, a3, a4, a5⟩ := h1 j hj
    have : lr_n sN j ≠ q := by
      intro e; rw [e] at a5; exact lr_Mo a5 ho
    omega
  have he : ∀ j, j < d → sI j = -1 ∨ lr_n sI j < q := by
    intro j hj
    rcases h3 j hj with a | ⟨a1, a2, a3, a4, a5⟩
    · exact Or.inl a
    · right
      have : lr_n sI j ≠ q := by
        intro e; rw [e] at a5; exact hk a5
      omega
  refine ⟨?_, ?_, ?_, ?_, ?_, h6⟩
  · intro j hj
    by_cases z : j = d
    · subst z
      rw [lr_us, lr_us, lr_us, lr_ns (by omega), lr_us]
      refine ⟨rfl, by omega, ?_, hi, hM⟩
      rw [show m - 1 = q by omega]; exact lr_Arf _ _
    · obtain ⟨a1, a2, a3, a4, a5⟩ := h1 j (by omega)
      have := hn j (by omega)
      rw [lr_un z, lr_un z, lr_un z, lr_nu z]
      refine ⟨a1, a2, a3, a4, ?_⟩
      rw [lr_un (by omega), hmk _ (by omega)]; exact a5
  · intro i j hi hj
    rw [lr_nu (by omega)]
    by_cases z : j = d
    · subst z; rw [lr_ns (by omega)]; exact hn i hi
    · rw [lr_nu z]; exact h2 i j hi (by omega)
  · intro j hj
    by_cases z : j = d
    · subst z; rw [lr_us]; exact Or.inl rfl
    · rw [lr_un z, lr_nu z, lr_nu z]; exact h3 j (by omega)
  · intro i j hi hj
    rw [lr_un (by omega), lr_nu (by omega)]
    by_cases z : j = d
    · subst z; rw [lr_ns (by omega)]; exact he i hi
    · rw [lr_nu z]; exact h4 i j hi (by omega)
  · intro k hk
    by_cases z : k = q
    · right; exact ⟨d, by omega, by rw [lr_ns (by omega)]; exact z.symm⟩
    · rw [lr_un z]
      rcases h5 k hk with e | ⟨j, j1, j2⟩
      · exact Or.inl e
      · exact Or.inr ⟨j, by omega, by rw [lr_nu (by omega)]; exact j2⟩
/-- marks off the stack don't matter -/
theorem lr_Su {b m d q : Nat} {nk np sN sM sI mk mk' op it : Nat → Int32} (ho : op q = 0) (hmk : ∀ j, j ≠ q → mk' (b + j) = mk (b + j)) (h : lr_S b m d nk np sN sM sI mk op it) :
    lr_S b m d nk np sN sM sI mk' op it := by
  obtain ⟨h1, h2, h3, h4, h5, h6⟩ := h
  refine ⟨?_, h2, h3, h4, h5, h6⟩
  intro j hj
  obtain ⟨a1, a2, a3, a4, a5⟩ := h1 j hj
  refine ⟨a1, a2, a3, a4, ?_⟩
  have : lr_n sN j ≠ q := by
    intro e; rw [e] at a5; exact lr_Mo a5 ho
  rw [hmk _ this]; exact a5
/-- nothing open -/
theorem lr_S0 {b : Nat} {nk np sN sM sI mk op it : Nat → Int32} (ho : ∀ k, k < 128 → op k = 0 ∧ it k = -1) : lr_S b 1 0 nk np sN sM sI mk op it :=
  ⟨fun j hj => absurd hj (by omega), fun i j _ hj => absurd hj (by omega), fun j hj => absurd hj (by omega), fun i j _ hj => absurd hj (by omega), fun k hk => Or.inl (ho k hk).1, fun k _ hk => (ho k hk).2⟩
/-- the pending block -/
def lr_PE (b m d DL : Nat) (pe : Int32) (nk op it : Nat → Int32) : Prop :=
  pe = -1 ∨ (pe = nI (m - 1) ∧ op (m - 1) = 0 ∧ it (m - 1) = -1 ∧ nk (b + (m - 1)) = 1 ∧ d < DL)
/-! one slot -/
def lr_SL (b n : Nat) (nk np nf nn nc nz mk cl : Nat → Int32) : Prop :=
  n = 0 ∨ (lr_T b n nk np ∧ lr_LF b n np nf nn ∧ ∀ k, k < n → nk (b + k) = 1 → nc (b + k) = mk (b + k) ∧ nz (b + k) = cl (b + k))
def lr_fr (b : Nat) (f g : Nat → Int32) : Prop := ∀ k, k < 128 → g (b + k) = f (b + k)
theorem lr_frr (b : Nat) (f : Nat → Int32) : lr_fr b f f := fun _ _ => rfl
theorem lr_fru {b c k : Nat} {f : Nat → Int32} {v : Int32} (h : ∀ j, j < 128 → c + k ≠ b + j) : lr_fr b f (upd f (c + k) v) := fun j hj => lr_un (fun e => h j hj e.symm)
theorem lr_SLc {b n : Nat} {nk np nf nn nc nz mk cl nk' np' nf' nn' nc' nz' mk' cl' : Nat → Int32} (e1 : lr_fr b nk nk') (e2 : lr_fr b np np') (e3 : lr_fr b nf nf') (e4 : lr_fr b nn nn') (e5 : lr_fr b nc nc') (e6 : lr_fr b nz nz') (e7 : lr_fr b mk mk') (e8 : lr_fr b cl cl')
    (h : lr_SL b n nk np nf nn nc nz mk cl) : lr_SL b n nk' np' nf' nn' nc' nz' mk' cl' := by
  rcases h with h | ⟨hT, hF, hB⟩
  · exact Or.inl h
  · right
    have hn := hT.2.1
    have hn0 := hT.1
    have z1 : nk' b = nk b := e1 0 (by omega)
    have z2 : np' b = np b := e2 0 (by omega)
    refine ⟨⟨hT.1, hT.2.1, z2.trans hT.2.2.1, z1.trans hT.2.2.2.1, ?_⟩, ?_, ?_⟩
    · intro k k0 k1
      obtain ⟨p, h1, h2, h3, h4⟩ := hT.2.2.2.2 k k0 k1
      refine ⟨p, h1, ?_, ?_, ?_⟩
      · rw [e2 k (by omega)]; exact h2
      · refine lr_Acg (m := n) (lr_Tle hT) (fun k hk => ?_) (k - 1) (by omega) h3
        show (np' (b + k)).toNatClampNeg = (np (b + k)).toNatClampNeg
        rw [e2 k (by omega)]
      · rw [e1 k (by omega), e1 p (by omega)]; exact h4
    · intro k hk
      obtain ⟨h1, h2⟩ := hF k hk
      rw [e3 k (by omega), e4 k (by omega)]
      refine ⟨?_, ?_⟩
      · rcases h1 with ⟨h1, h3⟩ | ⟨f, h3, h4, h5, h6⟩
        · refine Or.inl ⟨h1, fun j hj => ?_⟩
          rw [e2 j (by omega)]; exact h3 j hj
        · refine Or.inr ⟨f, h3, h4, ?_, fun j hj => ?_⟩
          · rw [e2 f (by omega)]; exact h5
          · rw [e2 j (by omega)]; exact h6 j hj
      · rcases h2 with ⟨h1, h3⟩ | ⟨f, h0, h3, h4, h5, h6⟩
        · refine Or.inl ⟨h1, fun j j0 hj => ?_⟩
          rw [e2 j (by omega), e2 k (by omega)]; exact h3 j j0 hj
        · refine Or.inr ⟨f, h0, h3, h4, ?_, fun j j0 hj => ?_⟩
          · rw [e2 f (by omega), e2 k (by omega)]; exact h5
          · rw [e2 j (by omega), e2 k (by omega)]; exact h6 j j0 hj
    · intro k hk h1
      rw [e1 k (by omega)] at h1
      rw [e5 k (by omega), e6 k (by omega), e7 k (by omega), e8 k (by omega)]
      exact hB k hk h1
theorem lr_frt {b : Nat} {f g h : Nat → Int32} (x : lr_fr b f g) (y : lr_fr b g h) : lr_fr b f h := fun k hk => (y k hk).trans (x k hk)
end
section
/-! the invariant of a parse under way, and its steps -/
def lr_C (b b2 NL DL : Nat) : Prop := NL ≤ 128 ∧ DL ≤ 24 ∧ ((b = 0 ∧ b2 = 128) ∨ (b = 128 ∧ b2 = 0))
def lr_I (b b2 n2 NL DL m d : Nat) (pe : Int32) (nk np nf nn nc nz sN sM sI lc mk cl op it : Nat → Int32) : Prop :=
  lr_T b m nk np ∧ lr_LF b m np nf nn ∧ lr_LL b m np lc ∧ lr_B b m pe nk nc nz mk cl op ∧ lr_S b m d nk np sN sM sI mk op it ∧ lr_PE b m d DL pe nk op it ∧ m ≤ NL ∧ d ≤ DL ∧ lr_SL b2 n2 nk np nf nn nc nz mk cl
def lr_gf (lc nf : Nat → Int32) (b m p : Nat) : Nat → Int32 := if lc p = -1 then upd (upd nf (b + m) (-1)) (b + p) (nI m) else upd nf (b + m) (-1)
def lr_gn (lc nn : Nat → Int32) (b m p : Nat) : Nat → Int32 := if lc p = -1 then upd nn (b + m) (-1) else upd (upd nn (b + m) (-1)) (b + lr_n lc p) (nI m)
theorem lr_LLp {b m p : Nat} {np lc : Nat → Int32} (hm : m ≤ 128) (hp : p < m) (h : lr_LL b m np lc) : lc p = -1 ∨ (lc p = nI (lr_n lc p) ∧ lr_n lc p < m) := by
  rcases h p hp with ⟨h0, _⟩ | ⟨f, h1, h2, _⟩
  · exact Or.inl h0
  · right
    rw [lr_nk (by omega) h2]
    exact ⟨h2, h1⟩
theorem lr_LFm {b m p : Nat} {nk np nf nn lc : Nat → Int32} (hT : lr_T b m nk np) (hm : m < 128) (hp : p < m) (h : lr_LF b m np nf nn) (hL : lr_LL b m np lc) : lr_LF b (m + 1) (upd np (b + m) (nI p)) (lr_gf lc nf b m p) (lr_gn lc nn b m p) := by
  by_cases e : lc p = -1
  · rw [show lr_gf lc nf b m p = _ from if_pos e, show lr_gn lc nn b m p = _ from if_pos e]
    exact lr_LFa hT hm hp h hL e
  · rw [show lr_gf lc nf b m p = _ from if_neg e, show lr_gn lc nn b m p = _ from if_neg e]
    rcases lr_LLp (by omega) hp hL with e' | ⟨e1, e2⟩
    · exact absurd e' e
    · exact (lr_LFb hT hm hp h hL e1 (by omega)).2
section FR
variable {b b2 NL DL : Nat}
theorem lr_fb {f : Nat → Int32} {k : Nat} {v : Int32} (hC : lr_C b b2 NL DL) (hk : k < 128) : lr_fr b2 f (upd f (b + k) v) := by
  obtain ⟨_, _, h⟩ := hC
  refine lr_fru (fun j hj => ?_)
  omega
theorem lr_fnf {lc nf : Nat → Int32} {m p : Nat} (hC : lr_C b b2 NL DL) (hm : m < 128) (hp : p < m) : lr_fr b2 nf (lr_gf lc nf b m p) := by
  by_cases e : lc p = -1
  · rw [show lr_gf lc nf b m p = _ from if_pos e]
    exact lr_frt (lr_fb hC hm) (lr_fb hC (by omega))
  · rw [show lr_gf lc nf b m p = _ from if_neg e]
    exact lr_fb hC hm
theorem lr_fnn {np lc nn : Nat → Int32} {m p : Nat} (hC : lr_C b b2 NL DL) (hm : m < 128) (hp : p < m) (hL : lr_LL b m np lc) : lr_fr b2 nn (lr_gn lc nn b m p) := by
  by_cases e : lc p = -1
  · rw [show lr_gn lc nn b m p = _ from if_pos e]
    exact lr_fb hC hm
  · rw [show lr_gn lc nn b m p = _ from if_neg e]
    rcases lr_LLp (by omega) hp hL with e' | ⟨e1, e2⟩
    · exact absurd e' e
    · exact lr_frt (lr_fb hC hm) (lr_fb hC (by omega))
end FR
section ST
variable {b b2 n2 NL DL m d : Nat} {nk np nf nn nc nz sN sM sI lc mk cl op it : Nat → Int32}
/-- the item of the top is made -/
theorem lr_Iitem (hC : lr_C b b2 NL DL) (hm : m + 1 ≤ NL) (hi : sI d = -1) (h : lr_I b b2 n2 NL DL m (d + 1) (-1) nk np nf nn nc nz sN sM sI lc mk cl op it) :
    lr_I b b2 n2 NL DL (m + 1) (d + 1) (-1) (upd nk (b + m) 3) (upd np (b + m) (nI (lr_n sN d))) (lr_gf lc nf b m (lr_n sN d)) (lr_gn lc nn b m (lr_n sN d)) (upd nc (b + m) (-1)) (upd nz (b + m) (-1)) sN sM (upd sI d (nI m)) (upd (upd lc m (-1)) (lr_n sN d) (nI m)) (upd mk (b + m) 0) (upd cl (b + m) 0) op (upd it (lr_n sN d) (nI m)) := by
  obtain ⟨hT, hF, hL, hB, hS, hP, h1, h2, hO⟩ := h
  have hC' := hC.1
  have hm8 : m < 128 := by omega
  obtain ⟨s1, s2, s3, s4, s5, s6⟩ := hS
  obtain ⟨a1, a2, a3, a4, a5⟩ := s1 d (by omega)
  have hK : lr_K 3 (nk (b + lr_n sN d)) := by
    refine Or.inl ⟨rfl, ?_⟩
    rcases a5 with a5 | a5 | a5
    · exact Or.inr a5.2.2
    · exact Or.inl a5.2.2
    · exact Or.inl a5.2.2.2
  have hs : ∀ j, j < d + 1 → lr_n sN j ≤ lr_n sN d ∧ (sI j = -1 ∨ lr_n sI j ≤ lr_n sN d) := by
    intro j hj
    by_cases z : j = d
    · subst z; exact ⟨Nat.le_refl _, Or.inl hi⟩
    · have x1 := s2 j d (by omega) (by omega)
      refine ⟨by omega, ?_⟩
      rcases s4 j d (by omega) (by omega) with x2 | x2
      · exact Or.inl x2
      · exact Or.inr (by omega)
  have hT' := lr_Tm (c := 3) hT hm8 a2 a3 hK
  have hS' : lr_S b (m + 1) (d + 1) (upd nk (b + m) 3) (upd np (b + m) (nI (lr_n sN d))) sN sM sI (upd mk (b + m) 0) op it := lr_Sm hT a2 a3 hs ⟨s1, s2, s3, s4, s5, s6⟩
  refine ⟨hT', lr_LFm hT hm8 a2 hF hL, lr_LLm hT hm8 a2 hL, lr_Bm hm8 hB (Or.inl ⟨by decide, rfl⟩), ?_, Or.inl rfl, hm, h2, ?_⟩
  · refine lr_Si (by omega) (Or.inr ⟨m, rfl, a2, by omega, ?_, lr_us⟩) hS'
    rw [show m + 1 - 1 = m by omega]; exact lr_Arf _ _
  · exact lr_SLc (lr_fb hC hm8) (lr_fb hC hm8) (lr_fnf hC hm8 a2) (lr_fnn hC hm8 a2 hL) (lr_fb hC hm8) (lr_fb hC hm8) (lr_fb hC hm8) (lr_fb hC hm8) hO
/-- an element is made below the top's item -/
theorem lr_Ielem {c pe : Int32} {p : Nat} (hC : lr_C b b2 NL DL) (hm : m + 1 ≤ NL) (hi : sI d = nI p) (hp : p < 128) (hc : c = 1 ∨ c = 2 ∨ lr_let c) (hpe : (c ≠ 1 ∧ pe = -1) ∨ (c = 1 ∧ pe = nI m ∧ d + 1 < DL)) (h : lr_I b b2 n2 NL DL m (d + 1) (-1) nk np nf nn nc nz sN sM sI lc mk cl op it) :
    p < m ∧ lr_I b b2 n2 NL DL (m + 1) (d + 1) pe (upd nk (b + m) c) (upd np (b + m) (nI p)) (lr_gf lc nf b m p) (lr_gn lc nn b m p) (upd nc (b + m) (-1)) (upd nz (b + m) (-1)) sN sM sI (upd (upd lc m (-1)) p (nI m)) (upd mk (b + m) 0) (upd cl (b + m) 0) op it := by
  obtain ⟨hT, hF, hL, hB, hS, hP, h1, h2, hO⟩ := h
  have hC' := hC.1
  have hm8 : m < 128 := by omega
  obtain ⟨s1, s2, s3, s4, s5, s6⟩ := hS
  have ep : lr_n sI d = p := lr_nk (by omega) hi
  obtain ⟨q1, q2, q3, q4⟩ : lr_n sN d < p ∧ p < m ∧ lr_A (lr_P np b) p (m - 1) ∧ nk (b + p) = 3 := by
    rcases s3 d (by omega) with e | ⟨e1, e2, e3, e4, e5⟩
    · exact absurd (e.symm.trans hi) (lr_1ne (by omega))
    · rw [ep] at e2 e3 e4 e5; exact ⟨e2, e3, e4, e5⟩
  have hs : ∀ j, j < d + 1 → lr_n sN j ≤ p ∧ (sI j = -1 ∨ lr_n sI j ≤ p) := by
    intro j hj
    by_cases z : j = d
    · subst z; exact ⟨by omega, Or.inr (by omega)⟩
    · have x1 := s2 j d (by omega) (by omega)
      refine ⟨by omega, ?_⟩
      rcases s4 j d (by omega) (by omega) with x2 | x2
      · exact Or.inl x2
      · exact Or.inr (by omega)
  have hK : lr_K c (nk (b + p)) := Or.inr ⟨hc, q4⟩
  refine ⟨q2, lr_Tm hT hm8 q2 q3 hK, lr_LFm hT hm8 q2 hF hL, lr_LLm hT hm8 q2 hL, lr_Bm hm8 hB ?_, lr_Sm hT q2 q3 hs ⟨s1, s2, s3, s4, s5, s6⟩, ?_, hm, h2, ?_⟩
  · rcases hpe with x | x
    · exact Or.inl x
    · exact Or.inr ⟨x.2.1, rfl⟩
  · rcases hpe with x | ⟨x1, x2, x3⟩
    · exact Or.inl x.2
    · right
      rw [show m + 1 - 1 = m by omega]
      refine ⟨x2, ?_, s6 m (by omega) hm8, ?_, x3⟩
      · rcases s5 m hm8 with y | ⟨j, j1, j2⟩
        · exact y
        · have := (s1 j j1).2.1; omega
      · rw [lr_us]; exact x1
  · exact lr_SLc (lr_fb hC hm8) (lr_fb hC hm8) (lr_fnf hC hm8 q2) (lr_fnn hC hm8 q2 hL) (lr_fb hC hm8) (lr_fb hC hm8) (lr_fb hC hm8) (lr_fb hC hm8) hO
/-- the group made last is opened -/
theorem lr_Igroup {q : Nat} (hC : lr_C b b2 NL DL) (hq : q + 1 = m) (hk : nk (b + q) = 2) (hd : d < DL) (ho : op q = 0) (hi : it q = -1) (h : lr_I b b2 n2 NL DL m d (-1) nk np nf nn nc nz sN sM sI lc mk cl op it) :
    lr_I b b2 n2 NL DL m (d + 1) (-1) nk np nf nn nc nz (upd sN d (nI q)) (upd sM d (-1)) (upd sI d (-1)) lc mk cl (upd op q 3) it := by
  obtain ⟨hT, hF, hL, hB, hS, hP, h1, h2, hO⟩ := h
  refine ⟨hT, hF, hL, lr_Bq (by decide) hB, ?_, Or.inl rfl, h1, hd, hO⟩
  refine lr_Sq hT hq ho hi ?_ ?_ (fun _ _ => rfl) hS
  · rw [hk]; decide
  · exact Or.inl ⟨rfl, rfl, hk⟩
/-- the pending block is opened -/
theorem lr_Iopen {s o pe : Int32} (hC : lr_C b b2 NL DL) (hpe : ¬ pe = -1) (hM : (s = -3 ∧ o = 1) ∨ (0 ≤ s ∧ o = 2)) (h : lr_I b b2 n2 NL DL m d pe nk np nf nn nc nz sN sM sI lc mk cl op it) :
    pe = nI (m - 1) ∧ d < DL ∧ 0 < m ∧ m ≤ 128 ∧ lr_I b b2 n2 NL DL m (d + 1) (-1) nk np nf nn (upd nc (b + (m - 1)) s) nz (upd sN d (nI (m - 1))) (upd sM d s) (upd sI d (-1)) lc (upd mk (b + (m - 1)) s) cl (upd op (m - 1) o) it := by
  obtain ⟨hT, hF, hL, hB, hS, hP, h1, h2, hO⟩ := h
  have hC' := hC.1
  have hm0 := hT.1
  have hm8 := hT.2.1
  rcases hP with e | ⟨e1, e2, e3, e4, e5⟩
  · exact absurd e hpe
  have ho : o ≠ 0 := by
    rcases hM with x | x
    · rw [x.2]; decide
    · rw [x.2]; decide
  refine ⟨e1, e5, hm0, hm8, hT, hF, hL, lr_Bo hm8 (by omega) ho e1 hB, ?_, Or.inl rfl, h1, e5, ?_⟩
  · refine lr_Sq (q := m - 1) hT (by omega) e2 e3 ?_ ?_ (fun j hj => lr_un (by omega)) hS
    · rw [e4]; decide
    · rw [lr_us]
      rcases hM with x | x
      · exact Or.inr (Or.inl ⟨x.1, x.2, e4⟩)
      · exact Or.inr (Or.inr ⟨x.1, x.2, rfl, e4⟩)
  · exact lr_SLc (lr_frr _ _) (lr_frr _ _) (lr_frr _ _) (lr_frr _ _) (lr_fb hC (by omega)) (lr_frr _ _) (lr_fb hC (by omega)) (lr_frr _ _) hO
/-- the pending block stays unopened -/
theorem lr_Iun {pe v w : Int32} (hC : lr_C b b2 NL DL) (hpe : ¬ pe = -1) (h : lr_I b b2 n2 NL DL m d pe nk np nf nn nc nz sN sM sI lc mk cl op it) :
    pe = nI (m - 1) ∧ 0 < m ∧ m ≤ 128 ∧ lr_I b b2 n2 NL DL m d (-1) nk np nf nn (upd nc (b + (m - 1)) v) (upd nz (b + (m - 1)) w) sN sM sI lc (upd mk (b + (m - 1)) v) (upd cl (b + (m - 1)) w) op it := by
  obtain ⟨hT, hF, hL, hB, hS, hP, h1, h2, hO⟩ := h
  have hC' := hC.1
  have hm0 := hT.1
  have hm8 := hT.2.1
  rcases hP with e | ⟨e1, e2, e3, e4, e5⟩
  · exact absurd e hpe
  refine ⟨e1, hm0, hm8, hT, hF, hL, lr_Bu hm8 (by omega) e1 hB, lr_Su (q := m - 1) e2 (fun j hj => lr_un (by omega)) hS, Or.inl rfl, h1, h2, ?_⟩
  exact lr_SLc (lr_frr _ _) (lr_frr _ _) (lr_frr _ _) (lr_frr _ _) (lr_fb hC (by omega)) (lr_fb hC (by omega)) (lr_fb hC (by omega)) (lr_fb hC (by omega)) hO
/-- the top's item is forgotten -/
theorem lr_Ireset (h : lr_I b b2 n2 NL DL m (d + 1) (-1) nk np nf nn nc nz sN sM sI lc mk cl op it) :
    lr_I b b2 n2 NL DL m (d + 1) (-1) nk np nf nn nc nz sN sM (upd sI d (-1)) lc mk cl op (upd it (lr_n sN d) (-1)) := by
  obtain ⟨hT, hF, hL, hB, hS, hP, h1, h2, hO⟩ := h
  exact ⟨hT, hF, hL, hB, lr_Si hT.2.1 (Or.inl rfl) hS, Or.inl rfl, h1, h2, hO⟩
/-- a block is closed -/
theorem lr_Ipop {v : Int32} (hC : lr_C b b2 NL DL) (h : lr_I b b2 n2 NL DL m (d + 1) (-1) nk np nf nn nc nz sN sM sI lc mk cl op it) :
    lr_I b b2 n2 NL DL m d (-1) nk np nf nn nc (upd nz (b + lr_n sN d) v) sN sM sI lc mk (upd cl (b + lr_n sN d) v) (upd op (lr_n sN d) 0) it := by
  obtain ⟨hT, hF, hL, hB, hS, hP, h1, h2, hO⟩ := h
  have hm8 := hT.2.1
  have hn := (hS.1 d (by omega)).2.1
  refine ⟨hT, hF, hL, lr_Bp hm8 hB, lr_Sp hS, Or.inl rfl, h1, by omega, ?_⟩
  exact lr_SLc (lr_frr _ _) (lr_frr _ _) (lr_frr _ _) (lr_frr _ _) (lr_frr _ _) (lr_fb hC (by omega)) (lr_frr _ _) (lr_fb hC (by omega)) hO
/-- a group is closed -/
theorem lr_Ipopg {v : Int32} (hC : lr_C b b2 NL DL) (hg : sM d = -1) (h : lr_I b b2 n2 NL DL m (d + 1) (-1) nk np nf nn nc nz sN sM sI lc mk cl op it) :
    lr_I b b2 n2 NL DL m d (-1) nk np nf nn nc nz sN sM sI lc mk (upd cl (b + lr_n sN d) v) (upd op (lr_n sN d) 0) it := by
  obtain ⟨hT, hF, hL, hB, hS, hP, h1, h2, hO⟩ := h
  have hm8 := hT.2.1
  obtain ⟨a1, hn, a3, a4, a5⟩ := hS.1 d (by omega)
  have hk : nk (b + lr_n sN d) = 2 := by
    rcases a5 with x | x | x
    · exact x.2.2
    · exact absurd (hg.symm.trans x.1) (by decide)
    · exact absurd hg (lr_pne1 x.1)
  refine ⟨hT, hF, hL, lr_Bg hk hB, lr_Sp hS, Or.inl rfl, h1, by omega, ?_⟩
  exact lr_SLc (lr_frr _ _) (lr_frr _ _) (lr_frr _ _) (lr_frr _ _) (lr_frr _ _) (lr_frr _ _) (lr_frr _ _) (lr_fb hC (by omega)) hO
end ST
/-! several closings -/
def lr_pz (b : Nat) (sN : Nat → Int32) (v : Int32) (e : Nat) : Nat → (Nat → Int32) → (Nat → Int32)
  | 0, f => f
  | t + 1, f => lr_pz b sN v e t (upd f (b + lr_n sN (e + t)) v)
def lr_po (sN : Nat → Int32) (e : Nat) : Nat → (Nat → Int32) → (Nat → Int32)
  | 0, f => f
  | t + 1, f => lr_po sN e t (upd f (lr_n sN (e + t)) 0)
theorem lr_Ipops {b b2 n2 NL DL m e : Nat} {v : Int32} {nk np nf nn nc sN sM sI lc mk it : Nat → Int32} (hC : lr_C b b2 NL DL) : ∀ (t : Nat) (nz cl op : Nat → Int32),
    lr_I b b2 n2 NL DL m (e + t) (-1) nk np nf nn nc nz sN sM sI lc mk cl op it →
    lr_I b b2 n2 NL DL m e (-1) nk np nf nn nc (lr_pz b sN v e t nz) sN sM sI lc mk (lr_pz b sN v e t cl) (lr_po sN e t op) it := by
  intro t
  induction t with
  | zero => intro nz cl op h; exact h
  | succ t ih => intro nz cl op h; exact ih _ _ _ (lr_Ipop hC h)
theorem lr_cut (Q : Nat → Prop) : ∀ d : Nat, ∃ e t, d = e + t ∧ (∀ j, e ≤ j → j < e + t → Q j) ∧ (e = 0 ∨ (0 < e ∧ ¬ Q (e - 1))) := by
  intro d
  induction d with
  | zero => exact ⟨0, 0, rfl, fun j h1 h2 => absurd h2 (by omega), Or.inl rfl⟩
  | succ d ih =>
    by_cases h : Q d
    · obtain ⟨e, t, h1, h2, h3⟩ := ih
      refine ⟨e, t + 1, by omega, fun j j1 j2 => ?_, h3⟩
      by_cases z : j = d
      · rw [z]; exact h
      · exact h2 j j1 (by omega)
    · exact ⟨d + 1, 0, rfl, fun j h1 h2 => absurd h2 (by omega), Or.inr ⟨by omega, h⟩⟩
/-- the start -/
theorem lr_I0 {b b2 n2 NL DL : Nat} {nk np nf nn nc nz sN sM sI lc mk cl op it : Nat → Int32} (hC : lr_C b b2 NL DL) (hNL : 1 ≤ NL) (hDL : 1 ≤ DL) (ho : ∀ k, k < 128 → op k = 0 ∧ it k = -1) (hO : lr_SL b2 n2 nk np nf nn nc nz mk cl) :
    lr_I b b2 n2 NL DL 1 0 (nI 0) (upd nk b 1) (upd np b (-1)) (upd nf b (-1)) (upd nn b (-1)) (upd nc b (-1)) (upd nz b (-1)) sN sM sI (upd lc 0 (-1)) (upd mk b 0) (upd cl b 0) op it := by
  have f0 : ∀ (f : Nat → Int32) (v : Int32), lr_fr b2 f (upd f b v) := fun f v => lr_fb (k := 0) hC (by omega)
  refine ⟨lr_T1, lr_LF1, lr_LL1, ?_, lr_S0 ho, ?_, hNL, by omega, ?_⟩
  · intro k hk _
    have : k = 0 := by omega
    subst this
    exact Or.inl rfl
  · exact Or.inr ⟨rfl, (ho 0 (by omega)).1, (ho 0 (by omega)).2, lr_us, hDL⟩
  · exact lr_SLc (f0 _ _) (f0 _ _) (f0 _ _) (f0 _ _) (f0 _ _) (f0 _ _) (f0 _ _) (f0 _ _) hO
/-- the end -/
theorem lr_Iend {b b2 n2 NL DL m : Nat} {nk np nf nn nc nz sN sM sI lc mk cl op it : Nat → Int32} (h : lr_I b b2 n2 NL DL m 0 (-1) nk np nf nn nc nz sN sM sI lc mk cl op it) :
    lr_SL b m nk np nf nn nc nz mk cl := by
  obtain ⟨hT, hF, hL, hB, hS, hP, h1, h2, hO⟩ := h
  have hm := hT.2.1
  refine Or.inr ⟨hT, hF, fun k hk hb => ?_⟩
  rcases hB k hk hb with x | ⟨x1, x2⟩
  · exact absurd x (lr_1ne (by omega))
  · refine ⟨x1, ?_⟩
    rcases x2 with x2 | x2
    · rcases hS.2.2.2.2.1 k (by omega) with y | ⟨j, j1, _⟩
      · exact absurd y x2
      · exact absurd j1 (by omega)
    · exact x2
end
section
/-! the component's parse helpers, each against what it does -/
def lr_lv (e : Nat) : Int32 := if e = 0 then -1 else nI (e - 1)
theorem lr_lv0 : lr_lv 0 = -1 := rfl
theorem lr_lvs (e : Nat) : lr_lv (e + 1) = nI e := rfl
theorem lr_lvd (e : Nat) : nI e - 1 = lr_lv e := by
  cases e with
  | zero => exact lr_z1
  | succ e => exact nI_pred e
theorem lr_lvm (e : Nat) : nI e + (-1) = lr_lv e := by
  cases e with
  | zero => decide
  | succ e => exact lr_m1 e
theorem lr_lv1 (e : Nat) : lr_lv e + 1 = nI e := by
  cases e with
  | zero => decide
  | succ e => exact nI_1 e
section XP
variable {tl nl dl tb ss os ds cu ba er de pe ma : Int32} {so ou dr ts nk np nf nn nc nz sN sM sI lc ib : Nat → Int32}
variable {b m d : Nat}
theorem lr_xmake {post : Int32 → SX → Prop} {p : Nat} {c : Int32} (hb : b + 128 ≤ 256) (hm : m < 128) (hp : p < m) (hl : lc p = -1 ∨ (lc p = nI (lr_n lc p) ∧ lr_n lc p < m))
    (k : post (nI m) (tl, nl, dl, tb, ss, os, ds, cu, nI b, er, de, pe, nI (m + 1), so, ou, dr, ts, upd nk (b + m) c, upd np (b + m) (nI p), lr_gf lc nf b m p, lr_gn lc nn b m p, upd nc (b + m) (-1), upd nz (b + m) (-1), sN, sM, sI, upd (upd lc m (-1)) p (nI m), ib)) :
    wpX_makeNode post (tl, nl, dl, tb, ss, os, ds, cu, nI b, er, de, pe, nI m, so, ou, dr, ts, nk, np, nf, nn, nc, nz, sN, sM, sI, lc, ib) c (nI p) := by
  have el : upd lc m (-1) p = lc p := lr_un (by omega)
  unfold wpX_makeNode
  refine br_t (nI_lt (b := 128) hm (by omega)) ?_
  refine nm_r (nI_add b m) ?_
  refine nm_r (nI_1 m) ?_
  refine lr_w rfl (by omega) (by omega) ?_
  refine lr_w rfl (by omega) (by omega) ?_
  refine lr_w rfl (by omega) (by omega) ?_
  refine lr_w rfl (by omega) (by omega) ?_
  refine lr_w rfl (by omega) (by omega) ?_
  refine lr_w rfl (by omega) (by omega) ?_
  refine lr_w rfl hm (by omega) ?_
  refine br_f (nI_pos (by omega)) ?_
  refine lr_r (n := p) rfl (by omega) (by omega) ?_
  rw [el]
  rcases hl with hl | ⟨hl, hl2⟩
  · rw [show lr_gf lc nf b m p = _ from if_pos hl, show lr_gn lc nn b m p = _ from if_pos hl] at k
    refine br_t hl ?_
    refine lr_w (nI_add b p) (by omega) (by omega) ?_
    exact lr_w rfl (by omega) (by omega) k
  · have hn : ¬ lc p = -1 := by rw [hl]; exact lr_ne1 (by omega)
    rw [show lr_gf lc nf b m p = _ from if_neg hn, show lr_gn lc nn b m p = _ from if_neg hn] at k
    refine br_f hn ?_
    refine lr_w (n := b + lr_n lc p) (by rw [hl, lr_nk (by omega) hl]; exact nI_add _ _) (by omega) (by omega) ?_
    exact lr_w rfl (by omega) (by omega) k
theorem lr_xmake0 {post : Int32 → SX → Prop} (hb : b + 128 ≤ 256)
    (k : post (nI 0) (tl, nl, dl, tb, ss, os, ds, cu, nI b, er, de, pe, nI 1, so, ou, dr, ts, upd nk b 1, upd np b (-1), upd nf b (-1), upd nn b (-1), upd nc b (-1), upd nz b (-1), sN, sM, sI, upd lc 0 (-1), ib)) :
    wpX_makeNode post (tl, nl, dl, tb, ss, os, ds, cu, nI b, er, de, pe, 0, so, ou, dr, ts, nk, np, nf, nn, nc, nz, sN, sM, sI, lc, ib) 1 (-1) := by
  unfold wpX_makeNode
  refine br_t (by decide) ?_
  refine nm_r (e' := nI b) (nI_add b 0) ?_
  refine nm_r (e' := nI 1) (by decide) ?_
  refine lr_w rfl (by omega) (by omega) ?_
  refine lr_w rfl (by omega) (by omega) ?_
  refine lr_w rfl (by omega) (by omega) ?_
  refine lr_w rfl (by omega) (by omega) ?_
  refine lr_w rfl (by omega) (by omega) ?_
  refine lr_w rfl (by omega) (by omega) ?_
  refine lr_w (n := 0) rfl (by omega) (by omega) ?_
  exact br_t lr_n1 k
theorem lr_xpush {post : SX → Prop} {v w : Int32} (hd : d < 24) (k : post (tl, nl, dl, tb, ss, os, ds, cu, ba, er, nI (d + 1), pe, ma, so, ou, dr, ts, nk, np, nf, nn, nc, nz, upd sN d v, upd sM d w, upd sI d (-1), lc, ib)) : wpX_push post (tl, nl, dl, tb, ss, os, ds, cu, ba, er, nI d, pe, ma, so, ou, dr, ts, nk, np, nf, nn, nc, nz, sN, sM, sI, lc, ib) v w := by
  unfold wpX_push
  refine br_f (nI_ge (b := 24) hd (by omega)) ?_
  refine lr_w rfl hd (by omega) ?_
  refine lr_w rfl hd (by omega) ?_
  refine lr_w rfl hd (by omega) ?_
  exact nm_r (nI_1 d) k
theorem lr_xopen {post : SX → Prop} {q : Nat} {w : Int32} (hb : b + 128 ≤ 256) (hq : q < 128) (hd : d < 24) (k : post (tl, nl, dl, tb, ss, os, ds, cu, nI b, er, nI (d + 1), pe, ma, so, ou, dr, ts, nk, np, nf, nn, upd nc (b + q) w, nz, upd sN d (nI q), upd sM d w, upd sI d (-1), lc, ib)) : wpX_openBlock post (tl, nl, dl, tb, ss, os, ds, cu, nI b, er, nI d, pe, ma, so, ou, dr, ts, nk, np, nf, nn, nc, nz, sN, sM, sI, lc, ib) (nI q) w := by
  unfold wpX_openBlock
  refine lr_w (nI_add b q) (by omega) (by omega) ?_
  exact lr_xpush hd k
theorem lr_xunop {post : SX → Prop} {q : Nat} {w : Int32} (hb : b + 128 ≤ 256) (hq : q < 128) (k : post (tl, nl, dl, tb, ss, os, ds, cu, nI b, er, de, pe, ma, so, ou, dr, ts, nk, np, nf, nn, upd nc (b + q) (-2), upd nz (b + q) w, sN, sM, sI, lc, ib)) : wpX_finishUnopened post (tl, nl, dl, tb, ss, os, ds, cu, nI b, er, de, pe, ma, so, ou, dr, ts, nk, np, nf, nn, nc, nz, sN, sM, sI, lc, ib) (nI q) w := by
  unfold wpX_finishUnopened
  refine lr_w (nI_add b q) (by omega) (by omega) ?_
  exact lr_w (nI_add b q) (by omega) (by omega) k
def lr_ic (d : Nat) (sM : Nat → Int32) : Int32 := if d = 0 then -1 else if sM (d - 1) < 0 then -1 else sM (d - 1)
theorem lr_xinn {post : Int32 → Prop} (hd : d ≤ 24) (k : post (lr_ic d sM)) : wpX_innermostColumn post (tl, nl, dl, tb, ss, os, ds, cu, ba, er, nI d, pe, ma, so, ou, dr, ts, nk, np, nf, nn, nc, nz, sN, sM, sI, lc, ib) := by
  unfold wpX_innermostColumn
  cases d with
  | zero => exact br_t (by decide) k
  | succ e =>
    have e1 : lr_ic (e + 1) sM = if sM e < 0 then -1 else sM e := rfl
    rw [e1] at k
    have e2 : sM (nI (e + 1) - 1).toNatClampNeg = sM e := lr_rd (nI_pred e) (by omega)
    have e3 : vp_in (nI (e + 1) - 1) 24 := lr_in (nI_pred e) (by omega) (by omega)
    refine br_f (nI_nle (by omega) (by omega)) ⟨e3, ?_⟩
    rw [e2]
    by_cases h : sM e < 0
    · rw [if_pos h] at k; exact br_t h k
    · rw [if_neg h] at k; exact br_f h ⟨e3, k⟩
theorem lr_xpopb {post : SX → Prop} {v : Int32} (hb : b + 128 ≤ 256) (hd : d < 24) (hm : ¬ sM d = -1) (hs : sN d = nI (lr_n sN d)) (hn : lr_n sN d < 128) (k : post (tl, nl, dl, tb, ss, os, ds, cu, nI b, er, nI d, pe, ma, so, ou, dr, ts, nk, np, nf, nn, nc, upd nz (b + lr_n sN d) v, sN, sM, sI, lc, ib)) : wpX_pop post (tl, nl, dl, tb, ss, os, ds, cu, nI b, er, nI (d + 1), pe, ma, so, ou, dr, ts, nk, np, nf, nn, nc, nz, sN, sM, sI, lc, ib) v := by
  unfold wpX_pop
  refine br_f (nI_nle (by omega) (by omega)) ?_
  refine nm_r (nI_pred d) ⟨vp_in_nI hd (by omega), ?_⟩
  rw [nI_clamp (show d < 2 ^ 31 by omega)]
  refine br_f hm ⟨vp_in_nI hd (by omega), ?_⟩
  exact lr_w (n := b + lr_n sN d) (by rw [hs, lr_nk (by omega) hs]; exact nI_add _ _) (by omega) (by omega) k
theorem lr_xpopg {post : SX → Prop} {v : Int32} (hd : d < 24) (hm : sM d = -1) (k : post (tl, nl, dl, tb, ss, os, ds, cu, ba, er, nI d, pe, ma, so, ou, dr, ts, nk, np, nf, nn, nc, nz, sN, sM, sI, lc, ib)) : wpX_pop post (tl, nl, dl, tb, ss, os, ds, cu, ba, er, nI (d + 1), pe, ma, so, ou, dr, ts, nk, np, nf, nn, nc, nz, sN, sM, sI, lc, ib) v := by
  unfold wpX_pop
  refine br_f (nI_nle (by omega) (by omega)) ?_
  refine nm_r (nI_pred d) ⟨vp_in_nI hd (by omega), ?_⟩
  rw [nI_clamp (show d < 2 ^ 31 by omega)]
  exact br_t hm k
theorem lr_xal {post : SX → Prop} {x : Int32} {e : Nat} (hb : b + 128 ≤ 256) : ∀ (t n : Nat) (nz : Nat → Int32), t < n → e + t ≤ 24 →
    (∀ j, e ≤ j → j < e + t → ¬ sM j ≤ x ∧ ¬ sM j = -1 ∧ sN j = nI (lr_n sN j) ∧ lr_n sN j < 128) → (e = 0 ∨ (0 < e ∧ sM (e - 1) ≤ x)) →
    wX_alignTo_32 post x tl nl dl tb ss os ds cu (nI b) er (nI e) pe ma so ou dr ts nk np nf nn nc (lr_pz b sN 2 e t nz) sN sM sI lc ib → wX_alignTo_5 post x n (nI (e + t)) tl nl dl tb ss os ds cu (nI b) er (nI (e + t)) pe ma so ou dr ts nk np nf nn nc nz sN sM sI lc ib := by
  intro t
  induction t with
  | zero =>
    intro n nz hn he _ hx k
    obtain ⟨n, rfl⟩ : ∃ n', n = n' + 1 := ⟨n - 1, by omega⟩
    rw [wX_alignTo_5]
    rcases hx with hx | ⟨h0, hx⟩
    · subst hx; exact br_t (by decide) k
    · have e1 : nI (e + 0) - 1 = nI (e - 1) := lr_s h0
      have e2 : sM (nI (e + 0) - 1).toNatClampNeg = sM (e - 1) := lr_rd e1 (by omega)
      refine br_f (nI_nle (by omega) (by omega)) ⟨lr_in e1 (by omega) (by omega), ?_⟩
      rw [e2]
      exact br_t hx k
  | succ t ih =>
    intro n nz hn he hj hx k
    obtain ⟨n, rfl⟩ : ∃ n', n = n' + 1 := ⟨n - 1, by omega⟩
    obtain ⟨j1, j2, j3, j4⟩ := hj (e + t) (by omega) (by omega)
    rw [wX_alignTo_5]
    have e1 : nI (e + (t + 1)) - 1 = nI (e + t) := nI_pred (e + t)
    have e2 : sM (nI (e + (t + 1)) - 1).toNatClampNeg = sM (e + t) := lr_rd e1 (by omega)
    refine br_f (nI_nle (by omega) (by omega)) ⟨lr_in e1 (by omega) (by omega), ?_⟩
    rw [e2]
    refine br_f j1 ?_
    refine lr_xpopb (d := e + t) hb (by omega) j2 j3 j4 ?_
    refine nm_r (lr_m1 (e + t)) ?_
    exact ih n _ (by omega) (by omega) (fun j a c => hj j a (by omega)) hx k
theorem lr_xal32 {post : SX → Prop} {x : Int32} (hd : d < 24) (k : post (tl, nl, dl, tb, ss, os, ds, cu, ba, er, nI (d + 1), pe, ma, so, ou, dr, ts, nk, np, nf, nn, nc, nz, sN, sM, if sM d = x then upd sI d (-1) else sI, lc, ib)) : wX_alignTo_32 post x tl nl dl tb ss os ds cu ba er (nI (d + 1)) pe ma so ou dr ts nk np nf nn nc nz sN sM sI lc ib := by
  unfold wX_alignTo_32
  have e1 : nI (d + 1) - 1 = nI d := nI_pred d
  have e2 : sM (nI (d + 1) - 1).toNatClampNeg = sM d := lr_rd e1 (by omega)
  refine br_f (nI_nle (by omega) (by omega)) ⟨lr_in e1 hd (by omega), ?_⟩
  rw [e2]
  by_cases h : sM d = x
  · rw [if_pos h] at k; exact br_t h (lr_w e1 hd (by omega) k)
  · rw [if_neg h] at k; exact br_f h k
theorem lr_xal320 {post : SX → Prop} {x : Int32} (k : post (tl, nl, dl, tb, ss, os, ds, cu, ba, er, nI 0, pe, ma, so, ou, dr, ts, nk, np, nf, nn, nc, nz, sN, sM, sI, lc, ib)) : wX_alignTo_32 post x tl nl dl tb ss os ds cu ba er (nI 0) pe ma so ou dr ts nk np nf nn nc nz sN sM sI lc ib := by
  unfold wX_alignTo_32
  exact br_t (by decide) k
theorem lr_xca {post : SX → Prop} {v : Int32} {e : Nat} (hb : b + 128 ≤ 256) : ∀ (t n : Nat) (nz : Nat → Int32), t < n → e + t ≤ 24 →
    (∀ j, e ≤ j → j < e + t → ¬ sM j = -1 ∧ sN j = nI (lr_n sN j) ∧ lr_n sN j < 128) →
    post (tl, nl, dl, tb, ss, os, ds, cu, nI b, er, nI e, pe, ma, so, ou, dr, ts, nk, np, nf, nn, nc, lr_pz b sN v e t nz, sN, sM, sI, lc, ib) → wX_closeAbove_5 post (lr_lv e) v n (nI (e + t)) tl nl dl tb ss os ds cu (nI b) er (nI (e + t)) pe ma so ou dr ts nk np nf nn nc nz sN sM sI lc ib := by
  intro t
  induction t with
  | zero =>
    intro n nz hn he _ k
    obtain ⟨n, rfl⟩ : ∃ n', n = n' + 1 := ⟨n - 1, by omega⟩
    rw [wX_closeAbove_5, lr_lv1]
    exact br_t (nI_le (by omega) (by omega)) k
  | succ t ih =>
    intro n nz hn he hj k
    obtain ⟨n, rfl⟩ : ∃ n', n = n' + 1 := ⟨n - 1, by omega⟩
    obtain ⟨j2, j3, j4⟩ := hj (e + t) (by omega) (by omega)
    rw [wX_closeAbove_5, lr_lv1]
    refine br_f (nI_ge (by omega) (by omega)) ?_
    refine lr_xpopb (d := e + t) hb (by omega) j2 j3 j4 ?_
    refine nm_r (lr_m1 (e + t)) ?_
    exact ih n _ (by omega) (by omega) (fun j a c => hj j a (by omega)) k
theorem lr_xnb {post : Int32 → Prop} {e : Nat} (k : post (lr_lv e)) (hx : e = 0 ∨ (0 < e ∧ ¬ 0 ≤ sM (e - 1))) : ∀ t n : Nat, t < n → e + t ≤ 24 → (∀ j, e ≤ j → j < e + t → 0 ≤ sM j) → wX_nearestBracket_7 post tl nl dl tb ss os ds cu ba er de pe ma so ou dr ts nk np nf nn nc nz sN sM sI lc ib n (lr_lv (e + t)) := by
  intro t
  induction t with
  | zero =>
    intro n hn he _
    obtain ⟨n, rfl⟩ : ∃ n', n = n' + 1 := ⟨n - 1, by omega⟩
    rw [wX_nearestBracket_7]
    rcases hx with hx | ⟨h0, hx⟩
    · subst hx; exact br_t lr_n1 k
    · obtain ⟨e, rfl⟩ : ∃ e', e = e' + 1 := ⟨e - 1, by omega⟩
      have hx' : sM e < 0 := by
        have : ¬ 0 ≤ sM e := hx
        rw [lr_tle, lr_t0] at this
        rw [lr_tlt, lr_t0]; omega
      have k' : post (nI e) := k
      show _ ∧ _
      refine br_f (nI_pos (n := e) (by omega)) ⟨vp_in_nI (n := e) (by omega) (by omega), ?_⟩
      rw [show lr_lv (e + 1 + 0) = nI e from rfl, nI_clamp (show e < 2 ^ 31 by omega)]
      exact br_t hx' k'
  | succ t ih =>
    intro n hn he hj
    obtain ⟨n, rfl⟩ : ∃ n', n = n' + 1 := ⟨n - 1, by omega⟩
    rw [wX_nearestBracket_7, show lr_lv (e + (t + 1)) = nI (e + t) from rfl]
    refine br_f (nI_pos (by omega)) ⟨vp_in_nI (by omega) (by omega), ?_⟩
    rw [nI_clamp (show e + t < 2 ^ 31 by omega)]
    refine br_f (lr_nlt.mpr (hj (e + t) (by omega) (by omega))) ?_
    exact nm_r (lr_lvm (e + t)) (ih n (by omega) (by omega) (fun j a c => hj j a (by omega)))
theorem lr_xnear {post : Int32 → Prop} {e t : Nat} (he : e + t ≤ 24) (hx : e = 0 ∨ (0 < e ∧ ¬ 0 ≤ sM (e - 1))) (hj : ∀ j, e ≤ j → j < e + t → 0 ≤ sM j) (k : post (lr_lv e)) : wpX_nearestBracket post (tl, nl, dl, tb, ss, os, ds, cu, ba, er, nI (e + t), pe, ma, so, ou, dr, ts, nk, np, nf, nn, nc, nz, sN, sM, sI, lc, ib) := by
  unfold wpX_nearestBracket
  exact nm_r (lr_lvd (e + t)) ⟨t + 1, lr_xnb k hx t (t + 1) (by omega) he hj⟩
theorem lr_xclose {post : SX → Prop} {v : Int32} {e t : Nat} (hb : b + 128 ≤ 256) (he : e + t ≤ 24) (hj : ∀ j, e ≤ j → j < e + t → ¬ sM j = -1 ∧ sN j = nI (lr_n sN j) ∧ lr_n sN j < 128)
    (k : post (tl, nl, dl, tb, ss, os, ds, cu, nI b, er, nI e, pe, ma, so, ou, dr, ts, nk, np, nf, nn, nc, lr_pz b sN v e t nz, sN, sM, sI, lc, ib)) : wpX_closeAbove post (tl, nl, dl, tb, ss, os, ds, cu, nI b, er, nI (e + t), pe, ma, so, ou, dr, ts, nk, np, nf, nn, nc, nz, sN, sM, sI, lc, ib) (lr_lv e) v := by
  unfold wpX_closeAbove
  exact ⟨t + 1, lr_xca hb t (t + 1) nz (by omega) he hj k⟩
end XP
end
section
/-! the reference's parse helpers -/
theorem lr_upc {f : Nat → Int32} {c : Nat} {x y : Int32} : upd (upd f c x) c y = upd f c y := lr_uu
def lr_tp (sN : Nat → Int32) (d : Nat) : Int32 := if d = 0 then -1 else nI (lr_n sN (d - 1))
section YP
variable {tl nl dl tb ss os dy cu er : Int32} {so ou dq nk np mk cl ct op it : Nat → Int32}
variable {b c m d : Nat} {sN sM sI : Nat → Int32}
theorem lr_yadd {post : Int32 → SY → Prop} {k p : Int32} (hc : c < 2) (hb : b = c * 128) (hm : m < 128) (hct : ct c = nI m)
    (K : post (nI m) (tl, nl, dl, tb, ss, os, dy, nI c, er, so, ou, dq, upd nk (b + m) k, upd np (b + m) p, upd mk (b + m) 0, upd cl (b + m) 0, upd ct c (nI (m + 1)), op, it)) :
    wpY_addNode post (tl, nl, dl, tb, ss, os, dy, nI c, er, so, ou, dq, nk, np, mk, cl, ct, op, it) k p := by
  have e : nI c * 128 + nI m = nI (b + m) := by rw [lr_128, nI_add, hb]
  unfold wpY_addNode
  refine lr_r (n := c) rfl hc (by omega) ?_
  rw [hct]
  refine lr_w e (by omega) (by omega) ?_
  refine lr_w e (by omega) (by omega) ?_
  refine lr_w e (by omega) (by omega) ?_
  refine lr_w e (by omega) (by omega) ?_
  refine lr_w (n := c) rfl hc (by omega) ?_
  rw [nI_1]
  exact K
theorem lr_yclo {post : SY → Prop} {q : Nat} {v : Int32} (hc : c < 2) (hb : b = c * 128) (hq : q < 128) (K : post (tl, nl, dl, tb, ss, os, dy, nI c, er, so, ou, dq, nk, np, mk, upd cl (b + q) v, ct, upd op q 0, it)) : wpY_close post (tl, nl, dl, tb, ss, os, dy, nI c, er, so, ou, dq, nk, np, mk, cl, ct, op, it) (nI q) v := by
  have e : nI c * 128 + nI q = nI (b + q) := by rw [lr_128, nI_add, hb]
  unfold wpY_close
  refine lr_w rfl hq (by omega) ?_
  exact lr_w e (by omega) (by omega) K
theorem lr_yinn_ {post : Int32 → Prop} (hS1 : ∀ j, j < d → op (lr_n sN j) ≠ 0 ∧ lr_n sN j < 128) (hS2 : lr_S2 d sN) (hS5 : lr_S5 d sN op) (k : post (lr_tp sN d)) : ∀ K n : Nat, K < n → K ≤ 128 → (∀ j, K ≤ j → j < 128 → op j = 0) → wY_innermost_3 post tl nl dl tb ss os dy cu er so ou dq nk np mk cl ct op it n (lr_lv K) := by
  intro K
  induction K with
  | zero =>
    intro n hn _ hz
    obtain ⟨n, rfl⟩ : ∃ n', n = n' + 1 := ⟨n - 1, by omega⟩
    rw [wY_innermost_3]
    have : d = 0 := by
      by_cases h : d = 0
      · exact h
      · have x := hS1 0 (by omega)
        exact absurd (hz _ (by omega) x.2) x.1
    subst this
    exact br_t lr_n1 k
  | succ K ih =>
    intro n hn hK hz
    obtain ⟨n, rfl⟩ : ∃ n', n = n' + 1 := ⟨n - 1, by omega⟩
    rw [wY_innermost_3, show lr_lv (K + 1) = nI K from rfl]
    refine br_f (nI_pos (by omega)) ⟨vp_in_nI (by omega) (by omega), ?_⟩
    rw [nI_clamp (show K < 2 ^ 31 by omega)]
    by_cases h : op K = 0
    · refine br_t h (nm_r (lr_lvm K) ?_)
      refine ih n (by omega) (by omega) (fun j j1 j2 => ?_)
      by_cases z : j = K
      · rw [z]; exact h
      · exact hz j (by omega) j2
    · refine br_f h ?_
      rcases hS5 K (by omega) with x | ⟨j, j1, j2⟩
      · exact absurd x h
      · have hj : j + 1 = d := by
          by_cases z : j + 1 = d
          · exact z
          · have y1 := hS2 j (d - 1) (by omega) (by omega)
            have y2 := hS1 (d - 1) (by omega)
            exact absurd (hz _ (by omega) y2.2) y2.1
        subst hj
        rw [show lr_tp sN (j + 1) = nI (lr_n sN j) from rfl, j2] at k
        exact k
theorem lr_yinn {post : Int32 → Prop} {nk' np' mk' it' : Nat → Int32} (hm : m ≤ 128) (hS : lr_S b m d nk' np' sN sM sI mk' op it') (k : post (lr_tp sN d)) : wpY_innermost post (tl, nl, dl, tb, ss, os, dy, cu, er, so, ou, dq, nk, np, mk, cl, ct, op, it) := by
  obtain ⟨s1, s2, s3, s4, s5, s6⟩ := hS
  unfold wpY_innermost
  exact ⟨129, lr_yinn_ (fun j hj => ⟨lr_Mo (s1 j hj).2.2.2.2, by have := (s1 j hj).2.1; omega⟩) s2 s5 k 128 129 (by omega) (by omega) (fun j j1 j2 => absurd j1 (by omega))⟩
theorem lr_ypi1 {post : SY → Prop} {x v : Int32} (k : post (tl, nl, dl, tb, ss, os, dy, cu, er, so, ou, dq, nk, np, mk, cl, ct, op, it)) : ∀ (n : Nat) (y : Int32), wY_popImplicit_6 post x v (n + 1) 1 y tl nl dl tb ss os dy cu er so ou dq nk np mk cl ct op it := by
  intro n y
  rw [wY_popImplicit_6]
  exact br_c (fun _ => k) (fun _ => br_f (by decide) k)
theorem lr_ypi_ {post : SY → Prop} {x v : Int32} {e : Nat} (hc : c < 2) (hb : b = c * 128) (hm : m ≤ 128) (hx : e = 0 ∨ (0 < e ∧ ¬ (0 ≤ sM (e - 1) ∧ ¬ sM (e - 1) ≤ x))) :
    ∀ (K t n : Nat) (cl op : Nat → Int32), K + 1 < n → K ≤ 128 → lr_S b m (e + t) nk np sN sM sI mk op it → (∀ j, K ≤ j → j < 128 → op j = 0) → (∀ j, e ≤ j → j < e + t → 0 ≤ sM j ∧ ¬ sM j ≤ x) →
    post (tl, nl, dl, tb, ss, os, dy, nI c, er, so, ou, dq, nk, np, mk, lr_pz b sN v e t cl, ct, lr_po sN e t op, it) → wY_popImplicit_6 post x v n 0 (lr_lv K) tl nl dl tb ss os dy (nI c) er so ou dq nk np mk cl ct op it := by
  intro K
  induction K with
  | zero =>
    intro t n cl op hn _ hS hz _ k
    obtain ⟨n, rfl⟩ : ∃ n', n = n' + 1 := ⟨n - 1, by omega⟩
    rw [wY_popImplicit_6]
    have : e + t = 0 := by
      by_cases h : e + t = 0
      · exact h
      · obtain ⟨a1, a2, a3, a4, a5⟩ := hS.1 0 (by omega)
        exact absurd (hz _ (by omega) (by omega)) (lr_Mo a5)
    obtain ⟨rfl, rfl⟩ : e = 0 ∧ t = 0 := by omega
    exact br_t lr_n1 k
  | succ K ih =>
    intro t n cl op hn hK hS hz hj k
    obtain ⟨n, rfl⟩ : ∃ n', n = n' + 1 := ⟨n - 1, by omega⟩
    rw [wY_popImplicit_6, show lr_lv (K + 1) = nI K from rfl]
    refine br_f (nI_pos (by omega)) (br_t rfl ⟨vp_in_nI (by omega) (by omega), ?_⟩)
    rw [nI_clamp (show K < 2 ^ 31 by omega)]
    by_cases h : op K = 0
    · refine br_t h (nm_r (lr_lvm K) ?_)
      refine ih t n cl op (by omega) (by omega) hS (fun j j1 j2 => ?_) hj k
      by_cases z : j = K
      · rw [z]; exact h
      · exact hz j (by omega) j2
    · refine br_f h ⟨vp_in_nI (by omega) (by omega), ?_⟩
      have eb : nI c * 128 + nI K = nI (b + K) := by rw [lr_128, nI_add, hb]
      have hin : vp_in (nI c * 128 + nI K) 256 := lr_in eb (by omega) (by omega)
      have hrd : mk (nI c * 128 + nI K).toNatClampNeg = mk (b + K) := lr_rd eb (by omega)
      rcases hS.2.2.2.2.1 K (by omega) with x0 | ⟨j, j1, j2⟩
      · exact absurd x0 h
      have hjt : j + 1 = e + t := by
        by_cases z : j + 1 = e + t
        · exact z
        · have y1 := hS.2.1 j (e + t - 1) (by omega) (by omega)
          obtain ⟨a1, a2, a3, a4, a5⟩ := hS.1 (e + t - 1) (by omega)
          exact absurd (hz _ (by omega) (by omega)) (lr_Mo a5)
      obtain ⟨a1, a2, a3, a4, a5⟩ := hS.1 j j1
      rw [j2] at a5
      cases t with
      | zero =>
        have hje : j = e - 1 := by omega
        have hx' : ¬ (0 ≤ sM j ∧ ¬ sM j ≤ x) := by
          rcases hx with hx | hx
          · omega
          · rw [hje]; exact hx.2
        obtain ⟨n, rfl⟩ : ∃ n', n = n' + 1 := ⟨n - 1, by omega⟩
        by_cases h2 : op K = 2
        · refine br_t h2 ⟨hin, ?_⟩
          rw [hrd]
          have hle : mk (b + K) ≤ x := by
            rcases a5 with y | y | y
            · exact absurd (h2.symm.trans y.2.1) (by decide)
            · exact absurd (h2.symm.trans y.2.1) (by decide)
            · rw [y.2.2.1]
              exact Decidable.byContradiction (fun w => hx' ⟨y.1, w⟩)
          exact br_t hle (nm_e (lr_ypi1 k n _))
        · exact br_f h2 (nm_e (lr_ypi1 k n _))
      | succ t =>
        have hje : j = e + t := by omega
        subst hje
        obtain ⟨y1, y2⟩ := hj (e + t) (by omega) (by omega)
        obtain ⟨h2, h3⟩ : op K = 2 ∧ mk (b + K) = sM (e + t) := by
          rcases a5 with y | y | y
          · rw [y.1] at y1; exact absurd y1 (by decide)
          · rw [y.1] at y1; exact absurd y1 (by decide)
          · exact ⟨y.2.1, y.2.2.1⟩
        refine br_t h2 ⟨hin, ?_⟩
        rw [hrd]
        refine br_f (by rw [h3]; exact y2) ?_
        refine lr_yclo hc hb (by omega) ?_
        refine nm_r (lr_lvm K) ?_
        subst j2
        refine ih t n _ _ (by omega) (by omega) (lr_Sp hS) (fun j w1 w2 => ?_) (fun j w1 w2 => hj j w1 (by omega)) k
        by_cases z : j = lr_n sN (e + t)
        · rw [z, lr_us]
        · rw [lr_un z]; exact hz j (by omega) w2
theorem lr_ypi {post : SY → Prop} {x v : Int32} {e t : Nat} (hc : c < 2) (hb : b = c * 128) (hm : m ≤ 128) (hx : e = 0 ∨ (0 < e ∧ ¬ (0 ≤ sM (e - 1) ∧ ¬ sM (e - 1) ≤ x)))
    (hS : lr_S b m (e + t) nk np sN sM sI mk op it) (hj : ∀ j, e ≤ j → j < e + t → 0 ≤ sM j ∧ ¬ sM j ≤ x)
    (k : post (tl, nl, dl, tb, ss, os, dy, nI c, er, so, ou, dq, nk, np, mk, lr_pz b sN v e t cl, ct, lr_po sN e t op, it)) : wpY_popImplicit post (tl, nl, dl, tb, ss, os, dy, nI c, er, so, ou, dq, nk, np, mk, cl, ct, op, it) x v := by
  unfold wpY_popImplicit
  exact ⟨130, lr_ypi_ hc hb hm hx 128 t 130 cl op (by omega) (by omega) hS (fun j w1 w2 => absurd w1 (by omega)) hj k⟩
/-- the nearest container that is no implicit block -/
theorem lr_yout_ {post : Int32 → SY → Prop} {x : Int32} {e t : Nat} (hm : m ≤ 128) (hS : lr_S b m (e + t) nk np sN sM sI mk op it) (hx : e = 0 ∨ (0 < e ∧ ¬ 0 ≤ sM (e - 1))) (hj : ∀ j, e ≤ j → j < e + t → 0 ≤ sM j)
    (k : wY_stepThree_119 post x (lr_tp sN e) tl nl dl tb ss os dy cu er so ou dq nk np mk cl ct op it) : ∀ K n : Nat, K + 1 < n → K ≤ 128 → (∀ j, K ≤ j → j < 128 → ¬ op j = 1 ∧ ¬ op j = 3) → wY_stepThree_79 post x tl nl dl tb ss os dy cu er so ou dq nk np mk cl ct op it n (-1) (lr_lv K) := by
  have htop : ∀ K, K < 128 → (op K = 1 ∨ op K = 3) → (∀ j, K + 1 ≤ j → j < 128 → ¬ op j = 1 ∧ ¬ op j = 3) → lr_tp sN e = nI K := by
    intro K hK ho hz
    rcases hS.2.2.2.2.1 K hK with y | ⟨j, j1, j2⟩
    · rw [y] at ho
      rcases ho with ho | ho
      · exact absurd ho (by decide)
      · exact absurd ho (by decide)
    · obtain ⟨a1, a2, a3, a4, a5⟩ := hS.1 j j1
      rw [j2] at a5
      have hs : ¬ 0 ≤ sM j := by
        rcases a5 with y | y | y
        · rw [y.1]; decide
        · rw [y.1]; decide
        · rw [y.2.1] at ho
          rcases ho with ho | ho
          · exact absurd ho (by decide)
          · exact absurd ho (by decide)
      have hje : j < e := by
        by_cases z : j < e
        · exact z
        · exact absurd (hj j (by omega) j1) hs
      have hj1 : j = e - 1 := by
        by_cases z : j = e - 1
        · exact z
        · have y1 := hS.2.1 j (e - 1) (by omega) (by omega)
          obtain ⟨c1, c2, c3, c4, c5⟩ := hS.1 (e - 1) (by omega)
          have hs' : ¬ 0 ≤ sM (e - 1) := by
            rcases hx with hx | hx
            · omega
            · exact hx.2
          have := hz (lr_n sN (e - 1)) (by omega) (by omega)
          rcases c5 with y | y | y
          · exact absurd y.2.1 this.2
          · exact absurd y.2.1 this.1
          · exact absurd y.1 hs'
      show (if e = 0 then -1 else nI (lr_n sN (e - 1))) = nI K
      rw [if_neg (by omega), ← hj1, j2]
  intro K
  induction K with
  | zero =>
    intro n hn _ hz
    obtain ⟨n, rfl⟩ : ∃ n', n = n' + 1 := ⟨n - 1, by omega⟩
    rw [wY_stepThree_79]
    have he : e = 0 := by
      by_cases h : e = 0
      · exact h
      · obtain ⟨c1, c2, c3, c4, c5⟩ := hS.1 (e - 1) (by omega)
        have hs' : ¬ 0 ≤ sM (e - 1) := by
          rcases hx with hx | hx
          · omega
          · exact hx.2
        have := hz (lr_n sN (e - 1)) (by omega) (by omega)
        rcases c5 with y | y | y
        · exact absurd y.2.1 this.2
        · exact absurd y.2.1 this.1
        · exact absurd y.1 hs'
    rw [show lr_tp sN e = -1 from if_pos he] at k
    exact br_t lr_n1 k
  | succ K ih =>
    intro n hn hK hz
    obtain ⟨n, rfl⟩ : ∃ n', n = n' + 2 := ⟨n - 2, by omega⟩
    rw [wY_stepThree_79, show lr_lv (K + 1) = nI K from rfl]
    refine br_f (nI_pos (by omega)) (br_f (by decide) ⟨vp_in_nI (by omega) (by omega), ?_⟩)
    rw [nI_clamp (show K < 2 ^ 31 by omega)]
    have hend : (op K = 1 ∨ op K = 3) → ∀ y : Int32, wY_stepThree_79 post x tl nl dl tb ss os dy cu er so ou dq nk np mk cl ct op it (n + 1) (nI K) y := by
      intro ho y
      rw [htop K (by omega) ho (fun j w1 w2 => hz j w1 w2)] at k
      rw [wY_stepThree_79]
      exact br_c (fun _ => k) (fun _ => br_t (nI_pos' (by omega)) k)
    by_cases h1 : op K = 1
    · exact br_t h1 (nm_e (hend (Or.inl h1) _))
    · refine br_f h1 ⟨vp_in_nI (by omega) (by omega), ?_⟩
      by_cases h3 : op K = 3
      · exact br_t h3 (nm_e (hend (Or.inr h3) _))
      · refine br_f h3 (nm_r (lr_lvm K) ?_)
        refine ih (n + 1) (by omega) (by omega) (fun j w1 w2 => ?_)
        by_cases z : j = K
        · rw [z]; exact ⟨h1, h3⟩
        · exact hz j (by omega) w2
/-- the depth counted -/
theorem lr_ycnt_ {post : Int32 → SY → Prop} {x x2 : Int32} (hm : m ≤ 128) (hd : d ≤ 24) (hS : lr_S b m d nk np sN sM sI mk op it)
    (k : ∀ n, wY_element_5 post x x2 tl nl dl tb ss os dy cu er so ou dq nk np mk cl ct op it (n + 1) (nI d) (nI 128)) : ∀ t K cn n : Nat, K + t = 128 → t < n → cn ≤ d → (∀ j, j < cn → lr_n sN j < K) → (∀ j, cn ≤ j → j < d → K ≤ lr_n sN j) → wY_element_5 post x x2 tl nl dl tb ss os dy cu er so ou dq nk np mk cl ct op it n (nI cn) (nI K) := by
  intro t
  induction t with
  | zero =>
    intro K cn n hK hn hc h1 h2
    obtain ⟨n, rfl⟩ : ∃ n', n = n' + 1 := ⟨n - 1, by omega⟩
    have : cn = d := by
      by_cases z : cn = d
      · exact z
      · have y := h2 cn (by omega) (by omega)
        have y2 := (hS.1 cn (by omega)).2.1
        omega
    subst this
    have : K = 128 := by omega
    subst this
    exact k n
  | succ t ih =>
    intro K cn n hK hn hc h1 h2
    obtain ⟨n, rfl⟩ : ∃ n', n = n' + 1 := ⟨n - 1, by omega⟩
    rw [wY_element_5]
    refine br_f (nI_ge (b := 128) (by omega) (by omega)) ⟨vp_in_nI (by omega) (by omega), ?_⟩
    rw [nI_clamp (show K < 2 ^ 31 by omega)]
    by_cases h : op K = 0
    · refine br_t h (nm_r (nI_1 K) ?_)
      refine ih (K + 1) cn n (by omega) (by omega) hc (fun j w => by have := h1 j w; omega) (fun j w1 w2 => ?_)
      have y := h2 j w1 w2
      have y2 : lr_n sN j ≠ K := by
        intro e
        have y3 := (hS.1 j w2).2.2.2.2
        rw [e] at y3; exact lr_Mo y3 h
      omega
    · refine br_f h (nm_r (nI_1 cn) (nm_r (nI_1 K) ?_))
      rcases hS.2.2.2.2.1 K (by omega) with y | ⟨j, j1, j2⟩
      · exact absurd y h
      · have hj : j = cn := by
          by_cases z : j < cn
          · have := h1 j z; omega
          · by_cases w : j = cn
            · exact w
            · have y1 := hS.2.1 cn j (by omega) j1
              have y2 := h2 cn (by omega) (by omega)
              omega
        subst hj
        refine ih (K + 1) (j + 1) n (by omega) (by omega) (by omega) (fun i w => ?_) (fun i w1 w2 => ?_)
        · by_cases z : i = j
          · subst z; omega
          · have := h1 i (by omega); omega
        · have := hS.2.1 j i (by omega) w2
          omega
end YP
end
section
/-! both sides together -/
theorem lr_c2 {b b2 NL DL c : Nat} (hC : lr_C b b2 NL DL) (hc : c < 2) (hb : b = c * 128) : b + 128 ≤ 256 := by omega
section JN
variable {tl nl dl tb ss os ds dy cu ba er de pe ma : Int32} {so ou dr dq ts nk np nf nn nc nz sN sM sI lc ib mk cl ct op it : Nat → Int32}
variable {b b2 n2 c m d NL DL : Nat}
theorem lr_jal {col : Int32} (hC : lr_C b b2 NL DL) (hc : c < 2) (hb : b = c * 128) (h0 : 0 ≤ col) (hI : lr_I b b2 n2 NL DL m d (-1) nk np nf nn nc nz sN sM sI lc mk cl op it) :
    ∃ (e : Nat) (nz' cl' op' sI' it' : Nat → Int32), lr_I b b2 n2 NL DL m e (-1) nk np nf nn nc nz' sN sM sI' lc mk cl' op' it' ∧
      (∀ post : SX → Prop, post (tl, nI NL, nI DL, tb, ss, os, ds, nI c, nI b, er, nI e, -1, nI m, so, ou, dr, upd ts c 0, nk, np, nf, nn, nc, nz', sN, sM, sI', lc, ib) → wpX_alignTo post (tl, nI NL, nI DL, tb, ss, os, ds, nI c, nI b, er, nI d, -1, nI m, so, ou, dr, upd ts c 0, nk, np, nf, nn, nc, nz, sN, sM, sI, lc, ib) col) ∧
      (∀ post : SY → Prop, post (tl, nI NL, nI DL, tb, ss, os, dy, nI c, er, so, ou, dq, nk, np, mk, cl', upd ts c (nI m), op', it') → wpY_stepTwo post (tl, nI NL, nI DL, tb, ss, os, dy, nI c, er, so, ou, dq, nk, np, mk, cl, upd ts c (nI m), op, it) col) := by
  obtain ⟨e, t, rfl, hj, hx⟩ := lr_cut (fun j => 0 ≤ sM j ∧ ¬ sM j ≤ col) d
  have hb8 := lr_c2 hC hc hb
  have hS := hI.2.2.2.2.1
  have hm8 := hI.1.2.1
  have hd : e + t ≤ 24 := by
    have h1 := hI.2.2.2.2.2.2.2.1
    have h2 := hC.2.1
    omega
  have hI' := lr_Ipops (v := 2) hC t nz cl op hI
  have hS' := hI'.2.2.2.2.1
  have hjx : ∀ j, e ≤ j → j < e + t → ¬ sM j ≤ col ∧ ¬ sM j = -1 ∧ sN j = nI (lr_n sN j) ∧ lr_n sN j < 128 := by
    intro j j1 j2
    obtain ⟨a1, a2, _⟩ := hS.1 j j2
    exact ⟨(hj j j1 j2).2, lr_pne1 (hj j j1 j2).1, a1, by omega⟩
  cases e with
  | zero =>
    refine ⟨0, _, _, _, sI, it, hI', fun post k => ?_, fun post k => ?_⟩
    · unfold wpX_alignTo
      exact ⟨t + 1, lr_xal hb8 t (t + 1) nz (by omega) hd hjx (Or.inl rfl) (lr_xal320 k)⟩
    · unfold wpY_stepTwo
      refine lr_ypi hc hb hm8 (Or.inl rfl) hS hj ?_
      exact lr_yinn hm8 hS' (br_t lr_n1 k)
  | succ e =>
    obtain ⟨a1, a2, a3, a4, a5⟩ := hS'.1 e (by omega)
    have hxe : ¬ (0 ≤ sM e ∧ ¬ sM e ≤ col) := by
      rcases hx with hx | hx
      · omega
      · exact hx.2
    have hle : sM e ≤ col := by
      by_cases h1 : 0 ≤ sM e
      · exact Decidable.byContradiction (fun w => hxe ⟨h1, w⟩)
      · refine lr_lel ?_ h0
        rw [lr_tle, lr_t0] at h1
        rw [lr_tlt, lr_t0]; omega
    have hin : vp_in (nI (lr_n sN e)) 128 := vp_in_nI (by omega) (by omega)
    have ecl : (nI (lr_n sN e)).toNatClampNeg = lr_n sN e := nI_clamp (by omega)
    have eb : nI c * 128 + nI (lr_n sN e) = nI (b + lr_n sN e) := by rw [lr_128, nI_add, hb]
    have hin2 : vp_in (nI c * 128 + nI (lr_n sN e)) 256 := lr_in eb (by omega) (by omega)
    have hrd : mk (nI c * 128 + nI (lr_n sN e)).toNatClampNeg = mk (b + lr_n sN e) := lr_rd eb (by omega)
    by_cases hs : sM e = col
    · refine ⟨e + 1, _, _, _, upd sI e (-1), upd it (lr_n sN e) (-1), lr_Ireset hI', fun post k => ?_, fun post k => ?_⟩
      · unfold wpX_alignTo
        refine ⟨t + 1, lr_xal hb8 t (t + 1) nz (by omega) hd hjx (Or.inr ⟨by omega, hle⟩) (lr_xal32 (by omega) ?_)⟩
        rw [if_pos hs]; exact k
      · unfold wpY_stepTwo
        refine lr_ypi hc hb hm8 hx hS hj ?_
        refine lr_yinn hm8 hS' (br_f (nI_pos (n := lr_n sN e) (by omega)) ⟨hin, ?_⟩)
        show _ ∧ _
        obtain ⟨h2, h3⟩ : lr_po sN (e + 1) t op (lr_n sN e) = 2 ∧ mk (b + lr_n sN e) = sM e := by
          rcases a5 with y | y | y
          · rw [hs] at y; rw [y.1] at h0; exact absurd h0 (by decide)
          · rw [hs] at y; rw [y.1] at h0; exact absurd h0 (by decide)
          · exact ⟨y.2.1, y.2.2.1⟩
        refine br_t (by rw [show lr_tp sN (e + 1) = nI (lr_n sN e) from rfl, ecl]; exact h2) ⟨hin2, ?_⟩
        refine br_t (by rw [show lr_tp sN (e + 1) = nI (lr_n sN e) from rfl, hrd]; exact h3.trans hs) ?_
        exact lr_w (n := lr_n sN e) rfl (by omega) (by omega) k
    · refine ⟨e + 1, _, _, _, sI, it, hI', fun post k => ?_, fun post k => ?_⟩
      · unfold wpX_alignTo
        refine ⟨t + 1, lr_xal hb8 t (t + 1) nz (by omega) hd hjx (Or.inr ⟨by omega, hle⟩) (lr_xal32 (by omega) ?_)⟩
        rw [if_neg hs]; exact k
      · unfold wpY_stepTwo
        refine lr_ypi hc hb hm8 hx hS hj ?_
        refine lr_yinn hm8 hS' (br_f (nI_pos (n := lr_n sN e) (by omega)) ⟨hin, ?_⟩)
        refine br_c (fun h2 => ⟨hin2, ?_⟩) (fun _ => k)
        rw [show lr_tp sN (e + 1) = nI (lr_n sN e) from rfl, ecl] at h2
        refine br_f ?_ k
        rw [show lr_tp sN (e + 1) = nI (lr_n sN e) from rfl, hrd]
        rcases a5 with y | y | y
        · exact absurd (h2.symm.trans y.2.1) (by decide)
        · exact absurd (h2.symm.trans y.2.1) (by decide)
        · rw [y.2.2.1]; exact hs
end JN
end
section
/-! elements: makeNode against addNode -/
theorem lr_letn {x y : Int32} (h : lr_let x) (hy : ¬ lr_let y) : ¬ x = y := fun e => hy (e ▸ h)
section EL
variable {tl nl dl tb ss os ds dy cu ba er de pe ma : Int32} {so ou dr dq ts nk np nf nn nc nz sN sM sI lc ib mk cl ct op it : Nat → Int32}
variable {b b2 n2 c m d NL DL : Nat} {code : Int32}
theorem lr_ylet {post : Int32 → Prop} {v : SY} (k1 : lr_let code → post 1) (k0 : ¬ lr_let code → post 0) : wpY_isLetter post v code := by
  obtain ⟨v1, v2, v3, v4, v5, v6, v7, v8, v9, v10, v11, v12, v13, v14, v15, v16, v17, v18, v19⟩ := v
  unfold wpY_isLetter
  refine br_c (fun h => k0 (fun w => ?_)) (fun h => br_c (fun h2 => k0 (fun w => ?_)) (fun h2 => k1 ⟨?_, ?_⟩))
  · have := w.1
    rw [lr_tle] at this; rw [lr_tlt] at h; omega
  · have := w.2
    rw [lr_tle] at this; rw [lr_tlt] at h2; omega
  · rw [lr_tle]; rw [lr_tlt] at h; omega
  · rw [lr_tle]; rw [lr_tlt] at h2; omega
theorem lr_xlet {post : Int32 → Prop} {u : SX} (k1 : lr_let code → post 1) (k0 : ¬ lr_let code → post 0) : wpX_isLetter post u code := by
  obtain ⟨u1, u2, u3, u4, u5, u6, u7, u8, u9, u10, u11, u12, u13, u14, u15, u16, u17, u18, u19, u20, u21, u22, u23, u24, u25, u26, u27, u28⟩ := u
  unfold wpX_isLetter
  refine br_c (fun h => k0 (fun w => ?_)) (fun h => br_c (fun h2 => k0 (fun w => ?_)) (fun h2 => k1 ⟨?_, ?_⟩))
  · have := w.1
    rw [lr_tle] at this; rw [lr_tlt] at h; omega
  · have := w.2
    rw [lr_tle] at this; rw [lr_tlt] at h2; omega
  · rw [lr_tle]; rw [lr_tlt] at h; omega
  · rw [lr_tle]; rw [lr_tlt] at h2; omega
theorem lr_xblk {post : Int32 → Prop} {u : SX} (k1 : lr_bl code → post 1) (k0 : ¬ lr_bl code → post 0) : wpX_isBlank post u code := by
  obtain ⟨u1, u2, u3, u4, u5, u6, u7, u8, u9, u10, u11, u12, u13, u14, u15, u16, u17, u18, u19, u20, u21, u22, u23, u24, u25, u26, u27, u28⟩ := u
  unfold wpX_isBlank
  refine br_c (fun h => k1 (Or.inl h)) (fun h => br_c (fun h2 => k1 (Or.inr (Or.inl h2))) (fun h2 => br_c (fun h3 => k1 (Or.inr (Or.inr h3))) (fun h3 => k0 ?_)))
  rintro (w | w | w)
  · exact h w
  · exact h2 w
  · exact h3 w
theorem lr_yblk {post : Int32 → Prop} {v : SY} (k1 : lr_bl code → post 1) (k0 : ¬ lr_bl code → post 0) : wpY_isBlank post v code := by
  obtain ⟨v1, v2, v3, v4, v5, v6, v7, v8, v9, v10, v11, v12, v13, v14, v15, v16, v17, v18, v19⟩ := v
  unfold wpY_isBlank
  refine br_c (fun h => k1 (Or.inl h)) (fun h => br_c (fun h2 => k1 (Or.inr (Or.inl h2))) (fun h2 => br_c (fun h3 => k1 (Or.inr (Or.inr h3))) (fun h3 => k0 ?_)))
  rintro (w | w | w)
  · exact h w
  · exact h2 w
  · exact h3 w
def lr_kd (code : Int32) : Int32 := if code = 40 then 2 else if code = 58 then 1 else code
/-- the element below the item that is there -/
theorem lr_jel2 (hC : lr_C b b2 NL DL) (hc : c < 2) (hb : b = c * 128) (hcode : code = 40 ∨ code = 58 ∨ lr_let code) (hd : (code = 40 ∨ code = 58) → d + 1 < DL) {p : Nat} (hm : m + 1 ≤ NL) (hp : sI d = nI p) (hp8 : p < 128)
    (hI : lr_I b b2 n2 NL DL m (d + 1) (-1) nk np nf nn nc nz sN sM sI lc mk cl op it) :
    ∃ (m' d' : Nat) (pe' : Int32) (nk' np' nf' nn' nc' nz' sN' sM' sI' lc' mk' cl' op' it' : Nat → Int32), lr_I b b2 n2 NL DL m' d' pe' nk' np' nf' nn' nc' nz' sN' sM' sI' lc' mk' cl' op' it' ∧ pe' = (if code = 58 then nI (m' - 1) else -1) ∧
      (∀ post : Int32 → SX → Prop, post 0 (tl, nI NL, nI DL, tb, ss, os, ds, nI c, nI b, er, nI d', pe', nI m', so, ou, dr, upd ts c 0, nk', np', nf', nn', nc', nz', sN', sM', sI', lc', ib) → wX_applyElement_101 post code (nI d) tl (nI NL) (nI DL) tb ss os ds (nI c) (nI b) er (nI (d + 1)) (-1) (nI m) so ou dr (upd ts c 0) nk np nf nn nc nz sN sM sI lc ib) ∧
      (∀ post : Int32 → SY → Prop, post 0 (tl, nI NL, nI DL, tb, ss, os, dy, nI c, er, so, ou, dq, nk', np', mk', cl', upd ts c (nI m'), op', it') → wY_element_108 post code (nI (lr_n sN d)) tl (nI NL) (nI DL) tb ss os dy (nI c) er so ou dq nk np mk cl (upd ts c (nI m)) op it) := by
  have hb8 := lr_c2 hC hc hb
  have hC1 := hC.1
  have hC2 := hC.2.1
  have hm8 : m < 128 := by omega
  have hS := hI.2.2.2.2.1
  have hd24 : d + 1 ≤ 24 := by
    have h1 := hI.2.2.2.2.2.2.2.1
    omega
  obtain ⟨a1, a2, a3, a4, a5⟩ := hS.1 d (by omega)
  have ect : upd ts c (nI m) c = nI m := lr_us
  have eup : ∀ x : Int32, upd (upd ts c (nI m)) c x = upd ts c x := fun x => lr_uu
  have hin24 : vp_in (nI d) 24 := vp_in_nI (by omega) (by omega)
  have hin : vp_in (nI (lr_n sN d)) 128 := vp_in_nI (by omega) (by omega)
  have ecl : it (nI (lr_n sN d)).toNatClampNeg = nI p := by rw [nI_clamp (by omega), a4, hp]
  rcases hcode with h40 | h58 | hlet
  · subst h40
    obtain ⟨hpm, hJ⟩ := lr_Ielem (c := 2) (pe := -1) hC hm hp hp8 (Or.inr (Or.inl rfl)) (Or.inl ⟨by decide, rfl⟩) hI
    have hll := lr_LLp hI.1.2.1 hpm hI.2.2.1
    have ho : op m = 0 := by
      rcases hS.2.2.2.2.1 m hm8 with y | ⟨j, j1, j2⟩
      · exact y
      · have := (hS.1 j j1).2.1; omega
    have hi : it m = -1 := hS.2.2.2.2.2 m (Nat.le_refl m) hm8
    have hG := lr_Igroup (q := m) hC rfl lr_us (hd (Or.inl rfl)) ho hi hJ
    refine ⟨m + 1, d + 2, -1, _, _, _, _, _, _, _, _, _, _, _, _, _, _, hG, rfl, fun post k => ?_, fun post k => ?_⟩
    · unfold wX_applyElement_101
      refine lr_r (n := d) rfl (by omega) (by omega) ?_
      rw [hp]
      refine br_t rfl ?_
      refine lr_xmake hb8 hm8 hpm hll ?_
      exact lr_xpush (d := d + 1) (by have := hd (Or.inl rfl); omega) k
    · unfold wY_element_108
      refine br_t rfl ?_
      unfold wY_element_120
      refine br_f (by decide) ?_
      unfold wY_element_129
      refine ⟨hin, ?_⟩
      rw [ecl]
      refine lr_yadd hc hb hm8 ect ?_
      rw [eup]
      refine br_t rfl ?_
      exact lr_w rfl hm8 (by omega) k
  · subst h58
    have hdd := hd (Or.inr rfl)
    obtain ⟨hpm, hJ⟩ := lr_Ielem (c := 1) (pe := nI m) hC hm hp hp8 (Or.inl rfl) (Or.inr ⟨rfl, rfl, hdd⟩) hI
    have hll := lr_LLp hI.1.2.1 hpm hI.2.2.1
    refine ⟨m + 1, d + 1, nI m, _, _, _, _, _, _, _, _, _, _, _, _, _, _, hJ, ?_, fun post k => ?_, fun post k => ?_⟩
    · rw [if_pos rfl]; rfl
    · unfold wX_applyElement_101
      refine lr_r (n := d) rfl (by omega) (by omega) ?_
      rw [hp]
      refine br_f (by decide) (br_t rfl ?_)
      exact lr_xmake hb8 hm8 hpm hll k
    · unfold wY_element_108
      refine br_f (by decide) ?_
      unfold wY_element_120
      refine br_t rfl ?_
      unfold wY_element_129
      refine ⟨hin, ?_⟩
      rw [ecl]
      refine lr_yadd hc hb hm8 ect ?_
      rw [eup]
      exact br_f (by decide) k
  · have n40 : ¬ code = 40 := lr_letn hlet (by decide)
    have n58 : ¬ code = 58 := lr_letn hlet (by decide)
    have n1 : code ≠ 1 := lr_letn hlet (by decide)
    obtain ⟨hpm, hJ⟩ := lr_Ielem (c := code) (pe := -1) hC hm hp hp8 (Or.inr (Or.inr hlet)) (Or.inl ⟨n1, rfl⟩) hI
    have hll := lr_LLp hI.1.2.1 hpm hI.2.2.1
    refine ⟨m + 1, d + 1, -1, _, _, _, _, _, _, _, _, _, _, _, _, _, _, hJ, ?_, fun post k => ?_, fun post k => ?_⟩
    · rw [if_neg n58]
    · unfold wX_applyElement_101
      refine lr_r (n := d) rfl (by omega) (by omega) ?_
      rw [hp]
      refine br_f n40 (br_f n58 ?_)
      exact lr_xmake hb8 hm8 hpm hll k
    · unfold wY_element_108
      refine br_f n40 ?_
      unfold wY_element_120
      refine br_f n58 ?_
      unfold wY_element_129
      refine ⟨hin, ?_⟩
      rw [ecl]
      refine lr_yadd hc hb hm8 ect ?_
      rw [eup]
      exact br_f n40 k
/-- the element, its item made if it is wanting; room checked -/
theorem lr_jel1 (hC : lr_C b b2 NL DL) (hc : c < 2) (hb : b = c * 128) (hcode : code = 40 ∨ code = 58 ∨ lr_let code) (hd : (code = 40 ∨ code = 58) → d + 1 < DL)
    (hI : lr_I b b2 n2 NL DL m (d + 1) (-1) nk np nf nn nc nz sN sM sI lc mk cl op it) :
    ∃ (r : Int32) (m' d' : Nat) (pe' : Int32) (nk' np' nf' nn' nc' nz' sN' sM' sI' lc' mk' cl' op' it' : Nat → Int32), lr_I b b2 n2 NL DL m' d' pe' nk' np' nf' nn' nc' nz' sN' sM' sI' lc' mk' cl' op' it' ∧ (r = 0 → pe' = (if code = 58 then nI (m' - 1) else -1)) ∧ (r ≠ 0 → pe' = -1) ∧
      (∀ post : Int32 → SX → Prop, post r (tl, nI NL, nI DL, tb, ss, os, ds, nI c, nI b, er, nI d', pe', nI m', so, ou, dr, upd ts c 0, nk', np', nf', nn', nc', nz', sN', sM', sI', lc', ib) → wX_applyElement_35 post code tl (nI NL) (nI DL) tb ss os ds (nI c) (nI b) er (nI (d + 1)) (-1) (nI m) so ou dr (upd ts c 0) nk np nf nn nc nz sN sM sI lc ib) ∧
      (∀ post : Int32 → SY → Prop, post r (tl, nI NL, nI DL, tb, ss, os, dy, nI c, er, so, ou, dq, nk', np', mk', cl', upd ts c (nI m'), op', it') → wY_element_50 post code (nI (lr_n sN d)) tl (nI NL) (nI DL) tb ss os dy (nI c) er so ou dq nk np mk cl (upd ts c (nI m)) op it) := by
  have hb8 := lr_c2 hC hc hb
  have hC1 := hC.1
  have hC2 := hC.2.1
  have hS := hI.2.2.2.2.1
  have hm8 := hI.1.2.1
  have hd24 : d + 1 ≤ 24 := by
    have h1 := hI.2.2.2.2.2.2.2.1
    omega
  obtain ⟨a1, a2, a3, a4, a5⟩ := hS.1 d (by omega)
  have ect : upd ts c (nI m) c = nI m := lr_us
  have eup : ∀ x : Int32, upd (upd ts c (nI m)) c x = upd ts c x := fun x => lr_uu
  have hin24 : vp_in (nI d) 24 := vp_in_nI (by omega) (by omega)
  have ecl4 : (nI d).toNatClampNeg = d := nI_clamp (by omega)
  have hin : vp_in (nI (lr_n sN d)) 128 := vp_in_nI (by omega) (by omega)
  have ecl : (nI (lr_n sN d)).toNatClampNeg = lr_n sN d := nI_clamp (by omega)
  have hinc : vp_in (nI c) 2 := vp_in_nI hc (by omega)
  have eclc : (nI c).toNatClampNeg = c := nI_clamp (by omega)
  rcases hS.2.2.1 d (by omega) with hi | ⟨hi, hi2, hi3, hi4, hi5⟩
  · have ei : it (lr_n sN d) = -1 := a4.trans hi
    have e2 : nI m + 2 = nI (m + 2) := nI_add m 2
    by_cases hroom : m + 2 ≤ NL
    · have hJ := lr_Iitem hC (by omega) hi hI
      obtain ⟨m', d', pe', nk', np', nf', nn', nc', nz', sN', sM', sI', lc', mk', cl', op', it', hI', hpe, hX, hY⟩ := lr_jel2 (tl := tl) (tb := tb) (ss := ss) (os := os) (ds := ds) (dy := dy) (er := er) (so := so) (ou := ou) (dr := dr) (dq := dq) (ts := ts) (ib := ib) hC hc hb hcode hd (m := m + 1) (by omega) (lr_us (x := nI m)) (by omega) hJ
      refine ⟨0, m', d', pe', nk', np', nf', nn', nc', nz', sN', sM', sI', lc', mk', cl', op', it', hI', fun _ => hpe, fun z => absurd rfl z, fun post k => ?_, fun post k => ?_⟩
      · unfold wX_applyElement_35
        refine nm_r (nI_pred d) ⟨hin24, ?_⟩
        rw [ecl4]
        refine br_t hi ?_
        unfold wX_applyElement_58
        rw [e2]
        refine br_t (nI_le hroom (by omega)) ⟨hin24, ?_⟩
        rw [ecl4]
        refine br_t hi ⟨hin24, ?_⟩
        rw [a1]
        refine lr_xmake hb8 (by omega) a2 (lr_LLp hm8 a2 hI.2.2.1) ?_
        exact ⟨hin24, nm_e (hX post k)⟩
      · unfold wY_element_50
        refine ⟨hin, ?_⟩
        rw [ecl, ei]
        refine br_t lr_n1 ?_
        unfold wY_element_64
        refine ⟨hinc, ?_⟩
        rw [eclc, ect, e2]
        refine br_t (nI_le hroom (by omega)) ⟨hin, ?_⟩
        rw [ecl, ei]
        refine br_f (by decide) ?_
        refine lr_yadd hc hb (by omega) ect ?_
        rw [eup]
        exact ⟨hin, nm_e (hY post k)⟩
    · refine ⟨4, m, d + 1, -1, nk, np, nf, nn, nc, nz, sN, sM, sI, lc, mk, cl, op, it, hI, fun z => absurd z (by decide), fun _ => rfl, fun post k => ?_, fun post k => ?_⟩
      · unfold wX_applyElement_35
        refine nm_r (nI_pred d) ⟨hin24, ?_⟩
        rw [ecl4]
        refine br_t hi ?_
        unfold wX_applyElement_58
        rw [e2]
        exact br_f (nI_ge (by omega) (by omega)) k
      · unfold wY_element_50
        refine ⟨hin, ?_⟩
        rw [ecl, ei]
        refine br_t lr_n1 ?_
        unfold wY_element_64
        refine ⟨hinc, ?_⟩
        rw [eclc, ect, e2]
        exact br_f (nI_ge (by omega) (by omega)) k
  · have ei : it (lr_n sN d) = nI (lr_n sI d) := a4.trans hi
    have hin1 : ¬ sI d = -1 := by rw [hi]; exact lr_ne1 (by omega)
    have e2 : nI m + 1 = nI (m + 1) := nI_1 m
    by_cases hroom : m + 1 ≤ NL
    · obtain ⟨m', d', pe', nk', np', nf', nn', nc', nz', sN', sM', sI', lc', mk', cl', op', it', hI', hpe, hX, hY⟩ := lr_jel2 (tl := tl) (tb := tb) (ss := ss) (os := os) (ds := ds) (dy := dy) (er := er) (so := so) (ou := ou) (dr := dr) (dq := dq) (ts := ts) (ib := ib) hC hc hb hcode hd hroom hi (by omega) hI
      refine ⟨0, m', d', pe', nk', np', nf', nn', nc', nz', sN', sM', sI', lc', mk', cl', op', it', hI', fun _ => hpe, fun z => absurd rfl z, fun post k => ?_, fun post k => ?_⟩
      · unfold wX_applyElement_35
        refine nm_r (nI_pred d) ⟨hin24, ?_⟩
        rw [ecl4]
        refine br_f hin1 ?_
        unfold wX_applyElement_58
        rw [e2]
        refine br_t (nI_le hroom (by omega)) ⟨hin24, ?_⟩
        rw [ecl4]
        exact br_f hin1 (hX post k)
      · unfold wY_element_50
        refine ⟨hin, ?_⟩
        rw [ecl, ei]
        refine br_f (nI_pos (by omega)) ?_
        unfold wY_element_64
        refine ⟨hinc, ?_⟩
        rw [eclc, ect, e2]
        refine br_t (nI_le hroom (by omega)) ⟨hin, ?_⟩
        rw [ecl, ei]
        exact br_t (nI_pos' (by omega)) (hY post k)
    · refine ⟨4, m, d + 1, -1, nk, np, nf, nn, nc, nz, sN, sM, sI, lc, mk, cl, op, it, hI, fun z => absurd z (by decide), fun _ => rfl, fun post k => ?_, fun post k => ?_⟩
      · unfold wX_applyElement_35
        refine nm_r (nI_pred d) ⟨hin24, ?_⟩
        rw [ecl4]
        refine br_f hin1 ?_
        unfold wX_applyElement_58
        rw [e2]
        exact br_f (nI_ge (by omega) (by omega)) k
      · unfold wY_element_50
        refine ⟨hin, ?_⟩
        rw [ecl, ei]
        refine br_f (nI_pos (by omega)) ?_
        unfold wY_element_64
        refine ⟨hinc, ?_⟩
        rw [eclc, ect, e2]
        exact br_f (nI_ge (by omega) (by omega)) k
end EL
end
section
/-! brackets -/
section BR
variable {tl nl dl tb ss os ds dy cu ba er de pe ma : Int32} {so ou dr dq ts nk np nf nn nc nz sN sM sI lc ib mk cl ct op it : Nat → Int32}
variable {b b2 n2 c m d NL DL : Nat}
theorem lr_y147 {post : Int32 → SY → Prop} {x r : Int32} (h : (x = 44 ∧ r = 5) ∨ (¬ x = 44 ∧ r = 6)) (k : post r (tl, nl, dl, tb, ss, os, dy, cu, er, so, ou, dq, nk, np, mk, cl, ct, op, it)) : wY_stepThree_147 post x tl nl dl tb ss os dy cu er so ou dq nk np mk cl ct op it := by
  unfold wY_stepThree_147
  rcases h with ⟨h, rfl⟩ | ⟨h, rfl⟩
  · exact br_t h k
  · exact br_f h k
theorem lr_jcomma (hC : lr_C b b2 NL DL) (hc : c < 2) (hb : b = c * 128) (hI : lr_I b b2 n2 NL DL m d (-1) nk np nf nn nc nz sN sM sI lc mk cl op it) :
    ∃ (r : Int32) (d' : Nat) (nz' sI' cl' op' it' : Nat → Int32), lr_I b b2 n2 NL DL m d' (-1) nk np nf nn nc nz' sN sM sI' lc mk cl' op' it' ∧
      (∀ post : Int32 → SX → Prop, post r (tl, nI NL, nI DL, tb, ss, os, ds, nI c, nI b, er, nI d', -1, nI m, so, ou, dr, upd ts c 0, nk, np, nf, nn, nc, nz', sN, sM, sI', lc, ib) → wpX_applyComma post (tl, nI NL, nI DL, tb, ss, os, ds, nI c, nI b, er, nI d, -1, nI m, so, ou, dr, upd ts c 0, nk, np, nf, nn, nc, nz, sN, sM, sI, lc, ib)) ∧
      (∀ post : Int32 → SY → Prop, post r (tl, nI NL, nI DL, tb, ss, os, dy, nI c, er, so, ou, dq, nk, np, mk, cl', upd ts c (nI m), op', it') → ∃ n79 : Nat, wY_stepThree_79 post 44 tl (nI NL) (nI DL) tb ss os dy (nI c) er so ou dq nk np mk cl (upd ts c (nI m)) op it n79 (-1) 127) := by
  obtain ⟨e, t, rfl, hj, hx⟩ := lr_cut (fun j => 0 ≤ sM j) d
  have hb8 := lr_c2 hC hc hb
  have hS := hI.2.2.2.2.1
  have hm8 := hI.1.2.1
  have hd : e + t ≤ 24 := by
    have h1 := hI.2.2.2.2.2.2.2.1
    have h2 := hC.2.1
    omega
  have hjx : ∀ j, e ≤ j → j < e + t → ¬ sM j = -1 ∧ sN j = nI (lr_n sN j) ∧ lr_n sN j < 128 := by
    intro j j1 j2
    obtain ⟨a1, a2, _⟩ := hS.1 j j2
    exact ⟨lr_pne1 (hj j j1 j2), a1, by omega⟩
  have hjy : ∀ j, e ≤ j → j < e + t → 0 ≤ sM j ∧ ¬ sM j ≤ -1 := fun j j1 j2 => ⟨hj j j1 j2, lr_neg1.mpr (hj j j1 j2)⟩
  have hxy : e = 0 ∨ (0 < e ∧ ¬ (0 ≤ sM (e - 1) ∧ ¬ sM (e - 1) ≤ -1)) := by
    rcases hx with hx | hx
    · exact Or.inl hx
    · exact Or.inr ⟨hx.1, fun w => hx.2 w.1⟩
  have hY : ∀ post : Int32 → SY → Prop, wY_stepThree_119 post 44 (lr_tp sN e) tl (nI NL) (nI DL) tb ss os dy (nI c) er so ou dq nk np mk cl (upd ts c (nI m)) op it → ∃ n79 : Nat, wY_stepThree_79 post 44 tl (nI NL) (nI DL) tb ss os dy (nI c) er so ou dq nk np mk cl (upd ts c (nI m)) op it n79 (-1) 127 :=
    fun post k => ⟨130, lr_yout_ hm8 hS hx hj k 128 130 (by omega) (by omega) (fun j w1 w2 => absurd w1 (by omega))⟩
  cases e with
  | zero =>
    refine ⟨5, 0 + t, nz, sI, cl, op, it, hI, fun post k => ?_, fun post k => hY post ?_⟩
    · unfold wpX_applyComma
      exact lr_xnear hd hx hj (br_t lr_n1 k)
    · unfold wY_stepThree_119
      refine br_f (by decide) ?_
      unfold wY_stepThree_130
      exact br_t lr_n1 (lr_y147 (by decide) k)
  | succ e =>
    have hxe : ¬ 0 ≤ sM e := by
      rcases hx with hx | hx
      · omega
      · exact hx.2
    obtain ⟨a1, a2, a3, a4, a5⟩ := hS.1 e (by omega)
    have hin : vp_in (nI (lr_n sN e)) 128 := vp_in_nI (by omega) (by omega)
    have ecl : op (nI (lr_n sN e)).toNatClampNeg = op (lr_n sN e) := by rw [nI_clamp (by omega)]
    have hin4 : vp_in (nI e) 24 := vp_in_nI (by omega) (by omega)
    have ecl4 : sM (nI e).toNatClampNeg = sM e := by rw [nI_clamp (by omega)]
    have hM : (sM e = -1 ∧ op (lr_n sN e) = 3) ∨ (¬ sM e = -1 ∧ op (lr_n sN e) = 1) := by
      rcases a5 with y | y | y
      · exact Or.inl ⟨y.1, y.2.1⟩
      · exact Or.inr ⟨by rw [y.1]; decide, y.2.1⟩
      · exact absurd y.1 hxe
    have hI' := lr_Ipops (v := 3) hC t nz cl op hI
    have hP := (lr_Ipops (v := 3) hC t nz cl op hI).2.2.2.2.1.1 e (by omega)
    rcases hM with ⟨hs, ho⟩ | ⟨hs, ho⟩
    · refine ⟨0, e + 1, _, upd sI e (-1), _, _, upd it (lr_n sN e) (-1), lr_Ireset hI', fun post k => ?_, fun post k => hY post ?_⟩
      · unfold wpX_applyComma
        refine lr_xnear hd hx hj (br_f (nI_pos (n := e) (by omega)) ⟨hin4, ?_⟩)
        refine br_t (ecl4.trans hs) ?_
        refine lr_xclose hb8 hd hjx ?_
        exact lr_w (n := e) rfl (by omega) (by omega) k
      · unfold wY_stepThree_119
        refine br_f (by decide) ?_
        unfold wY_stepThree_130
        refine br_f (nI_pos (n := lr_n sN e) (by omega)) ⟨hin, ?_⟩
        refine br_t (ecl.trans ho) ?_
        refine lr_ypi hc hb hm8 hxy hS hjy ?_
        refine br_t rfl ?_
        exact lr_w (n := lr_n sN e) rfl (by omega) (by omega) k
    · refine ⟨5, e + 1 + t, nz, sI, cl, op, it, hI, fun post k => ?_, fun post k => hY post ?_⟩
      · unfold wpX_applyComma
        refine lr_xnear hd hx hj (br_f (nI_pos (n := e) (by omega)) ⟨hin4, ?_⟩)
        exact br_f (fun w => hs (ecl4.symm.trans w)) k
      · unfold wY_stepThree_119
        refine br_f (by decide) ?_
        unfold wY_stepThree_130
        refine br_f (nI_pos (n := lr_n sN e) (by omega)) ⟨hin, ?_⟩
        exact br_f (fun w => absurd (ho.symm.trans (ecl.symm.trans w)) (by decide)) (lr_y147 (by decide) k)
theorem lr_jgrp (hC : lr_C b b2 NL DL) (hc : c < 2) (hb : b = c * 128) (hI : lr_I b b2 n2 NL DL m d (-1) nk np nf nn nc nz sN sM sI lc mk cl op it) :
    ∃ (r : Int32) (d' : Nat) (nz' sI' cl' op' it' : Nat → Int32), lr_I b b2 n2 NL DL m d' (-1) nk np nf nn nc nz' sN sM sI' lc mk cl' op' it' ∧
      (∀ post : Int32 → SX → Prop, post r (tl, nI NL, nI DL, tb, ss, os, ds, nI c, nI b, er, nI d', -1, nI m, so, ou, dr, upd ts c 0, nk, np, nf, nn, nc, nz', sN, sM, sI', lc, ib) → wpX_applyCloseGroup post (tl, nI NL, nI DL, tb, ss, os, ds, nI c, nI b, er, nI d, -1, nI m, so, ou, dr, upd ts c 0, nk, np, nf, nn, nc, nz, sN, sM, sI, lc, ib)) ∧
      (∀ post : Int32 → SY → Prop, post r (tl, nI NL, nI DL, tb, ss, os, dy, nI c, er, so, ou, dq, nk, np, mk, cl', upd ts c (nI m), op', it') → ∃ n79 : Nat, wY_stepThree_79 post 41 tl (nI NL) (nI DL) tb ss os dy (nI c) er so ou dq nk np mk cl (upd ts c (nI m)) op it n79 (-1) 127) := by
  obtain ⟨e, t, rfl, hj, hx⟩ := lr_cut (fun j => 0 ≤ sM j) d
  have hb8 := lr_c2 hC hc hb
  have hS := hI.2.2.2.2.1
  have hm8 := hI.1.2.1
  have hd : e + t ≤ 24 := by
    have h1 := hI.2.2.2.2.2.2.2.1
    have h2 := hC.2.1
    omega
  have hjx : ∀ j, e ≤ j → j < e + t → ¬ sM j = -1 ∧ sN j = nI (lr_n sN j) ∧ lr_n sN j < 128 := by
    intro j j1 j2
    obtain ⟨a1, a2, _⟩ := hS.1 j j2
    exact ⟨lr_pne1 (hj j j1 j2), a1, by omega⟩
  have hjy : ∀ j, e ≤ j → j < e + t → 0 ≤ sM j ∧ ¬ sM j ≤ -1 := fun j j1 j2 => ⟨hj j j1 j2, lr_neg1.mpr (hj j j1 j2)⟩
  have hxy : e = 0 ∨ (0 < e ∧ ¬ (0 ≤ sM (e - 1) ∧ ¬ sM (e - 1) ≤ -1)) := by
    rcases hx with hx | hx
    · exact Or.inl hx
    · exact Or.inr ⟨hx.1, fun w => hx.2 w.1⟩
  have hY : ∀ post : Int32 → SY → Prop, wY_stepThree_119 post 41 (lr_tp sN e) tl (nI NL) (nI DL) tb ss os dy (nI c) er so ou dq nk np mk cl (upd ts c (nI m)) op it → ∃ n79 : Nat, wY_stepThree_79 post 41 tl (nI NL) (nI DL) tb ss os dy (nI c) er so ou dq nk np mk cl (upd ts c (nI m)) op it n79 (-1) 127 :=
    fun post k => ⟨130, lr_yout_ hm8 hS hx hj k 128 130 (by omega) (by omega) (fun j w1 w2 => absurd w1 (by omega))⟩
  cases e with
  | zero =>
    refine ⟨6, 0 + t, nz, sI, cl, op, it, hI, fun post k => ?_, fun post k => hY post ?_⟩
    · unfold wpX_applyCloseGroup
      exact lr_xnear hd hx hj (br_t lr_n1 k)
    · unfold wY_stepThree_119
      refine br_f (by decide) ?_
      unfold wY_stepThree_130
      exact br_t lr_n1 (lr_y147 (by decide) k)
  | succ e =>
    have hxe : ¬ 0 ≤ sM e := by
      rcases hx with hx | hx
      · omega
      · exact hx.2
    obtain ⟨a1, a2, a3, a4, a5⟩ := hS.1 e (by omega)
    have hin : vp_in (nI (lr_n sN e)) 128 := vp_in_nI (by omega) (by omega)
    have ecl : op (nI (lr_n sN e)).toNatClampNeg = op (lr_n sN e) := by rw [nI_clamp (by omega)]
    have hin4 : vp_in (nI e) 24 := vp_in_nI (by omega) (by omega)
    have ecl4 : sM (nI e).toNatClampNeg = sM e := by rw [nI_clamp (by omega)]
    have hM : (sM e = -1 ∧ op (lr_n sN e) = 3) ∨ (¬ sM e = -1 ∧ op (lr_n sN e) = 1) := by
      rcases a5 with y | y | y
      · exact Or.inl ⟨y.1, y.2.1⟩
      · exact Or.inr ⟨by rw [y.1]; decide, y.2.1⟩
      · exact absurd y.1 hxe
    have hI' := lr_Ipops (v := 3) hC t nz cl op hI
    have hP := (lr_Ipops (v := 3) hC t nz cl op hI).2.2.2.2.1.1 e (by omega)
    rcases hM with ⟨hs, ho⟩ | ⟨hs, ho⟩
    · refine ⟨0, e, _, sI, _, _, it, lr_Ipopg (v := 1) hC hs hI', fun post k => ?_, fun post k => hY post ?_⟩
      · unfold wpX_applyCloseGroup
        refine lr_xnear hd hx hj (br_f (nI_pos (n := e) (by omega)) ⟨hin4, ?_⟩)
        refine br_t (ecl4.trans hs) ?_
        refine lr_xclose hb8 hd hjx ?_
        exact lr_xpopg (by omega) hs k
      · unfold wY_stepThree_119
        refine br_f (by decide) ?_
        unfold wY_stepThree_130
        refine br_f (nI_pos (n := lr_n sN e) (by omega)) ⟨hin, ?_⟩
        refine br_t (ecl.trans ho) ?_
        refine lr_ypi hc hb hm8 hxy hS hjy ?_
        refine br_f (by decide) ?_
        exact lr_yclo (q := lr_n sN e) hc hb (by omega) k
    · refine ⟨6, e + 1 + t, nz, sI, cl, op, it, hI, fun post k => ?_, fun post k => hY post ?_⟩
      · unfold wpX_applyCloseGroup
        refine lr_xnear hd hx hj (br_f (nI_pos (n := e) (by omega)) ⟨hin4, ?_⟩)
        exact br_f (fun w => hs (ecl4.symm.trans w)) k
      · unfold wY_stepThree_119
        refine br_f (by decide) ?_
        unfold wY_stepThree_130
        refine br_f (nI_pos (n := lr_n sN e) (by omega)) ⟨hin, ?_⟩
        exact br_f (fun w => absurd (ho.symm.trans (ecl.symm.trans w)) (by decide)) (lr_y147 (by decide) k)
theorem lr_jbrc (hC : lr_C b b2 NL DL) (hc : c < 2) (hb : b = c * 128) (hI : lr_I b b2 n2 NL DL m d (-1) nk np nf nn nc nz sN sM sI lc mk cl op it) :
    ∃ (r : Int32) (d' : Nat) (nz' sI' cl' op' it' : Nat → Int32), lr_I b b2 n2 NL DL m d' (-1) nk np nf nn nc nz' sN sM sI' lc mk cl' op' it' ∧
      (∀ post : Int32 → SX → Prop, post r (tl, nI NL, nI DL, tb, ss, os, ds, nI c, nI b, er, nI d', -1, nI m, so, ou, dr, upd ts c 0, nk, np, nf, nn, nc, nz', sN, sM, sI', lc, ib) → wpX_applyCloseBrace post (tl, nI NL, nI DL, tb, ss, os, ds, nI c, nI b, er, nI d, -1, nI m, so, ou, dr, upd ts c 0, nk, np, nf, nn, nc, nz, sN, sM, sI, lc, ib)) ∧
      (∀ post : Int32 → SY → Prop, post r (tl, nI NL, nI DL, tb, ss, os, dy, nI c, er, so, ou, dq, nk, np, mk, cl', upd ts c (nI m), op', it') → ∃ n79 : Nat, wY_stepThree_79 post 125 tl (nI NL) (nI DL) tb ss os dy (nI c) er so ou dq nk np mk cl (upd ts c (nI m)) op it n79 (-1) 127) := by
  obtain ⟨e, t, rfl, hj, hx⟩ := lr_cut (fun j => 0 ≤ sM j) d
  have hb8 := lr_c2 hC hc hb
  have hS := hI.2.2.2.2.1
  have hm8 := hI.1.2.1
  have hd : e + t ≤ 24 := by
    have h1 := hI.2.2.2.2.2.2.2.1
    have h2 := hC.2.1
    omega
  have hjx : ∀ j, e ≤ j → j < e + t → ¬ sM j = -1 ∧ sN j = nI (lr_n sN j) ∧ lr_n sN j < 128 := by
    intro j j1 j2
    obtain ⟨a1, a2, _⟩ := hS.1 j j2
    exact ⟨lr_pne1 (hj j j1 j2), a1, by omega⟩
  have hjy : ∀ j, e ≤ j → j < e + t → 0 ≤ sM j ∧ ¬ sM j ≤ -1 := fun j j1 j2 => ⟨hj j j1 j2, lr_neg1.mpr (hj j j1 j2)⟩
  have hxy : e = 0 ∨ (0 < e ∧ ¬ (0 ≤ sM (e - 1) ∧ ¬ sM (e - 1) ≤ -1)) := by
    rcases hx with hx | hx
    · exact Or.inl hx
    · exact Or.inr ⟨hx.1, fun w => hx.2 w.1⟩
  have hY : ∀ post : Int32 → SY → Prop, wY_stepThree_119 post 125 (lr_tp sN e) tl (nI NL) (nI DL) tb ss os dy (nI c) er so ou dq nk np mk cl (upd ts c (nI m)) op it → ∃ n79 : Nat, wY_stepThree_79 post 125 tl (nI NL) (nI DL) tb ss os dy (nI c) er so ou dq nk np mk cl (upd ts c (nI m)) op it n79 (-1) 127 :=
    fun post k => ⟨130, lr_yout_ hm8 hS hx hj k 128 130 (by omega) (by omega) (fun j w1 w2 => absurd w1 (by omega))⟩
  cases e with
  | zero =>
    refine ⟨6, 0 + t, nz, sI, cl, op, it, hI, fun post k => ?_, fun post k => hY post ?_⟩
    · unfold wpX_applyCloseBrace
      exact lr_xnear hd hx hj (br_t lr_n1 k)
    · unfold wY_stepThree_119
      refine br_t rfl ?_
      unfold wY_stepThree_130
      exact br_t lr_n1 (lr_y147 (by decide) k)
  | succ e =>
    have hxe : ¬ 0 ≤ sM e := by
      rcases hx with hx | hx
      · omega
      · exact hx.2
    obtain ⟨a1, a2, a3, a4, a5⟩ := hS.1 e (by omega)
    have hin : vp_in (nI (lr_n sN e)) 128 := vp_in_nI (by omega) (by omega)
    have ecl : op (nI (lr_n sN e)).toNatClampNeg = op (lr_n sN e) := by rw [nI_clamp (by omega)]
    have hin4 : vp_in (nI e) 24 := vp_in_nI (by omega) (by omega)
    have ecl4 : sM (nI e).toNatClampNeg = sM e := by rw [nI_clamp (by omega)]
    have hM : (sM e = -1 ∧ op (lr_n sN e) = 3) ∨ (¬ sM e = -1 ∧ op (lr_n sN e) = 1) := by
      rcases a5 with y | y | y
      · exact Or.inl ⟨y.1, y.2.1⟩
      · exact Or.inr ⟨by rw [y.1]; decide, y.2.1⟩
      · exact absurd y.1 hxe
    have hI' := lr_Ipops (v := 3) hC t nz cl op hI
    have hP := (lr_Ipops (v := 3) hC t nz cl op hI).2.2.2.2.1.1 e (by omega)
    rcases hM with ⟨hs, ho⟩ | ⟨hs, ho⟩
    · refine ⟨6, e + 1 + t, nz, sI, cl, op, it, hI, fun post k => ?_, fun post k => hY post ?_⟩
      · unfold wpX_applyCloseBrace
        refine lr_xnear hd hx hj (br_f (nI_pos (n := e) (by omega)) ⟨hin4, ?_⟩)
        exact br_t (ecl4.trans hs) k
      · unfold wY_stepThree_119
        refine br_t rfl ?_
        unfold wY_stepThree_130
        refine br_f (nI_pos (n := lr_n sN e) (by omega)) ⟨hin, ?_⟩
        exact br_f (fun w => absurd (ho.symm.trans (ecl.symm.trans w)) (by decide)) (lr_y147 (by decide) k)
    · refine ⟨0, e, _, sI, _, _, it, lr_Ipop (v := 1) hC hI', fun post k => ?_, fun post k => hY post ?_⟩
      · unfold wpX_applyCloseBrace
        refine lr_xnear hd hx hj (br_f (nI_pos (n := e) (by omega)) ⟨hin4, ?_⟩)
        refine br_f (fun w => hs (ecl4.symm.trans w)) ?_
        refine lr_xclose hb8 hd hjx ?_
        exact lr_xpopb hb8 (by omega) hs a1 (by omega) k
      · unfold wY_stepThree_119
        refine br_t rfl ?_
        unfold wY_stepThree_130
        refine br_f (nI_pos (n := lr_n sN e) (by omega)) ⟨hin, ?_⟩
        refine br_t (ecl.trans ho) ?_
        refine lr_ypi hc hb hm8 hxy hS hjy ?_
        refine br_f (by decide) ?_
        exact lr_yclo (q := lr_n sN e) hc hb (by omega) k
end BR
end
section
/-! the relation -/
def lr_K0 (T NL DL TB S O c : Nat) (so ou : Nat → Int32) : Prop :=
  (16 ≤ T ∧ T ≤ 256) ∧ (4 ≤ NL ∧ NL ≤ 128) ∧ (2 ≤ DL ∧ DL ≤ 24) ∧ (1 ≤ TB ∧ TB ≤ 8) ∧ S ≤ T ∧ O ≤ T ∧ c < 2 ∧ (∀ i, i < S → lr_ok (so i)) ∧ (∀ i, i < O → lr_ok (ou i))
def lr_RF (T NL DL TB S O c : Nat) (so ou ts nk np nf nn nc nz mk cl : Nat → Int32) : Prop :=
  lr_K0 T NL DL TB S O c so ou ∧ ∀ s, s < 2 → ∃ n, ts s = nI n ∧ lr_SL (s * 128) n nk np nf nn nc nz mk cl
def i_Rel (_ : Nat) (u : SX) (v : SY) : Prop :=
  ∃ (T NL DL TB S O c : Nat) (ds dy er de pe ma : Int32) (so ou dr dq ts nk np nf nn nc nz sN sM sI lc ib mk cl op it : Nat → Int32),
    u = (nI T, nI NL, nI DL, nI TB, nI S, nI O, ds, nI c, nI (c * 128), er, de, pe, ma, so, ou, dr, ts, nk, np, nf, nn, nc, nz, sN, sM, sI, lc, ib) ∧ v = (nI T, nI NL, nI DL, nI TB, nI S, nI O, dy, nI c, er, so, ou, dq, nk, np, mk, cl, ts, op, it) ∧ lr_RF T NL DL TB S O c so ou ts nk np nf nn nc nz mk cl
theorem lr_ri {k T NL DL TB S O c : Nat} {ds dy er de pe ma : Int32} {so ou dr dq ts nk np nf nn nc nz sN sM sI lc ib mk cl op it : Nat → Int32}
    (h : lr_RF T NL DL TB S O c so ou ts nk np nf nn nc nz mk cl) : i_Rel k (nI T, nI NL, nI DL, nI TB, nI S, nI O, ds, nI c, nI (c * 128), er, de, pe, ma, so, ou, dr, ts, nk, np, nf, nn, nc, nz, sN, sM, sI, lc, ib) (nI T, nI NL, nI DL, nI TB, nI S, nI O, dy, nI c, er, so, ou, dq, nk, np, mk, cl, ts, op, it) :=
  ⟨T, NL, DL, TB, S, O, c, ds, dy, er, de, pe, ma, so, ou, dr, dq, ts, nk, np, nf, nn, nc, nz, sN, sM, sI, lc, ib, mk, cl, op, it, rfl, rfl, h⟩
theorem lr_el {k : Nat} {u : SX} {v : SY} {P : SX → SY → Prop}
    (h : ∀ (T NL DL TB S O c : Nat) (ds dy er de pe ma : Int32) (so ou dr dq ts nk np nf nn nc nz sN sM sI lc ib mk cl op it : Nat → Int32), lr_RF T NL DL TB S O c so ou ts nk np nf nn nc nz mk cl → P (nI T, nI NL, nI DL, nI TB, nI S, nI O, ds, nI c, nI (c * 128), er, de, pe, ma, so, ou, dr, ts, nk, np, nf, nn, nc, nz, sN, sM, sI, lc, ib) (nI T, nI NL, nI DL, nI TB, nI S, nI O, dy, nI c, er, so, ou, dq, nk, np, mk, cl, ts, op, it))
    (I : i_Rel k u v) : P u v :=
  Exists.elim I fun T I => Exists.elim I fun NL I => Exists.elim I fun DL I => Exists.elim I fun TB I => Exists.elim I fun S I => Exists.elim I fun O I => Exists.elim I fun c I =>
  Exists.elim I fun ds I => Exists.elim I fun dy I => Exists.elim I fun er I => Exists.elim I fun de I => Exists.elim I fun pe I => Exists.elim I fun ma I =>
  Exists.elim I fun so I => Exists.elim I fun ou I => Exists.elim I fun dr I => Exists.elim I fun dq I => Exists.elim I fun ts I => Exists.elim I fun nk I => Exists.elim I fun np I =>
  Exists.elim I fun nf I => Exists.elim I fun nn I => Exists.elim I fun nc I => Exists.elim I fun nz I => Exists.elim I fun sN I => Exists.elim I fun sM I => Exists.elim I fun sI I =>
  Exists.elim I fun lc I => Exists.elim I fun ib I => Exists.elim I fun mk I => Exists.elim I fun cl I => Exists.elim I fun op I => Exists.elim I fun it I =>
  I.1.symm ▸ I.2.1.symm ▸ h T NL DL TB S O c ds dy er de pe ma so ou dr dq ts nk np nf nn nc nz sN sM sI lc ib mk cl op it I.2.2
theorem i_up {k : Nat} {u : SX} {v : SY} (h : i_Rel k u v) : i_Rel (k + 3) u v := h
/-- what both clamps answer -/
def lr_cv (x : Int32) (lo hi : Nat) : Int32 := if nI lo ≤ x then (if x ≤ nI hi then x else nI hi) else nI lo
theorem lr_cvn {x : Int32} {lo hi : Nat} (h : lo ≤ hi) (hh : hi < 2 ^ 31) : ∃ n, lo ≤ n ∧ n ≤ hi ∧ lr_cv x lo hi = nI n := by
  unfold lr_cv
  by_cases h1 : nI lo ≤ x
  · rw [if_pos h1]
    by_cases h2 : x ≤ nI hi
    · rw [if_pos h2]
      have hx : ¬ x < 0 := by
        rw [lr_tle, nI_toInt (by omega)] at h1
        rw [lr_tlt, lr_t0]; omega
      obtain ⟨j, hj, rfl⟩ := nI_of hx
      rw [nI_leI (by omega) hj] at h1
      rw [nI_leI hj hh] at h2
      exact ⟨j, h1, h2, rfl⟩
    · rw [if_neg h2]; exact ⟨hi, h, Nat.le_refl _, rfl⟩
  · rw [if_neg h1]; exact ⟨lo, Nat.le_refl _, h, rfl⟩
theorem lr_xcv {x : Int32} {lo hi : Nat} {post : Int32 → Prop} {u : SX} (k : post (lr_cv x lo hi)) : wpX_clamp post u x (nI lo) (nI hi) := by
  obtain ⟨u1, u2, u3, u4, u5, u6, u7, u8, u9, u10, u11, u12, u13, u14, u15, u16, u17, u18, u19, u20, u21, u22, u23, u24, u25, u26, u27, u28⟩ := u
  unfold wpX_clamp
  unfold lr_cv at k
  by_cases h1 : nI lo ≤ x
  · rw [if_pos h1] at k
    by_cases h2 : x ≤ nI hi
    · rw [if_pos h2] at k; exact br_t h1 (br_t h2 k)
    · rw [if_neg h2] at k; exact br_t h1 (br_f h2 k)
  · rw [if_neg h1] at k; exact br_f h1 k
theorem lr_ycv {x : Int32} {lo hi : Nat} {post : Int32 → Prop} {v : SY} (k : post (lr_cv x lo hi)) : wpY_clamp post v x (nI lo) (nI hi) := by
  obtain ⟨v1, v2, v3, v4, v5, v6, v7, v8, v9, v10, v11, v12, v13, v14, v15, v16, v17, v18, v19⟩ := v
  unfold wpY_clamp
  unfold lr_cv at k
  by_cases h1 : nI lo ≤ x
  · rw [if_pos h1] at k
    by_cases h2 : x ≤ nI hi
    · rw [if_pos h2] at k; exact br_t h1 (br_t h2 k)
    · rw [if_neg h2] at k; exact br_t h1 (br_f h2 k)
  · rw [if_neg h1] at k; exact br_f h1 k
theorem i_vc0 (k0 : Int32) (k1 : Int32) (k2 : Int32) (k3 : Int32) : wpX_init (fun u => wpY_init (fun v => i_Rel 4 u v) k0 k1 k2 k3) k0 k1 k2 k3 := by
  obtain ⟨T, t1, t2, t3⟩ := lr_cvn (x := k0) (lo := 16) (hi := 256) (by omega) (by omega)
  obtain ⟨NL, n1, n2, n3⟩ := lr_cvn (x := k1) (lo := 4) (hi := 128) (by omega) (by omega)
  obtain ⟨DL, d1, d2, d3⟩ := lr_cvn (x := k2) (lo := 2) (hi := 24) (by omega) (by omega)
  obtain ⟨TB, b1, b2, b3⟩ := lr_cvn (x := k3) (lo := 1) (hi := 8) (by omega) (by omega)
  unfold wpX_init
  refine lr_xcv (lo := 16) (hi := 256) (lr_xcv (lo := 4) (hi := 128) (lr_xcv (lo := 2) (hi := 24) (lr_xcv (lo := 1) (hi := 8) ?_)))
  unfold wpY_init
  refine lr_ycv (lo := 16) (hi := 256) (lr_ycv (lo := 4) (hi := 128) (lr_ycv (lo := 2) (hi := 24) (lr_ycv (lo := 1) (hi := 8) ?_)))
  rw [t3, n3, d3, b3]
  refine lr_ri (T := T) (NL := NL) (DL := DL) (TB := TB) (S := 0) (O := 0) (c := 0) ⟨⟨⟨t1, t2⟩, ⟨n1, n2⟩, ⟨d1, d2⟩, ⟨b1, b2⟩, by omega, by omega, by omega, fun i hi => absurd hi (by omega), fun i hi => absurd hi (by omega)⟩, fun s hs => ⟨0, rfl, Or.inl rfl⟩⟩
theorem lr_slots {c k n2 : Nat} {ts nk np nf nn nc nz mk cl : Nat → Int32} (hc : c < 2) (h1 : lr_SL (c * 128) k nk np nf nn nc nz mk cl) (h2 : lr_SL ((1 - c) * 128) n2 nk np nf nn nc nz mk cl) (h3 : ts (1 - c) = nI n2) :
    ∀ s, s < 2 → ∃ n, upd ts c (nI k) s = nI n ∧ lr_SL (s * 128) n nk np nf nn nc nz mk cl := by
  intro s hs
  by_cases z : s = c
  · subst z; exact ⟨k, lr_us, h1⟩
  · have e : s = 1 - c := by omega
    refine ⟨n2, ?_, ?_⟩
    · rw [lr_un z, e]; exact h3
    · rw [e]; exact h2
end
section
/-! one token -/
section TK
variable {tl nl dl tb ss os ds dy cu ba er de pe ma : Int32} {so ou dr dq ts nk np nf nn nc nz sN sM sI lc ib mk cl ct op it : Nat → Int32}
variable {b b2 n2 c m d NL DL : Nat} {code : Int32}
theorem lr_jtok (hC : lr_C b b2 NL DL) (hc : c < 2) (hb : b = c * 128) (hok : lr_ok code) (hnb : ¬ lr_bl code)
    (hI : lr_I b b2 n2 NL DL m d (-1) nk np nf nn nc nz sN sM sI lc mk cl op it) :
    ∃ (r : Int32) (m' d' : Nat) (pe' : Int32) (nk' np' nf' nn' nc' nz' sN' sM' sI' lc' mk' cl' op' it' : Nat → Int32), lr_I b b2 n2 NL DL m' d' pe' nk' np' nf' nn' nc' nz' sN' sM' sI' lc' mk' cl' op' it' ∧ (r = 0 → pe' = (if code = 58 then nI (m' - 1) else -1)) ∧ (r ≠ 0 → pe' = -1) ∧
      (∀ post : Int32 → SX → Prop, post r (tl, nI NL, nI DL, tb, ss, os, ds, nI c, nI b, er, nI d', pe', nI m', so, ou, dr, upd ts c 0, nk', np', nf', nn', nc', nz', sN', sM', sI', lc', ib) → wpX_applyToken post (tl, nI NL, nI DL, tb, ss, os, ds, nI c, nI b, er, nI d, -1, nI m, so, ou, dr, upd ts c 0, nk, np, nf, nn, nc, nz, sN, sM, sI, lc, ib) code) ∧
      (∀ post : Int32 → SY → Prop, post r (tl, nI NL, nI DL, tb, ss, os, dy, nI c, er, so, ou, dq, nk', np', mk', cl', upd ts c (nI m'), op', it') → wpY_stepThree post (tl, nI NL, nI DL, tb, ss, os, dy, nI c, er, so, ou, dq, nk, np, mk, cl, upd ts c (nI m), op, it) code) := by
  have hC1 := hC.1
  have hC2 := hC.2.1
  have hS := hI.2.2.2.2.1
  have hm8 := hI.1.2.1
  cases d with
  | zero =>
    refine ⟨1, m, 0, -1, nk, np, nf, nn, nc, nz, sN, sM, sI, lc, mk, cl, op, it, hI, fun z => absurd z (by decide), fun _ => rfl, fun post k => ?_, fun post k => ?_⟩
    · unfold wpX_applyToken
      exact br_f (by decide) k
    · unfold wpY_stepThree
      exact lr_yinn hm8 hS (br_f (show ¬ (0 : Int32) ≤ -1 by decide) k)
  | succ d =>
    have hdl : d + 1 ≤ DL := hI.2.2.2.2.2.2.2.1
    obtain ⟨a1, a2, a3, a4, a5⟩ := hS.1 d (by omega)
    have hpos : (0 : Int32) < nI (d + 1) := (lr_0lt (by omega)).mpr (by omega)
    have hin : vp_in (nI (lr_n sN d)) 128 := vp_in_nI (by omega) (by omega)
    have ecl : (nI (lr_n sN d)).toNatClampNeg = lr_n sN d := nI_clamp (by omega)
    -- the reference's walk up to the branch for a letter and for the rest
    have hYl : ∀ post : Int32 → SY → Prop, lr_let code → wY_stepThree_31 post code (nI (lr_n sN d)) tl (nI NL) (nI DL) tb ss os dy (nI c) er so ou dq nk np mk cl (upd ts c (nI m)) op it → wpY_stepThree post (tl, nI NL, nI DL, tb, ss, os, dy, nI c, er, so, ou, dq, nk, np, mk, cl, upd ts c (nI m), op, it) code := by
      intro post hl k
      unfold wpY_stepThree
      exact lr_yinn hm8 hS (br_t (nI_pos' (n := lr_n sN d) (by omega)) (lr_ylet (fun _ => br_f (by decide) k) (fun w => absurd hl w)))
    have hYn : ∀ post : Int32 → SY → Prop, ¬ lr_let code → (((code = 40 → (wY_stepThree_31 post code (nI (lr_n sN d)) tl (nI NL) (nI DL) tb ss os dy (nI c) er so ou dq nk np mk cl (upd ts c (nI m)) op it)) ∧ (¬ code = 40 → (((code = 58 → (wY_stepThree_31 post code (nI (lr_n sN d)) tl (nI NL) (nI DL) tb ss os dy (nI c) er so ou dq nk np mk cl (upd ts c (nI m)) op it)) ∧ (¬ code = 58 → (((code = 123 → (post 2 (tl, nI NL, nI DL, tb, ss, os, dy, nI c, er, so, ou, dq, nk, np, mk, cl, upd ts c (nI m), op, it))) ∧ (¬ code = 123 → (((code = 59 → (vp_in (nI (lr_n sN d)) 128 ∧ ((((op (nI (lr_n sN d)).toNatClampNeg) = 3 → (post 5 (tl, nI NL, nI DL, tb, ss, os, dy, nI c, er, so, ou, dq, nk, np, mk, cl, upd ts c (nI m), op, it))) ∧ (¬ (op (nI (lr_n sN d)).toNatClampNeg) = 3 → (vp_in (nI (lr_n sN d)) 128 ∧ ∀ a_item_127 : Nat → Int32, a_item_127 = upd it (nI (lr_n sN d)).toNatClampNeg (-1) → (post 0 (tl, nI NL, nI DL, tb, ss, os, dy, nI c, er, so, ou, dq, nk, np, mk, cl, upd ts c (nI m), op, a_item_127)))))))) ∧ (¬ code = 59 → (∃ n79 : Nat, wY_stepThree_79 post code tl (nI NL) (nI DL) tb ss os dy (nI c) er so ou dq nk np mk cl (upd ts c (nI m)) op it n79 (-1) 127))))))))))))) → wpY_stepThree post (tl, nI NL, nI DL, tb, ss, os, dy, nI c, er, so, ou, dq, nk, np, mk, cl, upd ts c (nI m), op, it) code := by
      intro post hl k
      unfold wpY_stepThree
      exact lr_yinn hm8 hS (br_t (nI_pos' (n := lr_n sN d) (by omega)) (lr_ylet (fun w => absurd w hl) (fun _ => br_t rfl k)))
    have hel : (code = 40 ∨ code = 58 ∨ lr_let code) → ¬ code = 123 → ¬ code = 59 → ¬ code = 44 → ¬ code = 41 → ¬ code = 125 →
        ∃ (r : Int32) (m' d' : Nat) (pe' : Int32) (nk' np' nf' nn' nc' nz' sN' sM' sI' lc' mk' cl' op' it' : Nat → Int32), lr_I b b2 n2 NL DL m' d' pe' nk' np' nf' nn' nc' nz' sN' sM' sI' lc' mk' cl' op' it' ∧ (r = 0 → pe' = (if code = 58 then nI (m' - 1) else -1)) ∧ (r ≠ 0 → pe' = -1) ∧
          (∀ post : Int32 → SX → Prop, post r (tl, nI NL, nI DL, tb, ss, os, ds, nI c, nI b, er, nI d', pe', nI m', so, ou, dr, upd ts c 0, nk', np', nf', nn', nc', nz', sN', sM', sI', lc', ib) → wpX_applyToken post (tl, nI NL, nI DL, tb, ss, os, ds, nI c, nI b, er, nI (d + 1), -1, nI m, so, ou, dr, upd ts c 0, nk, np, nf, nn, nc, nz, sN, sM, sI, lc, ib) code) ∧
          (∀ post : Int32 → SY → Prop, post r (tl, nI NL, nI DL, tb, ss, os, dy, nI c, er, so, ou, dq, nk', np', mk', cl', upd ts c (nI m'), op', it') → wpY_stepThree post (tl, nI NL, nI DL, tb, ss, os, dy, nI c, er, so, ou, dq, nk, np, mk, cl, upd ts c (nI m), op, it) code) := by
      intro hcode n123 n59 n44 n41 n125
      have hYe : ∀ post : Int32 → SY → Prop, wpY_element post (tl, nI NL, nI DL, tb, ss, os, dy, nI c, er, so, ou, dq, nk, np, mk, cl, upd ts c (nI m), op, it) code (nI (lr_n sN d)) → wpY_stepThree post (tl, nI NL, nI DL, tb, ss, os, dy, nI c, er, so, ou, dq, nk, np, mk, cl, upd ts c (nI m), op, it) code := by
        intro post k
        rcases hcode with h | h | h
        · refine hYn post (by rw [h]; decide) (br_t h ?_)
          unfold wY_stepThree_31; exact k
        · refine hYn post (by rw [h]; decide) (br_f (by rw [h]; decide) (br_t h ?_))
          unfold wY_stepThree_31; exact k
        · refine hYl post h ?_
          unfold wY_stepThree_31; exact k
      have hXe : ∀ post : Int32 → SX → Prop, wpX_applyElement post (tl, nI NL, nI DL, tb, ss, os, ds, nI c, nI b, er, nI (d + 1), -1, nI m, so, ou, dr, upd ts c 0, nk, np, nf, nn, nc, nz, sN, sM, sI, lc, ib) code → wpX_applyToken post (tl, nI NL, nI DL, tb, ss, os, ds, nI c, nI b, er, nI (d + 1), -1, nI m, so, ou, dr, upd ts c 0, nk, np, nf, nn, nc, nz, sN, sM, sI, lc, ib) code := by
        intro post k
        unfold wpX_applyToken
        exact br_t hpos (br_f n123 (br_f n59 (br_f n44 (br_f n41 (br_f n125 k)))))
      have hYc : ∀ post : Int32 → SY → Prop, (∀ n, wY_element_5 post code (nI (lr_n sN d)) tl (nI NL) (nI DL) tb ss os dy (nI c) er so ou dq nk np mk cl (upd ts c (nI m)) op it (n + 1) (nI (d + 1)) (nI 128)) → wpY_element post (tl, nI NL, nI DL, tb, ss, os, dy, nI c, er, so, ou, dq, nk, np, mk, cl, upd ts c (nI m), op, it) code (nI (lr_n sN d)) := by
        intro post k
        unfold wpY_element
        exact ⟨129, lr_ycnt_ hm8 (by omega) hS k 128 0 0 129 (by omega) (by omega) (by omega) (fun j w => absurd w (by omega)) (fun j _ _ => by omega)⟩
      by_cases hdeep : (code = 40 ∨ code = 58) ∧ ¬ d + 1 < DL
      · obtain ⟨h4, hge⟩ := hdeep
        have hnl : ¬ lr_let code := by
          rcases h4 with h | h
          · rw [h]; decide
          · rw [h]; decide
        refine ⟨3, m, d + 1, -1, nk, np, nf, nn, nc, nz, sN, sM, sI, lc, mk, cl, op, it, hI, fun z => absurd z (by decide), fun _ => rfl, fun post k => hXe post ?_, fun post k => hYe post (hYc post (fun n => ?_))⟩
        · have k17 : wX_applyElement_12 post code tl (nI NL) (nI DL) tb ss os ds (nI c) (nI b) er (nI (d + 1)) (-1) (nI m) so ou dr (upd ts c 0) nk np nf nn nc nz sN sM sI lc ib := by
            unfold wX_applyElement_12 wX_applyElement_17
            exact br_f (by decide) (br_f (nI_nlt (by omega) (by omega)) k)
          unfold wpX_applyElement
          exact br_c (fun _ => k17) (fun w => br_t (by rcases h4 with h | h; exact absurd h w; exact h) k17)
        · rw [wY_element_5]
          refine br_t (nI_le (a := 128) (b := 128) (by omega) (by omega)) ?_
          exact lr_ylet (fun w => absurd w hnl) (fun _ => br_t rfl (br_f (nI_nlt (by omega) (by omega)) k))
      · have hd' : (code = 40 ∨ code = 58) → d + 1 < DL := fun h => Decidable.byContradiction (fun w => hdeep ⟨h, w⟩)
        obtain ⟨r, m', d', pe', nk', np', nf', nn', nc', nz', sN', sM', sI', lc', mk', cl', op', it', hI', hpe, hpe2, hX, hY⟩ := lr_jel1 (tl := tl) (tb := tb) (ss := ss) (os := os) (ds := ds) (dy := dy) (er := er) (so := so) (ou := ou) (dr := dr) (dq := dq) (ts := ts) (ib := ib) hC hc hb hcode hd' hI
        refine ⟨r, m', d', pe', nk', np', nf', nn', nc', nz', sN', sM', sI', lc', mk', cl', op', it', hI', hpe, hpe2, fun post k => hXe post ?_, fun post k => hYe post (hYc post (fun n => ?_))⟩
        · have k0 := hX post k
          unfold wpX_applyElement
          by_cases h40 : code = 40
          · refine br_t h40 ?_
            unfold wX_applyElement_12 wX_applyElement_17
            exact br_f (by decide) (br_t (nI_lt (hd' (Or.inl h40)) (by omega)) k0)
          · refine br_f h40 ?_
            by_cases h58 : code = 58
            · refine br_t h58 ?_
              unfold wX_applyElement_12 wX_applyElement_17
              exact br_f (by decide) (br_t (nI_lt (hd' (Or.inr h58)) (by omega)) k0)
            · refine br_f h58 ?_
              unfold wX_applyElement_17
              exact br_t rfl k0
        · have k0 := hY post k
          rw [wY_element_5]
          refine br_t (nI_le (a := 128) (b := 128) (by omega) (by omega)) ?_
          refine lr_ylet (fun _ => br_f (by decide) k0) (fun w => br_t rfl (br_t (nI_lt ?_ (by omega)) k0))
          rcases hcode with h | h | h
          · exact hd' (Or.inl h)
          · exact hd' (Or.inr h)
          · exact absurd h w
    rcases hok with h | h | h | h | h | h | h | h | h | h | h
    · exact hel (Or.inr (Or.inr h)) (lr_letn h (by decide)) (lr_letn h (by decide)) (lr_letn h (by decide)) (lr_letn h (by decide)) (lr_letn h (by decide))
    · exact absurd (Or.inl h) hnb
    · exact absurd (Or.inr (Or.inl h)) hnb
    · exact absurd (Or.inr (Or.inr h)) hnb
    · subst h; exact hel (Or.inl rfl) (by decide) (by decide) (by decide) (by decide) (by decide)
    · subst h
      obtain ⟨r, d', nz', sI', cl', op', it', hI', hX, hY⟩ := lr_jgrp (tl := tl) (tb := tb) (ss := ss) (os := os) (ds := ds) (dy := dy) (er := er) (so := so) (ou := ou) (dr := dr) (dq := dq) (ts := ts) (ib := ib) hC hc hb hI
      refine ⟨r, m, d', -1, nk, np, nf, nn, nc, nz', sN, sM, sI', lc, mk, cl', op', it', hI', fun _ => rfl, fun _ => rfl, fun post k => ?_, fun post k => ?_⟩
      · unfold wpX_applyToken
        exact br_t hpos (br_f (by decide) (br_f (by decide) (br_f (by decide) (br_t rfl (hX _ k)))))
      · exact hYn post (by decide) (br_f (by decide) (br_f (by decide) (br_f (by decide) (br_f (by decide) (hY post k)))))
    · subst h
      refine ⟨2, m, d + 1, -1, nk, np, nf, nn, nc, nz, sN, sM, sI, lc, mk, cl, op, it, hI, fun z => absurd z (by decide), fun _ => rfl, fun post k => ?_, fun post k => ?_⟩
      · unfold wpX_applyToken
        exact br_t hpos (br_t rfl k)
      · exact hYn post (by decide) (br_f (by decide) (br_f (by decide) (br_t rfl k)))
    · subst h
      obtain ⟨r, d', nz', sI', cl', op', it', hI', hX, hY⟩ := lr_jbrc (tl := tl) (tb := tb) (ss := ss) (os := os) (ds := ds) (dy := dy) (er := er) (so := so) (ou := ou) (dr := dr) (dq := dq) (ts := ts) (ib := ib) hC hc hb hI
      refine ⟨r, m, d', -1, nk, np, nf, nn, nc, nz', sN, sM, sI', lc, mk, cl', op', it', hI', fun _ => rfl, fun _ => rfl, fun post k => ?_, fun post k => ?_⟩
      · unfold wpX_applyToken
        exact br_t hpos (br_f (by decide) (br_f (by decide) (br_f (by decide) (br_f (by decide) (br_t rfl (hX _ k))))))
      · exact hYn post (by decide) (br_f (by decide) (br_f (by decide) (br_f (by decide) (br_f (by decide) (hY post k)))))
    · subst h
      have e1 : nI (d + 1) - 1 = nI d := nI_pred d
      have e2 : sM (nI (d + 1) - 1).toNatClampNeg = sM d := lr_rd e1 (by omega)
      have hin4 : vp_in (nI (d + 1) - 1) 24 := lr_in e1 (by omega) (by omega)
      by_cases hs : sM d = -1
      · have ho : op (lr_n sN d) = 3 := by
          rcases a5 with y | y | y
          · exact y.2.1
          · exact absurd (hs.symm.trans y.1) (by decide)
          · exact absurd hs (lr_pne1 y.1)
        refine ⟨5, m, d + 1, -1, nk, np, nf, nn, nc, nz, sN, sM, sI, lc, mk, cl, op, it, hI, fun z => absurd z (by decide), fun _ => rfl, fun post k => ?_, fun post k => ?_⟩
        · unfold wpX_applyToken
          refine br_t hpos (br_f (by decide) (br_t rfl ?_))
          unfold wpX_applySemicolon
          exact ⟨hin4, br_t (e2.trans hs) k⟩
        · exact hYn post (by decide) (br_f (by decide) (br_f (by decide) (br_f (by decide) (br_t rfl ⟨hin, br_t (by rw [ecl]; exact ho) k⟩))))
      · have ho : ¬ op (lr_n sN d) = 3 := by
          rcases a5 with y | y | y
          · exact absurd y.1 hs
          · rw [y.2.1]; decide
          · rw [y.2.1]; decide
        refine ⟨0, m, d + 1, -1, nk, np, nf, nn, nc, nz, sN, sM, upd sI d (-1), lc, mk, cl, op, upd it (lr_n sN d) (-1), lr_Ireset hI, fun _ => rfl, fun _ => rfl, fun post k => ?_, fun post k => ?_⟩
        · unfold wpX_applyToken
          refine br_t hpos (br_f (by decide) (br_t rfl ?_))
          unfold wpX_applySemicolon
          exact ⟨hin4, br_f (fun w => hs (e2.symm.trans w)) (lr_w e1 (by omega) (by omega) k)⟩
        · exact hYn post (by decide) (br_f (by decide) (br_f (by decide) (br_f (by decide) (br_t rfl ⟨hin, br_f (by rw [ecl]; exact ho) (lr_w (n := lr_n sN d) rfl (by omega) (by omega) k)⟩))))
    · subst h
      obtain ⟨r, d', nz', sI', cl', op', it', hI', hX, hY⟩ := lr_jcomma (tl := tl) (tb := tb) (ss := ss) (os := os) (ds := ds) (dy := dy) (er := er) (so := so) (ou := ou) (dr := dr) (dq := dq) (ts := ts) (ib := ib) hC hc hb hI
      refine ⟨r, m, d', -1, nk, np, nf, nn, nc, nz', sN, sM, sI', lc, mk, cl', op', it', hI', fun _ => rfl, fun _ => rfl, fun post k => ?_, fun post k => ?_⟩
      · unfold wpX_applyToken
        exact br_t hpos (br_f (by decide) (br_f (by decide) (br_t rfl (hX _ k))))
      · exact hYn post (by decide) (br_f (by decide) (br_f (by decide) (br_f (by decide) (br_f (by decide) (hY post k)))))
    · subst h; exact hel (Or.inr (Or.inl rfl)) (by decide) (by decide) (by decide) (by decide) (by decide)
end TK
end
section
/-! a token, all of it -/
section TT
variable {tl nl dl tb ss os ds dy cu ba er de pe ma : Int32} {so ou dr dq ts nk np nf nn nc nz sN sM sI lc ib mk cl ct op it : Nat → Int32}
variable {b b2 n2 c m d i NL DL : Nat} {code : Int32}
theorem lr_jtail (hC : lr_C b b2 NL DL) (hc : c < 2) (hb : b = c * 128) (hok : lr_ok code) (hnb : ¬ lr_bl code)
    (hI : lr_I b b2 n2 NL DL m d (-1) nk np nf nn nc nz sN sM sI lc mk cl op it) :
    ∃ (r : Int32) (m' d' : Nat) (pe' : Int32) (nk' np' nf' nn' nc' nz' sN' sM' sI' lc' mk' cl' op' it' : Nat → Int32), lr_I b b2 n2 NL DL m' d' pe' nk' np' nf' nn' nc' nz' sN' sM' sI' lc' mk' cl' op' it' ∧
      (∀ post : Int32 → SX → Prop, post r (tl, nI NL, nI DL, tb, ss, os, ds, nI c, nI b, er, nI d', pe', nI m', so, ou, dr, upd ts c 0, nk', np', nf', nn', nc', nz', sN', sM', sI', lc', ib) → wX_takeToken_83 post code tl (nI NL) (nI DL) tb ss os ds (nI c) (nI b) er (nI d) (-1) (nI m) so ou dr (upd ts c 0) nk np nf nn nc nz sN sM sI lc ib) ∧
      (∀ (post : Int32 → SY → Prop) (J : Int32 → Int32 → Int32 → Int32 → Int32 → Int32 → Int32 → Int32 → Int32 → Int32 → Int32 → Int32 → Int32 → (Nat → Int32) → (Nat → Int32) → (Nat → Int32) → (Nat → Int32) → (Nat → Int32) → (Nat → Int32) → (Nat → Int32) → (Nat → Int32) → (Nat → Int32) → (Nat → Int32) → Prop),
        J pe' r (if r = 0 then -1 else nI i) (nI (i + 1)) tl (nI NL) (nI DL) tb ss os dy (nI c) er so ou dq nk' np' mk' cl' (upd ts c (nI m')) op' it' → wY_parse_253 post J (nI b) (-1) (-1) (nI i) code tl (nI NL) (nI DL) tb ss os dy (nI c) er so ou dq nk np mk cl (upd ts c (nI m)) op it) := by
  obtain ⟨r, m', d', pe', nk', np', nf', nn', nc', nz', sN', sM', sI', lc', mk', cl', op', it', hI', hpe, hpe2, hX, hY⟩ := lr_jtok (tl := tl) (tb := tb) (ss := ss) (os := os) (ds := ds) (dy := dy) (er := er) (so := so) (ou := ou) (dr := dr) (dq := dq) (ts := ts) (ib := ib) hC hc hb hok hnb hI
  refine ⟨r, m', d', pe', nk', np', nf', nn', nc', nz', sN', sM', sI', lc', mk', cl', op', it', hI', fun post k => ?_, fun post J k => ?_⟩
  · unfold wX_takeToken_83
    exact hX _ k
  · unfold wY_parse_253
    refine hY _ ?_
    have hm0 := hI'.1.1
    have hm8 := hI'.1.2.1
    by_cases hr : r = 0
    · refine br_t hr ?_
      rw [if_pos hr] at k
      have hp := hpe hr
      by_cases h58 : code = 58
      · rw [if_pos h58] at hp
        refine br_t h58 ?_
        have e1 : upd ts c (nI m') (nI c).toNatClampNeg - 1 = pe' := by
          rw [nI_clamp (show c < 2 ^ 31 by omega), lr_us, lr_s hm0, hp]
        exact ⟨vp_in_nI hc (by omega), nm_r e1 (nm_r (nI_1 i) k)⟩
      · rw [if_neg h58] at hp
        rw [hp] at k
        exact br_f h58 (nm_r (nI_1 i) k)
    · rw [if_neg hr, hpe2 hr] at k
      exact br_f hr (nm_r (nI_1 i) k)
theorem lr_jmid {col al : Int32} (hC : lr_C b b2 NL DL) (hc : c < 2) (hb : b = c * 128) (hok : lr_ok code) (hnb : ¬ lr_bl code) (h0 : 0 ≤ col)
    (hI : lr_I b b2 n2 NL DL m d (-1) nk np nf nn nc nz sN sM sI lc mk cl op it) :
    ∃ (r : Int32) (m' d' : Nat) (pe' : Int32) (nk' np' nf' nn' nc' nz' sN' sM' sI' lc' mk' cl' op' it' : Nat → Int32), lr_I b b2 n2 NL DL m' d' pe' nk' np' nf' nn' nc' nz' sN' sM' sI' lc' mk' cl' op' it' ∧
      (∀ post : Int32 → SX → Prop, post r (tl, nI NL, nI DL, tb, ss, os, ds, nI c, nI b, er, nI d', pe', nI m', so, ou, dr, upd ts c 0, nk', np', nf', nn', nc', nz', sN', sM', sI', lc', ib) → wX_takeToken_73 post code col al tl (nI NL) (nI DL) tb ss os ds (nI c) (nI b) er (nI d) (-1) (nI m) so ou dr (upd ts c 0) nk np nf nn nc nz sN sM sI lc ib) ∧
      (∀ (post : Int32 → SY → Prop) (J : Int32 → Int32 → Int32 → Int32 → Int32 → Int32 → Int32 → Int32 → Int32 → Int32 → Int32 → Int32 → Int32 → (Nat → Int32) → (Nat → Int32) → (Nat → Int32) → (Nat → Int32) → (Nat → Int32) → (Nat → Int32) → (Nat → Int32) → (Nat → Int32) → (Nat → Int32) → (Nat → Int32) → Prop),
        J pe' r (if r = 0 then -1 else nI i) (nI (i + 1)) tl (nI NL) (nI DL) tb ss os dy (nI c) er so ou dq nk' np' mk' cl' (upd ts c (nI m')) op' it' → wY_parse_237 post J (nI b) (-1) 0 (-1) (nI i) code col al 0 tl (nI NL) (nI DL) tb ss os dy (nI c) er so ou dq nk np mk cl (upd ts c (nI m)) op it) := by
  by_cases ha : al = 0
  · obtain ⟨r, m', d', pe', nk', np', nf', nn', nc', nz', sN', sM', sI', lc', mk', cl', op', it', hI', hX, hY⟩ := lr_jtail (i := i) (tl := tl) (tb := tb) (ss := ss) (os := os) (ds := ds) (dy := dy) (er := er) (so := so) (ou := ou) (dr := dr) (dq := dq) (ts := ts) (ib := ib) hC hc hb hok hnb hI
    refine ⟨r, m', d', pe', nk', np', nf', nn', nc', nz', sN', sM', sI', lc', mk', cl', op', it', hI', fun post k => ?_, fun post J k => ?_⟩
    · unfold wX_takeToken_73
      exact br_t ha (hX post k)
    · unfold wY_parse_237
      exact br_t rfl (br_t ha (hY post J k))
  · obtain ⟨e, nz1, cl1, op1, sI1, it1, hI1, hX1, hY1⟩ := lr_jal (col := col) (tl := tl) (tb := tb) (ss := ss) (os := os) (ds := ds) (dy := dy) (er := er) (so := so) (ou := ou) (dr := dr) (dq := dq) (ts := ts) (ib := ib) hC hc hb h0 hI
    obtain ⟨r, m', d', pe', nk', np', nf', nn', nc', nz', sN', sM', sI', lc', mk', cl', op', it', hI', hX, hY⟩ := lr_jtail (i := i) (tl := tl) (tb := tb) (ss := ss) (os := os) (ds := ds) (dy := dy) (er := er) (so := so) (ou := ou) (dr := dr) (dq := dq) (ts := ts) (ib := ib) hC hc hb hok hnb hI1
    refine ⟨r, m', d', pe', nk', np', nf', nn', nc', nz', sN', sM', sI', lc', mk', cl', op', it', hI', fun post k => ?_, fun post J k => ?_⟩
    · unfold wX_takeToken_73
      exact br_f ha (hX1 _ (hX post k))
    · unfold wY_parse_237
      exact br_t rfl (br_f ha (hY1 _ (hY post J k)))
/-- the reference's walk of a token, from the column and the flag on -/
def lr_yt (post : Int32 → SY → Prop) (J : Int32 → Int32 → Int32 → Int32 → Int32 → Int32 → Int32 → Int32 → Int32 → Int32 → Int32 → Int32 → Int32 → (Nat → Int32) → (Nat → Int32) → (Nat → Int32) → (Nat → Int32) → (Nat → Int32) → (Nat → Int32) → (Nat → Int32) → (Nat → Int32) → (Nat → Int32) → (Nat → Int32) → Prop) (x1 x2 x3 x4 x5 x6 x7 x8 : Int32) (tl nl dl tb ss os dy cu er : Int32) (so ou dq nk np mk cl ct op it : Nat → Int32) : Prop :=
  ((x2 < 0 → (wY_parse_237 post J x1 x2 x3 x4 x5 x6 x7 x8 0 tl nl dl tb ss os dy cu er so ou dq nk np mk cl ct op it)) ∧ (¬ x2 < 0 → (wpY_innermost (fun r_192 => (((r_192 < 0 → (wY_parse_153 post J x1 x2 x3 x4 x5 x6 x7 x8 0 (-1) tl nl dl tb ss os dy cu er so ou dq nk np mk cl ct op it)) ∧ (¬ r_192 < 0 → (vp_in r_192 128 ∧ ((((op r_192.toNatClampNeg) = 2 → (vp_in (x1 + r_192) 256 ∧ (∀ x11_230 : Int32, x11_230 = mk (x1 + r_192).toNatClampNeg → (wY_parse_153 post J x1 x2 x3 x4 x5 x6 x7 x8 0 x11_230 tl nl dl tb ss os dy cu er so ou dq nk np mk cl ct op it)))) ∧ (¬ (op r_192.toNatClampNeg) = 2 → (wY_parse_153 post J x1 x2 x3 x4 x5 x6 x7 x8 0 (-1) tl nl dl tb ss os dy cu er so ou dq nk np mk cl ct op it))))))))) (tl, nl, dl, tb, ss, os, dy, cu, er, so, ou, dq, nk, np, mk, cl, ct, op, it))))
theorem lr_jtake {col fst pe : Int32} (hC : lr_C b b2 NL DL) (hc : c < 2) (hb : b = c * 128) (hok : lr_ok code) (hnb : ¬ lr_bl code) (h0 : 0 ≤ col)
    (hI : lr_I b b2 n2 NL DL m d pe nk np nf nn nc nz sN sM sI lc mk cl op it) :
    ∃ (r : Int32) (m' d' : Nat) (pe' : Int32) (nk' np' nf' nn' nc' nz' sN' sM' sI' lc' mk' cl' op' it' : Nat → Int32), lr_I b b2 n2 NL DL m' d' pe' nk' np' nf' nn' nc' nz' sN' sM' sI' lc' mk' cl' op' it' ∧
      (∀ post : Int32 → SX → Prop, post r (tl, nI NL, nI DL, tb, ss, os, ds, nI c, nI b, er, nI d', pe', nI m', so, ou, dr, upd ts c 0, nk', np', nf', nn', nc', nz', sN', sM', sI', lc', ib) → wpX_takeToken post (tl, nI NL, nI DL, tb, ss, os, ds, nI c, nI b, er, nI d, pe, nI m, so, ou, dr, upd ts c 0, nk, np, nf, nn, nc, nz, sN, sM, sI, lc, ib) code col fst) ∧
      (∀ (post : Int32 → SY → Prop) (J : Int32 → Int32 → Int32 → Int32 → Int32 → Int32 → Int32 → Int32 → Int32 → Int32 → Int32 → Int32 → Int32 → (Nat → Int32) → (Nat → Int32) → (Nat → Int32) → (Nat → Int32) → (Nat → Int32) → (Nat → Int32) → (Nat → Int32) → (Nat → Int32) → (Nat → Int32) → (Nat → Int32) → Prop),
        J pe' r (if r = 0 then -1 else nI i) (nI (i + 1)) tl (nI NL) (nI DL) tb ss os dy (nI c) er so ou dq nk' np' mk' cl' (upd ts c (nI m')) op' it' → lr_yt post J (nI b) pe 0 (-1) (nI i) code col fst tl (nI NL) (nI DL) tb ss os dy (nI c) er so ou dq nk np mk cl (upd ts c (nI m)) op it) := by
  have hC1 := hC.1
  have hC2 := hC.2.1
  have hb8 := lr_c2 hC hc hb
  have hm8 := hI.1.2.1
  have hS := hI.2.2.2.2.1
  have hdl : d ≤ DL := hI.2.2.2.2.2.2.2.1
  by_cases hpe : pe = -1
  · subst hpe
    obtain ⟨r, m', d', pe', nk', np', nf', nn', nc', nz', sN', sM', sI', lc', mk', cl', op', it', hI', hX, hY⟩ := lr_jmid (i := i) (col := col) (al := fst) (tl := tl) (tb := tb) (ss := ss) (os := os) (ds := ds) (dy := dy) (er := er) (so := so) (ou := ou) (dr := dr) (dq := dq) (ts := ts) (ib := ib) hC hc hb hok hnb h0 hI
    refine ⟨r, m', d', pe', nk', np', nf', nn', nc', nz', sN', sM', sI', lc', mk', cl', op', it', hI', fun post k => ?_, fun post J k => ?_⟩
    · unfold wpX_takeToken
      exact br_t rfl (hX post k)
    · unfold lr_yt
      exact br_t lr_n1 (hY post J k)
  · -- what the reference asks of the innermost container
    have hpn : pe = nI (m - 1) := by
      rcases hI.2.2.2.2.2.1 with y | y
      · exact absurd y hpe
      · exact y.1
    have hyc : ∀ (post : Int32 → SY → Prop) (J : Int32 → Int32 → Int32 → Int32 → Int32 → Int32 → Int32 → Int32 → Int32 → Int32 → Int32 → Int32 → Int32 → (Nat → Int32) → (Nat → Int32) → (Nat → Int32) → (Nat → Int32) → (Nat → Int32) → (Nat → Int32) → (Nat → Int32) → (Nat → Int32) → (Nat → Int32) → (Nat → Int32) → Prop),
        wY_parse_153 post J (nI b) pe 0 (-1) (nI i) code col fst 0 (lr_ic d sM) tl (nI NL) (nI DL) tb ss os dy (nI c) er so ou dq nk np mk cl (upd ts c (nI m)) op it → lr_yt post J (nI b) pe 0 (-1) (nI i) code col fst tl (nI NL) (nI DL) tb ss os dy (nI c) er so ou dq nk np mk cl (upd ts c (nI m)) op it := by
      intro post J k
      unfold lr_yt
      refine br_f (by rw [hpn]; exact nI_pos (by omega)) ?_
      refine lr_yinn hm8 hS ?_
      cases d with
      | zero => exact br_t lr_n1 k
      | succ d =>
        obtain ⟨a1, a2, a3, a4, a5⟩ := hS.1 d (by omega)
        have k' : wY_parse_153 post J (nI b) pe 0 (-1) (nI i) code col fst 0 (if sM d < 0 then -1 else sM d) tl (nI NL) (nI DL) tb ss os dy (nI c) er so ou dq nk np mk cl (upd ts c (nI m)) op it := k
        refine br_f (nI_pos (n := lr_n sN d) (by omega)) ⟨vp_in_nI (n := lr_n sN d) (by omega) (by omega), ?_⟩
        have ecl : op (lr_tp sN (d + 1)).toNatClampNeg = op (lr_n sN d) := by
          rw [show lr_tp sN (d + 1) = nI (lr_n sN d) from rfl, nI_clamp (by omega)]
        have eb : nI b + lr_tp sN (d + 1) = nI (b + lr_n sN d) := nI_add _ _
        rcases a5 with y | y | y
        · refine br_f (by rw [ecl, y.2.1]; decide) ?_
          rw [if_pos (by rw [y.1]; decide)] at k'; exact k'
        · refine br_f (by rw [ecl, y.2.1]; decide) ?_
          rw [if_pos (by rw [y.1]; decide)] at k'; exact k'
        · refine br_t (by rw [ecl, y.2.1]) ?_
          rw [if_neg (lr_nlt.mpr y.1)] at k'
          refine lr_r (n := b + lr_n sN d) eb (by omega) (by omega) ?_
          rw [y.2.2.1]; exact k'
    by_cases h123 : code = 123
    · obtain ⟨e1, e2, e3, e4, hJ⟩ := lr_Iopen (s := -3) (o := 1) hC hpe (Or.inl ⟨rfl, rfl⟩) hI
      subst e1
      refine ⟨0, m, d + 1, -1, _, _, _, _, _, _, _, _, _, _, _, _, _, _, hJ, fun post k => ?_, fun post J k => hyc post J ?_⟩
      · unfold wpX_takeToken
        refine br_f hpe (br_t h123 ?_)
        exact lr_xopen hb8 (by omega) (by omega) k
      · rw [if_pos rfl] at k
        unfold wY_parse_153
        refine br_t h123 ?_
        refine lr_w rfl (by omega) (by omega) ?_
        refine lr_w (nI_add b (m - 1)) (by omega) (by omega) ?_
        unfold wY_parse_235 wY_parse_237
        exact br_f (by decide) (nm_r (nI_1 i) k)
    · by_cases hcol : col ≤ lr_ic d sM
      · obtain ⟨e1, e3, e4, hJ⟩ := lr_Iun (v := -2) (w := 2) hC hpe hI
        subst e1
        obtain ⟨r, m', d', pe', nk', np', nf', nn', nc', nz', sN', sM', sI', lc', mk', cl', op', it', hI', hX, hY⟩ := lr_jmid (i := i) (col := col) (al := 1) (tl := tl) (tb := tb) (ss := ss) (os := os) (ds := ds) (dy := dy) (er := er) (so := so) (ou := ou) (dr := dr) (dq := dq) (ts := ts) (ib := ib) hC hc hb hok hnb h0 hJ
        refine ⟨r, m', d', pe', nk', np', nf', nn', nc', nz', sN', sM', sI', lc', mk', cl', op', it', hI', fun post k => ?_, fun post J k => hyc post J ?_⟩
        · unfold wpX_takeToken
          refine br_f hpe (br_f h123 ?_)
          refine lr_xinn (by omega) (br_t hcol ?_)
          exact lr_xunop hb8 (by omega) (hX post k)
        · unfold wY_parse_153
          refine br_f h123 (br_t hcol ?_)
          refine lr_w (nI_add b (m - 1)) (by omega) (by omega) ?_
          refine lr_w (nI_add b (m - 1)) (by omega) (by omega) ?_
          unfold wY_parse_235
          exact hY post J k
      · obtain ⟨e1, e2, e3, e4, hJ⟩ := lr_Iopen (s := col) (o := 2) hC hpe (Or.inr ⟨h0, rfl⟩) hI
        subst e1
        obtain ⟨r, m', d', pe', nk', np', nf', nn', nc', nz', sN', sM', sI', lc', mk', cl', op', it', hI', hX, hY⟩ := lr_jmid (i := i) (col := col) (al := 0) (tl := tl) (tb := tb) (ss := ss) (os := os) (ds := ds) (dy := dy) (er := er) (so := so) (ou := ou) (dr := dr) (dq := dq) (ts := ts) (ib := ib) hC hc hb hok hnb h0 hJ
        refine ⟨r, m', d', pe', nk', np', nf', nn', nc', nz', sN', sM', sI', lc', mk', cl', op', it', hI', fun post k => ?_, fun post J k => hyc post J ?_⟩
        · unfold wpX_takeToken
          refine br_f hpe (br_f h123 ?_)
          refine lr_xinn (by omega) (br_f hcol ?_)
          exact lr_xopen hb8 (by omega) (by omega) (hX post k)
        · unfold wY_parse_153
          refine br_f h123 (br_f hcol ?_)
          refine lr_w rfl (by omega) (by omega) ?_
          refine lr_w (nI_add b (m - 1)) (by omega) (by omega) ?_
          unfold wY_parse_235
          exact hY post J k
end TT
end
section
/-! columns, the flag, the loop -/
def lr_co (so : Nat → Int32) (TB : Nat) : Nat → Nat
  | 0 => 0
  | i + 1 => if so i = 10 then 0 else if so i = 9 then (lr_co so TB i / TB + 1) * TB else lr_co so TB i + 1
theorem lr_cob {so : Nat → Int32} {TB : Nat} (h8 : TB ≤ 8) : ∀ i, lr_co so TB i ≤ 8 * i := by
  intro i
  induction i with
  | zero => exact Nat.le_refl _
  | succ i ih =>
    rw [lr_co]
    by_cases h1 : so i = 10
    · rw [if_pos h1]; omega
    · rw [if_neg h1]
      by_cases h2 : so i = 9
      · rw [if_pos h2, Nat.add_mul]
        have := Nat.div_mul_le_self (lr_co so TB i) TB
        omega
      · rw [if_neg h2]; omega
def lr_fi (so : Nat → Int32) : Nat → Int32
  | 0 => 1
  | i + 1 => if so i = 10 then 1 else if lr_bl (so i) then lr_fi so i else 0
theorem lr_tab {x TB : Nat} (h1 : 1 ≤ TB) (h8 : TB ≤ 8) (hx : x < 100000) : (nI x / nI TB + 1) * nI TB = nI ((x / TB + 1) * TB) := by
  rw [lr_div (by omega) (by omega) (by omega), nI_1, lr_mul]
section LP
variable {tl nl dl tb ss os ds dy cu ba er de pe ma : Int32} {so ou dr dq ts nk np nf nn nc nz sN sM sI lc ib mk cl ct op it : Nat → Int32}
variable {T NL DL TB S O c i : Nat}
theorem lr_xcol {post : Int32 → Prop} (h1 : 1 ≤ TB) (h8 : TB ≤ 8) (hi : i < 256) (k : post (nI (lr_co so TB (i + 1)))) : wpX_columnAfter post (tl, nl, dl, nI TB, ss, os, ds, cu, ba, er, de, pe, ma, so, ou, dr, ts, nk, np, nf, nn, nc, nz, sN, sM, sI, lc, ib) (so i) (nI (lr_co so TB i)) := by
  have hb := lr_cob (so := so) h8 i
  rw [lr_co] at k
  unfold wpX_columnAfter
  by_cases e1 : so i = 10
  · rw [if_pos e1] at k; exact br_t e1 k
  · rw [if_neg e1] at k
    refine br_f e1 ?_
    by_cases e2 : so i = 9
    · rw [if_pos e2] at k
      refine br_t e2 (br_f (nI_nle (by omega) (by omega)) ⟨nI_ne0 (by omega) (by omega), ?_⟩)
      rw [lr_tab h1 h8 (by omega)]; exact k
    · rw [if_neg e2] at k
      refine br_f e2 ?_
      rw [nI_1]; exact k
theorem lr_ycol_ {post : Int32 → Prop} (h1 : 1 ≤ TB) (h8 : TB ≤ 8) (hi : i ≤ 256) (k : post (nI (lr_co so TB i))) : ∀ t j n : Nat, j + t = i → t < n → wY_column_4 post (nI i) tl nl dl (nI TB) ss os dy cu er so ou dq nk np mk cl ct op it n (nI (lr_co so TB j)) (nI j) := by
  intro t
  induction t with
  | zero =>
    intro j n hj hn
    obtain ⟨n, rfl⟩ : ∃ n', n = n' + 1 := ⟨n - 1, by omega⟩
    rw [wY_column_4]
    have : j = i := by omega
    subst this
    exact br_t (nI_le (by omega) (by omega)) k
  | succ t ih =>
    intro j n hj hn
    obtain ⟨n, rfl⟩ : ∃ n', n = n' + 1 := ⟨n - 1, by omega⟩
    have hb := lr_cob (so := so) h8 j
    have K := ih (j + 1) n (by omega) (by omega)
    rw [lr_co] at K
    rw [wY_column_4]
    refine br_f (nI_ge (by omega) (by omega)) ⟨vp_in_nI (by omega) (by omega), ?_⟩
    rw [nI_clamp (show j < 2 ^ 31 by omega)]
    by_cases e1 : so j = 10
    · rw [if_pos e1] at K
      exact br_t e1 (nm_r (nI_1 j) K)
    · rw [if_neg e1] at K
      refine br_f e1 ⟨vp_in_nI (by omega) (by omega), ?_⟩
      by_cases e2 : so j = 9
      · rw [if_pos e2] at K
        exact br_t e2 ⟨nI_ne0 (by omega) (by omega), nm_r (lr_tab h1 h8 (by omega)) (nm_r (nI_1 j) K)⟩
      · rw [if_neg e2] at K
        exact br_f e2 (nm_r (nI_1 _) (nm_r (nI_1 j) K))
theorem lr_ycol {post : Int32 → Prop} (h1 : 1 ≤ TB) (h8 : TB ≤ 8) (hi : i ≤ 256) (k : post (nI (lr_co so TB i))) : wpY_column post (tl, nl, dl, nI TB, ss, os, dy, cu, er, so, ou, dq, nk, np, mk, cl, ct, op, it) (nI i) := by
  unfold wpY_column
  exact ⟨i + 1, lr_ycol_ h1 h8 hi k i 0 (i + 1) (by omega) (by omega)⟩
theorem lr_yfi_ {post : Int32 → Prop} : ∀ j n : Nat, j ≤ 256 → j < n → post (lr_fi so j) → wY_firstOnLine_4 post tl nl dl tb ss os dy cu er so ou dq nk np mk cl ct op it n (lr_lv j) := by
  intro j
  induction j with
  | zero =>
    intro n _ hn k
    obtain ⟨n, rfl⟩ : ∃ n', n = n' + 1 := ⟨n - 1, by omega⟩
    rw [wY_firstOnLine_4]
    exact br_t lr_n1 k
  | succ j ih =>
    intro n h8 hn k
    obtain ⟨n, rfl⟩ : ∃ n', n = n' + 1 := ⟨n - 1, by omega⟩
    rw [lr_fi] at k
    rw [wY_firstOnLine_4, show lr_lv (j + 1) = nI j from rfl]
    refine br_f (nI_pos (by omega)) ⟨vp_in_nI (by omega) (by omega), ?_⟩
    rw [nI_clamp (show j < 2 ^ 31 by omega)]
    by_cases e1 : so j = 10
    · rw [if_pos e1] at k; exact br_t e1 k
    · rw [if_neg e1] at k
      refine br_f e1 ⟨vp_in_nI (by omega) (by omega), ?_⟩
      refine lr_yblk (fun w => ?_) (fun w => ?_)
      · rw [if_pos w] at k
        exact br_f (by decide) (nm_r (lr_lvm j) (ih n (by omega) (by omega) k))
      · rw [if_neg w] at k
        exact br_t rfl k
theorem lr_yfi {post : Int32 → Prop} (hi : i ≤ 256) (k : post (lr_fi so i)) : wpY_firstOnLine post (tl, nl, dl, tb, ss, os, dy, cu, er, so, ou, dq, nk, np, mk, cl, ct, op, it) (nI i) := by
  unfold wpY_firstOnLine
  exact nm_r (lr_lvd i) ⟨i + 1, lr_yfi_ i (i + 1) hi (by omega) k⟩
theorem lr_x60 {post : Int32 → SX → Prop} {J : Int32 → Int32 → Int32 → Int32 → Int32 → Int32 → Int32 → Int32 → Int32 → Int32 → Int32 → Int32 → Int32 → Int32 → Int32 → Int32 → (Nat → Int32) → (Nat → Int32) → (Nat → Int32) → (Nat → Int32) → (Nat → Int32) → (Nat → Int32) → (Nat → Int32) → (Nat → Int32) → (Nat → Int32) → (Nat → Int32) → (Nat → Int32) → (Nat → Int32) → (Nat → Int32) → (Nat → Int32) → (Nat → Int32) → Prop} {x : Int32} (h1 : 1 ≤ TB) (h8 : TB ≤ 8) (hi : i < 256)
    (k : J (nI (lr_co so TB (i + 1))) (if so i = 10 then 1 else x) (nI (i + 1)) tl nl dl (nI TB) ss os ds cu ba er de pe ma so ou dr ts nk np nf nn nc nz sN sM sI lc ib) : wX_parse_60 post J (nI (lr_co so TB i)) x (nI i) (so i) tl nl dl (nI TB) ss os ds cu ba er de pe ma so ou dr ts nk np nf nn nc nz sN sM sI lc ib := by
  unfold wX_parse_60 wX_parse_69
  by_cases e : so i = 10
  · rw [if_pos e] at k
    exact br_t e (lr_xcol h1 h8 hi (nm_r (nI_1 i) k))
  · rw [if_neg e] at k
    exact br_f e (lr_xcol h1 h8 hi (nm_r (nI_1 i) k))
end LP
section EN
variable {tl nl dl tb ss os ds dy cu ba er de pe ma : Int32} {so ou dr dq ts nk np nf nn nc nz sN sM sI lc ib mk cl ct op it : Nat → Int32}
variable {T NL DL TB S O c m d n2 : Nat}
/-- both end, with one answer, in related states -/
def lr_out (WX : (Int32 → SX → Prop) → Prop) (WY : (Int32 → SY → Prop) → Prop) : Prop :=
  ∃ (r : Int32) (u : SX) (v : SY), i_Rel 0 u v ∧ (∀ post : Int32 → SX → Prop, post r u → WX post) ∧ (∀ post : Int32 → SY → Prop, post r v → WY post)
theorem lr_C0 {T NL DL TB S O c : Nat} {so ou : Nat → Int32} (h : lr_K0 T NL DL TB S O c so ou) : lr_C (c * 128) ((1 - c) * 128) NL DL := by
  obtain ⟨h1, h2, h3, h4, h5, h6, h7, _⟩ := h
  refine ⟨h2.2, h3.2, ?_⟩
  omega
end EN
section EE
variable {tl nl dl tb ss os ds dy cu ba er de pe ma : Int32} {so ou dr dq ts nk np nf nn nc nz sN sM sI lc ib mk cl ct op it : Nat → Int32}
variable {b b2 n2 c m d NL DL : Nat}
/-- the end of the text, nothing pending -/
theorem lr_jend0 (hC : lr_C b b2 NL DL) (hc : c < 2) (hb : b = c * 128) (hI : lr_I b b2 n2 NL DL m d (-1) nk np nf nn nc nz sN sM sI lc mk cl op it) :
    ∃ (e : Nat) (nz' cl' op' : Nat → Int32), lr_I b b2 n2 NL DL m e (-1) nk np nf nn nc nz' sN sM sI lc mk cl' op' it ∧
      (∀ post : SX → Prop, post (tl, nI NL, nI DL, tb, ss, os, ds, nI c, nI b, er, nI e, -1, nI m, so, ou, dr, upd ts c 0, nk, np, nf, nn, nc, nz', sN, sM, sI, lc, ib) → wX_finishAtEnd_22 post tl (nI NL) (nI DL) tb ss os ds (nI c) (nI b) er (nI d) (-1) (nI m) so ou dr (upd ts c 0) nk np nf nn nc nz sN sM sI lc ib) ∧
      (∀ post : Int32 → SY → Prop, (e = 0 → post 0 (tl, nI NL, nI DL, tb, ss, os, dy, nI c, -1, so, ou, dq, nk, np, mk, cl', upd ts c (nI m), op', it)) → (0 < e → post 7 (tl, nI NL, nI DL, tb, ss, os, dy, nI c, ss, so, ou, dq, nk, np, mk, cl', upd ts c 0, op', it)) → wY_parse_323 post 0 (-1) tl (nI NL) (nI DL) tb ss os dy (nI c) er so ou dq nk np mk cl (upd ts c (nI m)) op it) := by
  obtain ⟨e, t, rfl, hj, hx⟩ := lr_cut (fun j => 0 ≤ sM j) d
  have hb8 := lr_c2 hC hc hb
  have hS := hI.2.2.2.2.1
  have hm8 := hI.1.2.1
  have hd : e + t ≤ 24 := by
    have h1 := hI.2.2.2.2.2.2.2.1
    have h2 := hC.2.1
    omega
  have hjx : ∀ j, e ≤ j → j < e + t → ¬ sM j = -1 ∧ sN j = nI (lr_n sN j) ∧ lr_n sN j < 128 := by
    intro j j1 j2
    obtain ⟨a1, a2, _⟩ := hS.1 j j2
    exact ⟨lr_pne1 (hj j j1 j2), a1, by omega⟩
  have hjy : ∀ j, e ≤ j → j < e + t → 0 ≤ sM j ∧ ¬ sM j ≤ -1 := fun j j1 j2 => ⟨hj j j1 j2, lr_neg1.mpr (hj j j1 j2)⟩
  have hxy : e = 0 ∨ (0 < e ∧ ¬ (0 ≤ sM (e - 1) ∧ ¬ sM (e - 1) ≤ -1)) := by
    rcases hx with hx | hx
    · exact Or.inl hx
    · exact Or.inr ⟨hx.1, fun w => hx.2 w.1⟩
  have hI' := lr_Ipops (v := 4) hC t nz cl op hI
  have hS' := hI'.2.2.2.2.1
  refine ⟨e, _, _, _, hI', fun post k => ?_, fun post k0 k1 => ?_⟩
  · unfold wX_finishAtEnd_22
    refine lr_xnear hd hx hj ?_
    exact lr_xclose hb8 hd hjx k
  · unfold wY_parse_323
    refine lr_ypi hc hb hm8 hxy hS hjy ?_
    refine lr_yinn hm8 hS' ?_
    cases e with
    | zero =>
      refine br_t lr_n1 ?_
      unfold wY_parse_345
      exact br_t rfl (k0 rfl)
    | succ e =>
      obtain ⟨a1, a2, _⟩ := hS'.1 e (by omega)
      refine br_f (nI_pos (n := lr_n sN e) (by omega)) ?_
      unfold wY_parse_345
      refine br_f (by decide) ?_
      refine lr_w (n := c) rfl hc (by omega) ?_
      rw [lr_uu]; exact k1 (by omega)
/-- the end of the text -/
theorem lr_jend (hC : lr_C b b2 NL DL) (hc : c < 2) (hb : b = c * 128) (hI : lr_I b b2 n2 NL DL m d pe nk np nf nn nc nz sN sM sI lc mk cl op it) :
    ∃ (e : Nat) (nc' nz' mk' cl' op' : Nat → Int32), lr_I b b2 n2 NL DL m e (-1) nk np nf nn nc' nz' sN sM sI lc mk' cl' op' it ∧
      (∀ post : SX → Prop, post (tl, nI NL, nI DL, tb, ss, os, ds, nI c, nI b, er, nI e, -1, nI m, so, ou, dr, upd ts c 0, nk, np, nf, nn, nc', nz', sN, sM, sI, lc, ib) → wpX_finishAtEnd post (tl, nI NL, nI DL, tb, ss, os, ds, nI c, nI b, er, nI d, pe, nI m, so, ou, dr, upd ts c 0, nk, np, nf, nn, nc, nz, sN, sM, sI, lc, ib)) ∧
      (∀ post : Int32 → SY → Prop, (e = 0 → post 0 (tl, nI NL, nI DL, tb, ss, os, dy, nI c, -1, so, ou, dq, nk, np, mk', cl', upd ts c (nI m), op', it)) → (0 < e → post 7 (tl, nI NL, nI DL, tb, ss, os, dy, nI c, ss, so, ou, dq, nk, np, mk', cl', upd ts c 0, op', it)) → wY_parse_296 post (nI b) pe 0 (-1) tl (nI NL) (nI DL) tb ss os dy (nI c) er so ou dq nk np mk cl (upd ts c (nI m)) op it) := by
  have hb8 := lr_c2 hC hc hb
  by_cases hpe : pe = -1
  · subst hpe
    obtain ⟨e, nz', cl', op', hI', hX, hY⟩ := lr_jend0 (tl := tl) (tb := tb) (ss := ss) (os := os) (ds := ds) (dy := dy) (er := er) (so := so) (ou := ou) (dr := dr) (dq := dq) (ts := ts) (ib := ib) hC hc hb hI
    refine ⟨e, nc, nz', mk, cl', op', hI', fun post k => ?_, fun post k0 k1 => ?_⟩
    · unfold wpX_finishAtEnd
      exact br_t rfl (hX post k)
    · unfold wY_parse_296
      exact br_t rfl (br_t lr_n1 (hY post k0 k1))
  · obtain ⟨e1, e3, e4, hJ⟩ := lr_Iun (v := -2) (w := 4) hC hpe hI
    subst e1
    obtain ⟨e, nz', cl', op', hI', hX, hY⟩ := lr_jend0 (tl := tl) (tb := tb) (ss := ss) (os := os) (ds := ds) (dy := dy) (er := er) (so := so) (ou := ou) (dr := dr) (dq := dq) (ts := ts) (ib := ib) hC hc hb hJ
    refine ⟨e, _, nz', _, cl', op', hI', fun post k => ?_, fun post k0 k1 => ?_⟩
    · unfold wpX_finishAtEnd
      refine br_f hpe ?_
      exact lr_xunop hb8 (by omega) (hX post k)
    · unfold wY_parse_296
      refine br_t rfl (br_f (nI_pos (by omega)) ?_)
      refine lr_w (nI_add _ _) (by omega) (by omega) ?_
      exact lr_w (nI_add _ _) (by omega) (by omega) (hY post k0 k1)
end EE
end
section
/-! the loop over the text -/
section ML
variable {T NL DL TB S O c n2 : Nat} {ds dy er : Int32} {so ou dr dq ts ib : Nat → Int32}
theorem lr_jloop (hK : lr_K0 T NL DL TB S O c so ou) (hts : ts (1 - c) = nI n2) : ∀ (t i m d : Nat) (pe : Int32) (nk np nf nn nc nz sN sM sI lc mk cl op it : Nat → Int32), i + t = S →
    lr_I (c * 128) ((1 - c) * 128) n2 NL DL m d pe nk np nf nn nc nz sN sM sI lc mk cl op it →
    lr_out (fun post => wX_parse_10 post (t + 1) (nI (lr_co so TB i)) (lr_fi so i) (nI i) (nI T) (nI NL) (nI DL) (nI TB) (nI S) (nI O) ds (nI c) (nI (c * 128)) er (nI d) pe (nI m) so ou dr (upd ts c 0) nk np nf nn nc nz sN sM sI lc ib)
      (fun post => wY_parse_63 post (nI (c * 128)) (t + 1) pe 0 (-1) (nI i) (nI T) (nI NL) (nI DL) (nI TB) (nI S) (nI O) dy (nI c) er so ou dq nk np mk cl (upd ts c (nI m)) op it) := by
  have hC := lr_C0 hK
  have hKK := hK
  obtain ⟨hT, hNL, hDL, hTB, hST, hOT, hc, hso, hou⟩ := hKK
  intro t
  induction t with
  | zero =>
    intro i m d pe nk np nf nn nc nz sN sM sI lc mk cl op it hi hI
    have hiS : S = i := by omega
    subst hiS
    obtain ⟨e, nc', nz', mk', cl', op', hI', hX, hY⟩ := lr_jend (tl := nI T) (tb := nI TB) (ss := nI S) (os := nI O) (ds := ds) (dy := dy) (er := er) (so := so) (ou := ou) (dr := dr) (dq := dq) (ts := ts) (ib := ib) hC hc rfl hI
    have hO' := hI'.2.2.2.2.2.2.2.2
    have hle : nI S ≤ nI S := nI_le (Nat.le_refl S) (by omega)
    have hdl : e ≤ DL := hI'.2.2.2.2.2.2.2.1
    cases e with
    | zero =>
      refine ⟨0, (nI T, nI NL, nI DL, nI TB, nI S, nI O, ds, nI c, nI (c * 128), -1, nI 0, -1, nI m, so, ou, dr, upd ts c (nI m), nk, np, nf, nn, nc', nz', sN, sM, sI, lc, ib), (nI T, nI NL, nI DL, nI TB, nI S, nI O, dy, nI c, -1, so, ou, dq, nk, np, mk', cl', upd ts c (nI m), op', it), lr_ri ⟨hK, lr_slots hc (lr_Iend hI') hO' hts⟩, fun post k => ?_, fun post k => ?_⟩
      · dsimp only; rw [wX_parse_10]
        refine br_t hle (hX _ ?_)
        refine br_t (by decide) ?_
        refine lr_w (n := c) rfl hc (by omega) ?_
        rw [lr_uu]; exact k
      · dsimp only; rw [wY_parse_63]
        exact br_t hle (hY post (fun _ => k) (fun w => absurd w (by omega)))
    | succ e =>
      refine ⟨7, (nI T, nI NL, nI DL, nI TB, nI S, nI O, ds, nI c, nI (c * 128), nI S, nI (e + 1), -1, nI m, so, ou, dr, upd ts c (nI 0), nk, np, nf, nn, nc', nz', sN, sM, sI, lc, ib), (nI T, nI NL, nI DL, nI TB, nI S, nI O, dy, nI c, nI S, so, ou, dq, nk, np, mk', cl', upd ts c (nI 0), op', it), lr_ri ⟨hK, lr_slots hc (Or.inl rfl) hO' hts⟩, fun post k => ?_, fun post k => ?_⟩
      · dsimp only; rw [wX_parse_10]
        refine br_t hle (hX _ ?_)
        exact br_f (nI_nle (by omega) (by omega)) k
      · dsimp only; rw [wY_parse_63]
        exact br_t hle (hY post (fun w => absurd w (by omega)) (fun _ => k))
  | succ t ih =>
    intro i m d pe nk np nf nn nc nz sN sM sI lc mk cl op it hi hI
    have hiS : ¬ nI S ≤ nI i := nI_ge (by omega) (by omega)
    have hin : vp_in (nI i) 256 := vp_in_nI (by omega) (by omega)
    have ecl : so (nI i).toNatClampNeg = so i := by rw [nI_clamp (by omega)]
    by_cases hbl : lr_bl (so i)
    · obtain ⟨r, u, v, hR, hX, hY⟩ := ih (i + 1) m d pe nk np nf nn nc nz sN sM sI lc mk cl op it (by omega) hI
      refine ⟨r, u, v, hR, fun post k => ?_, fun post k => ?_⟩
      · dsimp only; rw [wX_parse_10]
        refine br_f hiS ⟨hin, nm_r ecl ?_⟩
        refine lr_xblk (fun _ => br_f (by decide) ?_) (fun w => absurd hbl w)
        refine lr_x60 hTB.1 hTB.2 (by omega) ?_
        have e1 : (if so i = 10 then 1 else lr_fi so i) = lr_fi so (i + 1) := by rw [lr_fi, if_pos hbl]
        rw [e1]; exact hX post k
      · dsimp only; rw [wY_parse_63]
        refine br_f hiS (br_t rfl ⟨hin, nm_r ecl ?_⟩)
        refine lr_yblk (fun _ => br_f (by decide) ?_) (fun w => absurd hbl w)
        exact nm_r (nI_1 i) (hY post k)
    · have hcol : (0 : Int32) ≤ nI (lr_co so TB i) := nI_pos' (by have := lr_cob (so := so) hTB.2 i; omega)
      obtain ⟨r, m', d', pe', nk', np', nf', nn', nc', nz', sN', sM', sI', lc', mk', cl', op', it', hI', hX, hY⟩ := lr_jtake (i := i) (col := nI (lr_co so TB i)) (fst := lr_fi so i) (tl := nI T) (tb := nI TB) (ss := nI S) (os := nI O) (ds := ds) (dy := dy) (er := er) (so := so) (ou := ou) (dr := dr) (dq := dq) (ts := ts) (ib := ib) hC hc rfl (hso i (by omega)) hbl hcol hI
      have hYw : ∀ post : Int32 → SY → Prop, wY_parse_63 post (nI (c * 128)) (t + 1) pe' r (if r = 0 then -1 else nI i) (nI (i + 1)) (nI T) (nI NL) (nI DL) (nI TB) (nI S) (nI O) dy (nI c) er so ou dq nk' np' mk' cl' (upd ts c (nI m')) op' it' →
          wY_parse_63 post (nI (c * 128)) (t + 1 + 1) pe 0 (-1) (nI i) (nI T) (nI NL) (nI DL) (nI TB) (nI S) (nI O) dy (nI c) er so ou dq nk np mk cl (upd ts c (nI m)) op it := by
        intro post k
        rw [wY_parse_63]
        refine br_f hiS (br_t rfl ⟨hin, nm_r ecl ?_⟩)
        refine lr_yblk (fun w => absurd w hbl) (fun _ => br_t rfl ?_)
        refine lr_ycol hTB.1 hTB.2 (by omega) ?_
        refine lr_yfi (by omega) ?_
        exact hY post _ k
      by_cases hr : r = 0
      · subst hr
        rw [if_pos rfl] at hYw
        obtain ⟨r2, u2, v2, hR2, hX2, hY2⟩ := ih (i + 1) m' d' pe' nk' np' nf' nn' nc' nz' sN' sM' sI' lc' mk' cl' op' it' (by omega) hI'
        refine ⟨r2, u2, v2, hR2, fun post k => ?_, fun post k => hYw post (hY2 post k)⟩
        dsimp only; rw [wX_parse_10]
        refine br_f hiS ⟨hin, nm_r ecl ?_⟩
        refine lr_xblk (fun w => absurd w hbl) (fun _ => br_t rfl ?_)
        refine hX _ ?_
        refine br_t rfl ?_
        refine lr_x60 hTB.1 hTB.2 (by omega) ?_
        have e0 : ¬ so i = 10 := fun w => hbl (Or.inr (Or.inr w))
        have e1 : (if so i = 10 then 1 else (0 : Int32)) = lr_fi so (i + 1) := by rw [lr_fi, if_neg hbl]
        rw [e1]; exact hX2 post k
      · rw [if_neg hr] at hYw
        have hO' := hI'.2.2.2.2.2.2.2.2
        refine ⟨r, (nI T, nI NL, nI DL, nI TB, nI S, nI O, ds, nI c, nI (c * 128), nI i, nI d', pe', nI m', so, ou, dr, upd ts c (nI 0), nk', np', nf', nn', nc', nz', sN', sM', sI', lc', ib), (nI T, nI NL, nI DL, nI TB, nI S, nI O, dy, nI c, nI i, so, ou, dq, nk', np', mk', cl', upd ts c (nI 0), op', it'), lr_ri ⟨hK, lr_slots hc (Or.inl rfl) hO' hts⟩, fun post k => ?_, fun post k => hYw post ?_⟩
        · dsimp only; rw [wX_parse_10]
          refine br_f hiS ⟨hin, nm_r ecl ?_⟩
          refine lr_xblk (fun w => absurd w hbl) (fun _ => br_t rfl ?_)
          refine hX _ ?_
          exact br_f hr k
        · have k2 : wY_parse_296 post (nI (c * 128)) pe' r (nI i) (nI T) (nI NL) (nI DL) (nI TB) (nI S) (nI O) dy (nI c) er so ou dq nk' np' mk' cl' (upd ts c (nI m')) op' it' := by
            unfold wY_parse_296
            refine br_f hr ?_
            unfold wY_parse_345
            refine br_f hr ?_
            refine lr_w (n := c) rfl hc (by omega) ?_
            rw [lr_uu]; exact k
          rw [wY_parse_63]
          exact br_c (fun _ => k2) (fun _ => br_f hr k2)
end ML
section PS
variable {tl nl dl tb ss os ds dy cu ba er de pe ma : Int32} {so ou dr dq ts nk np nf nn nc nz sN sM sI lc ib mk cl ct op it : Nat → Int32}
variable {T NL DL TB S O c : Nat}
/-- the reference's arrays made empty -/
theorem lr_yini_ {post : Int32 → SY → Prop} {x : Int32} (K : ∀ n : Nat, wY_parse_11 post x tl nl dl tb ss os dy cu er (n + 1) (nI 128) so ou dq nk np mk cl ct (lr_cp (fun _ => 0) 128 op) (lr_cp (fun _ => -1) 128 it)) :
    ∀ t k n : Nat, k + t = 128 → t < n → wY_parse_11 post x tl nl dl tb ss os dy cu er n (nI k) so ou dq nk np mk cl ct (lr_cp (fun _ => 0) k op) (lr_cp (fun _ => -1) k it) := by
  intro t
  induction t with
  | zero =>
    intro k n hk hn
    obtain ⟨n, rfl⟩ : ∃ n', n = n' + 1 := ⟨n - 1, by omega⟩
    have : k = 128 := by omega
    subst this
    exact K n
  | succ t ih =>
    intro k n hk hn
    obtain ⟨n, rfl⟩ : ∃ n', n = n' + 1 := ⟨n - 1, by omega⟩
    rw [wY_parse_11]
    refine br_f (nI_ge (b := 128) (by omega) (by omega)) ?_
    refine lr_w (n := k) rfl (by omega) (by omega) ?_
    refine lr_w (n := k) rfl (by omega) (by omega) ?_
    refine nm_r (nI_1 k) ?_
    have e1 : upd (lr_cp (fun _ => 0) k op) k 0 = lr_cp (fun _ => 0) (k + 1) op := lr_cps
    have e2 : upd (lr_cp (fun _ => -1) k it) k (-1) = lr_cp (fun _ => -1) (k + 1) it := lr_cps
    rw [e1, e2]
    exact ih (k + 1) n (by omega) (by omega)
theorem lr_parse (h : lr_RF T NL DL TB S O c so ou ts nk np nf nn nc nz mk cl) : lr_out (fun post => wpX_parse post (nI T, nI NL, nI DL, nI TB, nI S, nI O, ds, nI c, nI (c * 128), er, de, pe, ma, so, ou, dr, ts, nk, np, nf, nn, nc, nz, sN, sM, sI, lc, ib)) (fun post => wpY_parse post (nI T, nI NL, nI DL, nI TB, nI S, nI O, dy, nI c, er, so, ou, dq, nk, np, mk, cl, ts, op, it)) := by
  obtain ⟨hK, hsl⟩ := h
  have hc : c < 2 := hK.2.2.2.2.2.2.1
  have hC := lr_C0 hK
  have hb8 := lr_c2 hC hc rfl
  obtain ⟨n2, hts, hO⟩ := hsl (1 - c) (by omega)
  have hNL := hK.2.1
  have hDL := hK.2.2.1
  have ho : ∀ k, k < 128 → lr_cp (fun _ => 0) 128 op k = 0 ∧ lr_cp (fun _ => -1) 128 it k = -1 := fun k hk => ⟨if_pos hk, if_pos hk⟩
  have hI0 := lr_I0 (sN := sN) (sM := sM) (sI := sI) (lc := lc) hC (show 1 ≤ NL by omega) (show 1 ≤ DL by omega) ho hO
  obtain ⟨r, u, v, hR, hX, hY⟩ := lr_jloop (ds := ds) (dy := dy) (er := er) (dr := dr) (dq := dq) (ib := ib) hK hts S 0 1 0 (nI 0) _ _ _ _ _ _ _ _ _ _ _ _ _ _ (by omega) hI0
  refine ⟨r, u, v, hR, fun post k => ?_, fun post k => ?_⟩
  · unfold wpX_parse wpX_beginTree
    refine lr_w (n := c) rfl hc (by omega) ?_
    refine lr_xmake0 hb8 ?_
    exact ⟨S + 1, hX post k⟩
  · unfold wpY_parse
    refine nm_r (lr_128 c) ⟨129, ?_⟩
    refine lr_yini_ (fun n => ?_) 128 0 129 (by omega) (by omega)
    rw [wY_parse_11]
    refine br_t (nI_le (a := 128) (b := 128) (by omega) (by omega)) ?_
    refine lr_w (n := c) rfl hc (by omega) ?_
    refine lr_yadd (m := 0) hc rfl (by omega) lr_us ?_
    rw [lr_uu]
    exact ⟨S + 1, hY post k⟩
end PS
end
section
/-! the source: put, newLine, adopt -/
def lr_by (x : Int64) (i : Int32) : Int32 := (((x.toUInt64 >>> ((8 * i).toInt64.toUInt64 &&& Int64.toUInt64 63)).toInt64).toInt32) &&& 255
def lr_ap (f : Nat → Int32) (S : Nat) (so : Nat → Int32) : Nat → (Nat → Int32)
  | 0 => so
  | i + 1 => upd (lr_ap f S so i) (S + i) (f i)
theorem lr_apk {f so : Nat → Int32} {S : Nat} (hS : ∀ j, j < S → lr_ok (so j)) : ∀ i, (∀ j, j < i → lr_ok (f j)) → ∀ j, j < S + i → lr_ok (lr_ap f S so i j) := by
  intro i
  induction i with
  | zero => intro _ j hj; exact hS j hj
  | succ i ih =>
    intro hf j hj
    rw [lr_ap]
    by_cases z : j = S + i
    · rw [z, lr_us]; exact hf i (by omega)
    · rw [lr_un z]; exact ih (fun j w => hf j (by omega)) j (by omega)
section SR
variable {tl nl dl tb ss os ds dy cu ba er de pe ma : Int32} {so ou dr dq ts nk np nf nn nc nz sN sM sI lc ib mk cl ct op it : Nat → Int32}
variable {T S L i0 : Nat} {x : Int64}
theorem lr_xapp {post : SX → Prop} {v : Int32} (hS : S < T) (hT : T ≤ 256) (k : post (nI T, nl, dl, tb, nI (S + 1), os, ds, cu, ba, er, de, pe, ma, upd so S v, ou, dr, ts, nk, np, nf, nn, nc, nz, sN, sM, sI, lc, ib)) : wpX_appendSource post (nI T, nl, dl, tb, nI S, os, ds, cu, ba, er, de, pe, ma, so, ou, dr, ts, nk, np, nf, nn, nc, nz, sN, sM, sI, lc, ib) v := by
  unfold wpX_appendSource
  refine br_f (nI_ge hS (by omega)) ?_
  refine lr_w rfl (by omega) (by omega) ?_
  exact nm_r (nI_1 S) k
theorem lr_xpl {post : Int32 → Prop} (hL : L ≤ 8) (hne : ∀ i, i < L → ¬ lr_by x (nI i) = 0) (hz : L = 8 ∨ lr_by x (nI L) = 0) (k : post (nI L)) : ∀ t i n : Nat, i + t = L → t < n → wX_packedLength_2 post x tl nl dl tb ss os ds cu ba er de pe ma so ou dr ts nk np nf nn nc nz sN sM sI lc ib n (nI i) := by
  intro t
  induction t with
  | zero =>
    intro i n hi hn
    obtain ⟨n, rfl⟩ : ∃ n', n = n' + 1 := ⟨n - 1, by omega⟩
    have : i = L := by omega
    subst this
    rw [wX_packedLength_2]
    by_cases h8 : i = 8
    · exact br_t (nI_le (a := 8) (by omega) (by omega)) k
    · refine br_f (nI_ge (b := 8) (by omega) (by omega)) ?_
      unfold wpX_byteOf
      refine br_t (show lr_by x (nI i) = 0 from ?_) k
      rcases hz with hz | hz
      · exact absurd hz h8
      · exact hz
  | succ t ih =>
    intro i n hi hn
    obtain ⟨n, rfl⟩ : ∃ n', n = n' + 1 := ⟨n - 1, by omega⟩
    rw [wX_packedLength_2]
    refine br_f (nI_ge (b := 8) (by omega) (by omega)) ?_
    unfold wpX_byteOf
    refine br_f (show ¬ lr_by x (nI i) = 0 from hne i (by omega)) ?_
    exact nm_r (nI_1 i) (ih (i + 1) n (by omega) (by omega))
theorem lr_xallow {post : Int32 → Prop} {u : SX} {c : Int32} (k1 : lr_ok c → post 1) (k0 : ¬ lr_ok c → post 0) : wpX_isAllowed post u c := by
  obtain ⟨u1, u2, u3, u4, u5, u6, u7, u8, u9, u10, u11, u12, u13, u14, u15, u16, u17, u18, u19, u20, u21, u22, u23, u24, u25, u26, u27, u28⟩ := u
  unfold wpX_isAllowed
  refine lr_xlet (fun h => br_f (by decide) (k1 (Or.inl h))) (fun h1 => br_t rfl ?_)
  refine lr_xblk (fun h => br_f (by decide) (k1 ?_)) (fun h2 => br_t rfl ?_)
  · rcases h with h | h | h
    · exact Or.inr (Or.inl h)
    · exact Or.inr (Or.inr (Or.inl h))
    · exact Or.inr (Or.inr (Or.inr (Or.inl h)))
  · refine br_c (fun e => k1 (by rw [e]; decide)) (fun e3 => ?_)
    refine br_c (fun e => k1 (by rw [e]; decide)) (fun e4 => ?_)
    refine br_c (fun e => k1 (by rw [e]; decide)) (fun e5 => ?_)
    refine br_c (fun e => k1 (by rw [e]; decide)) (fun e6 => ?_)
    refine br_c (fun e => k1 (by rw [e]; decide)) (fun e7 => ?_)
    refine br_c (fun e => k1 (by rw [e]; decide)) (fun e8 => ?_)
    refine br_c (fun e => k1 (by rw [e]; decide)) (fun e9 => k0 ?_)
    rintro (h | h | h | h | h | h | h | h | h | h | h)
    · exact h1 h
    · exact h2 (Or.inl h)
    · exact h2 (Or.inr (Or.inl h))
    · exact h2 (Or.inr (Or.inr h))
    · exact e3 h
    · exact e4 h
    · exact e5 h
    · exact e6 h
    · exact e7 h
    · exact e8 h
    · exact e9 h
theorem lr_yallow {post : Int32 → Prop} {v : SY} {c : Int32} (k1 : lr_ok c → post 1) (k0 : ¬ lr_ok c → post 0) : wpY_allowed post v c := by
  obtain ⟨v1, v2, v3, v4, v5, v6, v7, v8, v9, v10, v11, v12, v13, v14, v15, v16, v17, v18, v19⟩ := v
  unfold wpY_allowed
  refine lr_ylet (fun h => br_f (by decide) (k1 (Or.inl h))) (fun h1 => br_t rfl ?_)
  refine lr_yblk (fun h => br_f (by decide) (k1 ?_)) (fun h2 => br_t rfl ?_)
  · rcases h with h | h | h
    · exact Or.inr (Or.inl h)
    · exact Or.inr (Or.inr (Or.inl h))
    · exact Or.inr (Or.inr (Or.inr (Or.inl h)))
  · refine br_c (fun e => k1 (by rw [e]; decide)) (fun e3 => ?_)
    refine br_c (fun e => k1 (by rw [e]; decide)) (fun e4 => ?_)
    refine br_c (fun e => k1 (by rw [e]; decide)) (fun e5 => ?_)
    refine br_c (fun e => k1 (by rw [e]; decide)) (fun e6 => ?_)
    refine br_c (fun e => k1 (by rw [e]; decide)) (fun e7 => ?_)
    refine br_c (fun e => k1 (by rw [e]; decide)) (fun e8 => ?_)
    refine br_c (fun e => k1 (by rw [e]; decide)) (fun e9 => k0 ?_)
    rintro (h | h | h | h | h | h | h | h | h | h | h)
    · exact h1 h
    · exact h2 (Or.inl h)
    · exact h2 (Or.inr (Or.inl h))
    · exact h2 (Or.inr (Or.inr h))
    · exact e3 h
    · exact e4 h
    · exact e5 h
    · exact e6 h
    · exact e7 h
    · exact e8 h
    · exact e9 h
theorem lr_xp61 {post : Int32 → SX → Prop} (hL : L ≤ 8) (hT : T ≤ 256) (hST : S + L ≤ T) (k : post (nI (S + L)) (nI T, nl, dl, tb, nI (S + L), os, ds, cu, ba, er, de, pe, ma, lr_ap (fun i => lr_by x (nI i)) S so L, ou, dr, ts, nk, np, nf, nn, nc, nz, sN, sM, sI, lc, ib)) :
    ∀ t i n : Nat, i + t = L → t < n → wX_put_61 post x (nI L) n (nI i) (nI T) nl dl tb (nI (S + i)) os ds cu ba er de pe ma (lr_ap (fun i => lr_by x (nI i)) S so i) ou dr ts nk np nf nn nc nz sN sM sI lc ib := by
  intro t
  induction t with
  | zero =>
    intro i n hi hn
    obtain ⟨n, rfl⟩ : ∃ n', n = n' + 1 := ⟨n - 1, by omega⟩
    have : i = L := by omega
    subst this
    rw [wX_put_61]
    exact br_t (nI_le (Nat.le_refl _) (by omega)) k
  | succ t ih =>
    intro i n hi hn
    obtain ⟨n, rfl⟩ : ∃ n', n = n' + 1 := ⟨n - 1, by omega⟩
    rw [wX_put_61]
    refine br_f (nI_ge (by omega) (by omega)) ?_
    unfold wpX_byteOf
    refine lr_xapp (by omega) hT ?_
    refine nm_r (nI_1 i) ?_
    exact ih (i + 1) n (by omega) (by omega)
/-- all characters allowed: the check passes -/
theorem lr_xp9 {post : Int32 → SX → Prop} (hL : L ≤ 8) (hok : ∀ i, i < L → lr_ok (lr_by x (nI i)))
    (k : ∀ n, wX_put_9 post x (nI L) tl nl dl tb ss os ds cu ba er de pe ma so ou dr ts nk np nf nn nc nz sN sM sI lc ib (n + 1) (nI L)) : ∀ t i n : Nat, i + t = L → t < n → wX_put_9 post x (nI L) tl nl dl tb ss os ds cu ba er de pe ma so ou dr ts nk np nf nn nc nz sN sM sI lc ib n (nI i) := by
  intro t
  induction t with
  | zero =>
    intro i n hi hn
    obtain ⟨n, rfl⟩ : ∃ n', n = n' + 1 := ⟨n - 1, by omega⟩
    have : i = L := by omega
    subst this
    exact k n
  | succ t ih =>
    intro i n hi hn
    obtain ⟨n, rfl⟩ : ∃ n', n = n' + 1 := ⟨n - 1, by omega⟩
    rw [wX_put_9]
    refine br_f (nI_ge (by omega) (by omega)) ?_
    unfold wpX_byteOf
    refine lr_xallow (c := lr_by x (nI i)) (fun _ => br_f (by decide) ?_) (fun w => absurd (hok i (by omega)) w)
    exact nm_r (nI_1 i) (ih (i + 1) n (by omega) (by omega))
theorem lr_xp9b {post : Int32 → SX → Prop} (hL : L ≤ 8) (hi0 : i0 < L) (hok : ∀ i, i < i0 → lr_ok (lr_by x (nI i))) (hb : ¬ lr_ok (lr_by x (nI i0)))
    (k : post (-3) (tl, nl, dl, tb, ss, os, ds, cu, ba, er, de, pe, ma, so, ou, dr, ts, nk, np, nf, nn, nc, nz, sN, sM, sI, lc, ib)) : ∀ t i n : Nat, i + t = i0 → t < n → wX_put_9 post x (nI L) tl nl dl tb ss os ds cu ba er de pe ma so ou dr ts nk np nf nn nc nz sN sM sI lc ib n (nI i) := by
  intro t
  induction t with
  | zero =>
    intro i n hi hn
    obtain ⟨n, rfl⟩ : ∃ n', n = n' + 1 := ⟨n - 1, by omega⟩
    have : i = i0 := by omega
    subst this
    rw [wX_put_9]
    refine br_f (nI_ge (by omega) (by omega)) ?_
    unfold wpX_byteOf
    exact lr_xallow (c := lr_by x (nI i)) (fun w => absurd w hb) (fun _ => br_t rfl k)
  | succ t ih =>
    intro i n hi hn
    obtain ⟨n, rfl⟩ : ∃ n', n = n' + 1 := ⟨n - 1, by omega⟩
    rw [wX_put_9]
    refine br_f (nI_ge (by omega) (by omega)) ?_
    unfold wpX_byteOf
    refine lr_xallow (c := lr_by x (nI i)) (fun _ => br_f (by decide) ?_) (fun w => absurd (hok i (by omega)) w)
    exact nm_r (nI_1 i) (ih (i + 1) n (by omega) (by omega))
theorem lr_yp85 {post : Int32 → SY → Prop} (hL : L ≤ 8) (hST : S + L ≤ 256) (k : post (nI (S + L)) (tl, nl, dl, tb, nI (S + L), os, dy, cu, er, lr_ap (fun i => lr_by x (nI i)) S so L, ou, dq, nk, np, mk, cl, ct, op, it)) :
    ∀ t i n : Nat, i + t = L → t < n → wY_put_85 post x (nI L) tl nl dl tb os dy cu er n (nI i) (nI (S + i)) (lr_ap (fun i => lr_by x (nI i)) S so i) ou dq nk np mk cl ct op it := by
  intro t
  induction t with
  | zero =>
    intro i n hi hn
    obtain ⟨n, rfl⟩ : ∃ n', n = n' + 1 := ⟨n - 1, by omega⟩
    have : i = L := by omega
    subst this
    rw [wY_put_85]
    exact br_t (nI_le (Nat.le_refl _) (by omega)) k
  | succ t ih =>
    intro i n hi hn
    obtain ⟨n, rfl⟩ : ∃ n', n = n' + 1 := ⟨n - 1, by omega⟩
    rw [wY_put_85]
    refine br_f (nI_ge (by omega) (by omega)) ?_
    refine lr_w (n := S + i) rfl (by omega) (by omega) ?_
    refine nm_r (nI_1 (S + i)) (nm_r (nI_1 i) ?_)
    exact ih (i + 1) n (by omega) (by omega)
theorem lr_yp8 {post : Int32 → SY → Prop} (hL : L ≤ 8) (hne : ∀ i, i < L → ¬ lr_by x (nI i) = 0) (hz : L = 8 ∨ lr_by x (nI L) = 0) (hok : ∀ i, i < L → lr_ok (lr_by x (nI i)))
    (k : wY_put_66 post x (nI L) tl nl dl tb ss os dy cu er so ou dq nk np mk cl ct op it) : ∀ t i n : Nat, i + t = L → t + 1 < n → wY_put_8 post x tl nl dl tb ss os dy cu er so ou dq nk np mk cl ct op it n (nI i) 0 (nI i) := by
  intro t
  induction t with
  | zero =>
    intro i n hi hn
    obtain ⟨n, rfl⟩ : ∃ n', n = n' + 2 := ⟨n - 2, by omega⟩
    have : i = L := by omega
    subst this
    rw [wY_put_8]
    by_cases h8 : i = 8
    · exact br_t (nI_le (a := 8) (by omega) (by omega)) k
    · refine br_f (nI_ge (b := 8) (by omega) (by omega)) (br_t rfl ?_)
      have h0 : lr_by x (nI i) = 0 := by
        rcases hz with hz | hz
        · exact absurd hz h8
        · exact hz
      refine nm_r (show _ = (0 : Int32) from h0) (br_t rfl (nm_e ?_))
      rw [wY_put_8]
      exact br_c (fun _ => k) (fun _ => br_f (by decide) k)
  | succ t ih =>
    intro i n hi hn
    obtain ⟨n, rfl⟩ : ∃ n', n = n' + 1 := ⟨n - 1, by omega⟩
    rw [wY_put_8]
    refine br_f (nI_ge (b := 8) (by omega) (by omega)) (br_t rfl ?_)
    refine nm_r (e' := lr_by x (nI i)) rfl (br_f (hne i (by omega)) ?_)
    refine lr_yallow (fun _ => br_f (by decide) ?_) (fun w => absurd (hok i (by omega)) w)
    exact nm_r (nI_1 i) (nm_r (nI_1 i) (ih (i + 1) n (by omega) (by omega)))
theorem lr_yp8b {post : Int32 → SY → Prop} (hL : L ≤ 8) (hi0 : i0 < L) (hne : ∀ i, i < L → ¬ lr_by x (nI i) = 0) (hok : ∀ i, i < i0 → lr_ok (lr_by x (nI i))) (hb : ¬ lr_ok (lr_by x (nI i0)))
    (k : post (-3) (tl, nl, dl, tb, ss, os, dy, cu, er, so, ou, dq, nk, np, mk, cl, ct, op, it)) : ∀ t i n : Nat, i + t = i0 → t < n → wY_put_8 post x tl nl dl tb ss os dy cu er so ou dq nk np mk cl ct op it n (nI i) 0 (nI i) := by
  intro t
  induction t with
  | zero =>
    intro i n hi hn
    obtain ⟨n, rfl⟩ : ∃ n', n = n' + 1 := ⟨n - 1, by omega⟩
    have : i = i0 := by omega
    subst this
    rw [wY_put_8]
    refine br_f (nI_ge (b := 8) (by omega) (by omega)) (br_t rfl ?_)
    refine nm_r (e' := lr_by x (nI i)) rfl (br_f (hne i (by omega)) ?_)
    exact lr_yallow (fun w => absurd w hb) (fun _ => br_t rfl k)
  | succ t ih =>
    intro i n hi hn
    obtain ⟨n, rfl⟩ : ∃ n', n = n' + 1 := ⟨n - 1, by omega⟩
    rw [wY_put_8]
    refine br_f (nI_ge (b := 8) (by omega) (by omega)) (br_t rfl ?_)
    refine nm_r (e' := lr_by x (nI i)) rfl (br_f (hne i (by omega)) ?_)
    refine lr_yallow (fun _ => br_f (by decide) ?_) (fun w => absurd (hok i (by omega)) w)
    exact nm_r (nI_1 i) (nm_r (nI_1 i) (ih (i + 1) n (by omega) (by omega)))
theorem lr_xnl {post : Int32 → SX → Prop} (hL : L ≤ 40) (hT : T ≤ 256) (hST : S + L ≤ T) (k : post (nI (S + L)) (nI T, nl, dl, tb, nI (S + L), os, ds, cu, ba, er, de, pe, ma, lr_ap (fun _ => 32) S so L, ou, dr, ts, nk, np, nf, nn, nc, nz, sN, sM, sI, lc, ib)) :
    ∀ t i n : Nat, i + t = L → t < n → wX_newLine_39 post (nI L) n (nI i) (nI T) nl dl tb (nI (S + i)) os ds cu ba er de pe ma (lr_ap (fun _ => 32) S so i) ou dr ts nk np nf nn nc nz sN sM sI lc ib := by
  intro t
  induction t with
  | zero =>
    intro i n hi hn
    obtain ⟨n, rfl⟩ : ∃ n', n = n' + 1 := ⟨n - 1, by omega⟩
    have : i = L := by omega
    subst this
    rw [wX_newLine_39]
    exact br_t (nI_le (Nat.le_refl _) (by omega)) k
  | succ t ih =>
    intro i n hi hn
    obtain ⟨n, rfl⟩ : ∃ n', n = n' + 1 := ⟨n - 1, by omega⟩
    rw [wX_newLine_39]
    refine br_f (nI_ge (by omega) (by omega)) ?_
    refine lr_xapp (by omega) hT ?_
    refine nm_r (nI_1 i) ?_
    exact ih (i + 1) n (by omega) (by omega)
theorem lr_ynl {post : Int32 → SY → Prop} (hL : L ≤ 40) (hST : S + L ≤ 256) (k : post (nI (S + L)) (tl, nl, dl, tb, nI (S + L), os, dy, cu, er, lr_ap (fun _ => 32) S so L, ou, dq, nk, np, mk, cl, ct, op, it)) :
    ∀ t i n : Nat, i + t = L → t < n → wY_newLine_54 post (nI L) tl nl dl tb os dy cu er n (nI i) (nI (S + i)) (lr_ap (fun _ => 32) S so i) ou dq nk np mk cl ct op it := by
  intro t
  induction t with
  | zero =>
    intro i n hi hn
    obtain ⟨n, rfl⟩ : ∃ n', n = n' + 1 := ⟨n - 1, by omega⟩
    have : i = L := by omega
    subst this
    rw [wY_newLine_54]
    exact br_t (nI_le (Nat.le_refl _) (by omega)) k
  | succ t ih =>
    intro i n hi hn
    obtain ⟨n, rfl⟩ : ∃ n', n = n' + 1 := ⟨n - 1, by omega⟩
    rw [wY_newLine_54]
    refine br_f (nI_ge (by omega) (by omega)) ?_
    refine lr_w (n := S + i) rfl (by omega) (by omega) ?_
    refine nm_r (nI_1 (S + i)) (nm_r (nI_1 i) ?_)
    exact ih (i + 1) n (by omega) (by omega)
theorem lr_xad {post : Int32 → SX → Prop} (hL : L ≤ 256) (k : post (nI L) (tl, nl, dl, tb, nI L, nI L, ds, cu, ba, er, de, pe, ma, lr_cp ou L so, ou, dr, ts, nk, np, nf, nn, nc, nz, sN, sM, sI, lc, ib)) :
    ∀ t i n : Nat, i + t = L → t < n → wX_adopt_2 post tl nl dl tb ss (nI L) ds cu ba er de pe ma n (nI i) (lr_cp ou i so) ou dr ts nk np nf nn nc nz sN sM sI lc ib := by
  intro t
  induction t with
  | zero =>
    intro i n hi hn
    obtain ⟨n, rfl⟩ : ∃ n', n = n' + 1 := ⟨n - 1, by omega⟩
    have : i = L := by omega
    subst this
    rw [wX_adopt_2]
    exact br_t (nI_le (Nat.le_refl _) (by omega)) k
  | succ t ih =>
    intro i n hi hn
    obtain ⟨n, rfl⟩ : ∃ n', n = n' + 1 := ⟨n - 1, by omega⟩
    rw [wX_adopt_2]
    refine br_f (nI_ge (by omega) (by omega)) ⟨vp_in_nI (by omega) (by omega), ?_⟩
    rw [nI_clamp (show i < 2 ^ 31 by omega)]
    refine ⟨vp_in_nI (by omega) (by omega), nm_r lr_cps (nm_r (nI_1 i) ?_)⟩
    exact ih (i + 1) n (by omega) (by omega)
theorem lr_yad {post : Int32 → SY → Prop} (hL : L ≤ 256) (k : post (nI L) (tl, nl, dl, tb, nI L, nI L, dy, cu, er, lr_cp ou L so, ou, dq, nk, np, mk, cl, ct, op, it)) :
    ∀ t i n : Nat, i + t = L → t < n → wY_adopt_2 post tl nl dl tb ss (nI L) dy cu er n (nI i) (lr_cp ou i so) ou dq nk np mk cl ct op it := by
  intro t
  induction t with
  | zero =>
    intro i n hi hn
    obtain ⟨n, rfl⟩ : ∃ n', n = n' + 1 := ⟨n - 1, by omega⟩
    have : i = L := by omega
    subst this
    rw [wY_adopt_2]
    exact br_t (nI_le (Nat.le_refl _) (by omega)) k
  | succ t ih =>
    intro i n hi hn
    obtain ⟨n, rfl⟩ : ∃ n', n = n' + 1 := ⟨n - 1, by omega⟩
    rw [wY_adopt_2]
    refine br_f (nI_ge (by omega) (by omega)) ⟨vp_in_nI (by omega) (by omega), ?_⟩
    rw [nI_clamp (show i < 2 ^ 31 by omega)]
    refine ⟨vp_in_nI (by omega) (by omega), nm_r lr_cps (nm_r (nI_1 i) ?_)⟩
    exact ih (i + 1) n (by omega) (by omega)
end SR
end
section
/-! questions to the tree -/
theorem lr_SLn {b n : Nat} {nk np nf nn nc nz mk cl : Nat → Int32} (h : lr_SL b n nk np nf nn nc nz mk cl) : n ≤ 128 := by
  rcases h with h | h
  · omega
  · exact h.1.2.1
theorem lr_ix (x : Int32) {n : Nat} (hn : n < 2 ^ 31) : (x < 0 ∨ nI n ≤ x) ∨ ∃ j : Nat, j < n ∧ x = nI j := by
  by_cases h : x < 0
  · exact Or.inl (Or.inl h)
  · obtain ⟨j, hj, rfl⟩ := nI_of h
    by_cases h2 : j < n
    · exact Or.inr ⟨j, h2, rfl⟩
    · exact Or.inl (Or.inr (nI_le (by omega) hj))
theorem lr_len (x : Int64) : ∃ L, L ≤ 8 ∧ (∀ i, i < L → ¬ lr_by x (nI i) = 0) ∧ (L = 8 ∨ lr_by x (nI L) = 0) := by
  have H : ∀ t i : Nat, i + t = 8 → (∀ j, j < i → ¬ lr_by x (nI j) = 0) → ∃ L, L ≤ 8 ∧ (∀ i, i < L → ¬ lr_by x (nI i) = 0) ∧ (L = 8 ∨ lr_by x (nI L) = 0) := by
    intro t
    induction t with
    | zero => intro i hi h; exact ⟨i, by omega, h, Or.inl (by omega)⟩
    | succ t ih =>
      intro i hi h
      by_cases z : lr_by x (nI i) = 0
      · exact ⟨i, by omega, h, Or.inr z⟩
      · refine ih (i + 1) (by omega) (fun j hj => ?_)
        by_cases w : j = i
        · rw [w]; exact z
        · exact h j (by omega)
  exact H 8 0 rfl (fun j hj => absurd hj (by omega))
theorem lr_bad (Q : Nat → Prop) : ∀ L : Nat, (∀ i, i < L → Q i) ∨ ∃ i0, i0 < L ∧ (∀ i, i < i0 → Q i) ∧ ¬ Q i0 := by
  intro L
  induction L with
  | zero => exact Or.inl (fun i hi => absurd hi (by omega))
  | succ L ih =>
    rcases ih with h | ⟨i0, h1, h2, h3⟩
    · by_cases z : Q L
      · refine Or.inl (fun i hi => ?_)
        by_cases w : i = L
        · rw [w]; exact z
        · exact h i (by omega)
      · exact Or.inr ⟨L, by omega, h, z⟩
    · exact Or.inr ⟨i0, by omega, h2, h3⟩
section QX
variable {tl nl dl tb ss os ds cu ba er de pe ma : Int32} {so ou dr ts nk np nf nn nc nz sN sM sI lc ib : Nat → Int32}
variable {c n j : Nat}
theorem lr_xout {post : Int32 → Prop} {x : Int32} (hc : c < 2) (hn : ts c = nI n) (hn8 : n ≤ 128) (ho : x < 0 ∨ nI n ≤ x) (k : post 0) : wpX_isNode post (tl, nl, dl, tb, ss, os, ds, nI c, ba, er, de, pe, ma, so, ou, dr, ts, nk, np, nf, nn, nc, nz, sN, sM, sI, lc, ib) x := by
  unfold wpX_isNode
  by_cases h : x < 0
  · exact br_t h k
  · refine br_f h ⟨vp_in_nI hc (by omega), ?_⟩
    rw [nI_clamp (show c < 2 ^ 31 by omega), hn]
    rcases ho with ho | ho
    · exact absurd ho h
    · exact br_t ho k
theorem lr_xin {post : Int32 → Prop} (hc : c < 2) (hn : ts c = nI n) (hj : j < n) (hn8 : n ≤ 128) (k : post 1) : wpX_isNode post (tl, nl, dl, tb, ss, os, ds, nI c, ba, er, de, pe, ma, so, ou, dr, ts, nk, np, nf, nn, nc, nz, sN, sM, sI, lc, ib) (nI j) := by
  unfold wpX_isNode
  refine br_f (nI_pos (by omega)) ⟨vp_in_nI hc (by omega), ?_⟩
  rw [nI_clamp (show c < 2 ^ 31 by omega), hn]
  exact br_f (nI_ge hj (by omega)) k
end QX
section QY
variable {tl nl dl tb ss os dy cu er : Int32} {so ou dq nk np mk cl ct op it : Nat → Int32}
variable {b c n j : Nat}
theorem lr_ykout {post : Int32 → Prop} {x : Int32} (hc : c < 2) (hn : ct c = nI n) (hn8 : n ≤ 128) (ho : x < 0 ∨ nI n ≤ x) (k : post (-1)) : wpY_kind post (tl, nl, dl, tb, ss, os, dy, nI c, er, so, ou, dq, nk, np, mk, cl, ct, op, it) x := by
  unfold wpY_kind
  by_cases h : x < 0
  · exact br_t h k
  · refine br_f h ⟨vp_in_nI hc (by omega), ?_⟩
    rw [nI_clamp (show c < 2 ^ 31 by omega), hn]
    rcases ho with ho | ho
    · exact absurd ho h
    · exact br_f (Int32.not_lt.mpr ho) k
theorem lr_ykin {post : Int32 → Prop} (hc : c < 2) (hb : b = c * 128) (hn : ct c = nI n) (hj : j < n) (hn8 : n ≤ 128) (k : post (nk (b + j))) : wpY_kind post (tl, nl, dl, tb, ss, os, dy, nI c, er, so, ou, dq, nk, np, mk, cl, ct, op, it) (nI j) := by
  have eb : nI c * 128 + nI j = nI (b + j) := by rw [lr_128, nI_add, hb]
  unfold wpY_kind
  refine br_f (nI_pos (by omega)) ⟨vp_in_nI hc (by omega), ?_⟩
  rw [nI_clamp (show c < 2 ^ 31 by omega), hn]
  refine br_t (nI_lt hj (by omega)) ⟨lr_in eb (by omega) (by omega), ?_⟩
  rw [lr_rd (f := nk) eb (by omega)]; exact k
theorem lr_ypout {post : Int32 → Prop} {x : Int32} (hc : c < 2) (hn : ct c = nI n) (hn8 : n ≤ 128) (ho : x < 0 ∨ nI n ≤ x) (k : post (-1)) : wpY_parent post (tl, nl, dl, tb, ss, os, dy, nI c, er, so, ou, dq, nk, np, mk, cl, ct, op, it) x := by
  unfold wpY_parent
  by_cases h : x ≤ 0
  · exact br_t h k
  · refine br_f h ⟨vp_in_nI hc (by omega), ?_⟩
    rw [nI_clamp (show c < 2 ^ 31 by omega), hn]
    rcases ho with ho | ho
    · exact absurd (Int32.le_of_lt ho) h
    · exact br_f (Int32.not_lt.mpr ho) k
theorem lr_ypin {post : Int32 → Prop} (hc : c < 2) (hb : b = c * 128) (hn : ct c = nI n) (hj : j < n) (hn8 : n ≤ 128) (h0 : np b = -1) (k : post (np (b + j))) : wpY_parent post (tl, nl, dl, tb, ss, os, dy, nI c, er, so, ou, dq, nk, np, mk, cl, ct, op, it) (nI j) := by
  have eb : nI c * 128 + nI j = nI (b + j) := by rw [lr_128, nI_add, hb]
  unfold wpY_parent
  by_cases z : j = 0
  · subst z
    rw [Nat.add_zero, h0] at k
    exact br_t (by decide) k
  · refine br_f (nI_nle (by omega) (by omega)) ⟨vp_in_nI hc (by omega), ?_⟩
    rw [nI_clamp (show c < 2 ^ 31 by omega), hn]
    refine br_t (nI_lt hj (by omega)) ⟨lr_in eb (by omega) (by omega), ?_⟩
    rw [lr_rd (f := np) eb (by omega)]; exact k
theorem lr_yfout {post : Int32 → Prop} {x : Int32} (hc : c < 2) (hn : ct c = nI n) (hn8 : n ≤ 128) (ho : x < 0 ∨ nI n ≤ x) (k : post (-1)) : wpY_firstChild post (tl, nl, dl, tb, ss, os, dy, nI c, er, so, ou, dq, nk, np, mk, cl, ct, op, it) x := by
  unfold wpY_firstChild
  by_cases h : x < 0
  · exact br_t h k
  · refine br_f h ⟨vp_in_nI hc (by omega), ?_⟩
    rw [nI_clamp (show c < 2 ^ 31 by omega), hn]
    rcases ho with ho | ho
    · exact absurd ho h
    · exact br_f (Int32.not_lt.mpr ho) k
theorem lr_yf_ {post : Int32 → Prop} {r : Int32} (hc : c < 2) (hb : b = c * 128) (hn : ct c = nI n) (hn8 : n ≤ 128) (hF : lr_F b n np j r) (k : post r) :
    ∀ t i f : Nat, i + t = n → t < f → (∀ q, q < i → np (b + q) ≠ nI j) → wY_firstChild_21 post (nI j) tl nl dl tb ss os dy (nI c) er so ou dq nk np mk cl ct op it f (nI i) := by
  intro t
  induction t with
  | zero =>
    intro i f hi hf hno
    obtain ⟨f, rfl⟩ : ∃ f', f = f' + 1 := ⟨f - 1, by omega⟩
    rw [wY_firstChild_21]
    refine ⟨vp_in_nI hc (by omega), ?_⟩
    rw [nI_clamp (show c < 2 ^ 31 by omega), hn]
    refine br_t (nI_le (by omega) (by omega)) ?_
    rcases hF with ⟨e, _⟩ | ⟨f, f1, f2, f3, f4⟩
    · rw [e] at k; exact k
    · exact absurd f3 (hno f (by omega))
  | succ t ih =>
    intro i f hi hf hno
    obtain ⟨f, rfl⟩ : ∃ f', f = f' + 1 := ⟨f - 1, by omega⟩
    have eb : nI c * 128 + nI i = nI (b + i) := by rw [lr_128, nI_add, hb]
    rw [wY_firstChild_21]
    refine ⟨vp_in_nI hc (by omega), ?_⟩
    rw [nI_clamp (show c < 2 ^ 31 by omega), hn]
    refine br_f (nI_ge (by omega) (by omega)) ⟨lr_in eb (by omega) (by omega), ?_⟩
    rw [lr_rd (f := np) eb (by omega)]
    by_cases z : np (b + i) = nI j
    · refine br_t z ?_
      rcases hF with ⟨_, e⟩ | ⟨f, f1, f2, f3, f4⟩
      · exact absurd z (e i (by omega))
      · have : f = i := by
          by_cases w : f < i
          · exact absurd f3 (hno f w)
          · by_cases w2 : i < f
            · exact absurd z (f4 i w2)
            · omega
        rw [f2, this] at k; exact k
    · refine br_f z (nm_r (nI_1 i) (ih (i + 1) f (by omega) (by omega) (fun q hq => ?_)))
      by_cases w : q = i
      · rw [w]; exact z
      · exact hno q (by omega)
theorem lr_yfin {post : Int32 → Prop} {r : Int32} (hc : c < 2) (hb : b = c * 128) (hn : ct c = nI n) (hj : j < n) (hn8 : n ≤ 128) (hF : lr_F b n np j r) (k : post r) : wpY_firstChild post (tl, nl, dl, tb, ss, os, dy, nI c, er, so, ou, dq, nk, np, mk, cl, ct, op, it) (nI j) := by
  unfold wpY_firstChild
  refine br_f (nI_pos (by omega)) ⟨vp_in_nI hc (by omega), ?_⟩
  rw [nI_clamp (show c < 2 ^ 31 by omega), hn]
  exact br_t (nI_lt hj (by omega)) ⟨n + 1, lr_yf_ hc hb hn hn8 hF k n 0 (n + 1) (by omega) (by omega) (fun q hq => absurd hq (by omega))⟩
theorem lr_ynout {post : Int32 → Prop} {x : Int32} (hc : c < 2) (hn : ct c = nI n) (hn8 : n ≤ 128) (ho : x < 0 ∨ nI n ≤ x) (k : post (-1)) : wpY_nextSibling post (tl, nl, dl, tb, ss, os, dy, nI c, er, so, ou, dq, nk, np, mk, cl, ct, op, it) x := by
  unfold wpY_nextSibling
  by_cases h : x ≤ 0
  · exact br_t h k
  · refine br_f h ⟨vp_in_nI hc (by omega), ?_⟩
    rw [nI_clamp (show c < 2 ^ 31 by omega), hn]
    rcases ho with ho | ho
    · exact absurd (Int32.le_of_lt ho) h
    · exact br_f (Int32.not_lt.mpr ho) k
theorem lr_yn_ {post : Int32 → Prop} {r : Int32} (hc : c < 2) (hb : b = c * 128) (hn : ct c = nI n) (hj : j < n) (hn8 : n ≤ 128) (hN : lr_N b n np j r) (k : post r) :
    ∀ t i f : Nat, i + t = n → t < f → j < i → (∀ q, j < q → q < i → np (b + q) ≠ np (b + j)) → wY_nextSibling_23 post (nI j) tl nl dl tb ss os dy (nI c) er so ou dq nk np mk cl ct op it f (nI i) := by
  have ej : nI c * 128 + nI j = nI (b + j) := by rw [lr_128, nI_add, hb]
  intro t
  induction t with
  | zero =>
    intro i f hi hf hji hno
    obtain ⟨f, rfl⟩ : ∃ f', f = f' + 1 := ⟨f - 1, by omega⟩
    rw [wY_nextSibling_23]
    refine ⟨vp_in_nI hc (by omega), ?_⟩
    rw [nI_clamp (show c < 2 ^ 31 by omega), hn]
    refine br_t (nI_le (by omega) (by omega)) ?_
    rcases hN with ⟨e, _⟩ | ⟨f, f0, f1, f2, f3, f4⟩
    · rw [e] at k; exact k
    · exact absurd f3 (hno f f0 (by omega))
  | succ t ih =>
    intro i f hi hf hji hno
    obtain ⟨f, rfl⟩ : ∃ f', f = f' + 1 := ⟨f - 1, by omega⟩
    have eb : nI c * 128 + nI i = nI (b + i) := by rw [lr_128, nI_add, hb]
    rw [wY_nextSibling_23]
    refine ⟨vp_in_nI hc (by omega), ?_⟩
    rw [nI_clamp (show c < 2 ^ 31 by omega), hn]
    refine br_f (nI_ge (by omega) (by omega)) ⟨lr_in eb (by omega) (by omega), lr_in ej (by omega) (by omega), ?_⟩
    rw [lr_rd (f := np) eb (by omega), lr_rd (f := np) ej (by omega)]
    by_cases z : np (b + i) = np (b + j)
    · refine br_t z ?_
      rcases hN with ⟨_, e⟩ | ⟨f, f0, f1, f2, f3, f4⟩
      · exact absurd z (e i hji (by omega))
      · have : f = i := by
          by_cases w : f < i
          · exact absurd f3 (hno f f0 w)
          · by_cases w2 : i < f
            · exact absurd z (f4 i hji w2)
            · omega
        rw [f2, this] at k; exact k
    · refine br_f z (nm_r (nI_1 i) (ih (i + 1) f (by omega) (by omega) (by omega) (fun q q0 hq => ?_)))
      by_cases w : q = i
      · rw [w]; exact z
      · exact hno q q0 (by omega)
theorem lr_ynin {post : Int32 → Prop} {r : Int32} (hc : c < 2) (hb : b = c * 128) (hn : ct c = nI n) (hj : j < n) (hn8 : n ≤ 128) (hT : lr_T b n nk np) (hN : lr_N b n np j r) (k : post r) : wpY_nextSibling post (tl, nl, dl, tb, ss, os, dy, nI c, er, so, ou, dq, nk, np, mk, cl, ct, op, it) (nI j) := by
  unfold wpY_nextSibling
  by_cases z : j = 0
  · subst z
    refine br_t (by decide) ?_
    rcases hN with ⟨e, _⟩ | ⟨f, f0, f1, f2, f3, f4⟩
    · rw [e] at k; exact k
    · exfalso
      rw [Nat.add_zero, hT.2.2.1, lr_Tp hT f0 f1] at f3
      have := lr_Tle hT f f1
      exact lr_ne1 (by omega) f3
  · refine br_f (nI_nle (by omega) (by omega)) ⟨vp_in_nI hc (by omega), ?_⟩
    rw [nI_clamp (show c < 2 ^ 31 by omega), hn]
    refine br_t (nI_lt hj (by omega)) (nm_r (nI_1 j) ⟨n + 1, ?_⟩)
    exact lr_yn_ hc hb hn hj hn8 hN k (n - (j + 1)) (j + 1) (n + 1) (by omega) (by omega) (by omega) (fun q q0 q1 => absurd q0 (by omega))
end QY
section SM
variable {tl nl dl tb ss os ds dy cu ba er de pe ma : Int32} {so ou dr dq ts nk np nf nn nc nz sN sM sI lc ib mk cl ct op it : Nat → Int32}
theorem lr_jsame {n : Nat} (hn : ts 0 = nI n) (hn8 : n ≤ 128) : ∀ t i : Nat, i + t = n → ∃ r : Int32, (∀ post : Int32 → Prop, post r → wX_same_39 post tl nl dl tb ss os ds cu ba er de pe ma so ou dr ts nk np nf nn nc nz sN sM sI lc ib (t + 1) (nI i)) ∧ (∀ post : Int32 → Prop, post r → wY_same_39 post tl nl dl tb ss os dy cu er so ou dq nk np mk cl ts op it (t + 1) (nI i)) := by
  intro t
  induction t with
  | zero =>
    intro i hi
    refine ⟨1, fun post k => ?_, fun post k => ?_⟩
    · rw [wX_same_39, hn]; exact br_t (nI_le (by omega) (by omega)) k
    · rw [wY_same_39, hn]; exact br_t (nI_le (by omega) (by omega)) k
  | succ t ih =>
    intro i hi
    have e1 : (128 : Int32) + nI i = nI (128 + i) := nI_add 128 i
    have h1 : vp_in (nI i) 256 := vp_in_nI (by omega) (by omega)
    have h2 : vp_in (nI (128 + i)) 256 := vp_in_nI (by omega) (by omega)
    have hge : ¬ nI n ≤ nI i := nI_ge (by omega) (by omega)
    by_cases z : nk (nI i).toNatClampNeg = nk (nI (128 + i)).toNatClampNeg
    · by_cases w : np (nI i).toNatClampNeg = np (nI (128 + i)).toNatClampNeg
      · obtain ⟨r, hX, hY⟩ := ih (i + 1) (by omega)
        refine ⟨r, fun post k => ?_, fun post k => ?_⟩
        · rw [wX_same_39, hn]; dsimp only; rw [e1]; exact br_f hge ⟨h1, h2, br_t z ⟨h1, h2, br_t w (nm_r (nI_1 i) (hX post k))⟩⟩
        · rw [wY_same_39, hn]; dsimp only; rw [e1]; exact br_f hge ⟨h1, h2, br_t z ⟨h1, h2, br_t w (nm_r (nI_1 i) (hY post k))⟩⟩
      · refine ⟨0, fun post k => ?_, fun post k => ?_⟩
        · rw [wX_same_39, hn]; dsimp only; rw [e1]; exact br_f hge ⟨h1, h2, br_t z ⟨h1, h2, br_f w k⟩⟩
        · rw [wY_same_39, hn]; dsimp only; rw [e1]; exact br_f hge ⟨h1, h2, br_t z ⟨h1, h2, br_f w k⟩⟩
    · refine ⟨0, fun post k => ?_, fun post k => ?_⟩
      · rw [wX_same_39, hn]; dsimp only; rw [e1]; exact br_f hge ⟨h1, h2, br_f z k⟩
      · rw [wY_same_39, hn]; dsimp only; rw [e1]; exact br_f hge ⟨h1, h2, br_f z k⟩
end SM
end
section
/-! the owed theorems of the plain methods -/
theorem i_vc_put {k : Nat} {u : SX} {v : SY} (I : i_Rel k u v) (hk : k + 3 ≤ 1540) (a0 : Int64) : wpX_put (fun r u' => wpY_put (fun r' v' => r' = r ∧ i_Rel (k + 3) u' v') v a0) u a0 := by
  refine lr_el (P := fun u v => wpX_put (fun r u' => wpY_put (fun r' v' => r' = r ∧ i_Rel (k + 3) u' v') v a0) u a0) ?_ I
  intro T NL DL TB S O c ds dy er de pe ma so ou dr dq ts nk np nf nn nc nz sN sM sI lc ib mk cl op it h
  obtain ⟨hK, hsl⟩ := h
  have hKK := hK
  obtain ⟨hT, hNL, hDL, hTB, hST, hOT, hc, hso, hou⟩ := hKK
  have hR : i_Rel (k + 3) (nI T, nI NL, nI DL, nI TB, nI S, nI O, ds, nI c, nI (c * 128), er, de, pe, ma, so, ou, dr, ts, nk, np, nf, nn, nc, nz, sN, sM, sI, lc, ib) (nI T, nI NL, nI DL, nI TB, nI S, nI O, dy, nI c, er, so, ou, dq, nk, np, mk, cl, ts, op, it) := lr_ri ⟨hK, hsl⟩
  obtain ⟨L, hL, hne, hz⟩ := lr_len a0
  unfold wpX_put wpX_packedLength
  refine ⟨L + 1, lr_xpl hL hne hz ?_ L 0 (L + 1) (by omega) (by omega)⟩
  rcases lr_bad (fun i => lr_ok (lr_by a0 (nI i))) L with hok | ⟨i0, hi0, hlt, hb⟩
  · refine ⟨L + 1, lr_xp9 hL hok (fun n => ?_) L 0 (L + 1) (by omega) (by omega)⟩
    rw [wX_put_9]
    refine br_t (nI_le (Nat.le_refl _) (by omega)) ?_
    rw [nI_add]
    have hY : ∀ post : Int32 → SY → Prop, wY_put_66 post a0 (nI L) (nI T) (nI NL) (nI DL) (nI TB) (nI S) (nI O) dy (nI c) er so ou dq nk np mk cl ts op it → wpY_put post (nI T, nI NL, nI DL, nI TB, nI S, nI O, dy, nI c, er, so, ou, dq, nk, np, mk, cl, ts, op, it) a0 := by
      intro post k
      unfold wpY_put
      exact ⟨L + 2, lr_yp8 hL hne hz hok k L 0 (L + 2) (by omega) (by omega)⟩
    by_cases hr : S + L ≤ T
    · refine br_t (nI_le hr (by omega)) ⟨L + 1, lr_xp61 hL hT.2 hr ?_ L 0 (L + 1) (by omega) (by omega)⟩
      refine hY _ ?_
      unfold wY_put_66
      rw [nI_add]
      refine br_t (nI_le hr (by omega)) ⟨L + 1, lr_yp85 hL (by omega) ?_ L 0 (L + 1) (by omega) (by omega)⟩
      exact ⟨rfl, lr_ri ⟨⟨hT, hNL, hDL, hTB, hr, hOT, hc, lr_apk hso L hok, hou⟩, hsl⟩⟩
    · refine br_f (nI_ge (by omega) (by omega)) ?_
      refine hY _ ?_
      unfold wY_put_66
      rw [nI_add]
      exact br_f (nI_ge (by omega) (by omega)) ⟨rfl, hR⟩
  · refine ⟨i0 + 1, lr_xp9b hL hi0 hlt hb ?_ i0 0 (i0 + 1) (by omega) (by omega)⟩
    unfold wpY_put
    exact ⟨i0 + 1, lr_yp8b hL hi0 hne hlt hb ⟨rfl, hR⟩ i0 0 (i0 + 1) (by omega) (by omega)⟩
theorem i_vc_newLine {k : Nat} {u : SX} {v : SY} (I : i_Rel k u v) (hk : k + 3 ≤ 1540) (v1 : Int32) : wpX_newLine (fun r u' => wpY_newLine (fun r' v' => r' = r ∧ i_Rel (k + 3) u' v') v v1) u v1 := by
  refine lr_el (P := fun u v => wpX_newLine (fun r u' => wpY_newLine (fun r' v' => r' = r ∧ i_Rel (k + 3) u' v') v v1) u v1) ?_ I
  intro T NL DL TB S O c ds dy er de pe ma so ou dr dq ts nk np nf nn nc nz sN sM sI lc ib mk cl op it h
  obtain ⟨hK, hsl⟩ := h
  have hKK := hK
  obtain ⟨hT, hNL, hDL, hTB, hST, hOT, hc, hso, hou⟩ := hKK
  have hR : i_Rel (k + 3) (nI T, nI NL, nI DL, nI TB, nI S, nI O, ds, nI c, nI (c * 128), er, de, pe, ma, so, ou, dr, ts, nk, np, nf, nn, nc, nz, sN, sM, sI, lc, ib) (nI T, nI NL, nI DL, nI TB, nI S, nI O, dy, nI c, er, so, ou, dq, nk, np, mk, cl, ts, op, it) := lr_ri ⟨hK, hsl⟩
  unfold wpX_newLine wpY_newLine
  by_cases h0 : v1 < 0
  · exact br_t h0 (br_t h0 ⟨rfl, hR⟩)
  · refine br_f h0 ?_
    obtain ⟨j, hj, rfl⟩ := nI_of h0
    by_cases h40 : j ≤ 40
    · refine br_t (nI_le (b := 40) h40 (by omega)) ?_
      have e1 : nI S + 1 + nI j = nI (S + 1 + j) := by rw [nI_1, nI_add]
      by_cases hr : S + 1 + j ≤ T
      · have hle : nI S + 1 + nI j ≤ nI T := by rw [e1]; exact nI_le hr (by omega)
        refine br_t hle ?_
        refine lr_xapp (by omega) hT.2 ?_
        refine ⟨j + 1, lr_xnl h40 hT.2 hr ?_ j 0 (j + 1) (by omega) (by omega)⟩
        refine br_f h0 (br_t (nI_le (b := 40) h40 (by omega)) (br_t hle ?_))
        refine lr_w (n := S) rfl (by omega) (by omega) (nm_r (nI_1 S) ?_)
        refine ⟨j + 1, lr_ynl h40 (by omega) ?_ j 0 (j + 1) (by omega) (by omega)⟩
        refine ⟨rfl, lr_ri ⟨⟨hT, hNL, hDL, hTB, hr, hOT, hc, lr_apk ?_ j (fun _ _ => by decide), hou⟩, hsl⟩⟩
        intro i hi
        show lr_ok (upd so S 10 i)
        by_cases z : i = S
        · rw [z, lr_us]; decide
        · rw [lr_un z]; exact hso i (by omega)
      · have hle : ¬ nI S + 1 + nI j ≤ nI T := by rw [e1]; exact nI_ge (by omega) (by omega)
        refine br_f hle ?_
        exact br_f h0 (br_t (nI_le (b := 40) h40 (by omega)) (br_f hle ⟨rfl, hR⟩))
    · refine br_f (nI_ge (a := 40) (by omega) hj) ?_
      exact br_f h0 (br_f (nI_ge (a := 40) (by omega) hj) ⟨rfl, hR⟩)
theorem i_vc_backspace {k : Nat} {u : SX} {v : SY} (I : i_Rel k u v) (hk : k + 3 ≤ 1540) : wpX_backspace (fun r u' => wpY_backspace (fun r' v' => r' = r ∧ i_Rel (k + 3) u' v') v) u := by
  refine lr_el (P := fun u v => wpX_backspace (fun r u' => wpY_backspace (fun r' v' => r' = r ∧ i_Rel (k + 3) u' v') v) u) ?_ I
  intro T NL DL TB S O c ds dy er de pe ma so ou dr dq ts nk np nf nn nc nz sN sM sI lc ib mk cl op it h
  obtain ⟨hK, hsl⟩ := h
  have hKK := hK
  obtain ⟨hT, hNL, hDL, hTB, hST, hOT, hc, hso, hou⟩ := hKK
  unfold wpX_backspace wpY_backspace
  cases S with
  | zero => exact br_f (by decide) (br_t rfl ⟨rfl, lr_ri ⟨hK, hsl⟩⟩)
  | succ S =>
    refine br_t ((lr_0lt (by omega)).mpr (by omega)) (nm_r (nI_pred S) ⟨vp_in_nI (by omega) (by omega), ?_⟩)
    refine br_f (nI_ne0 (by omega) (by omega)) (nm_r (nI_pred S) ⟨vp_in_nI (by omega) (by omega), ?_⟩)
    exact ⟨rfl, lr_ri ⟨⟨hT, hNL, hDL, hTB, by omega, hOT, hc, fun i hi => hso i (by omega), hou⟩, hsl⟩⟩
theorem i_vc_clear {k : Nat} {u : SX} {v : SY} (I : i_Rel k u v) (hk : k + 3 ≤ 1540) : wpX_clear (fun u' => wpY_clear (fun v' => i_Rel (k + 3) u' v') v) u := by
  refine lr_el (P := fun u v => wpX_clear (fun u' => wpY_clear (fun v' => i_Rel (k + 3) u' v') v) u) ?_ I
  intro T NL DL TB S O c ds dy er de pe ma so ou dr dq ts nk np nf nn nc nz sN sM sI lc ib mk cl op it h
  obtain ⟨⟨hT, hNL, hDL, hTB, hST, hOT, hc, hso, hou⟩, hsl⟩ := h
  exact lr_ri (k := k + 3) (S := 0) ⟨⟨hT, hNL, hDL, hTB, by omega, hOT, hc, fun i hi => absurd hi (by omega), hou⟩, hsl⟩
theorem i_vc_sourceLength {k : Nat} {u : SX} {v : SY} (I : i_Rel k u v) (hk : k + 3 ≤ 1540) : wpX_sourceLength (fun r => wpY_sourceLength (fun r' => r' = r ∧ i_Rel (k + 3) u v) v) u := by
  refine lr_el (P := fun u v => wpX_sourceLength (fun r => wpY_sourceLength (fun r' => r' = r ∧ i_Rel (k + 3) u v) v) u) ?_ I
  intro T NL DL TB S O c ds dy er de pe ma so ou dr dq ts nk np nf nn nc nz sN sM sI lc ib mk cl op it h
  exact ⟨rfl, lr_ri h⟩
theorem i_vc_sourceAt {k : Nat} {u : SX} {v : SY} (I : i_Rel k u v) (hk : k + 3 ≤ 1540) (v1 : Int32) : wpX_sourceAt (fun r => wpY_sourceAt (fun r' => r' = r ∧ i_Rel (k + 3) u v) v v1) u v1 := by
  refine lr_el (P := fun u v => wpX_sourceAt (fun r => wpY_sourceAt (fun r' => r' = r ∧ i_Rel (k + 3) u v) v v1) u v1) ?_ I
  intro T NL DL TB S O c ds dy er de pe ma so ou dr dq ts nk np nf nn nc nz sN sM sI lc ib mk cl op it h
  have hR : i_Rel (k + 3) (nI T, nI NL, nI DL, nI TB, nI S, nI O, ds, nI c, nI (c * 128), er, de, pe, ma, so, ou, dr, ts, nk, np, nf, nn, nc, nz, sN, sM, sI, lc, ib) (nI T, nI NL, nI DL, nI TB, nI S, nI O, dy, nI c, er, so, ou, dq, nk, np, mk, cl, ts, op, it) := lr_ri h
  obtain ⟨⟨hT, hNL, hDL, hTB, hST, hOT, hc, hso, hou⟩, hsl⟩ := h
  unfold wpX_sourceAt wpY_sourceAt
  by_cases h0 : v1 < 0
  · exact br_t h0 (br_t h0 ⟨rfl, hR⟩)
  · refine br_f h0 ?_
    by_cases h1 : v1 < nI S
    · obtain ⟨j, hj, rfl⟩ := nI_of h0
      rw [nI_ltI hj (by omega)] at h1
      have hin : vp_in (nI j) 256 := vp_in_nI (by omega) (by omega)
      exact br_t (nI_lt h1 (by omega)) ⟨hin, br_f h0 (br_t (nI_lt h1 (by omega)) ⟨hin, rfl, hR⟩)⟩
    · exact br_f h1 (br_f h0 (br_f h1 ⟨rfl, hR⟩))
theorem i_vc_parse {k : Nat} {u : SX} {v : SY} (I : i_Rel k u v) (hk : k + 3 ≤ 1540) : wpX_parse (fun r u' => wpY_parse (fun r' v' => r' = r ∧ i_Rel (k + 3) u' v') v) u := by
  refine lr_el (P := fun u v => wpX_parse (fun r u' => wpY_parse (fun r' v' => r' = r ∧ i_Rel (k + 3) u' v') v) u) ?_ I
  intro T NL DL TB S O c ds dy er de pe ma so ou dr dq ts nk np nf nn nc nz sN sM sI lc ib mk cl op it h
  obtain ⟨r, u', v', hR, hX, hY⟩ := lr_parse (ds := ds) (dy := dy) (er := er) (de := de) (pe := pe) (ma := ma) (dr := dr) (dq := dq) (sN := sN) (sM := sM) (sI := sI) (lc := lc) (ib := ib) (op := op) (it := it) h
  exact hX _ (hY _ ⟨rfl, hR⟩)
theorem i_vc_errorAt {k : Nat} {u : SX} {v : SY} (I : i_Rel k u v) (hk : k + 3 ≤ 1540) : wpX_errorAt (fun r => wpY_errorAt (fun r' => r' = r ∧ i_Rel (k + 3) u v) v) u := by
  refine lr_el (P := fun u v => wpX_errorAt (fun r => wpY_errorAt (fun r' => r' = r ∧ i_Rel (k + 3) u v) v) u) ?_ I
  intro T NL DL TB S O c ds dy er de pe ma so ou dr dq ts nk np nf nn nc nz sN sM sI lc ib mk cl op it h
  exact ⟨rfl, lr_ri h⟩
theorem i_vc_use {k : Nat} {u : SX} {v : SY} (I : i_Rel k u v) (hk : k + 3 ≤ 1540) (v1 : Int32) : wpX_use (fun r u' => wpY_use (fun r' v' => r' = r ∧ i_Rel (k + 3) u' v') v v1) u v1 := by
  refine lr_el (P := fun u v => wpX_use (fun r u' => wpY_use (fun r' v' => r' = r ∧ i_Rel (k + 3) u' v') v v1) u v1) ?_ I
  intro T NL DL TB S O c ds dy er de pe ma so ou dr dq ts nk np nf nn nc nz sN sM sI lc ib mk cl op it h
  have hR : i_Rel (k + 3) (nI T, nI NL, nI DL, nI TB, nI S, nI O, ds, nI c, nI (c * 128), er, de, pe, ma, so, ou, dr, ts, nk, np, nf, nn, nc, nz, sN, sM, sI, lc, ib) (nI T, nI NL, nI DL, nI TB, nI S, nI O, dy, nI c, er, so, ou, dq, nk, np, mk, cl, ts, op, it) := lr_ri h
  obtain ⟨⟨hT, hNL, hDL, hTB, hST, hOT, hc, hso, hou⟩, hsl⟩ := h
  unfold wpX_use wpY_use
  by_cases h0 : v1 = 0
  · subst h0
    refine br_t rfl ?_
    unfold wX_use_9
    refine nm_r (e' := nI (0 * 128)) (by decide) (br_t rfl ⟨rfl, ?_⟩)
    exact lr_ri (c := 0) ⟨⟨hT, hNL, hDL, hTB, hST, hOT, by omega, hso, hou⟩, hsl⟩
  · refine br_f h0 ?_
    by_cases h1 : v1 = 1
    · subst h1
      refine br_t rfl ?_
      unfold wX_use_9
      refine nm_r (e' := nI (1 * 128)) (by decide) (br_f (by decide) (br_t rfl ⟨rfl, ?_⟩))
      exact lr_ri (c := 1) ⟨⟨hT, hNL, hDL, hTB, hST, hOT, by omega, hso, hou⟩, hsl⟩
    · exact br_f h1 (br_f h0 (br_f h1 ⟨rfl, hR⟩))
theorem i_vc_nodeCount {k : Nat} {u : SX} {v : SY} (I : i_Rel k u v) (hk : k + 3 ≤ 1540) : wpX_nodeCount (fun r => wpY_nodeCount (fun r' => r' = r ∧ i_Rel (k + 3) u v) v) u := by
  refine lr_el (P := fun u v => wpX_nodeCount (fun r => wpY_nodeCount (fun r' => r' = r ∧ i_Rel (k + 3) u v) v) u) ?_ I
  intro T NL DL TB S O c ds dy er de pe ma so ou dr dq ts nk np nf nn nc nz sN sM sI lc ib mk cl op it h
  have hc : c < 2 := h.1.2.2.2.2.2.2.1
  have hin : vp_in (nI c) 2 := vp_in_nI hc (by omega)
  exact ⟨hin, ⟨hin, rfl, lr_ri h⟩⟩
theorem i_vc_kind {k : Nat} {u : SX} {v : SY} (I : i_Rel k u v) (hk : k + 3 ≤ 1540) (v1 : Int32) : wpX_kind (fun r => wpY_kind (fun r' => r' = r ∧ i_Rel (k + 3) u v) v v1) u v1 := by
  refine lr_el (P := fun u v => wpX_kind (fun r => wpY_kind (fun r' => r' = r ∧ i_Rel (k + 3) u v) v v1) u v1) ?_ I
  intro T NL DL TB S O c ds dy er de pe ma so ou dr dq ts nk np nf nn nc nz sN sM sI lc ib mk cl op it h
  have hR : i_Rel (k + 3) (nI T, nI NL, nI DL, nI TB, nI S, nI O, ds, nI c, nI (c * 128), er, de, pe, ma, so, ou, dr, ts, nk, np, nf, nn, nc, nz, sN, sM, sI, lc, ib) (nI T, nI NL, nI DL, nI TB, nI S, nI O, dy, nI c, er, so, ou, dq, nk, np, mk, cl, ts, op, it) := lr_ri h
  have hc : c < 2 := h.1.2.2.2.2.2.2.1
  obtain ⟨n, hn, hS⟩ := h.2 c hc
  have hn8 := lr_SLn hS
  rcases lr_ix v1 (show n < 2 ^ 31 by omega) with ho | ⟨j, hj, rfl⟩
  · unfold wpX_kind
    exact lr_xout hc hn hn8 ho (br_t rfl (lr_ykout hc hn hn8 ho ⟨rfl, hR⟩))
  · rcases hS with z | ⟨hT, hF, hB⟩
    · omega
    · unfold wpX_kind
      refine lr_xin hc hn hj hn8 (br_f (by decide) ⟨lr_in (nI_add _ _) (by omega) (by omega), ?_⟩)
      rw [lr_rd (f := nk) (nI_add _ _) (by omega)]
      exact lr_ykin hc rfl hn hj hn8 ⟨rfl, hR⟩
theorem i_vc_parent {k : Nat} {u : SX} {v : SY} (I : i_Rel k u v) (hk : k + 3 ≤ 1540) (v1 : Int32) : wpX_parent (fun r => wpY_parent (fun r' => r' = r ∧ i_Rel (k + 3) u v) v v1) u v1 := by
  refine lr_el (P := fun u v => wpX_parent (fun r => wpY_parent (fun r' => r' = r ∧ i_Rel (k + 3) u v) v v1) u v1) ?_ I
  intro T NL DL TB S O c ds dy er de pe ma so ou dr dq ts nk np nf nn nc nz sN sM sI lc ib mk cl op it h
  have hR : i_Rel (k + 3) (nI T, nI NL, nI DL, nI TB, nI S, nI O, ds, nI c, nI (c * 128), er, de, pe, ma, so, ou, dr, ts, nk, np, nf, nn, nc, nz, sN, sM, sI, lc, ib) (nI T, nI NL, nI DL, nI TB, nI S, nI O, dy, nI c, er, so, ou, dq, nk, np, mk, cl, ts, op, it) := lr_ri h
  have hc : c < 2 := h.1.2.2.2.2.2.2.1
  obtain ⟨n, hn, hS⟩ := h.2 c hc
  have hn8 := lr_SLn hS
  rcases lr_ix v1 (show n < 2 ^ 31 by omega) with ho | ⟨j, hj, rfl⟩
  · unfold wpX_parent
    exact lr_xout hc hn hn8 ho (br_t rfl (lr_ypout hc hn hn8 ho ⟨rfl, hR⟩))
  · rcases hS with z | ⟨hT, hF, hB⟩
    · omega
    · unfold wpX_parent
      refine lr_xin hc hn hj hn8 (br_f (by decide) ⟨lr_in (nI_add _ _) (by omega) (by omega), ?_⟩)
      rw [lr_rd (f := np) (nI_add _ _) (by omega)]
      exact lr_ypin hc rfl hn hj hn8 hT.2.2.1 ⟨rfl, hR⟩
theorem i_vc_firstChild {k : Nat} {u : SX} {v : SY} (I : i_Rel k u v) (hk : k + 3 ≤ 1540) (v1 : Int32) : wpX_firstChild (fun r => wpY_firstChild (fun r' => r' = r ∧ i_Rel (k + 3) u v) v v1) u v1 := by
  refine lr_el (P := fun u v => wpX_firstChild (fun r => wpY_firstChild (fun r' => r' = r ∧ i_Rel (k + 3) u v) v v1) u v1) ?_ I
  intro T NL DL TB S O c ds dy er de pe ma so ou dr dq ts nk np nf nn nc nz sN sM sI lc ib mk cl op it h
  have hR : i_Rel (k + 3) (nI T, nI NL, nI DL, nI TB, nI S, nI O, ds, nI c, nI (c * 128), er, de, pe, ma, so, ou, dr, ts, nk, np, nf, nn, nc, nz, sN, sM, sI, lc, ib) (nI T, nI NL, nI DL, nI TB, nI S, nI O, dy, nI c, er, so, ou, dq, nk, np, mk, cl, ts, op, it) := lr_ri h
  have hc : c < 2 := h.1.2.2.2.2.2.2.1
  obtain ⟨n, hn, hS⟩ := h.2 c hc
  have hn8 := lr_SLn hS
  rcases lr_ix v1 (show n < 2 ^ 31 by omega) with ho | ⟨j, hj, rfl⟩
  · unfold wpX_firstChild
    exact lr_xout hc hn hn8 ho (br_t rfl (lr_yfout hc hn hn8 ho ⟨rfl, hR⟩))
  · rcases hS with z | ⟨hT, hF, hB⟩
    · omega
    · unfold wpX_firstChild
      refine lr_xin hc hn hj hn8 (br_f (by decide) ⟨lr_in (nI_add _ _) (by omega) (by omega), ?_⟩)
      rw [lr_rd (f := nf) (nI_add _ _) (by omega)]
      exact lr_yfin hc rfl hn hj hn8 (hF j hj).1 ⟨rfl, hR⟩
theorem i_vc_nextSibling {k : Nat} {u : SX} {v : SY} (I : i_Rel k u v) (hk : k + 3 ≤ 1540) (v1 : Int32) : wpX_nextSibling (fun r => wpY_nextSibling (fun r' => r' = r ∧ i_Rel (k + 3) u v) v v1) u v1 := by
  refine lr_el (P := fun u v => wpX_nextSibling (fun r => wpY_nextSibling (fun r' => r' = r ∧ i_Rel (k + 3) u v) v v1) u v1) ?_ I
  intro T NL DL TB S O c ds dy er de pe ma so ou dr dq ts nk np nf nn nc nz sN sM sI lc ib mk cl op it h
  have hR : i_Rel (k + 3) (nI T, nI NL, nI DL, nI TB, nI S, nI O, ds, nI c, nI (c * 128), er, de, pe, ma, so, ou, dr, ts, nk, np, nf, nn, nc, nz, sN, sM, sI, lc, ib) (nI T, nI NL, nI DL, nI TB, nI S, nI O, dy, nI c, er, so, ou, dq, nk, np, mk, cl, ts, op, it) := lr_ri h
  have hc : c < 2 := h.1.2.2.2.2.2.2.1
  obtain ⟨n, hn, hS⟩ := h.2 c hc
  have hn8 := lr_SLn hS
  rcases lr_ix v1 (show n < 2 ^ 31 by omega) with ho | ⟨j, hj, rfl⟩
  · unfold wpX_nextSibling
    exact lr_xout hc hn hn8 ho (br_t rfl (lr_ynout hc hn hn8 ho ⟨rfl, hR⟩))
  · rcases hS with z | ⟨hT, hF, hB⟩
    · omega
    · unfold wpX_nextSibling
      refine lr_xin hc hn hj hn8 (br_f (by decide) ⟨lr_in (nI_add _ _) (by omega) (by omega), ?_⟩)
      rw [lr_rd (f := nn) (nI_add _ _) (by omega)]
      exact lr_ynin hc rfl hn hj hn8 hT (hF j hj).2 ⟨rfl, hR⟩
theorem i_vc_blockColumn {k : Nat} {u : SX} {v : SY} (I : i_Rel k u v) (hk : k + 3 ≤ 1540) (v1 : Int32) : wpX_blockColumn (fun r => wpY_blockColumn (fun r' => r' = r ∧ i_Rel (k + 3) u v) v v1) u v1 := by
  refine lr_el (P := fun u v => wpX_blockColumn (fun r => wpY_blockColumn (fun r' => r' = r ∧ i_Rel (k + 3) u v) v v1) u v1) ?_ I
  intro T NL DL TB S O c ds dy er de pe ma so ou dr dq ts nk np nf nn nc nz sN sM sI lc ib mk cl op it h
  have hR : i_Rel (k + 3) (nI T, nI NL, nI DL, nI TB, nI S, nI O, ds, nI c, nI (c * 128), er, de, pe, ma, so, ou, dr, ts, nk, np, nf, nn, nc, nz, sN, sM, sI, lc, ib) (nI T, nI NL, nI DL, nI TB, nI S, nI O, dy, nI c, er, so, ou, dq, nk, np, mk, cl, ts, op, it) := lr_ri h
  have hc : c < 2 := h.1.2.2.2.2.2.2.1
  obtain ⟨n, hn, hS⟩ := h.2 c hc
  have hn8 := lr_SLn hS
  rcases lr_ix v1 (show n < 2 ^ 31 by omega) with ho | ⟨j, hj, rfl⟩
  · unfold wpX_blockColumn wpY_blockColumn
    exact lr_xout hc hn hn8 ho (br_t rfl (lr_ykout hc hn hn8 ho (br_f (by decide) ⟨rfl, hR⟩)))
  · rcases hS with z | ⟨hT, hF, hB⟩
    · omega
    · have ea : nI (c * 128) + nI j = nI (c * 128 + j) := nI_add _ _
      have eb : nI c * 128 + nI j = nI (c * 128 + j) := by rw [lr_128, nI_add]
      have hin : vp_in (nI (c * 128) + nI j) 256 := lr_in ea (by omega) (by omega)
      have hinb : vp_in (nI c * 128 + nI j) 256 := lr_in eb (by omega) (by omega)
      unfold wpX_blockColumn wpY_blockColumn
      refine lr_xin hc hn hj hn8 (br_f (by decide) ⟨hin, ?_⟩)
      rw [ea, nI_clamp (show c * 128 + j < 2 ^ 31 by omega)]
      rw [ea] at hin
      by_cases z : nk (c * 128 + j) = 1
      · refine br_t z ⟨hin, ?_⟩
        refine lr_ykin hc rfl hn hj hn8 (br_t z ⟨hinb, ?_, hR⟩)
        rw [lr_rd (f := mk) eb (by omega)]
        exact (hB j hj z).1.symm
      · exact br_f z (lr_ykin hc rfl hn hj hn8 (br_f z ⟨rfl, hR⟩))
theorem i_vc_closedBy {k : Nat} {u : SX} {v : SY} (I : i_Rel k u v) (hk : k + 3 ≤ 1540) (v1 : Int32) : wpX_closedBy (fun r => wpY_closedBy (fun r' => r' = r ∧ i_Rel (k + 3) u v) v v1) u v1 := by
  refine lr_el (P := fun u v => wpX_closedBy (fun r => wpY_closedBy (fun r' => r' = r ∧ i_Rel (k + 3) u v) v v1) u v1) ?_ I
  intro T NL DL TB S O c ds dy er de pe ma so ou dr dq ts nk np nf nn nc nz sN sM sI lc ib mk cl op it h
  have hR : i_Rel (k + 3) (nI T, nI NL, nI DL, nI TB, nI S, nI O, ds, nI c, nI (c * 128), er, de, pe, ma, so, ou, dr, ts, nk, np, nf, nn, nc, nz, sN, sM, sI, lc, ib) (nI T, nI NL, nI DL, nI TB, nI S, nI O, dy, nI c, er, so, ou, dq, nk, np, mk, cl, ts, op, it) := lr_ri h
  have hc : c < 2 := h.1.2.2.2.2.2.2.1
  obtain ⟨n, hn, hS⟩ := h.2 c hc
  have hn8 := lr_SLn hS
  rcases lr_ix v1 (show n < 2 ^ 31 by omega) with ho | ⟨j, hj, rfl⟩
  · unfold wpX_closedBy wpY_closedBy
    exact lr_xout hc hn hn8 ho (br_t rfl (lr_ykout hc hn hn8 ho (br_f (by decide) ⟨rfl, hR⟩)))
  · rcases hS with z | ⟨hT, hF, hB⟩
    · omega
    · have ea : nI (c * 128) + nI j = nI (c * 128 + j) := nI_add _ _
      have eb : nI c * 128 + nI j = nI (c * 128 + j) := by rw [lr_128, nI_add]
      have hin : vp_in (nI (c * 128) + nI j) 256 := lr_in ea (by omega) (by omega)
      have hinb : vp_in (nI c * 128 + nI j) 256 := lr_in eb (by omega) (by omega)
      unfold wpX_closedBy wpY_closedBy
      refine lr_xin hc hn hj hn8 (br_f (by decide) ⟨hin, ?_⟩)
      rw [ea, nI_clamp (show c * 128 + j < 2 ^ 31 by omega)]
      rw [ea] at hin
      by_cases z : nk (c * 128 + j) = 1
      · refine br_t z ⟨hin, ?_⟩
        refine lr_ykin hc rfl hn hj hn8 (br_t z ⟨hinb, ?_, hR⟩)
        rw [lr_rd (f := cl) eb (by omega)]
        exact (hB j hj z).2.symm
      · exact br_f z (lr_ykin hc rfl hn hj hn8 (br_f z ⟨rfl, hR⟩))
theorem i_vc_same {k : Nat} {u : SX} {v : SY} (I : i_Rel k u v) (hk : k + 3 ≤ 1540) : wpX_same (fun r => wpY_same (fun r' => r' = r ∧ i_Rel (k + 3) u v) v) u := by
  refine lr_el (P := fun u v => wpX_same (fun r => wpY_same (fun r' => r' = r ∧ i_Rel (k + 3) u v) v) u) ?_ I
  intro T NL DL TB S O c ds dy er de pe ma so ou dr dq ts nk np nf nn nc nz sN sM sI lc ib mk cl op it h
  have hR : i_Rel (k + 3) (nI T, nI NL, nI DL, nI TB, nI S, nI O, ds, nI c, nI (c * 128), er, de, pe, ma, so, ou, dr, ts, nk, np, nf, nn, nc, nz, sN, sM, sI, lc, ib) (nI T, nI NL, nI DL, nI TB, nI S, nI O, dy, nI c, er, so, ou, dq, nk, np, mk, cl, ts, op, it) := lr_ri h
  obtain ⟨n0, hn0, hS0⟩ := h.2 0 (by omega)
  obtain ⟨n1, hn1, hS1⟩ := h.2 1 (by omega)
  have h08 := lr_SLn hS0
  have h18 := lr_SLn hS1
  unfold wpX_same wpY_same
  by_cases z0 : ts 0 = 0
  · exact br_t z0 (br_t z0 ⟨rfl, hR⟩)
  · by_cases z1 : ts 1 = 0
    · exact br_f z0 (br_t z1 (br_f z0 (br_t z1 ⟨rfl, hR⟩)))
    · by_cases z2 : ts 0 = ts 1
      · obtain ⟨r, hX, hY⟩ := lr_jsame (tl := nI T) (nl := nI NL) (dl := nI DL) (tb := nI TB) (ss := nI S) (os := nI O) (ds := ds) (dy := dy) (cu := nI c) (ba := nI (c * 128)) (er := er) (de := de) (pe := pe) (ma := ma) (so := so) (ou := ou) (dr := dr) (dq := dq) (nk := nk) (np := np) (nf := nf) (nn := nn) (nc := nc) (nz := nz) (sN := sN) (sM := sM) (sI := sI) (lc := lc) (ib := ib) (mk := mk) (cl := cl) (op := op) (it := it) hn0 h08 n0 0 (by omega)
        exact br_f z0 (br_f z1 (br_t z2 ⟨_, hX _ (br_f z0 (br_f z1 (br_t z2 ⟨_, hY _ ⟨rfl, hR⟩⟩)))⟩))
      · exact br_f z0 (br_f z1 (br_f z2 (br_f z0 (br_f z1 (br_f z2 ⟨rfl, hR⟩)))))
theorem i_vc_outLength {k : Nat} {u : SX} {v : SY} (I : i_Rel k u v) (hk : k + 3 ≤ 1540) : wpX_outLength (fun r => wpY_outLength (fun r' => r' = r ∧ i_Rel (k + 3) u v) v) u := by
  refine lr_el (P := fun u v => wpX_outLength (fun r => wpY_outLength (fun r' => r' = r ∧ i_Rel (k + 3) u v) v) u) ?_ I
  intro T NL DL TB S O c ds dy er de pe ma so ou dr dq ts nk np nf nn nc nz sN sM sI lc ib mk cl op it h
  exact ⟨rfl, lr_ri h⟩
theorem i_vc_outAt {k : Nat} {u : SX} {v : SY} (I : i_Rel k u v) (hk : k + 3 ≤ 1540) (v1 : Int32) : wpX_outAt (fun r => wpY_outAt (fun r' => r' = r ∧ i_Rel (k + 3) u v) v v1) u v1 := by
  refine lr_el (P := fun u v => wpX_outAt (fun r => wpY_outAt (fun r' => r' = r ∧ i_Rel (k + 3) u v) v v1) u v1) ?_ I
  intro T NL DL TB S O c ds dy er de pe ma so ou dr dq ts nk np nf nn nc nz sN sM sI lc ib mk cl op it h
  have hR : i_Rel (k + 3) (nI T, nI NL, nI DL, nI TB, nI S, nI O, ds, nI c, nI (c * 128), er, de, pe, ma, so, ou, dr, ts, nk, np, nf, nn, nc, nz, sN, sM, sI, lc, ib) (nI T, nI NL, nI DL, nI TB, nI S, nI O, dy, nI c, er, so, ou, dq, nk, np, mk, cl, ts, op, it) := lr_ri h
  obtain ⟨⟨hT, hNL, hDL, hTB, hST, hOT, hc, hso, hou⟩, hsl⟩ := h
  unfold wpX_outAt wpY_outAt
  by_cases h0 : v1 < 0
  · exact br_t h0 (br_t h0 ⟨rfl, hR⟩)
  · refine br_f h0 ?_
    by_cases h1 : v1 < nI O
    · obtain ⟨j, hj, rfl⟩ := nI_of h0
      rw [nI_ltI hj (by omega)] at h1
      have hin : vp_in (nI j) 256 := vp_in_nI (by omega) (by omega)
      exact br_t (nI_lt h1 (by omega)) ⟨hin, br_f h0 (br_t (nI_lt h1 (by omega)) ⟨hin, rfl, hR⟩)⟩
    · exact br_f h1 (br_f h0 (br_f h1 ⟨rfl, hR⟩))
theorem i_vc_adopt {k : Nat} {u : SX} {v : SY} (I : i_Rel k u v) (hk : k + 3 ≤ 1540) : wpX_adopt (fun r u' => wpY_adopt (fun r' v' => r' = r ∧ i_Rel (k + 3) u' v') v) u := by
  refine lr_el (P := fun u v => wpX_adopt (fun r u' => wpY_adopt (fun r' v' => r' = r ∧ i_Rel (k + 3) u' v') v) u) ?_ I
  intro T NL DL TB S O c ds dy er de pe ma so ou dr dq ts nk np nf nn nc nz sN sM sI lc ib mk cl op it h
  obtain ⟨⟨hT, hNL, hDL, hTB, hST, hOT, hc, hso, hou⟩, hsl⟩ := h
  unfold wpX_adopt wpY_adopt
  refine ⟨O + 1, lr_xad (by omega) ?_ O 0 (O + 1) (by omega) (by omega)⟩
  refine ⟨O + 1, lr_yad (by omega) ?_ O 0 (O + 1) (by omega) (by omega)⟩
  refine ⟨rfl, lr_ri (S := O) ⟨⟨hT, hNL, hDL, hTB, hOT, hOT, hc, fun i hi => ?_, hou⟩, hsl⟩⟩
  rw [lr_cpl hi]; exact hou i hi
end
section
/-! drafts: what has been emitted is a list -/
def lr_dr (lim : Nat) (l : List Int32) (f : Nat → Int32) : Nat → Int32 := fun i => if i < l.length ∧ i < lim then l.getD i 0 else f i
theorem lr_dr0 {lim : Nat} {f : Nat → Int32} : lr_dr lim [] f = f := by
  funext i
  exact if_neg (fun h => absurd h.1 (Nat.not_lt_zero i))
theorem lr_drg {lim i : Nat} {l : List Int32} {f : Nat → Int32} (h1 : i < l.length) (h2 : i < lim) : lr_dr lim l f i = l.getD i 0 := if_pos ⟨h1, h2⟩
theorem lr_ga {l : List Int32} {c : Int32} {i : Nat} (h : i < l.length) : (l ++ [c]).getD i 0 = l.getD i 0 := by
  rw [List.getD_eq_getElem?_getD, List.getD_eq_getElem?_getD, List.getElem?_append_left h]
theorem lr_gl {l : List Int32} {c : Int32} : (l ++ [c]).getD l.length 0 = c := by
  rw [List.getD_eq_getElem?_getD, List.getElem?_append_right (Nat.le_refl _), Nat.sub_self]; rfl
theorem lr_la {l : List Int32} {c : Int32} : (l ++ [c]).length = l.length + 1 := by
  rw [List.length_append]; rfl
theorem lr_dra {lim : Nat} {l : List Int32} {f : Nat → Int32} {c : Int32} (h : l.length < lim) : upd (lr_dr lim l f) l.length c = lr_dr lim (l ++ [c]) f := by
  funext i
  by_cases z : i = l.length
  · subst z
    rw [lr_us, lr_drg (by rw [lr_la]; omega) h, lr_gl]
  · rw [lr_un z]
    by_cases h1 : i < l.length
    · by_cases h2 : i < lim
      · rw [lr_drg h1 h2, lr_drg (by rw [lr_la]; omega) h2, lr_ga h1]
      · exact (if_neg (fun w => h2 w.2)).trans (if_neg (fun w => h2 w.2)).symm
    · exact (if_neg (fun w => h1 w.1)).trans (if_neg (fun w => absurd w.1 (by rw [lr_la]; omega))).symm
theorem lr_drb {lim : Nat} {l : List Int32} {f : Nat → Int32} {c : Int32} (h : ¬ l.length < lim) : lr_dr lim l f = lr_dr lim (l ++ [c]) f := by
  funext i
  by_cases h2 : i < lim
  · have h1 : i < l.length := by omega
    rw [lr_drg h1 h2, lr_drg (by rw [lr_la]; omega) h2, lr_ga h1]
  · exact (if_neg (fun w => h2 w.2)).trans (if_neg (fun w => h2 w.2)).symm
def lr_oks (l : List Int32) : Prop := ∀ c, c ∈ l → lr_ok c
theorem lr_oka {l r : List Int32} (h : lr_oks l) (k : lr_oks r) : lr_oks (l ++ r) := by
  intro c hc
  rcases List.mem_append.mp hc with w | w
  · exact h c w
  · exact k c w
theorem lr_ok0 : lr_oks [] := fun c hc => absurd hc List.not_mem_nil
theorem lr_ok1 {c : Int32} (h : lr_ok c) : lr_oks [c] := by
  intro d hd
  rw [List.mem_singleton] at hd
  rw [hd]; exact h
def lr_ln (s : Nat) : List Int32 := 10 :: List.replicate s 32
theorem lr_lnl (s : Nat) : (lr_ln s).length = s + 1 := by
  show (10 :: List.replicate s (32 : Int32)).length = s + 1
  rw [List.length_cons, List.length_replicate]
theorem lr_lnk (s : Nat) : lr_oks (lr_ln s) := by
  intro c hc
  rcases List.mem_cons.mp hc with w | w
  · rw [w]; decide
  · rw [(List.mem_replicate.mp w).2]; decide
theorem lr_lns (l : List Int32) (s : Nat) : (l ++ lr_ln s) ++ [32] = l ++ lr_ln (s + 1) := by
  show (l ++ 10 :: List.replicate s 32) ++ [32] = l ++ 10 :: List.replicate (s + 1) 32
  rw [List.append_assoc, List.cons_append, List.replicate_succ']
section EM
variable {tl nl dl tb ss os ds dy cu ba er de pe ma : Int32} {so ou dr dq ts nk np nf nn nc nz sN sM sI lc ib mk cl ct op it : Nat → Int32}
variable {T s : Nat} {l : List Int32}
theorem lr_xem {post : SX → Prop} {v : Int32} (hT : T ≤ 256) (hl : l.length < 1000000) (k : post (nI T, nl, dl, tb, ss, os, nI (l ++ [v]).length, cu, ba, er, de, pe, ma, so, ou, lr_dr T (l ++ [v]) dr, ts, nk, np, nf, nn, nc, nz, sN, sM, sI, lc, ib)) : wpX_emit post (nI T, nl, dl, tb, ss, os, nI l.length, cu, ba, er, de, pe, ma, so, ou, lr_dr T l dr, ts, nk, np, nf, nn, nc, nz, sN, sM, sI, lc, ib) v := by
  have e1 : nI l.length + 1 = nI (l ++ [v]).length := by rw [nI_1, lr_la]
  unfold wpX_emit
  by_cases h : l.length < T
  · refine br_f (nI_ge h (by omega)) (lr_w rfl (by omega) (by omega) ?_)
    rw [lr_dra h]
    exact nm_r e1 k
  · refine br_t (nI_le (by omega) (by omega)) ?_
    rw [← lr_drb h] at k
    exact nm_r e1 k
theorem lr_yem {post : SY → Prop} {v : Int32} (hl : l.length < 1000000) (k : post (tl, nl, dl, tb, ss, os, nI (l ++ [v]).length, cu, er, so, ou, lr_dr 256 (l ++ [v]) dq, nk, np, mk, cl, ct, op, it)) : wpY_emit post (tl, nl, dl, tb, ss, os, nI l.length, cu, er, so, ou, lr_dr 256 l dq, nk, np, mk, cl, ct, op, it) v := by
  have e1 : nI l.length + 1 = nI (l ++ [v]).length := by rw [nI_1, lr_la]
  unfold wpY_emit
  by_cases h : l.length < 256
  · refine br_f (nI_ge (b := 256) h (by omega)) (lr_w rfl (by omega) (by omega) ?_)
    rw [lr_dra h]
    exact nm_r e1 k
  · refine br_t (nI_le (a := 256) (by omega) (by omega)) ?_
    rw [← lr_drb h] at k
    exact nm_r e1 k
theorem lr_xli_ {post : SX → Prop} (hT : T ≤ 256) (hl : l.length + s < 900000) (k : post (nI T, nl, dl, tb, ss, os, nI (l ++ lr_ln s).length, cu, ba, er, de, pe, ma, so, ou, lr_dr T (l ++ lr_ln s) dr, ts, nk, np, nf, nn, nc, nz, sN, sM, sI, lc, ib)) :
    ∀ t i n : Nat, i + t = s → t < n → wX_emitLine_8 post (nI s) n (nI i) (nI T) nl dl tb ss os (nI (l ++ lr_ln i).length) cu ba er de pe ma so ou (lr_dr T (l ++ lr_ln i) dr) ts nk np nf nn nc nz sN sM sI lc ib := by
  intro t
  induction t with
  | zero =>
    intro i n hi hn
    obtain ⟨n, rfl⟩ : ∃ n', n = n' + 1 := ⟨n - 1, by omega⟩
    have : i = s := by omega
    subst this
    rw [wX_emitLine_8]
    exact br_t (nI_le (Nat.le_refl _) (by omega)) k
  | succ t ih =>
    intro i n hi hn
    obtain ⟨n, rfl⟩ : ∃ n', n = n' + 1 := ⟨n - 1, by omega⟩
    rw [wX_emitLine_8]
    refine br_f (nI_ge (by omega) (by omega)) ?_
    refine lr_xem hT (by rw [List.length_append, lr_lnl]; omega) ?_
    rw [lr_lns]
    exact nm_r (nI_1 i) (ih (i + 1) n (by omega) (by omega))
theorem lr_xli {post : SX → Prop} (hT : T ≤ 256) (hl : l.length + s < 900000) (k : post (nI T, nl, dl, tb, ss, os, nI (l ++ lr_ln s).length, cu, ba, er, de, pe, ma, so, ou, lr_dr T (l ++ lr_ln s) dr, ts, nk, np, nf, nn, nc, nz, sN, sM, sI, lc, ib)) :
    wpX_emitLine post (nI T, nl, dl, tb, ss, os, nI l.length, cu, ba, er, de, pe, ma, so, ou, lr_dr T l dr, ts, nk, np, nf, nn, nc, nz, sN, sM, sI, lc, ib) (nI s) := by
  unfold wpX_emitLine
  refine lr_xem hT (by omega) ?_
  exact ⟨s + 1, lr_xli_ hT hl k s 0 (s + 1) (by omega) (by omega)⟩
theorem lr_yli_ {post : SY → Prop} (hl : l.length + s < 900000) (k : post (tl, nl, dl, tb, ss, os, nI (l ++ lr_ln s).length, cu, er, so, ou, lr_dr 256 (l ++ lr_ln s) dq, nk, np, mk, cl, ct, op, it)) :
    ∀ t i n : Nat, i + t = s → t < n → wY_emitBreak_8 post (nI s) n (nI i) tl nl dl tb ss os (nI (l ++ lr_ln i).length) cu er so ou (lr_dr 256 (l ++ lr_ln i) dq) nk np mk cl ct op it := by
  intro t
  induction t with
  | zero =>
    intro i n hi hn
    obtain ⟨n, rfl⟩ : ∃ n', n = n' + 1 := ⟨n - 1, by omega⟩
    have : i = s := by omega
    subst this
    rw [wY_emitBreak_8]
    exact br_t (nI_le (Nat.le_refl _) (by omega)) k
  | succ t ih =>
    intro i n hi hn
    obtain ⟨n, rfl⟩ : ∃ n', n = n' + 1 := ⟨n - 1, by omega⟩
    rw [wY_emitBreak_8]
    refine br_f (nI_ge (by omega) (by omega)) ?_
    refine lr_yem (by rw [List.length_append, lr_lnl]; omega) ?_
    rw [lr_lns]
    exact nm_r (nI_1 i) (ih (i + 1) n (by omega) (by omega))
theorem lr_yli {post : SY → Prop} (hl : l.length + s < 900000) (k : post (tl, nl, dl, tb, ss, os, nI (l ++ lr_ln s).length, cu, er, so, ou, lr_dr 256 (l ++ lr_ln s) dq, nk, np, mk, cl, ct, op, it)) :
    wpY_emitBreak post (tl, nl, dl, tb, ss, os, nI l.length, cu, er, so, ou, lr_dr 256 l dq, nk, np, mk, cl, ct, op, it) (nI s) := by
  unfold wpY_emitBreak
  refine lr_yem (by omega) ?_
  exact ⟨s + 1, lr_yli_ hl k s 0 (s + 1) (by omega) (by omega)⟩
/-- the draft becomes out -/
theorem lr_xpub_ {post : Int32 → SX → Prop} {L : Nat} (hL : L ≤ 256) (k : post (nI L) (tl, nl, dl, tb, ss, nI L, nI L, cu, ba, er, de, pe, ma, so, lr_cp dr L ou, dr, ts, nk, np, nf, nn, nc, nz, sN, sM, sI, lc, ib)) :
    ∀ t i n : Nat, i + t = L → t < n → wX_publish_16 post tl nl dl tb ss os (nI L) cu ba er de pe ma n (nI i) so (lr_cp dr i ou) dr ts nk np nf nn nc nz sN sM sI lc ib := by
  intro t
  induction t with
  | zero =>
    intro i n hi hn
    obtain ⟨n, rfl⟩ : ∃ n', n = n' + 1 := ⟨n - 1, by omega⟩
    have : i = L := by omega
    subst this
    rw [wX_publish_16]
    exact br_t (nI_le (Nat.le_refl _) (by omega)) k
  | succ t ih =>
    intro i n hi hn
    obtain ⟨n, rfl⟩ : ∃ n', n = n' + 1 := ⟨n - 1, by omega⟩
    rw [wX_publish_16]
    refine br_f (nI_ge (by omega) (by omega)) ⟨vp_in_nI (by omega) (by omega), ?_⟩
    rw [nI_clamp (show i < 2 ^ 31 by omega)]
    refine ⟨vp_in_nI (by omega) (by omega), nm_r lr_cps (nm_r (nI_1 i) ?_)⟩
    exact ih (i + 1) n (by omega) (by omega)
theorem lr_ypub_ {post : Int32 → SY → Prop} {L : Nat} (hL : L ≤ 256) (k : post (nI L) (tl, nl, dl, tb, ss, nI L, nI L, cu, er, so, lr_cp dq L ou, dq, nk, np, mk, cl, ct, op, it)) :
    ∀ t i n : Nat, i + t = L → t < n → wY_print_97 post tl nl dl tb ss os (nI L) cu er n (nI i) so (lr_cp dq i ou) dq nk np mk cl ct op it := by
  intro t
  induction t with
  | zero =>
    intro i n hi hn
    obtain ⟨n, rfl⟩ : ∃ n', n = n' + 1 := ⟨n - 1, by omega⟩
    have : i = L := by omega
    subst this
    rw [wY_print_97]
    exact br_t (nI_le (Nat.le_refl _) (by omega)) k
  | succ t ih =>
    intro i n hi hn
    obtain ⟨n, rfl⟩ : ∃ n', n = n' + 1 := ⟨n - 1, by omega⟩
    rw [wY_print_97]
    refine br_f (nI_ge (by omega) (by omega)) ⟨vp_in_nI (by omega) (by omega), ?_⟩
    rw [nI_clamp (show i < 2 ^ 31 by omega)]
    refine ⟨vp_in_nI (by omega) (by omega), nm_r lr_cps (nm_r (nI_1 i) ?_)⟩
    exact ih (i + 1) n (by omega) (by omega)
theorem lr_xpub {post : Int32 → SX → Prop} (hT : T ≤ 256) (hl : l.length ≤ T) (k : post (nI l.length) (nI T, nl, dl, tb, ss, nI l.length, nI l.length, cu, ba, er, de, pe, ma, so, lr_cp (fun i => l.getD i 0) l.length ou, lr_dr T l dr, ts, nk, np, nf, nn, nc, nz, sN, sM, sI, lc, ib)) : wpX_publish post (nI T, nl, dl, tb, ss, os, nI l.length, cu, ba, er, de, pe, ma, so, ou, lr_dr T l dr, ts, nk, np, nf, nn, nc, nz, sN, sM, sI, lc, ib) := by
  rw [lr_cpe (g := fun i => l.getD i 0) (g' := lr_dr T l dr) (fun j hj => (lr_drg hj (by omega)).symm)] at k
  unfold wpX_publish
  exact br_t (nI_le hl (by omega)) ⟨l.length + 1, lr_xpub_ (by omega) k l.length 0 (l.length + 1) (by omega) (by omega)⟩
theorem lr_xpubf {post : Int32 → SX → Prop} (hT : T ≤ 256) (hl : ¬ l.length ≤ T) (hl2 : l.length < 1000000) (k : post (-2) (nI T, nl, dl, tb, ss, os, nI l.length, cu, ba, er, de, pe, ma, so, ou, lr_dr T l dr, ts, nk, np, nf, nn, nc, nz, sN, sM, sI, lc, ib)) : wpX_publish post (nI T, nl, dl, tb, ss, os, nI l.length, cu, ba, er, de, pe, ma, so, ou, lr_dr T l dr, ts, nk, np, nf, nn, nc, nz, sN, sM, sI, lc, ib) := by
  unfold wpX_publish
  exact br_f (nI_ge (by omega) (by omega)) k
end EM
end
section
/-! leaving nodes -/
def lr_cz (br k : Int32) : List Int32 := if k = 2 then [41] else if k = 1 then (if br = 0 then [] else [125]) else []
theorem lr_czl (br k : Int32) : (lr_cz br k).length ≤ 1 := by
  unfold lr_cz
  by_cases h : k = 2
  · rw [if_pos h]; exact Nat.le_refl _
  · rw [if_neg h]
    by_cases h1 : k = 1
    · rw [if_pos h1]
      by_cases h2 : br = 0
      · rw [if_pos h2]; exact Nat.zero_le _
      · rw [if_neg h2]; exact Nat.le_refl _
    · rw [if_neg h1]; exact Nat.zero_le _
theorem lr_czk (br k : Int32) : lr_oks (lr_cz br k) := by
  unfold lr_cz
  by_cases h : k = 2
  · rw [if_pos h]; exact lr_ok1 (by decide)
  · rw [if_neg h]
    by_cases h1 : k = 1
    · rw [if_pos h1]
      by_cases h2 : br = 0
      · rw [if_pos h2]; exact lr_ok0
      · rw [if_neg h2]; exact lr_ok1 (by decide)
    · rw [if_neg h1]; exact lr_ok0
section CU
variable {tl nl dl tb ss os ds dy cu ba er de pe ma : Int32} {so ou dr dq ts nk np nf nn nc nz sN sM sI lc ib mk cl ct op it : Nat → Int32}
variable {T b c n : Nat} {l : List Int32}
theorem lr_xc73 {post : Int32 → SX → Prop} {J : Int32 → Int32 → Int32 → Int32 → Int32 → Int32 → Int32 → Int32 → Int32 → Int32 → Int32 → Int32 → Int32 → Int32 → Int32 → Int32 → (Nat → Int32) → (Nat → Int32) → (Nat → Int32) → (Nat → Int32) → (Nat → Int32) → (Nat → Int32) → (Nat → Int32) → (Nat → Int32) → (Nat → Int32) → (Nat → Int32) → (Nat → Int32) → (Nat → Int32) → (Nat → Int32) → (Nat → Int32) → (Nat → Int32) → Prop} {x2 x3 : Int32} {q st : Nat} (hb : b + 128 ≤ 256) (hq : q < 128)
    (k : J (np (b + q)) (nI q) (nI (st + 1)) tl nl dl tb ss os ds cu (nI b) er de pe ma so ou dr ts nk np nf nn nc nz sN sM sI lc ib) : wX_closeUpTo_73 post J x2 x3 (nI q) (nI st) tl nl dl tb ss os ds cu (nI b) er de pe ma so ou dr ts nk np nf nn nc nz sN sM sI lc ib := by
  unfold wX_closeUpTo_73
  exact lr_r (nI_add b q) (by omega) (by omega) (nm_r (nI_1 st) k)
/-- one step up, the component -/
theorem lr_xcs {post : Int32 → SX → Prop} {stop br la : Int32} {q st f : Nat} (hT : T ≤ 256) (hl : l.length < 900000) (hb : b + 128 ≤ 256) (hq : q < 128) (hst : st < 128) (hne : ¬ nI q = stop)
    (k : wX_closeUpTo_9 post stop br f (np (b + q)) (nI q) (nI (st + 1)) (nI T) nl dl tb ss os (nI (l ++ lr_cz br (nk (b + q))).length) cu (nI b) er de pe ma so ou (lr_dr T (l ++ lr_cz br (nk (b + q))) dr) ts nk np nf nn nc nz sN sM sI lc ib) :
    wX_closeUpTo_9 post stop br (f + 1) (nI q) la (nI st) (nI T) nl dl tb ss os (nI l.length) cu (nI b) er de pe ma so ou (lr_dr T l dr) ts nk np nf nn nc nz sN sM sI lc ib := by
  rw [wX_closeUpTo_9]
  refine br_f (nI_ge (b := 128) hst (by omega)) (br_f (nI_pos (by omega)) (br_f hne ?_))
  refine lr_r (nI_add b q) (by omega) (by omega) ?_
  unfold lr_cz at k
  by_cases h2 : nk (b + q) = 2
  · rw [if_pos h2] at k
    refine br_t h2 (lr_xem hT (by omega) ?_)
    exact lr_xc73 hb hq k
  · rw [if_neg h2] at k
    refine br_f h2 ?_
    by_cases h1 : nk (b + q) = 1
    · rw [if_pos h1] at k
      refine br_t h1 ?_
      by_cases h0 : br = 0
      · rw [if_pos h0, List.append_nil] at k
        exact br_t h0 (lr_xc73 hb hq k)
      · rw [if_neg h0] at k
        refine br_f h0 (lr_xem hT (by omega) ?_)
        exact lr_xc73 hb hq k
    · rw [if_neg h1, List.append_nil] at k
      exact br_f h1 (lr_xc73 hb hq k)
theorem lr_xce {post : Int32 → SX → Prop} {stop br la x6 : Int32} {f : Nat} (k : post la (tl, nl, dl, tb, ss, os, ds, cu, ba, er, de, pe, ma, so, ou, dr, ts, nk, np, nf, nn, nc, nz, sN, sM, sI, lc, ib)) : wX_closeUpTo_9 post stop br (f + 1) (-1) la x6 tl nl dl tb ss os ds cu ba er de pe ma so ou dr ts nk np nf nn nc nz sN sM sI lc ib := by
  rw [wX_closeUpTo_9]
  exact br_c (fun _ => k) (fun _ => br_t lr_n1 k)
/-- one step up, the reference -/
theorem lr_ycs {post : SY → Prop} {stop br : Int32} {q st f : Nat} (hl : l.length < 900000) (hc : c < 2) (hb : b = c * 128) (hn : ct c = nI n) (hq : q < n) (hn8 : n ≤ 128) (h0 : np b = -1) (hst : st < 128) (hne : ¬ nI q ≤ stop)
    (k : wY_emitEnds_6 post stop br f (np (b + q)) (nI (st + 1)) tl nl dl tb ss os (nI (l ++ lr_cz br (nk (b + q))).length) (nI c) er so ou (lr_dr 256 (l ++ lr_cz br (nk (b + q))) dq) nk np mk cl ct op it) :
    wY_emitEnds_6 post stop br (f + 1) (nI q) (nI st) tl nl dl tb ss os (nI l.length) (nI c) er so ou (lr_dr 256 l dq) nk np mk cl ct op it := by
  rw [wY_emitEnds_6]
  refine br_f (nI_ge (b := 128) hst (by omega)) (br_f hne ?_)
  refine lr_ykin hc hb hn hq hn8 ?_
  unfold lr_cz at k
  by_cases h2 : nk (b + q) = 2
  · rw [if_pos h2] at k
    refine br_t h2 (lr_yem (by omega) ?_)
    show wY_emitEnds_40 _ _ _ _ _ _ _ _ _ _ _ _ _ _ _ _ _ _ _ _ _ _ _ _ _ _
    unfold wY_emitEnds_40
    refine br_f (by rw [h2]; decide) ?_
    unfold wY_emitEnds_56
    exact lr_ypin hc hb hn hq hn8 h0 (nm_r (nI_1 st) k)
  · rw [if_neg h2] at k
    refine br_f h2 ?_
    unfold wY_emitEnds_40
    by_cases h1 : nk (b + q) = 1
    · rw [if_pos h1] at k
      refine br_t h1 ?_
      by_cases h0' : br = 0
      · rw [if_pos h0', List.append_nil] at k
        refine br_t h0' ?_
        unfold wY_emitEnds_56
        exact lr_ypin hc hb hn hq hn8 h0 (nm_r (nI_1 st) k)
      · rw [if_neg h0'] at k
        refine br_f h0' (lr_yem (by omega) ?_)
        show wY_emitEnds_56 _ _ _ _ _ _ _ _ _ _ _ _ _ _ _ _ _ _ _ _ _ _ _ _ _
        unfold wY_emitEnds_56
        exact lr_ypin hc hb hn hq hn8 h0 (nm_r (nI_1 st) k)
    · rw [if_neg h1, List.append_nil] at k
      refine br_f h1 ?_
      unfold wY_emitEnds_56
      exact lr_ypin hc hb hn hq hn8 h0 (nm_r (nI_1 st) k)
theorem lr_yce {post : SY → Prop} {br x6 : Int32} {f : Nat} (k : post (tl, nl, dl, tb, ss, os, dy, cu, er, so, ou, dq, nk, np, mk, cl, ct, op, it)) : wY_emitEnds_6 post (-1) br (f + 1) (-1) x6 tl nl dl tb ss os dy cu er so ou dq nk np mk cl ct op it := by
  rw [wY_emitEnds_6]
  exact br_c (fun _ => k) (fun _ => br_t (by decide) k)
/-- what is left last: nothing if the stop node is where it begins, else the child of the stop node on the way -/
def lr_lv2 (b : Nat) (np : Nat → Int32) (stop : Int32) (q : Nat) (la0 la : Int32) : Prop :=
  (stop = nI q ∧ la = la0) ∨ (¬ stop = nI q ∧ ∃ d, la = nI d ∧ d ≤ q ∧ np (b + d) = stop ∧ lr_A (lr_P np b) d q)
theorem lr_jcu {stop br : Int32} (hT : T ≤ 256) (hc : c < 2) (hb : b = c * 128) (hn : ts c = nI n) (hn8 : n ≤ 128) (hTr : lr_T b n nk np) :
    ∀ (N q : Nat) (la0 : Int32), q < N → q < n → (stop = -1 ∨ ∃ s, s < 128 ∧ stop = nI s ∧ lr_A (lr_P np b) s q) →
    ∃ (l' : List Int32) (la : Int32), l'.length ≤ q + 1 ∧ lr_oks l' ∧ (stop = nI q → l' = []) ∧ lr_lv2 b np stop q la0 la ∧
      (∀ (post : Int32 → SX → Prop) (st f : Nat) (l : List Int32), st + q < 128 → q + 1 < f → l.length + q < 800000 → post la (nI T, nl, dl, tb, ss, os, nI (l ++ l').length, nI c, nI b, er, de, pe, ma, so, ou, lr_dr T (l ++ l') dr, ts, nk, np, nf, nn, nc, nz, sN, sM, sI, lc, ib) →
        wX_closeUpTo_9 post stop br f (nI q) la0 (nI st) (nI T) nl dl tb ss os (nI l.length) (nI c) (nI b) er de pe ma so ou (lr_dr T l dr) ts nk np nf nn nc nz sN sM sI lc ib) ∧
      (∀ (post : SY → Prop) (st f : Nat) (l : List Int32), st + q < 128 → q + 1 < f → l.length + q < 800000 → post (nI T, nl, dl, tb, ss, os, nI (l ++ l').length, nI c, er, so, ou, lr_dr 256 (l ++ l') dq, nk, np, mk, cl, ts, op, it) →
        wY_emitEnds_6 post stop br f (nI q) (nI st) (nI T) nl dl tb ss os (nI l.length) (nI c) er so ou (lr_dr 256 l dq) nk np mk cl ts op it) := by
  have hb8 : b + 128 ≤ 256 := by omega
  have h0 := hTr.2.2.1
  intro N
  induction N with
  | zero => intro q la0 hq; omega
  | succ N ih =>
    intro q la0 hqN hq hstop
    by_cases hs : stop = nI q
    · refine ⟨[], la0, Nat.zero_le _, lr_ok0, fun _ => rfl, Or.inl ⟨hs, rfl⟩, ?_, ?_⟩
      · intro post st f l hst hf hl k
        obtain ⟨f, rfl⟩ : ∃ f', f = f' + 1 := ⟨f - 1, by omega⟩
        rw [List.append_nil] at k
        rw [wX_closeUpTo_9]
        exact br_f (nI_ge (b := 128) (by omega) (by omega)) (br_f (nI_pos (by omega)) (br_t hs.symm k))
      · intro post st f l hst hf hl k
        obtain ⟨f, rfl⟩ : ∃ f', f = f' + 1 := ⟨f - 1, by omega⟩
        rw [List.append_nil] at k
        rw [wY_emitEnds_6]
        exact br_f (nI_ge (b := 128) (by omega) (by omega)) (br_t (by rw [hs]; exact nI_le (Nat.le_refl _) (by omega)) k)
    · have hxne : ¬ nI q = stop := fun w => hs w.symm
      have hyne : ¬ nI q ≤ stop := by
        rcases hstop with w | ⟨s, s1, s2, s3⟩
        · rw [w]; exact lr_neg1.mpr (nI_pos' (by omega))
        · have h1 := lr_Ale (lr_Tle hTr) q hq s3
          have h2 : s ≠ q := by
            intro w; rw [w] at s2; exact hs s2
          rw [s2]; exact nI_ge (by omega) (by omega)
      have hzl := lr_czl br (nk (b + q))
      have hzk := lr_czk br (nk (b + q))
      by_cases hq0 : q = 0
      · subst hq0
        have hst1 : stop = -1 := by
          rcases hstop with w | ⟨s, s1, s2, s3⟩
          · exact w
          · have h1 := lr_Ale (lr_Tle hTr) 0 hq s3
            have : s = 0 := by omega
            rw [this] at s2; exact absurd s2 hs
        refine ⟨lr_cz br (nk (b + 0)), nI 0, hzl, hzk, fun w => absurd w hs, Or.inr ⟨hs, 0, rfl, Nat.le_refl _, by rw [Nat.add_zero, h0, hst1], lr_Arf _ _⟩, ?_, ?_⟩
        · intro post st f l hst hf hl k
          obtain ⟨f, rfl⟩ : ∃ f', f = f' + 2 := ⟨f - 2, by omega⟩
          refine lr_xcs hT (by omega) hb8 (by omega) (by omega) hxne ?_
          rw [show np (b + 0) = -1 from h0]
          exact lr_xce k
        · intro post st f l hst hf hl k
          obtain ⟨f, rfl⟩ : ∃ f', f = f' + 2 := ⟨f - 2, by omega⟩
          refine lr_ycs (by omega) hc hb hn hq hn8 h0 (by omega) hyne ?_
          rw [show np (b + 0) = -1 from h0, hst1]
          exact lr_yce k
      · have hPq := (lr_TPO hTr q (by omega) hq).1
        have hnp := lr_Tp hTr (by omega) hq
        obtain ⟨l', la, g1, g2, _, g3, gX, gY⟩ := ih (lr_P np b q) (nI q) (by omega) (by omega) (by
          rcases hstop with w | ⟨s, s1, s2, s3⟩
          · exact Or.inl w
          · refine Or.inr ⟨s, s1, s2, ?_⟩
            rcases lr_Ainv s3 with w | w
            · rw [w] at s2; exact absurd s2 hs
            · exact w)
        refine ⟨lr_cz br (nk (b + q)) ++ l', la, ?_, lr_oka hzk g2, fun w => absurd w hs, Or.inr ⟨hs, ?_⟩, ?_, ?_⟩
        · rw [List.length_append]; omega
        · rcases g3 with ⟨w1, w2⟩ | ⟨w1, d, d1, d2, d3, d4⟩
          · exact ⟨q, w2, Nat.le_refl _, by rw [hnp, w1], lr_Arf _ _⟩
          · exact ⟨d, d1, by omega, d3, lr_Aup d4⟩
        · intro post st f l hst hf hl k
          obtain ⟨f, rfl⟩ : ∃ f', f = f' + 1 := ⟨f - 1, by omega⟩
          refine lr_xcs hT (by omega) hb8 (by omega) (by omega) hxne ?_
          rw [hnp]
          refine gX post (st + 1) f _ (by omega) (by omega) (by rw [List.length_append]; omega) ?_
          rw [List.append_assoc]; exact k
        · intro post st f l hst hf hl k
          obtain ⟨f, rfl⟩ : ∃ f', f = f' + 1 := ⟨f - 1, by omega⟩
          refine lr_ycs (by omega) hc hb hn hq hn8 h0 (by omega) hyne ?_
          rw [hnp]
          refine gY post (st + 1) f _ (by omega) (by omega) (by rw [List.length_append]; omega) ?_
          rw [List.append_assoc]; exact k
end CU
end
section
/-! the braced print -/
theorem lr_prev {b n k : Nat} {nk np : Nat → Int32} {la : Int32} (hT : lr_T b n nk np) (h0 : 0 < k) (hk : k < n) (h : lr_lv2 b np (np (b + k)) (k - 1) (-1) la) : lr_L b k np (lr_P np b k) la := by
  have hn8 := hT.2.1
  have hnp := lr_Tp hT h0 hk
  have hle := lr_Tle hT k hk
  rcases h with ⟨h1, h2⟩ | ⟨h1, d, d1, d2, d3, d4⟩
  · refine Or.inl ⟨h2, fun j hj w => ?_⟩
    have e : lr_P np b k = k - 1 := lr_im (hnp.symm.trans h1) (by omega) (by omega)
    rw [e] at w
    by_cases z : j = 0
    · subst z
      rw [Nat.add_zero, hT.2.2.1] at w
      exact lr_1ne (by omega) w
    · rw [lr_Tp hT (by omega) (by omega)] at w
      have h3 := (lr_TPO hT j (by omega) (by omega)).1
      have h4 := lr_im w (by omega) (by omega)
      omega
  · have hd0 : 0 < d := by
      by_cases z : d = 0
      · subst z
        rw [Nat.add_zero, hT.2.2.1, hnp] at d3
        exact absurd d3 (lr_1ne (by omega))
      · omega
    refine Or.inr ⟨d, by omega, d1, d3.trans hnp, fun j j1 j2 w => ?_⟩
    have hj := lr_Tp hT (show 0 < j by omega) (show j < n by omega)
    have hjl := lr_Tle hT j (by omega)
    rw [hj] at w
    have e1 := lr_im w (by omega) (by omega)
    have hdl := lr_Tle hT d (by omega)
    have e2 : lr_P np b d = lr_P np b k := by
      have h5 := (lr_Tp hT hd0 (show d < n by omega)).symm.trans (d3.trans hnp)
      exact lr_im h5 (by omega) (by omega)
    exact lr_Ano (lr_T0 hT) (lr_TPO hT) hd0 (show k - 1 < n by omega) d4 j1 (by omega) (e1.trans e2.symm)
theorem lr_fst {b n k : Nat} {nk np : Nat → Int32} {la r : Int32} (hT : lr_T b n nk np) (h0 : 0 < k) (hk : k < n) (hL : lr_L b k np (lr_P np b k) la) (hF : lr_F b n np (lr_P np b k) r) : la = -1 ↔ r = nI k := by
  have hn8 := hT.2.1
  have hnp := lr_Tp hT h0 hk
  constructor
  · intro e
    have hno : ∀ j, j < k → np (b + j) ≠ nI (lr_P np b k) := by
      rcases hL with ⟨_, h⟩ | ⟨f, f1, f2, _⟩
      · exact h
      · exact absurd (e.symm.trans f2) (lr_1ne (by omega))
    rcases hF with ⟨_, h⟩ | ⟨f, f1, f2, f3, f4⟩
    · exact absurd hnp (h k hk)
    · have : f = k := by
        by_cases w : f < k
        · exact absurd f3 (hno f w)
        · by_cases w2 : k < f
          · exact absurd hnp (f4 k w2)
          · omega
      rw [f2, this]
  · intro e
    rcases hL with ⟨h, _⟩ | ⟨f, f1, f2, f3, f4⟩
    · exact h
    · exfalso
      rcases hF with ⟨h, _⟩ | ⟨g, g1, g2, g3, g4⟩
      · exact absurd (h.symm.trans e) (lr_1ne (by omega))
      · have : g = k := lr_im (g2.symm.trans e) (by omega) (by omega)
        subst this
        exact g4 f f1 f3
/-- the kind of a node below the root -/
theorem lr_kc {b n k : Nat} {nk np : Nat → Int32} (hT : lr_T b n nk np) (h0 : 0 < k) (hk : k < n) :
    (nk (b + k) = 3 ∧ (nk (b + lr_P np b k) = 1 ∨ nk (b + lr_P np b k) = 2)) ∨ (nk (b + k) = 1 ∧ nk (b + lr_P np b k) = 3) ∨ (nk (b + k) = 2 ∧ nk (b + lr_P np b k) = 3) ∨ (lr_let (nk (b + k)) ∧ nk (b + lr_P np b k) = 3) := by
  rcases lr_Tk hT h0 hk with ⟨h1, h2⟩ | ⟨h1 | h1 | h1, h2⟩
  · exact Or.inl ⟨h1, h2⟩
  · exact Or.inr (Or.inl ⟨h1, h2⟩)
  · exact Or.inr (Or.inr (Or.inl ⟨h1, h2⟩))
  · exact Or.inr (Or.inr (Or.inr ⟨h1, h2⟩))
section BP
variable {tl nl dl tb ss os ds dy cu ba er de pe ma : Int32} {so ou dr dq ts nk np nf nn nc nz sN sM sI lc ib mk cl ct op it : Nat → Int32}
variable {T b c n k : Nat}
/-- leaving, for the node k to come -/
theorem lr_jc {br : Int32} (hT : T ≤ 256) (hc : c < 2) (hb : b = c * 128) (hn : ts c = nI n) (hn8 : n ≤ 128) (hTr : lr_T b n nk np) (hk : k < n) :
    ∃ (l' : List Int32) (la : Int32), l'.length ≤ k + 1 ∧ lr_oks l' ∧ (k = 0 → la = -1) ∧ (0 < k → lr_L b k np (lr_P np b k) la) ∧ (0 < k → lr_P np b k = k - 1 → l' = []) ∧ (0 < k → la = -1 → lr_P np b k = k - 1) ∧
      (∀ (post : Int32 → SX → Prop) (l : List Int32), l.length + k < 800000 → post la (nI T, nl, dl, tb, ss, os, nI (l ++ l').length, nI c, nI b, er, de, pe, ma, so, ou, lr_dr T (l ++ l') dr, ts, nk, np, nf, nn, nc, nz, sN, sM, sI, lc, ib) →
        wpX_closeUpTo post (nI T, nl, dl, tb, ss, os, nI l.length, nI c, nI b, er, de, pe, ma, so, ou, lr_dr T l dr, ts, nk, np, nf, nn, nc, nz, sN, sM, sI, lc, ib) (nI k - 1) (np (b + k)) br) ∧
      (∀ (post : SY → Prop) (l : List Int32), l.length + k < 800000 → post (nI T, nl, dl, tb, ss, os, nI (l ++ l').length, nI c, er, so, ou, lr_dr 256 (l ++ l') dq, nk, np, mk, cl, ts, op, it) →
        wpY_emitEnds post (nI T, nl, dl, tb, ss, os, nI l.length, nI c, er, so, ou, lr_dr 256 l dq, nk, np, mk, cl, ts, op, it) (nI k - 1) (np (b + k)) br) := by
  by_cases hk0 : k = 0
  · subst hk0
    have e0 : np (b + 0) = -1 := hTr.2.2.1
    refine ⟨[], -1, Nat.zero_le _, lr_ok0, fun _ => rfl, fun w => absurd w (by omega), fun w => absurd w (by omega), fun w => absurd w (by omega), ?_, ?_⟩
    · intro post l hl k
      rw [List.append_nil] at k
      rw [e0, lr_z1]
      unfold wpX_closeUpTo
      exact ⟨1, lr_xce k⟩
    · intro post l hl k
      rw [List.append_nil] at k
      rw [e0, lr_z1]
      unfold wpY_emitEnds
      exact ⟨1, lr_yce k⟩
  · have h0 : 0 < k := by omega
    have hnp := lr_Tp hTr h0 hk
    have hP := lr_TPO hTr k h0 hk
    obtain ⟨l', la, g1, g2, g5, g3, gX, gY⟩ := lr_jcu (stop := np (b + k)) (br := br) (nl := nl) (dl := dl) (tb := tb) (ss := ss) (os := os) (er := er) (de := de) (pe := pe) (ma := ma) (so := so) (ou := ou) (dr := dr) (dq := dq) (nf := nf) (nn := nn) (nc := nc) (nz := nz) (sN := sN) (sM := sM) (sI := sI) (lc := lc) (ib := ib) (mk := mk) (cl := cl) (op := op) (it := it) hT hc hb hn hn8 hTr k (k - 1) (-1) (by omega) (by omega) (Or.inr ⟨lr_P np b k, by omega, hnp, hP.2⟩)
    refine ⟨l', la, by omega, g2, fun w => absurd w hk0, fun _ => lr_prev hTr h0 hk g3, fun _ w => g5 (by rw [hnp, w]), fun _ w => ?_, ?_, ?_⟩
    · rcases g3 with ⟨w1, _⟩ | ⟨_, d, d1, d2, _⟩
      · exact lr_im (hnp.symm.trans w1) (by omega) (by omega)
      · exact absurd (w.symm.trans d1) (lr_1ne (by omega))
    · intro post l hl K
      rw [lr_s h0]
      unfold wpX_closeUpTo
      exact ⟨k + 1, gX post 0 (k + 1) l (by omega) (by omega) (by omega) K⟩
    · intro post l hl K
      rw [lr_s h0]
      unfold wpY_emitEnds
      exact ⟨k + 1, gY post 0 (k + 1) l (by omega) (by omega) (by omega) K⟩
/-- leaving, at the end -/
theorem lr_jcn {br : Int32} (hT : T ≤ 256) (hc : c < 2) (hb : b = c * 128) (hn : ts c = nI n) (hn8 : n ≤ 128) (hTr : lr_T b n nk np) :
    ∃ (l' : List Int32), l'.length ≤ n ∧ lr_oks l' ∧
      (∀ (post : SX → Prop) (l : List Int32), l.length + n < 800000 → post (nI T, nl, dl, tb, ss, os, nI (l ++ l').length, nI c, nI b, er, de, pe, ma, so, ou, lr_dr T (l ++ l') dr, ts, nk, np, nf, nn, nc, nz, sN, sM, sI, lc, ib) →
        wpX_closeUpTo (fun _ u => post u) (nI T, nl, dl, tb, ss, os, nI l.length, nI c, nI b, er, de, pe, ma, so, ou, lr_dr T l dr, ts, nk, np, nf, nn, nc, nz, sN, sM, sI, lc, ib) (nI n - 1) (-1) br) ∧
      (∀ (post : SY → Prop) (l : List Int32), l.length + n < 800000 → post (nI T, nl, dl, tb, ss, os, nI (l ++ l').length, nI c, er, so, ou, lr_dr 256 (l ++ l') dq, nk, np, mk, cl, ts, op, it) →
        wpY_emitEnds post (nI T, nl, dl, tb, ss, os, nI l.length, nI c, er, so, ou, lr_dr 256 l dq, nk, np, mk, cl, ts, op, it) (nI n - 1) (-1) br) := by
  have h0 := hTr.1
  obtain ⟨l', la, g1, g2, g5, g3, gX, gY⟩ := lr_jcu (stop := -1) (br := br) (nl := nl) (dl := dl) (tb := tb) (ss := ss) (os := os) (er := er) (de := de) (pe := pe) (ma := ma) (so := so) (ou := ou) (dr := dr) (dq := dq) (nf := nf) (nn := nn) (nc := nc) (nz := nz) (sN := sN) (sM := sM) (sI := sI) (lc := lc) (ib := ib) (mk := mk) (cl := cl) (op := op) (it := it) hT hc hb hn hn8 hTr n (n - 1) (-1) (by omega) (by omega) (Or.inl rfl)
  refine ⟨l', by omega, g2, ?_, ?_⟩
  · intro post l hl K
    rw [lr_s h0]
    unfold wpX_closeUpTo
    exact ⟨n + 1, gX (fun _ u => post u) 0 (n + 1) l (by omega) (by omega) (by omega) K⟩
  · intro post l hl K
    rw [lr_s h0]
    unfold wpY_emitEnds
    exact ⟨n + 1, gY post 0 (n + 1) l (by omega) (by omega) (by omega) K⟩
/-- the node k entered -/
theorem lr_jeb {la : Int32} (hT : T ≤ 256) (hc : c < 2) (hb : b = c * 128) (hn : ts c = nI n) (hn8 : n ≤ 128) (hTr : lr_T b n nk np) (hF : lr_LF b n np nf nn) (hk : k < n) (hl0 : k = 0 → la = -1) (hl1 : 0 < k → lr_L b k np (lr_P np b k) la) :
    ∃ (l' : List Int32), l'.length ≤ 2 ∧ lr_oks l' ∧
      (∀ (post : SX → Prop) (l : List Int32), l.length < 800000 → post (nI T, nl, dl, tb, ss, os, nI (l ++ l').length, nI c, nI b, er, de, pe, ma, so, ou, lr_dr T (l ++ l') dr, ts, nk, np, nf, nn, nc, nz, sN, sM, sI, lc, ib) →
        wpX_enterBraced post (nI T, nl, dl, tb, ss, os, nI l.length, nI c, nI b, er, de, pe, ma, so, ou, lr_dr T l dr, ts, nk, np, nf, nn, nc, nz, sN, sM, sI, lc, ib) (nI k) la) ∧
      (∀ (post : SY → Prop) (l : List Int32), l.length < 800000 → post (nI T, nl, dl, tb, ss, os, nI (l ++ l').length, nI c, er, so, ou, lr_dr 256 (l ++ l') dq, nk, np, mk, cl, ts, op, it) →
        wpY_startBraced post (nI T, nl, dl, tb, ss, os, nI l.length, nI c, er, so, ou, lr_dr 256 l dq, nk, np, mk, cl, ts, op, it) (nI k) (np (b + k))) := by
  have hb8 : b + 128 ≤ 256 := by omega
  have eb : nI b + nI k = nI (b + k) := nI_add b k
  have hin : vp_in (nI b + nI k) 256 := lr_in eb (by omega) (by omega)
  by_cases hk0 : k = 0
  · subst hk0
    have e0 : nk (b + 0) = 1 := hTr.2.2.2.1
    refine ⟨[123], by decide, lr_ok1 (by decide), ?_, ?_⟩
    · intro post l hl K
      unfold wpX_enterBraced
      refine lr_r eb (by omega) (by omega) ?_
      rw [e0]
      refine br_f (by decide) (br_f (by decide) (br_t rfl (br_t (by decide) ?_)))
      unfold wX_enterBraced_98
      exact lr_xem hT (by omega) K
    · intro post l hl K
      unfold wpY_startBraced
      refine lr_ykin hc hb hn hk hn8 ?_
      rw [e0]
      refine br_f (by decide) (br_t rfl (br_t (by decide) ?_))
      unfold wY_startBraced_58
      exact lr_yem (by omega) K
  · have h0 : 0 < k := by omega
    have hnp := lr_Tp hTr h0 hk
    have hle := (lr_TPO hTr k h0 hk).1
    have hL := hl1 h0
    have hfs := lr_fst hTr h0 hk hL (hF (lr_P np b k) (by omega)).1
    rcases lr_kc hTr h0 hk with ⟨h3, hp⟩ | ⟨h1, hp⟩ | ⟨h2, hp⟩ | ⟨hlt, hp⟩
    · by_cases hla : la = -1
      · refine ⟨[], by decide, lr_ok0, ?_, ?_⟩
        · intro post l hl K
          rw [List.append_nil] at K
          unfold wpX_enterBraced
          refine lr_r eb (by omega) (by omega) ?_
          exact br_t h3 (br_t hla K)
        · intro post l hl K
          rw [List.append_nil] at K
          unfold wpY_startBraced
          refine lr_ykin hc hb hn hk hn8 (br_t h3 ?_)
          rw [hnp]
          refine lr_yfin hc hb hn (by omega) hn8 (hF _ (by omega)).1 ?_
          exact br_t (hfs.mp hla) K
      · have ep : nI b + nI (lr_P np b k) = nI (b + lr_P np b k) := nI_add _ _
        by_cases hg : nk (b + lr_P np b k) = 2
        · refine ⟨[44], by decide, lr_ok1 (by decide), ?_, ?_⟩
          · intro post l hl K
            unfold wpX_enterBraced
            refine lr_r eb (by omega) (by omega) ?_
            refine br_t h3 (br_f hla (lr_r eb (by omega) (by omega) ?_))
            rw [hnp]
            refine ⟨lr_in ep (by omega) (by omega), ?_⟩
            rw [lr_rd (f := nk) ep (by omega)]
            exact br_t hg (lr_xem hT (by omega) K)
          · intro post l hl K
            unfold wpY_startBraced
            refine lr_ykin hc hb hn hk hn8 (br_t h3 ?_)
            rw [hnp]
            refine lr_yfin hc hb hn (by omega) hn8 (hF _ (by omega)).1 ?_
            refine br_f (fun w => hla (hfs.mpr w)) (lr_ykin hc hb hn (by omega) hn8 (br_t hg ?_))
            unfold wY_startBraced_37
            exact lr_yem (by omega) K
        · refine ⟨[59], by decide, lr_ok1 (by decide), ?_, ?_⟩
          · intro post l hl K
            unfold wpX_enterBraced
            refine lr_r eb (by omega) (by omega) ?_
            refine br_t h3 (br_f hla (lr_r eb (by omega) (by omega) ?_))
            rw [hnp]
            refine ⟨lr_in ep (by omega) (by omega), ?_⟩
            rw [lr_rd (f := nk) ep (by omega)]
            exact br_f hg (lr_xem hT (by omega) K)
          · intro post l hl K
            unfold wpY_startBraced
            refine lr_ykin hc hb hn hk hn8 (br_t h3 ?_)
            rw [hnp]
            refine lr_yfin hc hb hn (by omega) hn8 (hF _ (by omega)).1 ?_
            refine br_f (fun w => hla (hfs.mpr w)) (lr_ykin hc hb hn (by omega) hn8 (br_f hg ?_))
            unfold wY_startBraced_37
            exact lr_yem (by omega) K
    · refine ⟨[58] ++ [123], by decide, lr_oka (lr_ok1 (by decide)) (lr_ok1 (by decide)), ?_, ?_⟩
      · intro post l hl K
        rw [← List.append_assoc] at K
        unfold wpX_enterBraced
        refine lr_r eb (by omega) (by omega) ?_
        rw [h1]
        refine br_f (by decide) (br_f (by decide) (br_t rfl (br_f (nI_nle h0 (by omega)) (lr_xem hT (by omega) ?_))))
        show wX_enterBraced_98 _ _ _ _ _ _ _ _ _ _ _ _ _ _ _ _ _ _ _ _ _ _ _ _ _ _ _ _ _
        unfold wX_enterBraced_98
        exact lr_xem hT (by rw [lr_la]; omega) K
      · intro post l hl K
        rw [← List.append_assoc] at K
        unfold wpY_startBraced
        refine lr_ykin hc hb hn hk hn8 ?_
        rw [h1]
        refine br_f (by decide) (br_t rfl (br_f (nI_nle h0 (by omega)) (lr_yem (by omega) ?_)))
        show wY_startBraced_58 _ _ _ _ _ _ _ _ _ _ _ _ _ _ _ _ _ _ _ _
        unfold wY_startBraced_58
        exact lr_yem (by rw [lr_la]; omega) K
    · refine ⟨[40], by decide, lr_ok1 (by decide), ?_, ?_⟩
      · intro post l hl K
        unfold wpX_enterBraced
        refine lr_r eb (by omega) (by omega) ?_
        rw [h2]
        exact br_f (by decide) (br_t rfl (lr_xem hT (by omega) K))
      · intro post l hl K
        unfold wpY_startBraced
        refine lr_ykin hc hb hn hk hn8 ?_
        rw [h2]
        exact br_f (by decide) (br_f (by decide) (br_t rfl (lr_yem (by omega) K)))
    · refine ⟨[nk (b + k)], (show 1 ≤ 2 by omega), lr_ok1 (Or.inl hlt), ?_, ?_⟩
      · intro post l hl K
        unfold wpX_enterBraced
        refine lr_r eb (by omega) (by omega) ?_
        exact br_f (lr_letn hlt (by decide)) (br_f (lr_letn hlt (by decide)) (br_f (lr_letn hlt (by decide)) (lr_xem hT (by omega) K)))
      · intro post l hl K
        unfold wpY_startBraced
        refine lr_ykin hc hb hn hk hn8 ?_
        exact br_f (lr_letn hlt (by decide)) (br_f (lr_letn hlt (by decide)) (br_f (lr_letn hlt (by decide)) (lr_yem (by omega) K)))
end BP
end
section
/-! the braced print, all of it -/
section BL
variable {tl nl dl tb ss os ds dy cu ba er de pe ma : Int32} {so ou dr dq ts nk np nf nn nc nz sN sM sI lc ib mk cl ct op it : Nat → Int32}
variable {T b c n : Nat}
theorem lr_jbl (hT : T ≤ 256) (hc : c < 2) (hb : b = c * 128) (hn : ts c = nI n) (hn8 : n ≤ 128) (hTr : lr_T b n nk np) (hF : lr_LF b n np nf nn) :
    ∀ (t k : Nat) (l : List Int32), k + t = n → l.length ≤ 1000 * k → lr_oks l →
    ∃ L : List Int32, L.length ≤ 1000 * n + 1000 ∧ lr_oks L ∧
      (∀ post : Int32 → SX → Prop, (L.length ≤ T → post (nI L.length) (nI T, nl, dl, tb, ss, nI L.length, nI L.length, nI c, nI b, er, de, pe, ma, so, lr_cp (fun i => L.getD i 0) L.length ou, lr_dr T L dr, ts, nk, np, nf, nn, nc, nz, sN, sM, sI, lc, ib)) → (¬ L.length ≤ T → post (-2) (nI T, nl, dl, tb, ss, os, nI L.length, nI c, nI b, er, de, pe, ma, so, ou, lr_dr T L dr, ts, nk, np, nf, nn, nc, nz, sN, sM, sI, lc, ib)) →
        wX_printBraced_23 post (nI n) (t + 1) (nI k) (nI T) nl dl tb ss os (nI l.length) (nI c) (nI b) er de pe ma so ou (lr_dr T l dr) ts nk np nf nn nc nz sN sM sI lc ib) ∧
      (∀ post : Int32 → SY → Prop, (L.length ≤ T → post (nI L.length) (nI T, nl, dl, tb, ss, nI L.length, nI L.length, nI c, er, so, lr_cp (fun i => L.getD i 0) L.length ou, lr_dr 256 L dq, nk, np, mk, cl, ts, op, it)) → (¬ L.length ≤ T → post (-2) (nI T, nl, dl, tb, ss, os, nI L.length, nI c, er, so, ou, lr_dr 256 L dq, nk, np, mk, cl, ts, op, it)) →
        wY_print_23 post 1 (nI n) (t + 1) (nI k) (nI T) nl dl tb ss os (nI l.length) (nI c) er so ou (lr_dr 256 l dq) nk np mk cl ts op it) := by
  intro t
  induction t with
  | zero =>
    intro k l hk hl hok
    have : k = n := by omega
    subst this
    obtain ⟨l', g1, g2, gX, gY⟩ := lr_jcn (br := 1) (nl := nl) (dl := dl) (tb := tb) (ss := ss) (os := os) (er := er) (de := de) (pe := pe) (ma := ma) (so := so) (ou := ou) (dr := dr) (dq := dq) (nf := nf) (nn := nn) (nc := nc) (nz := nz) (sN := sN) (sM := sM) (sI := sI) (lc := lc) (ib := ib) (mk := mk) (cl := cl) (op := op) (it := it) hT hc hb hn hn8 hTr
    have hlen : (l ++ l').length ≤ 1000 * k + 1000 := by rw [List.length_append]; omega
    refine ⟨l ++ l', hlen, lr_oka hok g2, ?_, ?_⟩
    · intro post k1 k2
      rw [wX_printBraced_23]
      refine br_t (nI_le (Nat.le_refl _) (by omega)) (gX _ l (by omega) ?_)
      by_cases hr : (l ++ l').length ≤ T
      · exact lr_xpub hT hr (k1 hr)
      · exact lr_xpubf hT hr (by omega) (k2 hr)
    · intro post k1 k2
      rw [wY_print_23]
      refine br_t (nI_le (Nat.le_refl _) (by omega)) (gY _ l (by omega) ?_)
      by_cases hr : (l ++ l').length ≤ T
      · have k3 := k1 hr
        rw [lr_cpe (g := fun i => (l ++ l').getD i 0) (g' := lr_dr 256 (l ++ l') dq) (fun j hj => (lr_drg hj (by omega)).symm)] at k3
        exact br_t (nI_le hr (by omega)) ⟨(l ++ l').length + 1, lr_ypub_ (by omega) k3 (l ++ l').length 0 ((l ++ l').length + 1) (by omega) (by omega)⟩
      · exact br_f (nI_ge (by omega) (by omega)) (k2 hr)
  | succ t ih =>
    intro k l hk hl hok
    have hkn : k < n := by omega
    obtain ⟨l1, la, g1, g2, g3, g4, g5, g6, gX, gY⟩ := lr_jc (br := 1) (nl := nl) (dl := dl) (tb := tb) (ss := ss) (os := os) (er := er) (de := de) (pe := pe) (ma := ma) (so := so) (ou := ou) (dr := dr) (dq := dq) (nf := nf) (nn := nn) (nc := nc) (nz := nz) (sN := sN) (sM := sM) (sI := sI) (lc := lc) (ib := ib) (mk := mk) (cl := cl) (op := op) (it := it) hT hc hb hn hn8 hTr hkn
    obtain ⟨l2, f1, f2, fX, fY⟩ := lr_jeb (nl := nl) (dl := dl) (tb := tb) (ss := ss) (os := os) (er := er) (de := de) (pe := pe) (ma := ma) (so := so) (ou := ou) (dr := dr) (dq := dq) (nc := nc) (nz := nz) (sN := sN) (sM := sM) (sI := sI) (lc := lc) (ib := ib) (mk := mk) (cl := cl) (op := op) (it := it) hT hc hb hn hn8 hTr hF hkn g3 g4
    have hlen : ((l ++ l1) ++ l2).length ≤ 1000 * (k + 1) := by rw [List.length_append, List.length_append]; omega
    have hlen1 : (l ++ l1).length < 800000 := by rw [List.length_append]; omega
    obtain ⟨L, e1, e2, eX, eY⟩ := ih (k + 1) ((l ++ l1) ++ l2) (by omega) hlen (lr_oka (lr_oka hok g2) f2)
    refine ⟨L, e1, e2, ?_, ?_⟩
    · intro post k1 k2
      rw [wX_printBraced_23]
      refine br_f (nI_ge (by omega) (by omega)) ⟨lr_in (nI_add b k) (by omega) (by omega), ?_⟩
      rw [lr_rd (f := np) (nI_add b k) (by omega)]
      refine gX _ l (by omega) ?_
      refine fX _ (l ++ l1) hlen1 ?_
      exact nm_r (nI_1 k) (eX post k1 k2)
    · intro post k1 k2
      rw [wY_print_23]
      refine br_f (nI_ge (by omega) (by omega)) ?_
      refine lr_ypin hc hb hn hkn hn8 hTr.2.2.1 ?_
      refine gY _ l (by omega) ?_
      refine br_f (by decide) (fY _ (l ++ l1) hlen1 ?_)
      exact nm_r (nI_1 k) (eY post k1 k2)
end BL
theorem lr_outk {L : List Int32} {ou : Nat → Int32} (h : lr_oks L) : ∀ i, i < L.length → lr_ok (lr_cp (fun i => L.getD i 0) L.length ou i) := by
  intro i hi
  rw [lr_cpl hi]
  show lr_ok (L.getD i 0)
  rw [List.getD_eq_getElem?_getD, List.getElem?_eq_getElem hi]
  exact h _ (List.getElem_mem hi)
theorem i_vc_printBraced {k : Nat} {u : SX} {v : SY} (I : i_Rel k u v) (hk : k + 3 ≤ 1540) : wpX_printBraced (fun r u' => wpY_printBraced (fun r' v' => r' = r ∧ i_Rel (k + 3) u' v') v) u := by
  refine lr_el (P := fun u v => wpX_printBraced (fun r u' => wpY_printBraced (fun r' v' => r' = r ∧ i_Rel (k + 3) u' v') v) u) ?_ I
  intro T NL DL TB S O c ds dy er de pe ma so ou dr dq ts nk np nf nn nc nz sN sM sI lc ib mk cl op it h
  have hR : i_Rel (k + 3) (nI T, nI NL, nI DL, nI TB, nI S, nI O, ds, nI c, nI (c * 128), er, de, pe, ma, so, ou, dr, ts, nk, np, nf, nn, nc, nz, sN, sM, sI, lc, ib) (nI T, nI NL, nI DL, nI TB, nI S, nI O, dy, nI c, er, so, ou, dq, nk, np, mk, cl, ts, op, it) := lr_ri h
  have hc : c < 2 := h.1.2.2.2.2.2.2.1
  obtain ⟨n, hn, hS⟩ := h.2 c hc
  have hn8 := lr_SLn hS
  unfold wpX_printBraced wpY_printBraced
  refine lr_r (n := c) rfl hc (by omega) ?_
  rw [hn]
  by_cases hz : n = 0
  · subst hz
    refine br_t (by decide) ?_
    unfold wpY_print
    refine lr_r (n := c) rfl hc (by omega) ?_
    rw [hn]
    exact br_t (by decide) ⟨rfl, hR⟩
  · rcases hS with w | ⟨hT, hF, hB⟩
    · exact absurd w hz
    obtain ⟨⟨hTT, hNL, hDL, hTB, hST, hOT, _, hso, hou⟩, hsl⟩ := h
    obtain ⟨L, e1, e2, eX, eY⟩ := lr_jbl (T := T) (nl := nI NL) (dl := nI DL) (tb := nI TB) (ss := nI S) (os := nI O) (er := er) (de := de) (pe := pe) (ma := ma) (so := so) (ou := ou) (dr := dr) (dq := dq) (nc := nc) (nz := nz) (sN := sN) (sM := sM) (sI := sI) (lc := lc) (ib := ib) (mk := mk) (cl := cl) (op := op) (it := it) hTT.2 hc rfl hn hn8 hT hF n 0 [] (by omega) (Nat.zero_le _) lr_ok0
    rw [lr_dr0] at eX
    rw [lr_dr0] at eY
    refine br_f (nI_ne0 (by omega) (by omega)) ⟨n + 1, eX _ (fun hr => ?_) (fun hr => ?_)⟩
    · unfold wpY_print
      refine lr_r (n := c) rfl hc (by omega) ?_
      rw [hn]
      refine br_f (nI_ne0 (by omega) (by omega)) ⟨n + 1, eY _ (fun _ => ?_) (fun w => absurd hr w)⟩
      exact ⟨rfl, lr_ri ⟨⟨hTT, hNL, hDL, hTB, hST, hr, hc, hso, lr_outk e2⟩, hsl⟩⟩
    · unfold wpY_print
      refine lr_r (n := c) rfl hc (by omega) ?_
      rw [hn]
      refine br_f (nI_ne0 (by omega) (by omega)) ⟨n + 1, eY _ (fun w => absurd w hr) (fun _ => ?_)⟩
      exact ⟨rfl, lr_ri ⟨⟨hTT, hNL, hDL, hTB, hST, hOT, hc, hso, hou⟩, hsl⟩⟩
end
section
/-! the indented print: bases, the sibling before -/
def lr_bs (nk : Nat → Int32) (b : Nat) (P : Nat → Nat) : Nat → Nat → Nat
  | 0, _ => 0
  | f + 1, k => if k = 0 then 0 else lr_bs nk b P f (P k) + (if nk (b + k) = 1 then 2 else 0)
theorem lr_bse {nk : Nat → Int32} {b f k : Nat} {P : Nat → Nat} (h : ¬ k = 0) : lr_bs nk b P (f + 1) k = lr_bs nk b P f (P k) + (if nk (b + k) = 1 then 2 else 0) := if_neg h
theorem lr_bsf {nk : Nat → Int32} {b n : Nat} {P : Nat → Nat} (hP : ∀ k, 0 < k → k < n → P k < k) : ∀ N f k : Nat, f ≤ N → k ≤ f → k < n → lr_bs nk b P f k = lr_bs nk b P k k := by
  intro N
  induction N with
  | zero =>
    intro f k h1 h2 _
    have e1 : f = 0 := by omega
    have e2 : k = 0 := by omega
    rw [e1, e2]
  | succ N ih =>
    intro f k h1 h2 h3
    cases k with
    | zero =>
      cases f with
      | zero => rfl
      | succ f =>
        show (if (0 : Nat) = 0 then 0 else lr_bs nk b P f (P 0) + (if nk (b + 0) = 1 then 2 else 0)) = 0
        exact if_pos rfl
    | succ k =>
      obtain ⟨f, rfl⟩ : ∃ f', f = f' + 1 := ⟨f - 1, by omega⟩
      have hp := hP (k + 1) (by omega) h3
      rw [lr_bse (f := f) (show ¬ k + 1 = 0 by omega), lr_bse (f := k) (show ¬ k + 1 = 0 by omega), ih f (P (k + 1)) (by omega) (by omega) (by omega), ih k (P (k + 1)) (by omega) (by omega) (by omega)]
def lr_bb (nk np : Nat → Int32) (b k : Nat) : Nat := lr_bs nk b (lr_P np b) k k
theorem lr_bb0 {nk np : Nat → Int32} {b : Nat} : lr_bb nk np b 0 = 0 := rfl
theorem lr_bbs {nk np : Nat → Int32} {b n k : Nat} (hT : lr_T b n nk np) (h0 : 0 < k) (hk : k < n) : lr_bb nk np b k = lr_bb nk np b (lr_P np b k) + (if nk (b + k) = 1 then 2 else 0) := by
  have hP : ∀ k, 0 < k → k < n → lr_P np b k < k := fun k h1 h2 => (lr_TPO hT k h1 h2).1
  have hp := hP k h0 hk
  obtain ⟨k, rfl⟩ : ∃ k', k = k' + 1 := ⟨k - 1, by omega⟩
  unfold lr_bb
  rw [lr_bse (f := k) (show ¬ k + 1 = 0 by omega), lr_bsf hP k k (lr_P np b (k + 1)) (by omega) (by omega) (by omega)]
theorem lr_bbl {nk np : Nat → Int32} {b n : Nat} (hT : lr_T b n nk np) : ∀ N k : Nat, k < N → k < n → lr_bb nk np b k ≤ 2 * k := by
  intro N
  induction N with
  | zero => intro k hk; omega
  | succ N ih =>
    intro k h1 h2
    by_cases z : k = 0
    · subst z; rw [lr_bb0]; omega
    · have hp := (lr_TPO hT k (by omega) h2).1
      have h3 := ih (lr_P np b k) (by omega) (by omega)
      rw [lr_bbs hT (by omega) h2]
      by_cases w : nk (b + k) = 1
      · rw [if_pos w]; omega
      · rw [if_neg w]; omega
theorem lr_Lu {b k p : Nat} {np : Nat → Int32} {r r' : Int32} (h : lr_L b k np p r) (h' : lr_L b k np p r') : r = r' := by
  rcases h with ⟨e, h⟩ | ⟨f, f1, f2, f3, f4⟩
  · rcases h' with ⟨e', _⟩ | ⟨g, g1, g2, g3, g4⟩
    · rw [e, e']
    · exact absurd g3 (h g g1)
  · rcases h' with ⟨_, h'⟩ | ⟨g, g1, g2, g3, g4⟩
    · exact absurd f3 (h' f f1)
    · have : f = g := by
        by_cases w : f < g
        · exact absurd g3 (f4 g w g1)
        · by_cases w2 : g < f
          · exact absurd f3 (g4 f w2 f1)
          · omega
      rw [f2, g2, this]
theorem lr_Ls0 {b p : Nat} {np : Nat → Int32} : lr_L b 0 np p (-1) := Or.inl ⟨rfl, fun j hj => absurd hj (by omega)⟩
theorem lr_Lsy {b j p : Nat} {np : Nat → Int32} (e : np (b + j) = nI p) : lr_L b (j + 1) np p (nI j) :=
  Or.inr ⟨j, by omega, rfl, e, fun i h1 h2 => absurd h1 (by omega)⟩
theorem lr_Lsn {b j p : Nat} {np : Nat → Int32} {r : Int32} (e : ¬ np (b + j) = nI p) (h : lr_L b j np p r) : lr_L b (j + 1) np p r := by
  rcases h with ⟨h1, h2⟩ | ⟨f, f1, f2, f3, f4⟩
  · refine Or.inl ⟨h1, fun i hi => ?_⟩
    by_cases w : i = j
    · rw [w]; exact e
    · exact h2 i (by omega)
  · refine Or.inr ⟨f, by omega, f2, f3, fun i h1 h2 => ?_⟩
    by_cases w : i = j
    · rw [w]; exact e
    · exact f4 i h1 (by omega)
section YB
variable {tl nl dl tb ss os dy cu er : Int32} {so ou dq nk np mk cl ct op it : Nat → Int32}
variable {b c n k p : Nat}
theorem lr_ybase {post : SY → Prop} {x1 x2 : Int32} (hc : c < 2) (hb : b = c * 128) (hn : ct c = nI n) (hn8 : n ≤ 128) (hTr : lr_T b n nk np) :
    ∀ (N q acc st f : Nat), q < N → q < n → st + q < 128 → q < f → acc + 2 * q < 100000 → wY_startIndented_53 post x1 x2 (nI (acc + lr_bb nk np b q)) tl nl dl tb ss os dy (nI c) er so ou dq nk np mk cl ct op it → wY_startIndented_13 post x1 x2 tl nl dl tb ss os dy (nI c) er so ou dq nk np mk cl ct op it f (nI acc) (nI q) (nI st) := by
  intro N
  induction N with
  | zero => intro q acc st f h; omega
  | succ N ih =>
    intro q acc st f h1 h2 h3 h4 h5 K
    obtain ⟨f, rfl⟩ : ∃ f', f = f' + 1 := ⟨f - 1, by omega⟩
    rw [wY_startIndented_13]
    refine br_f (nI_ge (b := 128) (by omega) (by omega)) ?_
    by_cases z : q = 0
    · subst z
      exact br_t (by decide) K
    · have hp := (lr_TPO hTr q (by omega) h2).1
      have hnp := lr_Tp hTr (by omega) h2
      rw [lr_bbs hTr (by omega) h2] at K
      refine br_f (nI_nle (by omega) (by omega)) (lr_ykin hc hb hn h2 hn8 ?_)
      by_cases w : nk (b + q) = 1
      · rw [if_pos w] at K
        refine br_t w (nm_r (nI_add acc 2) ?_)
        unfold wY_startIndented_39
        refine lr_ypin hc hb hn h2 hn8 hTr.2.2.1 ?_
        rw [hnp]
        refine nm_r (nI_1 st) (ih (lr_P np b q) (acc + 2) (st + 1) f (by omega) (by omega) (by omega) (by omega) (by omega) ?_)
        rw [show acc + 2 + lr_bb nk np b (lr_P np b q) = acc + (lr_bb nk np b (lr_P np b q) + 2) by omega]; exact K
      · rw [if_neg w] at K
        refine br_f w ?_
        unfold wY_startIndented_39
        refine lr_ypin hc hb hn h2 hn8 hTr.2.2.1 ?_
        rw [hnp]
        exact nm_r (nI_1 st) (ih (lr_P np b q) acc (st + 1) f (by omega) (by omega) (by omega) (by omega) (by omega) K)
theorem lr_ybef {post : SY → Prop} {x3 x5 la : Int32} (hc : c < 2) (hb : b = c * 128) (hn : ct c = nI n) (hn8 : n ≤ 128) (hk : k < n) (h0 : np b = -1) (hL : lr_L b k np p la)
    (K : ∀ f, wY_startIndented_126 post (nI k) (nI p) x3 x5 tl nl dl tb ss os dy (nI c) er so ou dq nk np mk cl ct op it (f + 1) la (nI k)) : ∀ (t j f : Nat) (r : Int32), j + t = k → t < f → lr_L b j np p r → wY_startIndented_126 post (nI k) (nI p) x3 x5 tl nl dl tb ss os dy (nI c) er so ou dq nk np mk cl ct op it f r (nI j) := by
  intro t
  induction t with
  | zero =>
    intro j f r hj hf hr
    obtain ⟨f, rfl⟩ : ∃ f', f = f' + 1 := ⟨f - 1, by omega⟩
    have : j = k := by omega
    subst this
    rw [lr_Lu hr hL]; exact K f
  | succ t ih =>
    intro j f r hj hf hr
    obtain ⟨f, rfl⟩ : ∃ f', f = f' + 1 := ⟨f - 1, by omega⟩
    rw [wY_startIndented_126]
    refine br_f (nI_ge (by omega) (by omega)) (lr_ypin hc hb hn (by omega) hn8 h0 ?_)
    by_cases w : np (b + j) = nI p
    · exact br_t w (nm_r (nI_1 j) (ih (j + 1) f (nI j) (by omega) (by omega) (lr_Lsy w)))
    · exact br_f w (nm_r (nI_1 j) (ih (j + 1) f r (by omega) (by omega) (lr_Lsn w hr)))
end YB
end
section
/-! the indented print: a node entered -/
def lr_tx (f s : Int32) (bp : Nat) : List Int32 := if f = -1 then (if s = -1 then [] else lr_ln (bp + 2) ++ [59]) else lr_ln (bp + 2)
def lr_ty (f s : Int32) (bp : Nat) : List Int32 := if f = -1 then (if s = -1 then [] else lr_ln (bp + 2) ++ [59]) else []
def lr_ex (t f s : Int32) (bp : Nat) : List Int32 := if t = 2 then [40] else if t = 1 then [58] ++ lr_tx f s bp else [t]
def lr_ey (t f s : Int32) (bp : Nat) : List Int32 := if t = 2 then [40] else if t = 1 then [58] ++ lr_ty f s bp else [t]
def lr_pr (nk : Nat → Int32) (b : Nat) (la : Int32) (bp : Nat) : List Int32 := if la = -1 then [] else if nk (b + la.toNatClampNeg) = 1 then lr_ln (bp + 1) else []
def lr_qx (la t : Int32) (bp : Nat) : List Int32 := if la = -1 then [] else if t = 2 then [44] else lr_ln bp
def lr_qy (la t : Int32) (p bp : Nat) : List Int32 := if t = 2 then (if la = -1 then [] else [44]) else if p = 0 then (if la = -1 then [] else lr_ln bp) else lr_ln bp
/-- an entered node's text, the component's and the reference's -/
def lr_nx (nk nf nn : Nat → Int32) (b k p : Nat) (la : Int32) (bp : Nat) : List Int32 := if nk (b + k) = 3 then lr_qx la (nk (b + p)) bp else lr_pr nk b la bp ++ lr_ex (nk (b + k)) (nf (b + k)) (nn (b + k)) bp
def lr_ny (nk nf nn : Nat → Int32) (b k p : Nat) (la : Int32) (bp : Nat) : List Int32 := if nk (b + k) = 3 then lr_qy la (nk (b + p)) p bp else lr_pr nk b la bp ++ lr_ey (nk (b + k)) (nf (b + k)) (nn (b + k)) bp
def lr_G (nk np : Nat → Int32) (b : Nat) : Nat → Int32 := fun j => nI (lr_bb nk np b j)
section IN
variable {tl nl dl tb ss os ds dy cu ba er de pe ma : Int32} {so ou dr dq ts nk np nf nn nc nz sN sM sI lc ib mk cl ct op it : Nat → Int32}
variable {T b c n k p bp : Nat} {la : Int32} {l : List Int32}
theorem lr_xel {post : SX → Prop} (hT : T ≤ 256) (hl : l.length < 700000) (hb : b + 128 ≤ 256) (hk : k < 128) (hbp : bp < 1000) (hG : lr_bb nk np b k = bp + (if nk (b + k) = 1 then 2 else 0))
    (K : post (nI T, nl, dl, tb, ss, os, nI (l ++ lr_ex (nk (b + k)) (nf (b + k)) (nn (b + k)) bp).length, nI c, nI b, er, de, pe, ma, so, ou, lr_dr T (l ++ lr_ex (nk (b + k)) (nf (b + k)) (nn (b + k)) bp) dr, ts, nk, np, nf, nn, nc, nz, sN, sM, sI, lc, lr_cp (lr_G nk np b) (k + 1) ib)) :
    wpX_enterElement post (nI T, nl, dl, tb, ss, os, nI l.length, nI c, nI b, er, de, pe, ma, so, ou, lr_dr T l dr, ts, nk, np, nf, nn, nc, nz, sN, sM, sI, lc, upd (lr_cp (lr_G nk np b) k ib) k (nI bp)) (nI k) (nI bp) := by
  have eb : nI b + nI k = nI (b + k) := nI_add b k
  have hin : vp_in (nI b + nI k) 256 := lr_in eb (by omega) (by omega)
  have ecl : (nI b + nI k).toNatClampNeg = b + k := by rw [eb, nI_clamp (by omega)]
  have e2 : nI bp + 2 = nI (bp + 2) := nI_add bp 2
  rw [← lr_cps, show lr_G nk np b k = nI (lr_bb nk np b k) from rfl, hG] at K
  unfold wpX_enterElement
  refine lr_r eb (by omega) (by omega) ?_
  unfold lr_ex at K
  by_cases h2 : nk (b + k) = 2
  · rw [if_pos h2, if_neg (by rw [h2]; decide)] at K
    exact br_t h2 (lr_xem hT (by omega) K)
  · rw [if_neg h2] at K
    refine br_f h2 ?_
    by_cases h1 : nk (b + k) = 1
    · rw [if_pos h1, if_pos h1, ← List.append_assoc] at K
      refine br_t h1 (lr_w rfl (by omega) (by omega) ?_)
      rw [lr_uu, e2]
      refine lr_xem hT (by omega) ⟨hin, ?_⟩
      rw [ecl]
      unfold lr_tx at K
      by_cases hf : nf (b + k) = -1
      · rw [if_pos hf] at K
        refine br_t hf ⟨hin, ?_⟩
        by_cases hs : nn (b + k) = -1
        · rw [if_pos hs, List.append_nil] at K
          exact br_t hs K
        · rw [if_neg hs, ← List.append_assoc] at K
          refine br_f hs (lr_xli hT (by rw [lr_la]; omega) ?_)
          exact lr_xem hT (by rw [List.length_append, lr_la, lr_lnl]; omega) K
      · rw [if_neg hf] at K
        exact br_f hf (lr_xli hT (by rw [lr_la]; omega) K)
    · rw [if_neg h1, if_neg h1] at K
      exact br_f h1 (lr_xem hT (by omega) K)
theorem lr_yel {post : SY → Prop} (hl : l.length < 700000) (hc : c < 2) (hb : b = c * 128) (hn : ct c = nI n) (hk : k < n) (hn8 : n ≤ 128) (hTr : lr_T b n nk np) (hF : lr_LF b n np nf nn) (hbp : bp < 1000)
    (K : post (nI T, nl, dl, tb, ss, os, nI (l ++ lr_ey (nk (b + k)) (nf (b + k)) (nn (b + k)) bp).length, nI c, er, so, ou, lr_dr 256 (l ++ lr_ey (nk (b + k)) (nf (b + k)) (nn (b + k)) bp) dq, nk, np, mk, cl, ct, op, it)) :
    wY_startIndented_169 post (nI k) (nI bp) (nk (b + k)) (nI T) nl dl tb ss os (nI l.length) (nI c) er so ou (lr_dr 256 l dq) nk np mk cl ct op it := by
  have e2 : nI bp + 2 = nI (bp + 2) := nI_add bp 2
  unfold wY_startIndented_169
  unfold lr_ey at K
  by_cases h1 : nk (b + k) = 1
  · have h2 : ¬ nk (b + k) = 2 := by rw [h1]; decide
    rw [if_neg h2, if_pos h1, ← List.append_assoc] at K
    refine br_t h1 (lr_yem (by omega) ?_)
    refine lr_yfin hc hb hn hk hn8 (hF k hk).1 ?_
    unfold lr_ty at K
    by_cases hf : nf (b + k) = -1
    · rw [if_pos hf] at K
      refine br_t hf (lr_ynin hc hb hn hk hn8 hTr (hF k hk).2 ?_)
      by_cases hs : nn (b + k) = -1
      · rw [if_pos hs, List.append_nil] at K
        exact br_t hs K
      · rw [if_neg hs, ← List.append_assoc] at K
        rw [e2]
        refine br_f hs (lr_yli (by rw [lr_la]; omega) ?_)
        exact lr_yem (by rw [List.length_append, lr_la, lr_lnl]; omega) K
    · rw [if_neg hf, List.append_nil] at K
      exact br_f hf K
  · refine br_f h1 ?_
    by_cases h2 : nk (b + k) = 2
    · rw [if_pos h2] at K
      exact br_t h2 (lr_yem (by omega) K)
    · rw [if_neg h2, if_neg h1] at K
      exact br_f h2 (lr_yem (by omega) K)
theorem lr_xei {post : SX → Prop} (hT : T ≤ 256) (hl : l.length < 600000) (hb : b + 128 ≤ 256) (hk : k < n) (hn8 : n ≤ 128) (h0 : 0 < k) (hTr : lr_T b n nk np) (hL : lr_L b k np (lr_P np b k) la)
    (K : post (nI T, nl, dl, tb, ss, os, nI (l ++ lr_nx nk nf nn b k (lr_P np b k) la (lr_bb nk np b (lr_P np b k))).length, nI c, nI b, er, de, pe, ma, so, ou, lr_dr T (l ++ lr_nx nk nf nn b k (lr_P np b k) la (lr_bb nk np b (lr_P np b k))) dr, ts, nk, np, nf, nn, nc, nz, sN, sM, sI, lc, lr_cp (lr_G nk np b) (k + 1) ib)) :
    wpX_enterIndented post (nI T, nl, dl, tb, ss, os, nI l.length, nI c, nI b, er, de, pe, ma, so, ou, lr_dr T l dr, ts, nk, np, nf, nn, nc, nz, sN, sM, sI, lc, lr_cp (lr_G nk np b) k ib) (nI k) la := by
  have hnp := lr_Tp hTr h0 hk
  have hP := (lr_TPO hTr k h0 hk).1
  have hbs := lr_bbs hTr h0 hk
  have hbl := lr_bbl hTr k (lr_P np b k) hP (by omega)
  generalize hp : lr_P np b k = p at *
  generalize hbp : lr_bb nk np b p = bp at *
  have eb : nI b + nI k = nI (b + k) := nI_add b k
  have hin : vp_in (nI b + nI k) 256 := lr_in eb (by omega) (by omega)
  have ecl : (nI b + nI k).toNatClampNeg = b + k := by rw [eb, nI_clamp (by omega)]
  have ep : nI b + nI p = nI (b + p) := nI_add b p
  have hinp : vp_in (nI b + nI p) 256 := lr_in ep (by omega) (by omega)
  have eclp : (nI b + nI p).toNatClampNeg = b + p := by rw [ep, nI_clamp (by omega)]
  have e1 : nI bp + 1 = nI (bp + 1) := nI_1 bp
  have eib : lr_cp (lr_G nk np b) k ib p = nI bp := by
    rw [lr_cpl hP, show lr_G nk np b p = nI (lr_bb nk np b p) from rfl, hbp]
  unfold wpX_enterIndented
  refine lr_r eb (by omega) (by omega) ?_
  rw [hnp]
  refine lr_r (n := p) rfl (by omega) (by omega) ?_
  rw [eib]
  refine lr_w (n := k) rfl (by omega) (by omega) ⟨hin, ?_⟩
  rw [ecl]
  unfold lr_nx at K
  by_cases h3 : nk (b + k) = 3
  · rw [if_pos h3, ← lr_cps, show lr_G nk np b k = nI (lr_bb nk np b k) from rfl, hbs, if_neg (by rw [h3]; decide)] at K
    unfold lr_qx at K
    refine br_t h3 ?_
    by_cases hla : la = -1
    · rw [if_pos hla, List.append_nil] at K
      exact br_t hla K
    · rw [if_neg hla] at K
      refine br_f hla ?_
      unfold wpX_separateIndented
      refine ⟨hinp, ?_⟩
      rw [eclp]
      by_cases hg : nk (b + p) = 2
      · rw [if_pos hg] at K
        exact br_t hg (lr_xem hT (by omega) K)
      · rw [if_neg hg] at K
        exact br_f hg (lr_xli hT (by omega) K)
  · rw [if_neg h3, ← List.append_assoc] at K
    refine br_f h3 ?_
    unfold lr_pr at K
    by_cases hla : la = -1
    · rw [if_pos hla, List.append_nil] at K
      refine br_t hla ?_
      unfold wX_enterIndented_84
      exact lr_xel hT (by omega) hb (by omega) (by omega) hbs K
    · rw [if_neg hla] at K
      obtain ⟨d, d1, d2⟩ : ∃ d, d < k ∧ la = nI d := by
        rcases hL with ⟨w, _⟩ | ⟨f, f1, f2, _⟩
        · exact absurd w hla
        · exact ⟨f, f1, f2⟩
      subst d2
      rw [nI_clamp (show d < 2 ^ 31 by omega)] at K
      refine br_f hla ⟨lr_in (nI_add b d) (by omega) (by omega), ?_⟩
      rw [lr_rd (f := nk) (nI_add b d) (by omega)]
      by_cases hd : nk (b + d) = 1
      · rw [if_pos hd] at K
        rw [e1]
        refine br_t hd (lr_xli hT (by omega) ?_)
        show wX_enterIndented_84 _ _ _ _ _ _ _ _ _ _ _ _ _ _ _ _ _ _ _ _ _ _ _ _ _ _ _ _ _ _ _
        unfold wX_enterIndented_84
        exact lr_xel hT (by rw [List.length_append, lr_lnl]; omega) hb (by omega) (by omega) hbs K
      · rw [if_neg hd, List.append_nil] at K
        refine br_f hd ?_
        unfold wX_enterIndented_84
        exact lr_xel hT (by omega) hb (by omega) (by omega) hbs K
theorem lr_yei {post : SY → Prop} (hl : l.length < 600000) (hc : c < 2) (hb : b = c * 128) (hn : ct c = nI n) (hk : k < n) (hn8 : n ≤ 128) (h0 : 0 < k) (hTr : lr_T b n nk np) (hF : lr_LF b n np nf nn) (hL : lr_L b k np (lr_P np b k) la)
    (K : post (nI T, nl, dl, tb, ss, os, nI (l ++ lr_ny nk nf nn b k (lr_P np b k) la (lr_bb nk np b (lr_P np b k))).length, nI c, er, so, ou, lr_dr 256 (l ++ lr_ny nk nf nn b k (lr_P np b k) la (lr_bb nk np b (lr_P np b k))) dq, nk, np, mk, cl, ct, op, it)) :
    wpY_startIndented post (nI T, nl, dl, tb, ss, os, nI l.length, nI c, er, so, ou, lr_dr 256 l dq, nk, np, mk, cl, ct, op, it) (nI k) (np (b + k)) := by
  have hnp := lr_Tp hTr h0 hk
  have hP := (lr_TPO hTr k h0 hk).1
  have hbl := lr_bbl hTr k (lr_P np b k) hP (by omega)
  have hfs := lr_fst hTr h0 hk hL (hF (lr_P np b k) (by omega)).1
  have hFp := (hF (lr_P np b k) (by omega)).1
  rw [hnp]
  unfold wpY_startIndented
  refine br_f (nI_ne0 h0 (by omega)) ⟨n + 1, ?_⟩
  refine lr_ybase hc hb hn hn8 hTr k (lr_P np b k) 0 0 (n + 1) hP (by omega) (by omega) (by omega) (by omega) ?_
  rw [Nat.zero_add]
  generalize hp : lr_P np b k = p at *
  generalize hbp : lr_bb nk np b p = bp at *
  have e1 : nI bp + 1 = nI (bp + 1) := nI_1 bp
  unfold wY_startIndented_53
  refine lr_ykin hc hb hn hk hn8 ?_
  refine lr_yfin hc hb hn (by omega) hn8 hFp ?_
  -- one text for both values of the flag
  have K74 : ∀ z : Int32, (z = 0 ↔ ¬ la = -1) → wY_startIndented_74 post (nI k) (nI p) (nI bp) (nk (b + k)) z (nI T) nl dl tb ss os (nI l.length) (nI c) er so ou (lr_dr 256 l dq) nk np mk cl ct op it := by
    intro z hz
    unfold wY_startIndented_74
    unfold lr_ny at K
    by_cases h3 : nk (b + k) = 3
    · rw [if_pos h3] at K
      refine br_t h3 (lr_ykin hc hb hn (by omega) hn8 ?_)
      unfold lr_qy at K
      by_cases hg : nk (b + p) = 2
      · rw [if_pos hg] at K
        refine br_t hg ?_
        by_cases hla : la = -1
        · rw [if_pos hla, List.append_nil] at K
          exact br_f (fun w => hz.mp w hla) K
        · rw [if_neg hla] at K
          exact br_t (hz.mpr hla) (lr_yem (by omega) K)
      · rw [if_neg hg] at K
        refine br_f hg ?_
        by_cases hp0 : p = 0
        · rw [if_pos hp0] at K
          refine br_t ((lr_eq0 (by omega)).mpr hp0) ?_
          by_cases hla : la = -1
          · rw [if_pos hla, List.append_nil] at K
            exact br_f (fun w => hz.mp w hla) K
          · rw [if_neg hla] at K
            refine br_t (hz.mpr hla) ?_
            unfold wY_startIndented_114
            exact lr_yli (by omega) K
        · rw [if_neg hp0] at K
          refine br_f (fun w => hp0 ((lr_eq0 (by omega)).mp w)) ?_
          unfold wY_startIndented_114
          exact lr_yli (by omega) K
    · rw [if_neg h3, ← List.append_assoc] at K
      refine br_f h3 ⟨k + 1, lr_ybef hc hb hn hn8 hk hTr.2.2.1 hL (fun f => ?_) k 0 (k + 1) (-1) (by omega) (by omega) lr_Ls0⟩
      rw [wY_startIndented_126]
      refine br_t (nI_le (Nat.le_refl _) (by omega)) ?_
      unfold lr_pr at K
      by_cases hla : la = -1
      · rw [if_pos hla, List.append_nil] at K
        rw [hla]
        exact lr_ykout hc hn hn8 (Or.inl lr_n1) (br_f (by decide) (lr_yel (by omega) hc hb hn hk hn8 hTr hF (by omega) K))
      · rw [if_neg hla] at K
        obtain ⟨d, d1, d2⟩ : ∃ d, d < k ∧ la = nI d := by
          rcases hL with ⟨w, _⟩ | ⟨f, f1, f2, _⟩
          · exact absurd w hla
          · exact ⟨f, f1, f2⟩
        subst d2
        rw [nI_clamp (show d < 2 ^ 31 by omega)] at K
        refine lr_ykin hc hb hn (by omega) hn8 ?_
        by_cases hd : nk (b + d) = 1
        · rw [if_pos hd] at K
          rw [e1]
          refine br_t hd (lr_yli (by omega) ?_)
          exact lr_yel (by rw [List.length_append, lr_lnl]; omega) hc hb hn hk hn8 hTr hF (by omega) K
        · rw [if_neg hd, List.append_nil] at K
          exact br_f hd (lr_yel (by omega) hc hb hn hk hn8 hTr hF (by omega) K)
  by_cases hla : la = -1
  · exact br_t (hfs.mp hla) (K74 1 ⟨fun w => absurd w (by decide), fun w => absurd hla w⟩)
  · exact br_f (fun w => hla (hfs.mpr w)) (K74 0 ⟨fun _ => hla, fun _ => rfl⟩)
end IN
end
section
/-! the indented print: both texts are one -/
def lr_pc (nk nf : Nat → Int32) (b k : Nat) : Prop := 2 ≤ k ∧ nk (b + (k - 1)) = 1 ∧ ¬ nf (b + (k - 1)) = -1
theorem lr_kid {b n k : Nat} {nk np nf nn : Nat → Int32} (hT : lr_T b n nk np) (hF : lr_LF b n np nf nn) (hk : k ≤ n) (h : lr_pc nk nf b k) : k < n ∧ lr_P np b k = k - 1 := by
  obtain ⟨h2, h3, h4⟩ := h
  have hn8 := hT.2.1
  rcases (hF (k - 1) (by omega)).1 with ⟨w, _⟩ | ⟨f, f1, f2, f3, f4⟩
  · exact absurd w h4
  · have hf0 : 0 < f := by
      by_cases z : f = 0
      · subst z
        rw [Nat.add_zero, hT.2.2.1] at f3
        exact absurd f3 (lr_1ne (by omega))
      · omega
    have hfl := (lr_TPO hT f hf0 f1).1
    have e1 : lr_P np b f = k - 1 := lr_im ((lr_Tp hT hf0 f1).symm.trans f3) (by omega) (by omega)
    have hkn : k < n := by omega
    refine ⟨hkn, ?_⟩
    have a1 : lr_A (lr_P np b) (k - 1) f := lr_Aup (by rw [e1]; exact lr_Arf _ _)
    have a2 : lr_A (lr_P np b) (k - 1) k := lr_Act' (lr_TPO hT) (by omega) (by omega) f1 a1
    have hkl := (lr_TPO hT k (by omega) hkn).1
    rcases lr_Ainv a2 with w | w
    · omega
    · have := lr_Ale (lr_Tle hT) (lr_P np b k) (by omega) w
      omega
section RL
variable {b n k : Nat} {nk np nf nn : Nat → Int32} {la : Int32}
theorem lr_rel1 (hT : lr_T b n nk np) (hF : lr_LF b n np nf nn) (hk : k < n) (hL : lr_L b k np (lr_P np b k) la) (h : lr_pc nk nf b k) :
    lr_nx nk nf nn b k (lr_P np b k) la (lr_bb nk np b (lr_P np b k)) = [] ∧ lr_ny nk nf nn b k (lr_P np b k) la (lr_bb nk np b (lr_P np b k)) = lr_ln (lr_bb nk np b (k - 1)) ∧ ¬ lr_pc nk nf b (k + 1) := by
  have hn8 := hT.2.1
  have hP := (lr_kid hT hF (by omega) h).2
  obtain ⟨h2, h3, h4⟩ := h
  have h3k : nk (b + k) = 3 := by
    rcases lr_kc hT (by omega) hk with w | w | w | w
    · exact w.1
    · rw [hP, h3] at w; exact absurd w.2 (by decide)
    · rw [hP, h3] at w; exact absurd w.2 (by decide)
    · rw [hP, h3] at w; exact absurd w.2 (by decide)
  rw [hP] at hL ⊢
  have hla : la = -1 := by
    rcases hL with ⟨w, _⟩ | ⟨f, f1, f2, f3, f4⟩
    · exact w
    · exfalso
      have hf0 : 0 < f := by
        by_cases z : f = 0
        · subst z
          rw [Nat.add_zero, hT.2.2.1] at f3
          exact absurd f3 (lr_1ne (by omega))
        · omega
      have hfl := (lr_TPO hT f hf0 (by omega)).1
      have e1 : lr_P np b f = k - 1 := lr_im ((lr_Tp hT hf0 (by omega)).symm.trans f3) (by omega) (by omega)
      omega
  refine ⟨?_, ?_, ?_⟩
  · unfold lr_nx lr_qx
    rw [if_pos h3k, if_pos hla]
  · unfold lr_ny lr_qy
    rw [if_pos h3k, if_neg (by rw [h3]; decide), if_neg (by omega)]
  · rintro ⟨_, w, _⟩
    rw [show k + 1 - 1 = k by omega, h3k] at w
    exact absurd w (by decide)
theorem lr_rel0 (hT : lr_T b n nk np) (hF : lr_LF b n np nf nn) (h0 : 0 < k) (hk : k < n) (hL : lr_L b k np (lr_P np b k) la) (hl1 : la = -1 → lr_P np b k = k - 1) (h : ¬ lr_pc nk nf b k) :
    (lr_pc nk nf b (k + 1) → lr_nx nk nf nn b k (lr_P np b k) la (lr_bb nk np b (lr_P np b k)) = lr_ny nk nf nn b k (lr_P np b k) la (lr_bb nk np b (lr_P np b k)) ++ lr_ln (lr_bb nk np b k)) ∧
    (¬ lr_pc nk nf b (k + 1) → lr_nx nk nf nn b k (lr_P np b k) la (lr_bb nk np b (lr_P np b k)) = lr_ny nk nf nn b k (lr_P np b k) la (lr_bb nk np b (lr_P np b k))) := by
  have hn8 := hT.2.1
  have hbs := lr_bbs hT h0 hk
  have hfs := lr_fst hT h0 hk hL (hF (lr_P np b k) (by have := (lr_TPO hT k h0 hk).1; omega)).1
  have ek : k + 1 - 1 = k := by omega
  by_cases h3 : nk (b + k) = 3
  · refine ⟨fun w => ?_, fun _ => ?_⟩
    · have := w.2.1
      rw [ek, h3] at this
      exact absurd this (by decide)
    · unfold lr_nx lr_ny
      rw [if_pos h3, if_pos h3]
      unfold lr_qx lr_qy
      by_cases hla : la = -1
      · rw [if_pos hla, if_pos hla, if_pos hla]
        by_cases hg : nk (b + lr_P np b k) = 2
        · rw [if_pos hg]
        · rw [if_neg hg]
          by_cases hp0 : lr_P np b k = 0
          · rw [if_pos hp0]
          · exfalso
            have e := hl1 hla
            refine h ⟨by omega, ?_, ?_⟩
            · rw [← e]
              rcases lr_kc hT h0 hk with w | w | w | w
              · rcases w.2 with w | w
                · exact w
                · exact absurd w hg
              · rw [h3] at w; exact absurd w.1 (by decide)
              · rw [h3] at w; exact absurd w.1 (by decide)
              · rw [h3] at w; exact absurd w.1 (by decide)
            · rw [← e, hfs.mp hla]; exact lr_ne1 (by omega)
      · rw [if_neg hla, if_neg hla, if_neg hla]
        by_cases hg : nk (b + lr_P np b k) = 2
        · rw [if_pos hg, if_pos hg]
        · rw [if_neg hg, if_neg hg]
          by_cases hp0 : lr_P np b k = 0
          · rw [if_pos hp0]
          · rw [if_neg hp0]
  · unfold lr_nx lr_ny
    rw [if_neg h3, if_neg h3]
    unfold lr_ex lr_ey
    by_cases h2 : nk (b + k) = 2
    · refine ⟨fun w => ?_, fun _ => ?_⟩
      · have := w.2.1
        rw [ek, h2] at this
        exact absurd this (by decide)
      · rw [if_pos h2, if_pos h2]
    · rw [if_neg h2, if_neg h2]
      by_cases h1 : nk (b + k) = 1
      · rw [if_pos h1, if_pos h1]
        rw [if_pos h1] at hbs
        unfold lr_tx lr_ty
        by_cases hf : nf (b + k) = -1
        · refine ⟨fun w => ?_, fun _ => ?_⟩
          · have := w.2.2
            rw [ek] at this
            exact absurd hf this
          · rw [if_pos hf, if_pos hf]
        · refine ⟨fun _ => ?_, fun w => ?_⟩
          · rw [if_neg hf, if_neg hf, List.append_nil, hbs, List.append_assoc]
          · exact absurd ⟨by omega, by rw [ek]; exact h1, by rw [ek]; exact hf⟩ w
      · refine ⟨fun w => ?_, fun _ => ?_⟩
        · have := w.2.1
          rw [ek] at this
          exact absurd this h1
        · rw [if_neg h1, if_neg h1]
theorem lr_nxk (hT : lr_T b n nk np) (h0 : 0 < k) (hk : k < n) {bp : Nat} : (lr_nx nk nf nn b k (lr_P np b k) la bp).length ≤ 2 * bp + 10 ∧ lr_oks (lr_nx nk nf nn b k (lr_P np b k) la bp) := by
  have hpr : (lr_pr nk b la bp).length ≤ bp + 2 ∧ lr_oks (lr_pr nk b la bp) := by
    unfold lr_pr
    by_cases h1 : la = -1
    · rw [if_pos h1]; exact ⟨Nat.zero_le _, lr_ok0⟩
    · rw [if_neg h1]
      by_cases h2 : nk (b + la.toNatClampNeg) = 1
      · rw [if_pos h2, lr_lnl]; exact ⟨by omega, lr_lnk _⟩
      · rw [if_neg h2]; exact ⟨Nat.zero_le _, lr_ok0⟩
  unfold lr_nx
  by_cases h3 : nk (b + k) = 3
  · rw [if_pos h3]
    unfold lr_qx
    by_cases h1 : la = -1
    · rw [if_pos h1]; exact ⟨Nat.zero_le _, lr_ok0⟩
    · rw [if_neg h1]
      by_cases h2 : nk (b + lr_P np b k) = 2
      · rw [if_pos h2]; exact ⟨show 1 ≤ 2 * bp + 10 by omega, lr_ok1 (by decide)⟩
      · rw [if_neg h2, lr_lnl]; exact ⟨by omega, lr_lnk _⟩
  · rw [if_neg h3, List.length_append]
    have hex : (lr_ex (nk (b + k)) (nf (b + k)) (nn (b + k)) bp).length ≤ bp + 5 ∧ lr_oks (lr_ex (nk (b + k)) (nf (b + k)) (nn (b + k)) bp) := by
      unfold lr_ex
      by_cases h2 : nk (b + k) = 2
      · rw [if_pos h2]; exact ⟨show 1 ≤ bp + 5 by omega, lr_ok1 (by decide)⟩
      · rw [if_neg h2]
        by_cases h1 : nk (b + k) = 1
        · rw [if_pos h1, List.length_append]
          unfold lr_tx
          by_cases hf : nf (b + k) = -1
          · rw [if_pos hf]
            by_cases hs : nn (b + k) = -1
            · rw [if_pos hs]; exact ⟨show 1 + 0 ≤ bp + 5 by omega, lr_oka (lr_ok1 (by decide)) lr_ok0⟩
            · rw [if_neg hs, lr_la, lr_lnl]
              exact ⟨show 1 + (bp + 2 + 1 + 1) ≤ bp + 5 by omega, lr_oka (lr_ok1 (by decide)) (lr_oka (lr_lnk _) (lr_ok1 (by decide)))⟩
          · rw [if_neg hf, lr_lnl]
            exact ⟨show 1 + (bp + 2 + 1) ≤ bp + 5 by omega, lr_oka (lr_ok1 (by decide)) (lr_lnk _)⟩
        · rw [if_neg h1]
          refine ⟨show 1 ≤ bp + 5 by omega, lr_ok1 (Or.inl ?_)⟩
          rcases lr_kc hT h0 hk with w | w | w | w
          · exact absurd w.1 h3
          · exact absurd w.1 h1
          · exact absurd w.1 h2
          · exact w.1
    exact ⟨by omega, lr_oka hpr.2 hex.2⟩
end RL
section IL
variable {tl nl dl tb ss os ds dy cu ba er de pe ma : Int32} {so ou dr dq ts nk np nf nn nc nz sN sM sI lc ib mk cl ct op it : Nat → Int32}
variable {T b c n : Nat}
theorem lr_jil (hT : T ≤ 256) (hc : c < 2) (hb : b = c * 128) (hn : ts c = nI n) (hn8 : n ≤ 128) (hTr : lr_T b n nk np) (hF : lr_LF b n np nf nn) :
    ∀ (t k : Nat) (l ly : List Int32), k + t = n → 0 < k → l.length ≤ 1000 * k → lr_oks l → (lr_pc nk nf b k → l = ly ++ lr_ln (lr_bb nk np b (k - 1))) → (¬ lr_pc nk nf b k → l = ly) →
    ∃ L : List Int32, L.length ≤ 1000 * n + 1000 ∧ lr_oks L ∧
      (∀ post : Int32 → SX → Prop, (L.length ≤ T → post (nI L.length) (nI T, nl, dl, tb, ss, nI L.length, nI L.length, nI c, nI b, er, de, pe, ma, so, lr_cp (fun i => L.getD i 0) L.length ou, lr_dr T L dr, ts, nk, np, nf, nn, nc, nz, sN, sM, sI, lc, lr_cp (lr_G nk np b) n ib)) → (¬ L.length ≤ T → post (-2) (nI T, nl, dl, tb, ss, os, nI L.length, nI c, nI b, er, de, pe, ma, so, ou, lr_dr T L dr, ts, nk, np, nf, nn, nc, nz, sN, sM, sI, lc, lr_cp (lr_G nk np b) n ib)) →
        wX_printIndented_30 post (nI n) (t + 1) (nI k) (nI T) nl dl tb ss os (nI l.length) (nI c) (nI b) er de pe ma so ou (lr_dr T l dr) ts nk np nf nn nc nz sN sM sI lc (lr_cp (lr_G nk np b) k ib)) ∧
      (∀ post : Int32 → SY → Prop, (L.length ≤ T → post (nI L.length) (nI T, nl, dl, tb, ss, nI L.length, nI L.length, nI c, er, so, lr_cp (fun i => L.getD i 0) L.length ou, lr_dr 256 L dq, nk, np, mk, cl, ts, op, it)) → (¬ L.length ≤ T → post (-2) (nI T, nl, dl, tb, ss, os, nI L.length, nI c, er, so, ou, lr_dr 256 L dq, nk, np, mk, cl, ts, op, it)) →
        wY_print_23 post 0 (nI n) (t + 1) (nI k) (nI T) nl dl tb ss os (nI ly.length) (nI c) er so ou (lr_dr 256 ly dq) nk np mk cl ts op it) := by
  intro t
  induction t with
  | zero =>
    intro k l ly hk hk0 hl hok hpc hpn
    have : k = n := by omega
    subst this
    have hnpc : ¬ lr_pc nk nf b k := fun w => absurd (lr_kid hTr hF (Nat.le_refl _) w).1 (by omega)
    have ely := hpn hnpc
    subst ely
    obtain ⟨l', g1, g2, gX, gY⟩ := lr_jcn (br := 0) (nl := nl) (dl := dl) (tb := tb) (ss := ss) (os := os) (er := er) (de := de) (pe := pe) (ma := ma) (so := so) (ou := ou) (dr := dr) (dq := dq) (nf := nf) (nn := nn) (nc := nc) (nz := nz) (sN := sN) (sM := sM) (sI := sI) (lc := lc) (ib := lr_cp (lr_G nk np b) k ib) (mk := mk) (cl := cl) (op := op) (it := it) hT hc hb hn hn8 hTr
    have hlen : (l ++ l').length ≤ 1000 * k + 1000 := by rw [List.length_append]; omega
    refine ⟨l ++ l', hlen, lr_oka hok g2, ?_, ?_⟩
    · intro post k1 k2
      rw [wX_printIndented_30]
      refine br_t (nI_le (Nat.le_refl _) (by omega)) (gX _ l (by omega) ?_)
      by_cases hr : (l ++ l').length ≤ T
      · exact lr_xpub hT hr (k1 hr)
      · exact lr_xpubf hT hr (by omega) (k2 hr)
    · intro post k1 k2
      rw [wY_print_23]
      refine br_t (nI_le (Nat.le_refl _) (by omega)) (gY _ l (by omega) ?_)
      by_cases hr : (l ++ l').length ≤ T
      · have k3 := k1 hr
        rw [lr_cpe (g := fun i => (l ++ l').getD i 0) (g' := lr_dr 256 (l ++ l') dq) (fun j hj => (lr_drg hj (by omega)).symm)] at k3
        exact br_t (nI_le hr (by omega)) ⟨(l ++ l').length + 1, lr_ypub_ (by omega) k3 (l ++ l').length 0 ((l ++ l').length + 1) (by omega) (by omega)⟩
      · exact br_f (nI_ge (by omega) (by omega)) (k2 hr)
  | succ t ih =>
    intro k l ly hk hk0 hl hok hpc hpn
    have hkn : k < n := by omega
    have hP := (lr_TPO hTr k hk0 hkn).1
    have hbl := lr_bbl hTr k (lr_P np b k) hP (by omega)
    obtain ⟨l1, la, g1, g2, g3, g4, g5, g6, gX, gY⟩ := lr_jc (br := 0) (nl := nl) (dl := dl) (tb := tb) (ss := ss) (os := os) (er := er) (de := de) (pe := pe) (ma := ma) (so := so) (ou := ou) (dr := dr) (dq := dq) (nf := nf) (nn := nn) (nc := nc) (nz := nz) (sN := sN) (sM := sM) (sI := sI) (lc := lc) (ib := lr_cp (lr_G nk np b) k ib) (mk := mk) (cl := cl) (op := op) (it := it) hT hc hb hn hn8 hTr hkn
    have hL := g4 hk0
    obtain ⟨nx1, nx2⟩ := lr_nxk (nf := nf) (nn := nn) (la := la) hTr hk0 hkn (bp := lr_bb nk np b (lr_P np b k))
    generalize hX' : lr_nx nk nf nn b k (lr_P np b k) la (lr_bb nk np b (lr_P np b k)) = lx at nx1 nx2
    generalize hY' : lr_ny nk nf nn b k (lr_P np b k) la (lr_bb nk np b (lr_P np b k)) = lyy
    have hlyl : ly.length ≤ l.length := by
      by_cases w : lr_pc nk nf b k
      · rw [hpc w, List.length_append]; omega
      · rw [hpn w]; omega
    have hrel : (lr_pc nk nf b (k + 1) → (l ++ l1) ++ lx = ((ly ++ l1) ++ lyy) ++ lr_ln (lr_bb nk np b (k + 1 - 1))) ∧ (¬ lr_pc nk nf b (k + 1) → (l ++ l1) ++ lx = (ly ++ l1) ++ lyy) := by
      by_cases w : lr_pc nk nf b k
      · have hl1 := g5 hk0 (lr_kid hTr hF (by omega) w).2
        obtain ⟨r1, r2, r3⟩ := lr_rel1 hTr hF hkn hL w
        refine ⟨fun w2 => absurd w2 r3, fun _ => ?_⟩
        rw [← hX', ← hY', r1, r2, hl1, hpc w, List.append_nil, List.append_nil, List.append_nil]
      · obtain ⟨r1, r2⟩ := lr_rel0 hTr hF hk0 hkn hL (g6 hk0) w
        rw [show k + 1 - 1 = k by omega, ← hX', ← hY', hpn w]
        refine ⟨fun w2 => ?_, fun w2 => ?_⟩
        · rw [r1 w2, List.append_assoc (ly ++ l1)]
        · rw [r2 w2]
    have hlen : ((l ++ l1) ++ lx).length ≤ 1000 * (k + 1) := by rw [List.length_append, List.length_append]; omega
    have hlen1 : (l ++ l1).length < 600000 := by rw [List.length_append]; omega
    have hlen2 : (ly ++ l1).length < 600000 := by rw [List.length_append]; omega
    obtain ⟨L, e1, e2, eX, eY⟩ := ih (k + 1) ((l ++ l1) ++ lx) ((ly ++ l1) ++ lyy) (by omega) (by omega) hlen (lr_oka (lr_oka hok g2) nx2) hrel.1 hrel.2
    refine ⟨L, e1, e2, ?_, ?_⟩
    · intro post k1 k2
      rw [wX_printIndented_30]
      refine br_f (nI_ge (by omega) (by omega)) ⟨lr_in (nI_add b k) (by omega) (by omega), ?_⟩
      rw [lr_rd (f := np) (nI_add b k) (by omega)]
      refine gX _ l (by omega) ?_
      refine lr_xei hT hlen1 (by omega) hkn hn8 hk0 hTr hL ?_
      rw [hX']
      exact nm_r (nI_1 k) (eX post k1 k2)
    · intro post k1 k2
      rw [wY_print_23]
      refine br_f (nI_ge (by omega) (by omega)) ?_
      refine lr_ypin hc hb hn hkn hn8 hTr.2.2.1 ?_
      refine gY _ ly (by omega) ?_
      refine br_t rfl (lr_yei hlen2 hc hb hn hkn hn8 hk0 hTr hF hL ?_)
      rw [hY']
      exact nm_r (nI_1 k) (eY post k1 k2)
end IL
theorem i_vc_printIndented {k : Nat} {u : SX} {v : SY} (I : i_Rel k u v) (hk : k + 3 ≤ 1540) : wpX_printIndented (fun r u' => wpY_printIndented (fun r' v' => r' = r ∧ i_Rel (k + 3) u' v') v) u := by
  refine lr_el (P := fun u v => wpX_printIndented (fun r u' => wpY_printIndented (fun r' v' => r' = r ∧ i_Rel (k + 3) u' v') v) u) ?_ I
  intro T NL DL TB S O c ds dy er de pe ma so ou dr dq ts nk np nf nn nc nz sN sM sI lc ib mk cl op it h
  have hR : i_Rel (k + 3) (nI T, nI NL, nI DL, nI TB, nI S, nI O, ds, nI c, nI (c * 128), er, de, pe, ma, so, ou, dr, ts, nk, np, nf, nn, nc, nz, sN, sM, sI, lc, ib) (nI T, nI NL, nI DL, nI TB, nI S, nI O, dy, nI c, er, so, ou, dq, nk, np, mk, cl, ts, op, it) := lr_ri h
  have hc : c < 2 := h.1.2.2.2.2.2.2.1
  obtain ⟨n, hn, hS⟩ := h.2 c hc
  have hn8 := lr_SLn hS
  unfold wpX_printIndented wpY_printIndented
  refine lr_r (n := c) rfl hc (by omega) ?_
  rw [hn]
  by_cases hz : n = 0
  · subst hz
    refine br_t (by decide) ?_
    unfold wpY_print
    refine lr_r (n := c) rfl hc (by omega) ?_
    rw [hn]
    exact br_t (by decide) ⟨rfl, hR⟩
  · rcases hS with w | ⟨hT, hF, hB⟩
    · exact absurd w hz
    obtain ⟨⟨hTT, hNL, hDL, hTB, hST, hOT, _, hso, hou⟩, hsl⟩ := h
    obtain ⟨L, e1, e2, eX, eY⟩ := lr_jil (T := T) (nl := nI NL) (dl := nI DL) (tb := nI TB) (ss := nI S) (os := nI O) (er := er) (de := de) (pe := pe) (ma := ma) (so := so) (ou := ou) (dr := dr) (dq := dq) (nc := nc) (nz := nz) (sN := sN) (sM := sM) (sI := sI) (lc := lc) (ib := ib) (mk := mk) (cl := cl) (op := op) (it := it) hTT.2 hc rfl hn hn8 hT hF (n - 1) 1 [] [] (by omega) (by omega) (Nat.zero_le _) lr_ok0 (fun w => absurd w.1 (by omega)) (fun _ => rfl)
    rw [lr_dr0] at eX
    rw [lr_dr0] at eY
    have eib : upd ib 0 0 = lr_cp (lr_G nk np (c * 128)) 1 ib := by
      rw [← lr_cps]
      have e0 : lr_cp (lr_G nk np (c * 128)) 0 ib = ib := funext fun j => if_neg (Nat.not_lt_zero j)
      rw [e0]; rfl
    have hY : ∀ post : Int32 → SY → Prop, (L.length ≤ T → post (nI L.length) (nI T, nI NL, nI DL, nI TB, nI S, nI L.length, nI L.length, nI c, er, so, lr_cp (fun i => L.getD i 0) L.length ou, lr_dr 256 L dq, nk, np, mk, cl, ts, op, it)) → (¬ L.length ≤ T → post (-2) (nI T, nI NL, nI DL, nI TB, nI S, nI O, nI L.length, nI c, er, so, ou, lr_dr 256 L dq, nk, np, mk, cl, ts, op, it)) → wpY_print post (nI T, nI NL, nI DL, nI TB, nI S, nI O, dy, nI c, er, so, ou, dq, nk, np, mk, cl, ts, op, it) 0 := by
      intro post k1 k2
      unfold wpY_print
      refine lr_r (n := c) rfl hc (by omega) ?_
      rw [hn]
      refine br_f (nI_ne0 (by omega) (by omega)) ⟨n - 1 + 1 + 1, ?_⟩
      rw [wY_print_23]
      refine br_f (nI_ge (a := 0) (by omega) (by omega)) ?_
      refine lr_ypin (j := 0) hc rfl hn (by omega) hn8 hT.2.2.1 ?_
      rw [show np (c * 128 + 0) = -1 from hT.2.2.1]
      unfold wpY_emitEnds
      refine ⟨1, lr_yce ?_⟩
      refine br_t rfl ?_
      unfold wpY_startIndented
      exact br_t rfl (nm_r (e' := nI 1) (by decide) (eY post k1 k2))
    refine br_f (nI_ne0 (by omega) (by omega)) (nm_r eib ⟨n - 1 + 1, eX _ (fun hr => ?_) (fun hr => ?_)⟩)
    · exact hY _ (fun _ => ⟨rfl, lr_ri ⟨⟨hTT, hNL, hDL, hTB, hST, hr, hc, hso, lr_outk e2⟩, hsl⟩⟩) (fun w => absurd hr w)
    · exact hY _ (fun w => absurd w hr) (fun _ => ⟨rfl, lr_ri ⟨⟨hTT, hNL, hDL, hTB, hST, hOT, hc, hso, hou⟩, hsl⟩⟩)
end
