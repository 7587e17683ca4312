section
/-! ===== counting ===== -/
/-- how many s < K have p -/
def zt_ct (p : Nat → Bool) : Nat → Nat
  | 0 => 0
  | k + 1 => zt_ct p k + (if p k = true then 1 else 0)
theorem zt_ct_congr {p q : Nat → Bool} (K : Nat) (h : ∀ s, s < K → p s = q s) : zt_ct p K = zt_ct q K := by
  induction K with
  | zero => rfl
  | succ K ih => rw [zt_ct, zt_ct, ih (fun s hs => h s (by omega)), h K (by omega)]
theorem zt_ct_one {p q : Nat → Bool} {s : Nat} (K : Nat) (hs : s < K) (h : ∀ j, j < K → j ≠ s → p j = q j) : zt_ct p K + (if q s = true then 1 else 0) = zt_ct q K + (if p s = true then 1 else 0) := by
  induction K with
  | zero => exact absurd hs (by omega)
  | succ K ih =>
    rw [zt_ct, zt_ct]
    by_cases e : s = K
    · have e2 := zt_ct_congr (p := p) (q := q) K (fun j hj => h j (by omega) (by omega))
      rw [e, e2]
      omega
    · have i2 := ih (by omega) (fun j hj => h j (by omega))
      rw [h K (by omega) (fun z => e z.symm)]
      omega
theorem zt_ct_pos {p : Nat → Bool} {s : Nat} (K : Nat) (hs : s < K) (h : p s = true) : 0 < zt_ct p K := by
  induction K with
  | zero => exact absurd hs (by omega)
  | succ K ih =>
    rw [zt_ct]
    by_cases e : s = K
    · rw [← e, if_pos h]
      omega
    · have := ih (by omega)
      omega
theorem zt_ct_ex {p : Nat → Bool} (K : Nat) (h : 0 < zt_ct p K) : ∃ s, s < K ∧ p s = true := by
  induction K with
  | zero => exact absurd h (by rw [zt_ct]; omega)
  | succ K ih =>
    rw [zt_ct] at h
    by_cases e : p K = true
    · exact ⟨K, by omega, e⟩
    · rw [if_neg e] at h
      obtain ⟨s, hs, h2⟩ := ih (by omega)
      exact ⟨s, by omega, h2⟩
theorem zt_ct_le {p : Nat → Bool} (K : Nat) : zt_ct p K ≤ K := by
  induction K with
  | zero => rw [zt_ct]; omega
  | succ K ih =>
    rw [zt_ct]
    by_cases e : p K = true
    · rw [if_pos e]
      omega
    · rw [if_neg e]
      omega
theorem zt_ct_two {p : Nat → Bool} {s t : Nat} (K : Nat) (hst : s < t) (ht : t < K) (h : p s = true) (h2 : p t = true) : 2 ≤ zt_ct p K := by
  induction K with
  | zero => exact absurd ht (by omega)
  | succ K ih =>
    rw [zt_ct]
    by_cases e : t = K
    · have := zt_ct_pos (p := p) K (show s < K by omega) h
      rw [← e, if_pos h2]
      rw [e]
      omega
    · have := ih (by omega)
      omega
theorem zt_ct_skip {p : Nat → Bool} {a : Nat} (b : Nat) (hab : a ≤ b) (h : ∀ s, a ≤ s → s < b → p s = false) : zt_ct p b = zt_ct p a := by
  induction b with
  | zero => rw [show a = 0 by omega]
  | succ b ih =>
    by_cases e : a = b + 1
    · rw [e]
    · rw [zt_ct, ih (by omega) (fun s h1 h2 => h s h1 (by omega)), h b (by omega) (by omega)]
      rfl
/-- how many of the 1628 places of R hold j (never unfolds) -/
noncomputable def zt_n : (Nat → Nat) → Nat → Nat := Classical.choose (⟨fun R j => zt_ct (fun s => decide (R s = j)) 1628, fun _ _ => rfl⟩ : ∃ f : (Nat → Nat) → Nat → Nat, ∀ R j, f R j = zt_ct (fun s => decide (R s = j)) 1628)
theorem zt_n_eq (R : Nat → Nat) (j : Nat) : zt_n R j = zt_ct (fun s => decide (R s = j)) 1628 := Classical.choose_spec (⟨fun R j => zt_ct (fun s => decide (R s = j)) 1628, fun _ _ => rfl⟩ : ∃ f : (Nat → Nat) → Nat → Nat, ∀ R j, f R j = zt_ct (fun s => decide (R s = j)) 1628) R j
theorem zt_n_gen {K : Nat} {R : Nat → Nat} {s v j : Nat} (hs : s < K) : zt_ct (fun t => decide (va_up R s v t = j)) K + (if R s = j then 1 else 0) = zt_ct (fun t => decide (R t = j)) K + (if v = j then 1 else 0) := by
  have h := zt_ct_one (p := fun t => decide (va_up R s v t = j)) (q := fun t => decide (R t = j)) K hs (fun t _ ht => by rw [va_up_ne R v ht])
  simp only [va_up_self, decide_eq_true_eq] at h
  exact h
theorem zt_n_up {R : Nat → Nat} {s : Nat} (v j : Nat) (hs : s < 1628) : zt_n (va_up R s v) j + (if R s = j then 1 else 0) = zt_n R j + (if v = j then 1 else 0) := by
  rw [zt_n_eq, zt_n_eq]
  exact zt_n_gen hs
theorem zt_n_pos {R : Nat → Nat} {s j : Nat} (hs : s < 1628) (h : R s = j) : 0 < zt_n R j := by
  rw [zt_n_eq]
  exact zt_ct_pos 1628 hs (decide_eq_true h)
theorem zt_n_ex {R : Nat → Nat} {j : Nat} (h : 0 < zt_n R j) : ∃ s, s < 1628 ∧ R s = j := by
  rw [zt_n_eq] at h
  obtain ⟨s, h1, h2⟩ := zt_ct_ex 1628 h
  exact ⟨s, h1, of_decide_eq_true h2⟩
theorem zt_n_uq {R : Nat → Nat} {s t j : Nat} (h : zt_n R j = 1) (hs : s < 1628) (ht : t < 1628) (h1 : R s = j) (h2 : R t = j) : s = t := by
  rw [zt_n_eq] at h
  rcases Nat.lt_trichotomy s t with z | z | z
  · have := zt_ct_two (p := fun s => decide (R s = j)) 1628 z ht (decide_eq_true h1) (decide_eq_true h2)
    omega
  · exact z
  · have := zt_ct_two (p := fun s => decide (R s = j)) 1628 z hs (decide_eq_true h2) (decide_eq_true h1)
    omega
theorem zt_n_le (R : Nat → Nat) (j : Nat) : zt_n R j ≤ 1628 := by
  rw [zt_n_eq]
  exact zt_ct_le 1628
theorem zt_n_congr {R R' : Nat → Nat} (j : Nat) (h : ∀ s, s < 1628 → R s = R' s) : zt_n R j = zt_n R' j := by
  rw [zt_n_eq, zt_n_eq]
  exact zt_ct_congr 1628 (fun s hs => by rw [h s hs])
theorem zt_n_0 {R : Nat → Nat} {s j : Nat} (h : zt_n R j = 0) (hs : s < 1628) : R s ≠ j := by
  intro z
  have := zt_n_pos hs z
  omega
/-! ===== pigeonhole ===== -/
theorem zt_pig : ∀ (k m : Nat) (g : Nat → Nat), (∀ i, i < m → g i < k) → (∀ i j, i < m → j < m → g i = g j → i = j) → m ≤ k := by
  intro k
  induction k with
  | zero =>
    intro m g h _
    rcases Nat.eq_zero_or_pos m with z | z
    · omega
    · have := h 0 z
      omega
  | succ k ih =>
    intro m g h inj
    cases m with
    | zero => omega
    | succ m =>
      have H : m ≤ k := by
        refine ih m (fun i => if g i = k then g m else g i) (fun i hi => ?_) (fun i j hi hj e => ?_)
        · show (if g i = k then g m else g i) < k
          by_cases e : g i = k
          · rw [if_pos e]
            have h1 := h m (by omega)
            have h2 : g m ≠ k := fun z => absurd (inj i m (by omega) (by omega) (by rw [e, z])) (by omega)
            omega
          · rw [if_neg e]
            have := h i (by omega)
            omega
        · have e' : (if g i = k then g m else g i) = (if g j = k then g m else g j) := e
          by_cases e1 : g i = k
          · by_cases e2 : g j = k
            · exact inj i j (by omega) (by omega) (by rw [e1, e2])
            · rw [if_pos e1, if_neg e2] at e'
              exact absurd (inj m j (by omega) (by omega) e') (by omega)
          · by_cases e2 : g j = k
            · rw [if_neg e1, if_pos e2] at e'
              exact absurd (inj i m (by omega) (by omega) e') (by omega)
            · rw [if_neg e1, if_neg e2] at e'
              exact inj i j (by omega) (by omega) e'
      omega
theorem zt_sur {m K : Nat} (f : Nat → Nat) (h : ∀ n, n < m → ∃ i, i < K ∧ f i = n) : m ≤ K := by
  have h2 : ∀ n, ∃ i, n < m → i < K ∧ f i = n := fun n => by
    by_cases z : n < m
    · obtain ⟨i, hi⟩ := h n z
      exact ⟨i, fun _ => hi⟩
    · exact ⟨0, fun q => absurd q z⟩
  refine zt_pig K m (fun n => Classical.choose (h2 n)) (fun n hn => (Classical.choose_spec (h2 n) hn).1) (fun i j hi hj e => ?_)
  have e1 := (Classical.choose_spec (h2 i) hi).2
  have e2 := (Classical.choose_spec (h2 j) hj).2
  have e' : Classical.choose (h2 i) = Classical.choose (h2 j) := e
  rw [e'] at e1
  rw [← e1, e2]
/-! ===== pointers: 400 is 'none' ===== -/
def zt_p (c : Nat) : Int32 := if c < 400 then nI c else -1
theorem zt_p_lt {c : Nat} (h : c < 400) : zt_p c = nI c := if_pos h
theorem zt_p_400 : zt_p 400 = -1 := rfl
theorem zt_neg {c : Nat} {A B : Prop} (hc : c ≤ 400) (f : c = 400 → A) (g : c < 400 → B) : (zt_p c < 0 → A) ∧ (¬ zt_p c < 0 → B) := by
  by_cases e : c < 400
  · rw [zt_p_lt e]
    exact br_f (nI_pos (by omega)) (g e)
  · have e2 : c = 400 := by omega
    refine br_t ?_ (f e2)
    rw [e2]
    decide
theorem zt_nneg {c : Nat} {A B : Prop} (hc : c ≤ 400) (g : c < 400 → B) (f : c = 400 → A) : (0 ≤ zt_p c → B) ∧ (¬ 0 ≤ zt_p c → A) := by
  by_cases e : c < 400
  · rw [zt_p_lt e]
    exact br_t (nI_pos' (by omega)) (g e)
  · have e2 : c = 400 := by omega
    refine br_f ?_ (f e2)
    rw [e2]
    decide
theorem zt_p_inj {c d : Nat} (hc : c ≤ 400) (hd : d ≤ 400) (h : zt_p c = zt_p d) : c = d := by
  by_cases e : c < 400
  · by_cases e2 : d < 400
    · rw [zt_p_lt e, zt_p_lt e2] at h
      exact (nI_eq (by omega) (by omega)).mp h
    · rw [zt_p_lt e, show d = 400 by omega, zt_p_400] at h
      have h2 : ¬ nI c < 0 := nI_pos (by omega)
      rw [h] at h2
      exact absurd (by decide) h2
  · by_cases e2 : d < 400
    · rw [zt_p_lt e2, show c = 400 by omega, zt_p_400] at h
      have h2 : ¬ nI d < 0 := nI_pos (by omega)
      rw [← h] at h2
      exact absurd (by decide) h2
    · omega
theorem zt_peq {c d : Nat} {A B : Prop} (hc : c ≤ 400) (hd : d ≤ 400) (f : c = d → A) (g : c ≠ d → B) : (zt_p c = zt_p d → A) ∧ (¬ zt_p c = zt_p d → B) :=
  ⟨fun h => f (zt_p_inj hc hd h), fun h => g (fun z => h (by rw [z]))⟩
theorem zt_ix (x t : Nat) : 4 * nI x + nI t = nI (4 * x + t) := by
  show nI 4 * nI x + nI t = _
  rw [pk_mul, nI_add]
theorem zt_upd_self (f : Nat → Int32) (k : Nat) : upd f k (f k) = f := by
  funext j
  unfold upd
  by_cases e : j = k
  · rw [if_pos e, e]
  · rw [if_neg e]
theorem zt_upd_eq (f : Nat → Int32) (k : Nat) (x : Int32) (h : x = f k) : upd f k x = f := by
  rw [h, zt_upd_self]
/-! ===== turns and spans ===== -/
def zt_tn (k l : Nat) : Nat := k / 4 ^ (3 - l) % 4
theorem zt_tn_lt (k l : Nat) : zt_tn k l < 4 := Nat.mod_lt _ (by decide)
theorem zt_turn_eq : ∀ k, k < 256 → ∀ l, l < 3 → ((nI k).toUInt32 >>> ((6 - (2 * nI l)).toUInt32 &&& Int32.toUInt32 31)).toInt32 &&& 3 = nI (zt_tn k l) := by decide +kernel
theorem zt_turn {post : Int32 → Prop} {u : St2} {k l : Nat} (hk : k < 256) (hl : l < 3) (h : post (nI (zt_tn k l))) : wpX_turn post u (nI k) (nI l) := by
  unfold wpX_turn
  rw [zt_turn_eq k hk l hl]
  exact h
def zt_bh (k l : Nat) : Nat := (k / 4 ^ (4 - l) + 1) * 4 ^ (4 - l)
theorem zt_bh_eq : ∀ k, k < 256 → ∀ l, l < 5 → (nI k &&& ((((256 : Int32).toUInt32 >>> ((2 * nI l).toUInt32 &&& Int32.toUInt32 31)).toInt32 - 1) ^^^ (-1))) + ((256 : Int32).toUInt32 >>> ((2 * nI l).toUInt32 &&& Int32.toUInt32 31)).toInt32 = nI (zt_bh k l) := by decide +kernel
theorem zt_bh_in : ∀ k, k < 256 → ∀ l, l < 5 → k < zt_bh k l ∧ zt_bh k l ≤ 256 := by decide +kernel
theorem zt_behind {post : Int32 → Prop} {u : St2} {k l : Nat} (hk : k < 256) (hl : l < 5) (h : post (nI (zt_bh k l))) : wpX_behind post u (nI k) (nI l) := by
  unfold wpX_behind
  intro x ex
  rw [ex, zt_bh_eq k hk l hl]
  exact h
theorem zt_bh_mid {k k' l : Nat} (h1 : k ≤ k') (h2 : k' < zt_bh k l) : k' / 4 ^ (4 - l) = k / 4 ^ (4 - l) := by
  have hs : 0 < 4 ^ (4 - l) := Nat.pow_pos (by decide)
  have a1 : k / 4 ^ (4 - l) ≤ k' / 4 ^ (4 - l) := Nat.div_le_div_right h1
  have a2 : k' / 4 ^ (4 - l) < k / 4 ^ (4 - l) + 1 := (Nat.div_lt_iff_lt_mul hs).mpr h2
  omega
/-! ===== leaves: only the first of a leaf's four places is ever held ===== -/
def zt_lf (h x : Int32) (c : Nat → Int32) : Prop := (h = 256 ∧ ∀ k, c k = 0) ∨ (h = 257 ∧ x ≠ 0 ∧ ∀ k, c k = if k % 4 = 0 then x else 0)
theorem zt_and3 : ∀ k, k < 256 → nI k &&& 3 = nI (k % 4) := by decide +kernel
theorem zt_b6 : ∀ k, k < 256 → ((256 : Int32).toUInt32 >>> ((nI k &&& 3).toUInt32 &&& Int32.toUInt32 31)).toInt32 &&& 1 = 0 := by decide +kernel
theorem zt_b7 : ∀ k, k < 256 → (((257 : Int32).toUInt32 >>> ((nI k &&& 3).toUInt32 &&& Int32.toUInt32 31)).toInt32 &&& 1 = 0 ↔ ¬ k % 4 = 0) := by decide +kernel
theorem zt_bit {h x : Int32} {c : Nat → Int32} {k : Nat} {A B : Prop} (hl : zt_lf h x c) (hk : k < 256) (f : c k = 0 → A) (g : c k ≠ 0 → k % 4 = 0 → x = c k → B) : ((h.toUInt32 >>> ((nI k &&& 3).toUInt32 &&& Int32.toUInt32 31)).toInt32 &&& 1 = 0 → A) ∧ (¬ (h.toUInt32 >>> ((nI k &&& 3).toUInt32 &&& Int32.toUInt32 31)).toInt32 &&& 1 = 0 → B) := by
  rcases hl with ⟨e, hc⟩ | ⟨e, hx, hc⟩
  · rw [e]
    exact br_t (zt_b6 k hk) (f (hc k))
  · rw [e]
    by_cases z : k % 4 = 0
    · have e2 := hc k
      rw [if_pos z] at e2
      exact br_f (fun q => (zt_b7 k hk).mp q z) (g (by rw [e2]; exact hx) z e2.symm)
    · have e2 := hc k
      rw [if_neg z] at e2
      exact br_t ((zt_b7 k hk).mpr z) (f e2)
end
section
/-! ===== the heap's invariant; R: 1628 places, 4 n + w the ways, 1600 .. 1603 always none, 1604 + m the roots, 1612 + d the stack ===== -/
def zt_I (R lv : Nat → Nat) (C : Nat → Nat → Int32) (a1 a2 a3 : Nat → Int32) : Prop :=
  (∀ s, R s ≤ 400) ∧
  (∀ m, m < 8 → R (1604 + m) < 400 → lv (R (1604 + m)) = 0) ∧
  (∀ n w, n < 400 → w < 4 → R (4 * n + w) < 400 → 0 < zt_n R n ∧ lv n < 3 ∧ lv (R (4 * n + w)) = lv n + 1) ∧
  (∀ w, w < 4 → R (1600 + w) = 400) ∧
  (∀ n, n < 400 → 0 < zt_n R n → lv n ≤ 3) ∧
  (∀ j, j < 400 → a3 j = nI (zt_n R j)) ∧
  (∀ n, n < 400 → 0 < zt_n R n → lv n < 3 → a2 n = 0 ∧ ∀ w, w < 4 → a1 (4 * n + w) = zt_p (R (4 * n + w))) ∧
  (∀ n, n < 400 → 0 < zt_n R n → lv n = 3 → zt_lf (a2 n) (a1 (4 * n)) (C n)) ∧
  (∀ k, C 400 k = 0) ∧
  (∀ n, n < 400 → 0 < zt_n R n → lv n < 3 → ∀ k, C n k = C (R (4 * n + zt_tn k (lv n))) k)
/-- the roots stand in a5 -/
def zt_rt (R : Nat → Nat) (a5 : Nat → Int32) : Prop := ∀ m, m < 8 → a5 m = zt_p (R (1604 + m))
/-- the walk down from r -/
def zt_wk (R : Nat → Nat) (k r : Nat) : Nat → Nat
  | 0 => r
  | l + 1 => R (4 * zt_wk R k r l + zt_tn k l)
/-- p is the law's name of map m -/
def zt_ar (p : Int32) (m : Nat) : Prop := ¬ p < -1 ∧ ¬ 6 < p ∧ p + 1 = nI m ∧ m < 8
/-- r is the first key from f on that M binds, or 256 -/
def zt_fst (M : Nat → Int32) (f r : Nat) : Prop := r ≤ 256 ∧ (∀ k, f ≤ k → k < r → M k = 0) ∧ (r < 256 → f ≤ r ∧ M r ≠ 0)
def zt_fd (M N : Nat → Int32) (f r : Nat) : Prop := r ≤ 256 ∧ (∀ k, f ≤ k → k < r → M k = N k) ∧ (r < 256 → f ≤ r ∧ M r ≠ N r)
theorem zt_wk_pre {R : Nat → Nat} {k k' r : Nat} (l : Nat) (hl : l ≤ 3) (h : k' / 4 ^ (4 - l) = k / 4 ^ (4 - l)) : zt_wk R k' r l = zt_wk R k r l := by
  induction l with
  | zero => rfl
  | succ l ih =>
    have e : 4 - (l + 1) = 3 - l := by omega
    rw [e] at h
    have e2 : 4 - l = (3 - l) + 1 := by omega
    have h2 : k' / 4 ^ (4 - l) = k / 4 ^ (4 - l) := by
      rw [e2, Nat.pow_succ, ← Nat.div_div_eq_div_mul, ← Nat.div_div_eq_div_mul, h]
    have h3 : zt_tn k' l = zt_tn k l := by
      unfold zt_tn
      rw [h]
    rw [zt_wk, zt_wk, ih (by omega) h2, h3]
section
variable {R lv : Nat → Nat} {C : Nat → Nat → Int32} {a1 a2 a3 a4 a5 a6 a7 a8 : Nat → Int32} {m k : Nat} {post : Int32 → Prop}
theorem zt_step (hI : zt_I R lv C a1 a2 a3) {x l : Nat} (k : Nat) (hl : l < 3) (hx : x ≤ 400) (h : x < 400 → 0 < zt_n R x ∧ lv x = l) :
    R (4 * x + zt_tn k l) ≤ 400 ∧ (R (4 * x + zt_tn k l) < 400 → 0 < zt_n R (R (4 * x + zt_tn k l)) ∧ lv (R (4 * x + zt_tn k l)) = l + 1) ∧ C (R (4 * x + zt_tn k l)) k = C x k := by
  obtain ⟨g1, g2, g3, g4, g5, k1, k3, k4, c1, c2⟩ := hI
  have ht := zt_tn_lt k l
  by_cases e : x < 400
  · obtain ⟨p1, p2⟩ := h e
    refine ⟨g1 _, fun z => ⟨zt_n_pos (s := 4 * x + zt_tn k l) (by omega) rfl, ?_⟩, ?_⟩
    · have q := (g3 x (zt_tn k l) e ht z).2.2
      rw [p2] at q
      exact q
    · have q := c2 x e p1 (by omega) k
      rw [p2] at q
      exact q.symm
  · have e2 : x = 400 := by omega
    have e3 : R (4 * x + zt_tn k l) = 400 := by
      rw [e2]
      exact g4 _ ht
    rw [e3]
    exact ⟨Nat.le_refl _, fun z => absurd z (by omega), by rw [e2]⟩
theorem zt_wk_ok (hI : zt_I R lv C a1 a2 a3) (hm : m < 8) (k : Nat) : ∀ l, l ≤ 3 → zt_wk R k (R (1604 + m)) l ≤ 400 ∧ (zt_wk R k (R (1604 + m)) l < 400 → 0 < zt_n R (zt_wk R k (R (1604 + m)) l) ∧ lv (zt_wk R k (R (1604 + m)) l) = l) ∧ C (zt_wk R k (R (1604 + m)) l) k = C (R (1604 + m)) k := by
  intro l
  induction l with
  | zero =>
    intro _
    exact ⟨hI.1 _, fun h => ⟨zt_n_pos (s := 1604 + m) (by omega) rfl, hI.2.1 m hm h⟩, rfl⟩
  | succ l ih =>
    intro hl
    obtain ⟨h1, h2, h3⟩ := ih (by omega)
    obtain ⟨s1, s2, s3⟩ := zt_step hI k (show l < 3 by omega) h1 h2
    exact ⟨s1, s2, s3.trans h3⟩
theorem zt_wk_none (hI : zt_I R lv C a1 a2 a3) {r : Nat} (k l : Nat) (h : zt_wk R k r l = 400) : ∀ c, zt_wk R k r (l + c) = 400 := by
  intro c
  induction c with
  | zero => exact h
  | succ c ih =>
    show R (4 * zt_wk R k r (l + c) + zt_tn k (l + c)) = 400
    rw [ih]
    exact hI.2.2.2.1 _ (zt_tn_lt _ _)
theorem zt_rd (hI : zt_I R lv C a1 a2 a3) {x l : Nat} (hl : l < 3) (hx : x < 400) (h : 0 < zt_n R x ∧ lv x = l) : a1 (4 * nI x + nI (zt_tn k l)).toNatClampNeg = zt_p (R (4 * x + zt_tn k l)) := by
  have ht := zt_tn_lt k l
  rw [zt_ix, nI_clamp (by omega)]
  obtain ⟨g1, g2, g3, g4, g5, k1, k3, k4, c1, c2⟩ := hI
  exact (k3 x hx h.1 (by omega)).2 _ ht
theorem zt_rin {x l : Nat} (hx : x < 400) : vp_in (4 * nI x + nI (zt_tn k l)) 1600 := by
  have ht := zt_tn_lt k l
  exact pk_in (4 * x + zt_tn k l) 1600 (by omega) (zt_ix _ _)
theorem zt_leafL (hI : zt_I R lv C a1 a2 a3) (hm : m < 8) (hk : k < 256) (hp : post (zt_p (zt_wk R k (R (1604 + m)) 3))) : ∀ c l, l + c = 3 → wX_leafFor_10 post (nI k) a1 a2 a3 a4 a5 a6 a7 a8 (c + 1) (zt_p (zt_wk R k (R (1604 + m)) l)) (nI l) := by
  intro c
  induction c with
  | zero =>
    intro l hl
    have e : l = 3 := by omega
    subst e
    exact br_t (by decide) hp
  | succ c ih =>
    intro l hl
    obtain ⟨h1, h2, h3⟩ := zt_wk_ok hI hm k l (by omega)
    refine br_f (nI_ge (b := 3) (by omega) (by decide)) (zt_neg h1 (fun e => ?_) (fun h => ?_))
    · have q := zt_wk_none hI k l e (c + 1)
      rw [hl] at q
      rw [q] at hp
      rw [e]
      exact hp
    · have h2' := h2 h
      have hn := ih (l + 1) (by omega)
      rw [zt_p_lt h]
      exact zt_turn hk (by omega) ⟨zt_rin h, nm_r (zt_rd hI (by omega) h h2') (nm_r (nI_1 l) hn)⟩
theorem zt_leaf (hI : zt_I R lv C a1 a2 a3) (hr : zt_rt R a5) (hm : m < 8) (hk : k < 256) (hp : post (zt_p (zt_wk R k (R (1604 + m)) 3))) : wpX_leafFor post (a1, a2, a3, a4, a5, a6, a7, a8) (nI m) (nI k) := by
  have h := zt_leafL (a4 := a4) (a5 := a5) (a6 := a6) (a7 := a7) (a8 := a8) hI hm hk hp 3 0 rfl
  exact ⟨vp_in_nI hm (by omega), nm_r (by rw [nI_clamp (by omega)]; exact hr m hm) ⟨4, h⟩⟩
theorem zt_holds (hI : zt_I R lv C a1 a2 a3) (hr : zt_rt R a5) (hm : m < 8) (hk : k < 256) (h0 : C (R (1604 + m)) k = 0 → post 0) (h1 : C (R (1604 + m)) k ≠ 0 → post 1) : wpX_holds post (a1, a2, a3, a4, a5, a6, a7, a8) (nI m) (nI k) := by
  unfold wpX_holds
  dsimp only
  obtain ⟨s1, s2, s3⟩ := zt_wk_ok hI hm k 3 (by omega)
  refine zt_leaf hI hr hm hk ?_
  refine zt_neg s1 (fun e => h0 ?_) (fun h => ?_)
  · rw [← s3, e]
    exact hI.2.2.2.2.2.2.2.2.1 k
  · obtain ⟨p1, p2⟩ := s2 h
    rw [zt_p_lt h]
    refine ⟨vp_in_nI h (by omega), ?_⟩
    rw [nI_clamp (by omega)]
    exact zt_bit (hI.2.2.2.2.2.2.2.1 _ h p1 p2) hk (fun e => h0 (by rw [← s3, e])) (fun e _ _ => h1 (by rw [← s3]; exact e))
theorem zt_isMap {p : Int32} (ha : zt_ar p m) (h4 : a4 m ≠ 0) (hp : post 1) : wpX_isMap post (a1, a2, a3, a4, a5, a6, a7, a8) p := by
  obtain ⟨q1, q2, q3, q4⟩ := ha
  refine br_f q1 (br_f q2 ?_)
  rw [q3]
  exact ⟨vp_in_nI q4 (by omega), br_f (by rw [nI_clamp (by omega)]; exact h4) hp⟩
theorem zt_isMap0 {p : Int32} (ha : zt_ar p m) (h4 : a4 m = 0) (hp : post 0) : wpX_isMap post (a1, a2, a3, a4, a5, a6, a7, a8) p := by
  obtain ⟨q1, q2, q3, q4⟩ := ha
  refine br_f q1 (br_f q2 ?_)
  rw [q3]
  exact ⟨vp_in_nI q4 (by omega), br_t (by rw [nI_clamp (by omega)]; exact h4) hp⟩
theorem zt_size {p : Int32} (ha : zt_ar p m) (h4 : a4 m ≠ 0) (hp : post (a6 m)) : wpX_size post (a1, a2, a3, a4, a5, a6, a7, a8) p := by
  unfold wpX_size
  dsimp only
  refine zt_isMap ha h4 (br_f (by decide) ?_)
  obtain ⟨q1, q2, q3, q4⟩ := ha
  rw [q3]
  exact ⟨vp_in_nI q4 (by omega), by rw [nI_clamp (by omega)]; exact hp⟩
theorem zt_size0 {p : Int32} (ha : zt_ar p m) (h4 : a4 m = 0) (hp : post (-1)) : wpX_size post (a1, a2, a3, a4, a5, a6, a7, a8) p := by
  unfold wpX_size
  dsimp only
  exact zt_isMap0 ha h4 (br_t rfl hp)
theorem zt_get {p : Int32} (hI : zt_I R lv C a1 a2 a3) (hr : zt_rt R a5) (ha : zt_ar p m) (h4 : a4 m ≠ 0) (hk : k < 256) (hp : post (C (R (1604 + m)) k)) : wpX_get post (a1, a2, a3, a4, a5, a6, a7, a8) p (nI k) := by
  unfold wpX_get
  dsimp only
  refine zt_isMap ha h4 (br_f (by decide) (br_f (nI_pos (by omega)) (br_t (nI_le (b := 255) (by omega) (by decide)) ?_)))
  obtain ⟨q1, q2, q3, hm⟩ := ha
  rw [q3]
  obtain ⟨s1, s2, s3⟩ := zt_wk_ok hI hm k 3 (by omega)
  rw [← s3] at hp
  refine zt_leaf hI hr hm hk ?_
  refine zt_neg s1 (fun e => ?_) (fun h => ?_)
  · rw [e, hI.2.2.2.2.2.2.2.2.1 k] at hp
    exact hp
  · obtain ⟨p1, p2⟩ := s2 h
    rw [zt_p_lt h]
    refine ⟨vp_in_nI h (by omega), ?_⟩
    rw [nI_clamp (by omega)]
    refine zt_bit (hI.2.2.2.2.2.2.2.1 _ h p1 p2) hk (fun e => ?_) (fun e z ex => ?_)
    · rw [e] at hp
      exact hp
    · rw [zt_and3 k hk, zt_ix, z, nI_clamp (by omega)]
      refine ⟨vp_in_nI (by omega) (by omega), ?_⟩
      rw [← ex] at hp
      exact hp
theorem zt_has {p : Int32} (hI : zt_I R lv C a1 a2 a3) (hr : zt_rt R a5) (ha : zt_ar p m) (h4 : a4 m ≠ 0) (hk : k < 256) (h0 : C (R (1604 + m)) k = 0 → post 0) (h1 : C (R (1604 + m)) k ≠ 0 → post 1) : wpX_has post (a1, a2, a3, a4, a5, a6, a7, a8) p (nI k) := by
  unfold wpX_has
  dsimp only
  refine zt_isMap ha h4 (br_f (by decide) (br_f (nI_pos (by omega)) (br_f (nI_nlt (a := 255) (by omega) (by decide)) ?_)))
  obtain ⟨q1, q2, q3, hm⟩ := ha
  rw [q3]
  exact zt_holds hI hr hm hk (fun e => br_t rfl (h0 e)) (fun e => br_f (by decide) (h1 e))
theorem zt_missL (hI : zt_I R lv C a1 a2 a3) (hm : m < 8) (hk : k < 256) (hp : ∀ r, r ≤ 5 → (r ≤ 4 → ∀ k', k' / 4 ^ (4 - r) = k / 4 ^ (4 - r) → C (R (1604 + m)) k' = 0) → (r = 5 → C (R (1604 + m)) k ≠ 0) → post (nI r)) : ∀ c l, l + c = 3 → wX_missingLevel_10 post (nI k) a1 a2 a3 a4 a5 a6 a7 a8 (c + 1) (zt_p (zt_wk R k (R (1604 + m)) l)) (nI l) := by
  have none : ∀ l, l ≤ 3 → zt_wk R k (R (1604 + m)) l = 400 → post (nI l) := by
    intro l hl e
    refine hp l (by omega) (fun _ k' h' => ?_) (fun z => absurd z (by omega))
    have e1 := zt_wk_pre (R := R) (r := R (1604 + m)) l hl h'
    have e2 := (zt_wk_ok hI hm k' l hl).2.2
    rw [← e2, e1, e]
    exact hI.2.2.2.2.2.2.2.2.1 k'
  intro c
  induction c with
  | zero =>
    intro l hl
    have e : l = 3 := by omega
    subst e
    obtain ⟨s1, s2, s3⟩ := zt_wk_ok hI hm k 3 (by omega)
    refine br_t (by decide) (zt_nneg s1 (fun h => ?_) (fun e => none 3 (by omega) e))
    obtain ⟨p1, p2⟩ := s2 h
    rw [zt_p_lt h]
    refine ⟨vp_in_nI h (by omega), ?_⟩
    rw [nI_clamp (by omega)]
    refine zt_bit (hI.2.2.2.2.2.2.2.1 _ h p1 p2) hk (fun e => ?_) (fun e _ _ => ?_)
    · refine hp 4 (by omega) (fun _ k' h' => ?_) (fun z => absurd z (by omega))
      have h2 : k' = k := by
        have e0 : (4 : Nat) ^ (4 - 4) = 1 := rfl
        rw [e0, Nat.div_one, Nat.div_one] at h'
        exact h'
      rw [h2, ← s3, e]
    · exact hp 5 (by omega) (fun z => absurd z (by omega)) (fun _ => by rw [← s3]; exact e)
  | succ c ih =>
    intro l hl
    obtain ⟨h1, h2, h3⟩ := zt_wk_ok hI hm k l (by omega)
    refine br_f (nI_ge (b := 3) (by omega) (by decide)) (zt_nneg h1 (fun h => ?_) (fun e => none l (by omega) e))
    have h2' := h2 h
    have hn := ih (l + 1) (by omega)
    rw [zt_p_lt h]
    exact zt_turn hk (by omega) ⟨zt_rin h, nm_r (zt_rd hI (by omega) h h2') (nm_r (nI_1 l) hn)⟩
theorem zt_miss (hI : zt_I R lv C a1 a2 a3) (hr : zt_rt R a5) (hm : m < 8) (hk : k < 256) (hp : ∀ r, r ≤ 5 → (r ≤ 4 → ∀ k', k' / 4 ^ (4 - r) = k / 4 ^ (4 - r) → C (R (1604 + m)) k' = 0) → (r = 5 → C (R (1604 + m)) k ≠ 0) → post (nI r)) : wpX_missingLevel post (a1, a2, a3, a4, a5, a6, a7, a8) (nI m) (nI k) := by
  have h := zt_missL (a4 := a4) (a5 := a5) (a6 := a6) (a7 := a7) (a8 := a8) hI hm hk hp 3 0 rfl
  exact ⟨vp_in_nI hm (by omega), nm_r (by rw [nI_clamp (by omega)]; exact hr m hm) ⟨4, h⟩⟩
theorem zt_next {p : Int32} {f : Nat} (hI : zt_I R lv C a1 a2 a3) (hr : zt_rt R a5) (ha : zt_ar p m) (h4 : a4 m ≠ 0) (hf : f < 256) (hp : ∀ r, zt_fst (fun k => C (R (1604 + m)) k) f r → post (nI r)) : wpX_next post (a1, a2, a3, a4, a5, a6, a7, a8) p (nI f) := by
  unfold wpX_next
  dsimp only
  refine zt_isMap ha h4 (br_f (by decide) (br_t (nI_pos' (by omega)) ?_))
  obtain ⟨q1, q2, q3, hm⟩ := ha
  refine loop_m (σ := Nat × Nat) (fun n s => wX_next_23 post p a1 a2 a3 a4 a5 a6 a7 a8 n (nI s.1) (nI s.2)) (fun s => f ≤ s.1 ∧ s.2 ≤ s.1 ∧ s.1 ≤ 256 ∧ ∀ k, f ≤ k → k < s.1 → C (R (1604 + m)) k = 0) (fun s => 256 - s.1) ?_ (f, 0) ⟨Nat.le_refl f, Nat.zero_le f, by show f ≤ 256; omega, fun k z1 z2 => absurd z2 (by show ¬ k < f; omega)⟩
  intro n s hs ih
  obtain ⟨key, st⟩ := s
  obtain ⟨i1, i2, i3, i4⟩ := hs
  dsimp only at i1 i2 i3 i4
  have full : 256 ≤ key → post 256 := fun z => hp 256 ⟨Nat.le_refl _, fun k z1 z2 => i4 k z1 (by omega), fun z => absurd z (by omega)⟩
  show wX_next_23 post p a1 a2 a3 a4 a5 a6 a7 a8 (n + 1) (nI key) (nI st)
  refine pk_le 256 st (fun z => full (by omega)) (fun z0 => ?_)
  refine pk_le 256 key (fun z => full z) (fun z => ?_)
  rw [q3]
  refine zt_miss hI hr hm z (fun r hr5 hr4 hr5' => ?_)
  refine pk_le r 4 (fun z4 => ?_) (fun z4 => ?_)
  · obtain ⟨b1, b2⟩ := zt_bh_in key z r (by omega)
    refine zt_behind z (by omega) (nm_r (nI_1 st) (ih (zt_bh key r, st + 1) ⟨by show f ≤ zt_bh key r; omega, by show st + 1 ≤ zt_bh key r; omega, b2, fun k z1 z2 => ?_⟩ (by show 256 - zt_bh key r < 256 - key; omega)))
    by_cases zk : k < key
    · exact i4 k z1 zk
    · exact hr4 z4 k (zt_bh_mid (by omega) z2)
  · exact hp key ⟨i3, i4, fun _ => ⟨i1, hr5' (by omega)⟩⟩
theorem zt_s60 {J : Int32 → Int32 → Int32 → Prop} {y l : Nat} {z0 : Int32} (hI : zt_I R lv C a1 a2 a3) (hk : k < 256) (hl : l < 3) (hy : y ≤ 400) (hy2 : y < 400 → 0 < zt_n R y ∧ lv y = l) (hJ : J z0 (zt_p (R (4 * y + zt_tn k l))) (nI (l + 1))) : wX_sharedLevel_60 post J (nI k) (zt_p y) (nI l) z0 a1 a2 a3 a4 a5 a6 a7 a8 := by
  refine zt_nneg hy (fun h => ?_) (fun e => ?_)
  · have h2' := hy2 h
    rw [zt_p_lt h]
    exact zt_turn hk hl ⟨zt_rin h, nm_r (zt_rd hI hl h h2') (nm_r (nI_1 l) hJ)⟩
  · rw [e, hI.2.2.2.1 _ (zt_tn_lt k l)] at hJ
    exact nm_r (nI_1 l) hJ
theorem zt_s130a {x y : Nat} (hI : zt_I R lv C a1 a2 a3) (hk : k < 256) (hy : y ≤ 400) (hy2 : y < 400 → 0 < zt_n R y ∧ lv y = 3) (hx : C x k = 0) (hp4 : C x k = C y k → post 4) (hp5 : C x k ≠ C y k → post 5) : wX_sharedLevel_130 post (nI k) (zt_p x) (zt_p y) 0 a1 a2 a3 a4 a5 a6 a7 a8 := by
  refine zt_neg hy (fun e => br_t rfl (br_t rfl (hp4 ?_))) (fun h => ?_)
  · rw [hx, e, hI.2.2.2.2.2.2.2.2.1 k]
  · obtain ⟨p1, p2⟩ := hy2 h
    rw [zt_p_lt h]
    refine ⟨vp_in_nI h (by omega), ?_⟩
    rw [nI_clamp (by omega)]
    exact zt_bit (hI.2.2.2.2.2.2.2.1 _ h p1 p2) hk (fun e => br_t rfl (br_t rfl (hp4 (by rw [hx, e])))) (fun e _ _ => br_f (by decide) (hp5 (by rw [hx]; exact fun z => e z.symm)))
theorem zt_s130b {x y : Nat} (hI : zt_I R lv C a1 a2 a3) (hk : k < 256) (hx : x < 400) (hy : y ≤ 400) (hy2 : y < 400 → 0 < zt_n R y ∧ lv y = 3) (hc : C x k ≠ 0) (hk4 : k % 4 = 0) (hv : a1 (4 * x) = C x k) (hp4 : C x k = C y k → post 4) (hp5 : C x k ≠ C y k → post 5) : wX_sharedLevel_130 post (nI k) (nI x) (zt_p y) 1 a1 a2 a3 a4 a5 a6 a7 a8 := by
  refine zt_neg hy (fun e => br_f (by decide) (hp5 ?_)) (fun h => ?_)
  · rw [e, hI.2.2.2.2.2.2.2.2.1 k]
    exact hc
  · obtain ⟨p1, p2⟩ := hy2 h
    rw [zt_p_lt h]
    refine ⟨vp_in_nI h (by omega), ?_⟩
    rw [nI_clamp (by omega)]
    refine zt_bit (hI.2.2.2.2.2.2.2.1 _ h p1 p2) hk (fun e => br_f (by decide) (hp5 (by rw [e]; exact hc))) (fun e _ ey => br_t rfl (br_f (by decide) ?_))
    rw [zt_and3 k hk, hk4, zt_ix, zt_ix, nI_clamp (by omega), nI_clamp (by omega)]
    refine ⟨vp_in_nI (by omega) (by omega), vp_in_nI (by omega) (by omega), ?_⟩
    show (a1 (4 * x) = a1 (4 * y) → post 4) ∧ (¬ a1 (4 * x) = a1 (4 * y) → post 5)
    rw [hv, ey]
    exact ⟨hp4, hp5⟩
theorem zt_sharL {a b : Nat} (hI : zt_I R lv C a1 a2 a3) (ha : a < 8) (hb : b < 8) (hk : k < 256) (hp : ∀ r, r ≤ 5 → (r ≤ 4 → ∀ k', k' / 4 ^ (4 - r) = k / 4 ^ (4 - r) → C (R (1604 + a)) k' = C (R (1604 + b)) k') → (r = 5 → C (R (1604 + a)) k ≠ C (R (1604 + b)) k) → post (nI r)) : ∀ c l, l + c = 3 → wX_sharedLevel_19 post (nI k) a1 a2 a3 a4 a5 a6 a7 a8 (c + 1) (zt_p (zt_wk R k (R (1604 + a)) l)) (zt_p (zt_wk R k (R (1604 + b)) l)) (nI l) := by
  have same : ∀ l, l ≤ 3 → zt_wk R k (R (1604 + a)) l = zt_wk R k (R (1604 + b)) l → post (nI l) := by
    intro l hl e
    refine hp l (by omega) (fun _ k' h' => ?_) (fun z => absurd z (by omega))
    have e1 := zt_wk_pre (R := R) (r := R (1604 + a)) l hl h'
    have e2 := (zt_wk_ok hI ha k' l hl).2.2
    have f1 := zt_wk_pre (R := R) (r := R (1604 + b)) l hl h'
    have f2 := (zt_wk_ok hI hb k' l hl).2.2
    rw [← e2, ← f2, e1, f1, e]
  intro c
  induction c with
  | zero =>
    intro l hl
    have e : l = 3 := by omega
    subst e
    obtain ⟨s1, s2, s3⟩ := zt_wk_ok hI ha k 3 (by omega)
    obtain ⟨t1, t2, t3⟩ := zt_wk_ok hI hb k 3 (by omega)
    have hp4 : C (zt_wk R k (R (1604 + a)) 3) k = C (zt_wk R k (R (1604 + b)) 3) k → post 4 := by
      intro e
      refine hp 4 (by omega) (fun _ k' h' => ?_) (fun z => absurd z (by omega))
      have h2 : k' = k := by
        have e0 : (4 : Nat) ^ (4 - 4) = 1 := rfl
        rw [e0, Nat.div_one, Nat.div_one] at h'
        exact h'
      rw [h2, ← s3, ← t3, e]
    have hp5 : C (zt_wk R k (R (1604 + a)) 3) k ≠ C (zt_wk R k (R (1604 + b)) 3) k → post 5 := by
      intro e
      exact hp 5 (by omega) (fun z => absurd z (by omega)) (fun _ => by rw [← s3, ← t3]; exact e)
    refine br_t (by decide) (zt_peq s1 t1 (fun e => same 3 (by omega) e) (fun ne => ?_))
    refine zt_neg s1 (fun e => zt_s130a hI hk t1 t2 (by rw [e]; exact hI.2.2.2.2.2.2.2.2.1 k) hp4 hp5) (fun h => ?_)
    obtain ⟨p1, p2⟩ := s2 h
    have lf := hI.2.2.2.2.2.2.2.1 _ h p1 p2
    have r0 := fun hx => zt_s130a (a4 := a4) (a5 := a5) (a6 := a6) (a7 := a7) (a8 := a8) hI hk t1 t2 hx hp4 hp5
    have r1 := fun hc hk4 hv => zt_s130b (a4 := a4) (a5 := a5) (a6 := a6) (a7 := a7) (a8 := a8) hI hk h t1 t2 hc hk4 hv hp4 hp5
    rw [zt_p_lt h]
    rw [zt_p_lt h] at r0
    refine ⟨vp_in_nI h (by omega), ?_⟩
    rw [nI_clamp (by omega)]
    exact zt_bit lf hk (fun e => r0 e) (fun e z ex => r1 e z ex)
  | succ c ih =>
    intro l hl
    obtain ⟨s1, s2, s3⟩ := zt_wk_ok hI ha k l (by omega)
    obtain ⟨t1, t2, t3⟩ := zt_wk_ok hI hb k l (by omega)
    have hn := ih (l + 1) (by omega)
    refine br_f (nI_ge (b := 3) (by omega) (by decide)) (zt_peq s1 t1 (fun e => same l (by omega) e) (fun ne => ?_))
    refine zt_nneg s1 (fun h => ?_) (fun e => ?_)
    · have h2' := s2 h
      rw [zt_p_lt h]
      refine zt_turn hk (by omega) ⟨zt_rin h, ?_⟩
      rw [zt_rd hI (by omega) h h2']
      exact zt_s60 hI hk (by omega) t1 t2 hn
    · have hx : zt_p (zt_wk R k (R (1604 + a)) (l + 1)) = -1 := by
        have q : zt_wk R k (R (1604 + a)) (l + 1) = 400 := zt_wk_none hI k l e 1
        rw [q]
        rfl
      rw [hx] at hn
      exact zt_s60 hI hk (by omega) t1 t2 hn
theorem zt_shar {a b : Nat} (hI : zt_I R lv C a1 a2 a3) (hr : zt_rt R a5) (ha : a < 8) (hb : b < 8) (hk : k < 256) (hp : ∀ r, r ≤ 5 → (r ≤ 4 → ∀ k', k' / 4 ^ (4 - r) = k / 4 ^ (4 - r) → C (R (1604 + a)) k' = C (R (1604 + b)) k') → (r = 5 → C (R (1604 + a)) k ≠ C (R (1604 + b)) k) → post (nI r)) : wpX_sharedLevel post (a1, a2, a3, a4, a5, a6, a7, a8) (nI a) (nI b) (nI k) := by
  have h := zt_sharL (a4 := a4) (a5 := a5) (a6 := a6) (a7 := a7) (a8 := a8) hI ha hb hk hp 3 0 rfl
  exact ⟨vp_in_nI ha (by omega), nm_r (by rw [nI_clamp (by omega)]; exact hr a ha) ⟨vp_in_nI hb (by omega), nm_r (by rw [nI_clamp (by omega)]; exact hr b hb) ⟨4, h⟩⟩⟩
theorem zt_nextChange {p q : Int32} {a b f : Nat} (hI : zt_I R lv C a1 a2 a3) (hr : zt_rt R a5) (ha : zt_ar p a) (hb : zt_ar q b) (h4a : a4 a ≠ 0) (h4b : a4 b ≠ 0) (hf : f ≤ 256) (hp : ∀ r, zt_fd (fun k => C (R (1604 + a)) k) (fun k => C (R (1604 + b)) k) f r → post (nI r)) : wpX_nextChange post (a1, a2, a3, a4, a5, a6, a7, a8) p q (nI f) := by
  unfold wpX_nextChange
  dsimp only
  refine zt_isMap ha h4a (br_f (by decide) (zt_isMap hb h4b (br_f (by decide) (br_t (nI_pos' (by omega)) ?_))))
  obtain ⟨_, _, q3, hma⟩ := ha
  obtain ⟨_, _, q3', hmb⟩ := hb
  refine loop_m (σ := Nat × Nat) (fun n s => wX_nextChange_32 post p q a1 a2 a3 a4 a5 a6 a7 a8 n (nI s.1) (nI s.2)) (fun s => f ≤ s.1 ∧ s.2 ≤ s.1 ∧ s.1 ≤ 256 ∧ ∀ k, f ≤ k → k < s.1 → C (R (1604 + a)) k = C (R (1604 + b)) k) (fun s => 256 - s.1) ?_ (f, 0) ⟨Nat.le_refl f, Nat.zero_le f, hf, fun k z1 z2 => absurd z2 (by show ¬ k < f; omega)⟩
  intro n s hs ih
  obtain ⟨key, st⟩ := s
  obtain ⟨i1, i2, i3, i4⟩ := hs
  dsimp only at i1 i2 i3 i4
  have full : 256 ≤ key → post 256 := fun z => hp 256 ⟨Nat.le_refl _, fun k z1 z2 => i4 k z1 (by omega), fun z => absurd z (by omega)⟩
  show wX_nextChange_32 post p q a1 a2 a3 a4 a5 a6 a7 a8 (n + 1) (nI key) (nI st)
  refine pk_le 256 st (fun z => full (by omega)) (fun z0 => ?_)
  refine pk_le 256 key (fun z => full z) (fun z => ?_)
  rw [q3, q3']
  refine zt_shar hI hr hma hmb z (fun r hr5 hr4 hr5' => ?_)
  refine pk_le r 4 (fun z4 => ?_) (fun z4 => ?_)
  · obtain ⟨b1, b2⟩ := zt_bh_in key z r (by omega)
    refine zt_behind z (by omega) (nm_r (nI_1 st) (ih (zt_bh key r, st + 1) ⟨by show f ≤ zt_bh key r; omega, by show st + 1 ≤ zt_bh key r; omega, b2, fun k z1 z2 => ?_⟩ (by show 256 - zt_bh key r < 256 - key; omega)))
    by_cases zk : k < key
    · exact i4 k z1 zk
    · exact hr4 z4 k (zt_bh_mid (by omega) z2)
  · exact hp key ⟨i3, i4, fun _ => ⟨i1, hr5' (by omega)⟩⟩
theorem zt_changes {p q : Int32} {a b : Nat} {D : Nat → Bool} (hI : zt_I R lv C a1 a2 a3) (hr : zt_rt R a5) (ha : zt_ar p a) (hb : zt_ar q b) (h4a : a4 a ≠ 0) (h4b : a4 b ≠ 0) (hD : ∀ k, D k = decide (C (R (1604 + a)) k ≠ C (R (1604 + b)) k)) (hp : ∀ c, c = zt_ct D 256 → post (nI c)) : wpX_changes post (a1, a2, a3, a4, a5, a6, a7, a8) p q := by
  have D0 : ∀ k, C (R (1604 + a)) k = C (R (1604 + b)) k → D k = false := fun k e => by
    rw [hD k]
    exact decide_eq_false (fun z => z e)
  have D1 : ∀ k, C (R (1604 + a)) k ≠ C (R (1604 + b)) k → D k = true := fun k e => by
    rw [hD k]
    exact decide_eq_true e
  unfold wpX_changes
  dsimp only
  refine zt_isMap ha h4a (br_f (by decide) (zt_isMap hb h4b (br_f (by decide) ?_)))
  refine zt_nextChange (f := 0) hI hr ha hb h4a h4b (by omega) (fun r hr0 => ?_)
  obtain ⟨r1, r2, r3⟩ := hr0
  have e0 : zt_ct D r = 0 := zt_ct_skip r (Nat.zero_le r) (fun s _ z2 => D0 s (r2 s (Nat.zero_le s) z2))
  refine loop_m (σ := Nat × Nat) (fun n s => wX_changes_32 post p q a1 a2 a3 a4 a5 a6 a7 a8 n (nI s.1) (nI s.2) (nI s.1)) (fun s => s.1 = zt_ct D s.2 ∧ s.2 ≤ 256 ∧ (s.2 < 256 → D s.2 = true)) (fun s => 256 - s.2) ?_ (0, r) ⟨e0.symm, r1, fun z => D1 r (r3 z).2⟩
  intro n s hs ih
  obtain ⟨c, key⟩ := s
  obtain ⟨i1, i2, i3⟩ := hs
  dsimp only at i1 i2 i3
  have hle := zt_ct_le (p := D) key
  have full : 256 ≤ key → post (nI c) := fun z => hp c (by rw [i1, show key = 256 by omega])
  show wX_changes_32 post p q a1 a2 a3 a4 a5 a6 a7 a8 (n + 1) (nI c) (nI key) (nI c)
  refine pk_le 256 c (fun z => full (by omega)) (fun z0 => ?_)
  refine pk_le 256 key (fun z => full z) (fun z => nm_r (nI_1 c) ?_)
  rw [nI_1 key]
  refine zt_nextChange (f := key + 1) hI hr ha hb h4a h4b (by omega) (fun r' hr' => nm_r (nI_1 c) ?_)
  obtain ⟨t1, t2, t3⟩ := hr'
  have hlt : key < r' := by
    rcases Nat.lt_or_ge r' 256 with y | y
    · have := (t3 y).1
      omega
    · omega
  have e1 : zt_ct D r' = zt_ct D (key + 1) := zt_ct_skip r' (by omega) (fun s z1 z2 => D0 s (t2 s z1 z2))
  refine ih (c + 1, r') ⟨?_, t1, fun y => D1 r' (t3 y).2⟩ (by show 256 - r' < 256 - key; omega)
  show c + 1 = zt_ct D r'
  rw [e1, zt_ct, if_pos (i3 z), i1]
end
end
section
/-! ===== a free node is there ===== -/
/-- the stack is empty -/
def zt_em (R : Nat → Nat) : Prop := ∀ d, d < 16 → R (1612 + d) = 400
/-- only the first four maps have roots -/
def zt_r4 (R : Nat → Nat) : Prop := ∀ m, m < 8 → 4 ≤ m → R (1604 + m) = 400
def zt_F (R : Nat → Nat) : Nat → Nat → Nat
  | 0, c => R (1604 + c)
  | l + 1, c => R (4 * zt_F R l (c / 4) + c % 4)
/-- who holds a node -/
theorem zt_who {R lv : Nat → Nat} {C : Nat → Nat → Int32} {a1 a2 a3 : Nat → Int32} (hI : zt_I R lv C a1 a2 a3) (he : zt_em R) {n : Nat} (hn : n < 400) (h : 0 < zt_n R n) :
    (∃ m, m < 8 ∧ R (1604 + m) = n ∧ lv n = 0) ∨ (∃ p w, p < 400 ∧ w < 4 ∧ R (4 * p + w) = n ∧ 0 < zt_n R p ∧ lv p < 3 ∧ lv n = lv p + 1) := by
  obtain ⟨g1, g2, g3, g4, g5, k1, k3, k4, c1, c2⟩ := hI
  obtain ⟨s, hs, e⟩ := zt_n_ex h
  by_cases z1 : s < 1600
  · have e2 : s = 4 * (s / 4) + s % 4 := by omega
    have e3 : R (4 * (s / 4) + s % 4) = n := by rw [← e2]; exact e
    obtain ⟨q1, q2, q3⟩ := g3 (s / 4) (s % 4) (by omega) (by omega) (by rw [e3]; exact hn)
    rw [e3] at q3
    exact Or.inr ⟨s / 4, s % 4, by omega, by omega, e3, q1, q2, q3⟩
  · by_cases z2 : s < 1604
    · have := g4 (s - 1600) (by omega)
      rw [show 1600 + (s - 1600) = s by omega] at this
      omega
    · by_cases z3 : s < 1612
      · have e3 : R (1604 + (s - 1604)) = n := by rw [show 1604 + (s - 1604) = s by omega]; exact e
        have := g2 (s - 1604) (by omega) (by rw [e3]; exact hn)
        rw [e3] at this
        exact Or.inl ⟨s - 1604, by omega, e3, this⟩
      · have := he (s - 1612) (by omega)
        rw [show 1612 + (s - 1612) = s by omega] at this
        omega
theorem zt_reach {R lv : Nat → Nat} {C : Nat → Nat → Int32} {a1 a2 a3 : Nat → Int32} (hI : zt_I R lv C a1 a2 a3) (he : zt_em R) (h4 : zt_r4 R) : ∀ l n, n < 400 → 0 < zt_n R n → lv n = l → ∃ c, c < 4 ^ (l + 1) ∧ zt_F R l c = n := by
  intro l
  induction l with
  | zero =>
    intro n hn h hl
    rcases zt_who hI he hn h with ⟨m, hm, e, _⟩ | ⟨p, w, _, _, _, _, _, q⟩
    · by_cases z : 4 ≤ m
      · have := h4 m hm z
        omega
      · exact ⟨m, by show m < 4; omega, e⟩
    · omega
  | succ l ih =>
    intro n hn h hl
    rcases zt_who hI he hn h with ⟨m, hm, e, q⟩ | ⟨p, w, hp, hw, e, q1, q2, q3⟩
    · omega
    · obtain ⟨c, hc, ec⟩ := ih p hp q1 (by omega)
      refine ⟨4 * c + w, ?_, ?_⟩
      · rw [Nat.pow_succ 4 (l + 1)]
        omega
      · show R (4 * zt_F R l ((4 * c + w) / 4) + (4 * c + w) % 4) = n
        rw [show (4 * c + w) / 4 = c by omega, show (4 * c + w) % 4 = w by omega, ec]
        exact e
theorem zt_free {R lv : Nat → Nat} {C : Nat → Nat → Int32} {a1 a2 a3 : Nat → Int32} (hI : zt_I R lv C a1 a2 a3) (he : zt_em R) (h4 : zt_r4 R) : ∃ n, n < 400 ∧ zt_n R n = 0 := by
  by_cases H : ∃ n, n < 400 ∧ zt_n R n = 0
  · exact H
  · exfalso
    have live : ∀ n, n < 400 → 0 < zt_n R n := fun n hn => by
      rcases Nat.eq_zero_or_pos (zt_n R n) with z | z
      · exact absurd ⟨n, hn, z⟩ H
      · exact z
    have hle := zt_sur (m := 400) (K := 340) (fun i => if i < 4 then zt_F R 0 i else if i < 20 then zt_F R 1 (i - 4) else if i < 84 then zt_F R 2 (i - 20) else zt_F R 3 (i - 84)) (fun n hn => by
      have h5 := hI.2.2.2.2.1 n hn (live n hn)
      obtain ⟨c, hc, ec⟩ := zt_reach hI he h4 (lv n) n hn (live n hn) rfl
      have hl : lv n = 0 ∨ lv n = 1 ∨ lv n = 2 ∨ lv n = 3 := by omega
      rcases hl with e | e | e | e
      · rw [e] at hc ec
        have hc' : c < 4 := hc
        refine ⟨c, by omega, ?_⟩
        rw [if_pos hc']
        exact ec
      · rw [e] at hc ec
        have hc' : c < 16 := hc
        refine ⟨c + 4, by omega, ?_⟩
        rw [if_neg (by omega), if_pos (by omega), show c + 4 - 4 = c by omega]
        exact ec
      · rw [e] at hc ec
        have hc' : c < 64 := hc
        refine ⟨c + 20, by omega, ?_⟩
        rw [if_neg (by omega), if_neg (by omega), if_pos (by omega), show c + 20 - 20 = c by omega]
        exact ec
      · rw [e] at hc ec
        have hc' : c < 256 := hc
        refine ⟨c + 84, by omega, ?_⟩
        rw [if_neg (by omega), if_neg (by omega), if_neg (by omega), show c + 84 - 84 = c by omega]
        exact ec)
    omega
/-! ===== a node is copied: place s, which held x, gets the free node n ===== -/
def zt_cp (R : Nat → Nat) (s n x i : Nat) : Nat → Nat := fun j => if j = s then n else if 4 * n ≤ j ∧ j < 4 * n + i then R (4 * x + (j - 4 * n)) else R j
theorem zt_cp_s {R : Nat → Nat} {s n x i : Nat} : zt_cp R s n x i s = n := if_pos rfl
theorem zt_cp_in {R : Nat → Nat} {s n x i w : Nat} (hs : 4 * n + w ≠ s) (hw : w < i) : zt_cp R s n x i (4 * n + w) = R (4 * x + w) := by
  unfold zt_cp
  rw [if_neg hs, if_pos ⟨by omega, by omega⟩, show 4 * n + w - 4 * n = w by omega]
theorem zt_cp_out {R : Nat → Nat} {s n x i j : Nat} (hs : j ≠ s) (hj : j < 4 * n ∨ 4 * n + i ≤ j) : zt_cp R s n x i j = R j := by
  unfold zt_cp
  rw [if_neg hs, if_neg (fun z => by omega)]
theorem zt_cp_0 {R : Nat → Nat} {s n x : Nat} (hs : s < 1628) (j : Nat) : zt_n (zt_cp R s n x 0) j + (if R s = j then 1 else 0) = zt_n R j + (if n = j then 1 else 0) := by
  rw [← zt_n_up n j hs]
  rw [zt_n_congr (R := zt_cp R s n x 0) (R' := va_up R s n) j (fun t _ => ?_)]
  unfold zt_cp va_up
  by_cases e : t = s
  · rw [if_pos e, if_pos e]
  · rw [if_neg e, if_neg e, if_neg (fun z => by omega)]
theorem zt_cp_S {R : Nat → Nat} {s n x i : Nat} (hn : n < 400) (hi : i < 4) (hs : ∀ w, w < 4 → 4 * n + w ≠ s) (h0 : R (4 * n + i) = 400) {j : Nat} (hj : j < 400) : zt_n (zt_cp R s n x (i + 1)) j = zt_n (zt_cp R s n x i) j + (if R (4 * x + i) = j then 1 else 0) := by
  have h := zt_n_up (R := zt_cp R s n x i) (s := 4 * n + i) (R (4 * x + i)) j (by omega)
  rw [zt_cp_out (hs i hi) (by omega), h0, if_neg (by omega)] at h
  rw [← Nat.add_zero (zt_n (zt_cp R s n x (i + 1)) j), ← h]
  rw [zt_n_congr (R := zt_cp R s n x (i + 1)) (R' := va_up (zt_cp R s n x i) (4 * n + i) (R (4 * x + i))) j (fun t _ => ?_)]
  unfold zt_cp va_up
  dsimp only
  by_cases e : t = 4 * n + i
  · rw [if_pos e, if_neg (by rw [e]; exact hs i hi), if_pos ⟨by omega, by omega⟩, show t - 4 * n = i by omega]
  · rw [if_neg e]
    by_cases e2 : t = s
    · rw [if_pos e2, if_pos e2]
    · rw [if_neg e2, if_neg e2]
      by_cases e3 : 4 * n ≤ t ∧ t < 4 * n + i
      · rw [if_pos e3, if_pos ⟨by omega, by omega⟩]
      · rw [if_neg e3, if_neg (fun z => e3 ⟨z.1, by omega⟩)]
theorem zt_cp_tot {R : Nat → Nat} {s n x : Nat} (hn : n < 400) (hs1 : s < 1628) (hs : ∀ w, w < 4 → 4 * n + w ≠ s) (h0 : ∀ w, w < 4 → R (4 * n + w) = 400) {j : Nat} (hj : j < 400) :
    zt_n (zt_cp R s n x 4) j + (if R s = j then 1 else 0) = zt_n R j + (if n = j then 1 else 0) + (if R (4 * x + 0) = j then 1 else 0) + (if R (4 * x + 1) = j then 1 else 0) + (if R (4 * x + 2) = j then 1 else 0) + (if R (4 * x + 3) = j then 1 else 0) := by
  have e0 := zt_cp_0 (R := R) (n := n) (x := x) hs1 j
  have e1 : zt_n (zt_cp R s n x 1) j = zt_n (zt_cp R s n x 0) j + (if R (4 * x + 0) = j then 1 else 0) := zt_cp_S hn (by omega) hs (h0 0 (by omega)) hj
  have e2 : zt_n (zt_cp R s n x 2) j = zt_n (zt_cp R s n x 1) j + (if R (4 * x + 1) = j then 1 else 0) := zt_cp_S hn (by omega) hs (h0 1 (by omega)) hj
  have e3 : zt_n (zt_cp R s n x 3) j = zt_n (zt_cp R s n x 2) j + (if R (4 * x + 2) = j then 1 else 0) := zt_cp_S hn (by omega) hs (h0 2 (by omega)) hj
  have e4 : zt_n (zt_cp R s n x 4) j = zt_n (zt_cp R s n x 3) j + (if R (4 * x + 3) = j then 1 else 0) := zt_cp_S hn (by omega) hs (h0 3 (by omega)) hj
  omega
/-- place s is a place of level l -/
def zt_kd (R lv : Nat → Nat) (s l : Nat) : Prop := (s = 1604 ∧ l = 0) ∨ (∃ p t, s = 4 * p + t ∧ p < 400 ∧ t < 4 ∧ 0 < zt_n R p ∧ lv p + 1 = l ∧ l ≤ 3)
section
variable {R lv : Nat → Nat} {C : Nat → Nat → Int32} {a1 a2 a3 : Nat → Int32}
/-- what a place of level l holds -/
theorem zt_kd_x {s l : Nat} (hI : zt_I R lv C a1 a2 a3) (hk : zt_kd R lv s l) : s < 1605 ∧ l ≤ 3 ∧ (R s < 400 → 0 < zt_n R (R s) ∧ lv (R s) = l) ∧ (s < 1600 ∨ s = 1604) := by
  obtain ⟨g1, g2, g3, g4, g5, k1, k3, k4, c1, c2⟩ := hI
  rcases hk with ⟨e, el⟩ | ⟨p, t, e, hp, ht, hn, el, hl⟩
  · refine ⟨by omega, by omega, fun h => ⟨zt_n_pos (s := s) (by omega) rfl, ?_⟩, by omega⟩
    rw [e] at h
    have q := g2 0 (by omega) h
    rw [e, el]
    exact q
  · refine ⟨by omega, by omega, fun h => ⟨zt_n_pos (s := s) (by omega) rfl, ?_⟩, by omega⟩
    rw [e] at h
    have q := (g3 p t hp ht h).2.2
    rw [e]
    omega
theorem zt_kd_n {s l n : Nat} (hk : zt_kd R lv s l) (hn : n < 400) (h0 : zt_n R n = 0) : ∀ w, w < 4 → 4 * n + w ≠ s := by
  intro w hw z
  rcases hk with ⟨e, _⟩ | ⟨p, t, e, hp, ht, hp0, _⟩
  · omega
  · have : n = p := by omega
    rw [this] at h0
    omega
theorem zt_dead (hI : zt_I R lv C a1 a2 a3) {n : Nat} (hn : n < 400) (h0 : zt_n R n = 0) : ∀ w, w < 4 → R (4 * n + w) = 400 := by
  intro w hw
  have h1 := hI.1 (4 * n + w)
  rcases Nat.lt_or_ge (R (4 * n + w)) 400 with z | z
  · have := (hI.2.2.1 n w hn hw z).1
    omega
  · omega
/-- a node's ways, also those of 'none' -/
theorem zt_ways (hI : zt_I R lv C a1 a2 a3) {x w : Nat} (hx : x ≤ 400) (hw : w < 4) (h : R (4 * x + w) < 400) : x < 400 ∧ lv x < 3 ∧ lv (R (4 * x + w)) = lv x + 1 := by
  by_cases e : x < 400
  · exact ⟨e, (hI.2.2.1 x w e hw h).2⟩
  · have e2 : x = 400 := by omega
    rw [e2] at h
    have q : R (4 * 400 + w) = 400 := hI.2.2.2.1 w hw
    omega
theorem zt_own_n {s l n : Nat} (hI : zt_I R lv C a1 a2 a3) (hk : zt_kd R lv s l) (hn : n < 400) (h0 : zt_n R n = 0) : zt_n (zt_cp R s n (R s) 4) n = 1 := by
  obtain ⟨k0, kl, kx, ks⟩ := zt_kd_x hI hk
  have hx := hI.1 s
  have t := zt_cp_tot (x := R s) hn (show s < 1628 by omega) (zt_kd_n hk hn h0) (zt_dead hI hn h0) hn
  have q : ∀ w, w < 4 → ¬ R (4 * R s + w) = n := fun w hw => zt_n_0 h0 (by omega)
  rw [if_neg (zt_n_0 h0 (by omega)), if_pos rfl, if_neg (q 0 (by omega)), if_neg (q 1 (by omega)), if_neg (q 2 (by omega)), if_neg (q 3 (by omega)), h0] at t
  exact t
theorem zt_own_l {s l n j : Nat} (hI : zt_I R lv C a1 a2 a3) (hk : zt_kd R lv s l) (hn : n < 400) (h0 : zt_n R n = 0) (hx : R s = 400 ∨ 2 ≤ zt_n R (R s)) (hj : j < 400) (hjn : j ≠ n) : 0 < zt_n (zt_cp R s n (R s) 4) j ↔ 0 < zt_n R j := by
  obtain ⟨k0, kl, kx, ks⟩ := zt_kd_x hI hk
  have hx4 := hI.1 s
  constructor
  · intro h
    obtain ⟨t, ht, e⟩ := zt_n_ex h
    by_cases e1 : t = s
    · rw [e1, zt_cp_s] at e
      exact absurd e.symm hjn
    · by_cases e2 : 4 * n ≤ t ∧ t < 4 * n + 4
      · have e3 : t = 4 * n + (t - 4 * n) := by omega
        rw [e3, zt_cp_in (zt_kd_n hk hn h0 _ (by omega)) (by omega)] at e
        exact zt_n_pos (by omega) e
      · rw [zt_cp_out e1 (by omega)] at e
        exact zt_n_pos ht e
  · intro h
    have t := zt_cp_tot (x := R s) hn (show s < 1628 by omega) (zt_kd_n hk hn h0) (zt_dead hI hn h0) hj
    by_cases e : R s = j
    · rcases hx with z | z
      · omega
      · rw [if_pos e] at t
        rw [e] at z
        omega
    · rw [if_neg e] at t
      omega
/-- the copied heap keeps the invariant -/
theorem zt_own {s l n : Nat} {b1 b2 b3 : Nat → Int32} (hI : zt_I R lv C a1 a2 a3) (hk : zt_kd R lv s l) (hn : n < 400) (h0 : zt_n R n = 0) (hx : R s = 400 ∨ 2 ≤ zt_n R (R s))
    (hw : ∀ w, w < 4 → b1 (4 * n + w) = if l < 3 then zt_p (R (4 * R s + w)) else if R s < 400 then a1 (4 * R s + w) else 0)
    (hs1 : s < 1600 → b1 s = nI n) (ho : ∀ j, j < 1600 → j ≠ s → (j < 4 * n ∨ 4 * n + 4 ≤ j) → b1 j = a1 j)
    (hb2 : b2 n = if l < 3 then 0 else if R s < 400 then a2 (R s) else 256) (hb2' : ∀ j, j < 400 → j ≠ n → b2 j = a2 j)
    (hb3 : ∀ j, j < 400 → b3 j = nI (zt_n (zt_cp R s n (R s) 4) j)) :
    zt_I (zt_cp R s n (R s) 4) (va_up lv n l) (va_up C n (C (R s))) b1 b2 b3 := by
  obtain ⟨k0, kl, kx, ks⟩ := zt_kd_x hI hk
  have hsn := zt_kd_n hk hn h0
  have n1 := zt_own_n hI hk hn h0
  have hl := fun j hj hjn => zt_own_l (j := j) hI hk hn h0 hx hj hjn
  have wy := fun w hw h => zt_ways (x := R s) (w := w) hI (hI.1 s) hw h
  obtain ⟨g1, g2, g3, g4, g5, k1, k3, k4, c1, c2⟩ := hI
  have hx4 := g1 s
  have nn : ∀ t, t < 1628 → R t ≠ n := fun t ht => zt_n_0 h0 ht
  have out : ∀ t, t ≠ s → t < 4 * n ∨ 4 * n + 4 ≤ t → zt_cp R s n (R s) 4 t = R t := fun t h1 h2 => zt_cp_out h1 h2
  have inn : ∀ w, w < 4 → zt_cp R s n (R s) 4 (4 * n + w) = R (4 * R s + w) := fun w hw => zt_cp_in (hsn w hw) hw
  have lvn : va_up lv n l n = l := va_up_self _ _ _
  have lvo : ∀ j, j ≠ n → va_up lv n l j = lv j := fun j h => va_up_ne _ _ h
  have cn : va_up C n (C (R s)) n = C (R s) := va_up_self _ _ _
  have co : ∀ j, j ≠ n → va_up C n (C (R s)) j = C j := fun j h => va_up_ne _ _ h
  refine ⟨?_, ?_, ?_, ?_, ?_, hb3, ?_, ?_, ?_, ?_⟩
  · intro t
    by_cases e1 : t = s
    · rw [e1, zt_cp_s]
      omega
    · by_cases e2 : 4 * n ≤ t ∧ t < 4 * n + 4
      · have e3 : t = 4 * n + (t - 4 * n) := by omega
        rw [e3, inn _ (by omega)]
        exact g1 _
      · rw [out t e1 (by omega)]
        exact g1 t
  · intro m hm h
    by_cases e1 : 1604 + m = s
    · rw [e1, zt_cp_s, lvn]
      rcases hk with ⟨_, el⟩ | ⟨p, t, e, hp, ht, _⟩
      · exact el
      · omega
    · rw [out _ e1 (by omega)] at h ⊢
      rw [lvo _ (nn _ (by omega))]
      exact g2 m hm h
  · intro j w hj hw' h
    by_cases ej : j = n
    · rw [ej] at h ⊢
      rw [inn w hw'] at h ⊢
      obtain ⟨y1, y2, y3⟩ := wy w hw' h
      obtain ⟨z1, z2⟩ := kx y1
      rw [n1, lvn, lvo _ (nn _ (by omega))]
      exact ⟨by omega, by omega, by omega⟩
    · rw [lvo j ej]
      by_cases e1 : 4 * j + w = s
      · rw [e1, zt_cp_s, lvn]
        rcases hk with ⟨e, el⟩ | ⟨p, t, e, hp, ht, hp0, hlp, hl3⟩
        · omega
        · have ejp : j = p := by omega
          rw [ejp]
          exact ⟨(hl p hp (by rw [← ejp]; exact ej)).mpr hp0, by omega, by omega⟩
      · rw [out _ e1 (by omega)] at h ⊢
        rw [lvo _ (nn _ (by omega))]
        obtain ⟨y1, y2, y3⟩ := g3 j w hj hw' h
        exact ⟨(hl j hj ej).mpr y1, y2, y3⟩
  · intro w hw'
    rw [out _ (by omega) (by omega)]
    exact g4 w hw'
  · intro j hj h
    by_cases ej : j = n
    · rw [ej, lvn]
      exact kl
    · rw [lvo j ej]
      exact g5 j hj ((hl j hj ej).mp h)
  · intro j hj h h3
    by_cases ej : j = n
    · rw [ej] at h3 ⊢
      rw [lvn] at h3
      rw [if_pos h3] at hb2
      refine ⟨hb2, fun w hw' => ?_⟩
      rw [inn w hw', hw w hw', if_pos h3]
    · rw [lvo j ej] at h3
      obtain ⟨y1, y2⟩ := k3 j hj ((hl j hj ej).mp h) h3
      refine ⟨by rw [hb2' j hj ej]; exact y1, fun w hw' => ?_⟩
      by_cases e1 : 4 * j + w = s
      · rw [e1, zt_cp_s, hs1 (by omega), zt_p_lt hn]
      · rw [out _ e1 (by omega), ho _ (by omega) e1 (by omega)]
        exact y2 w hw'
  · intro j hj h h3
    by_cases ej : j = n
    · rw [ej] at h3 ⊢
      rw [lvn] at h3
      rw [cn]
      have e0 := hw 0 (by omega)
      rw [if_neg (by omega)] at e0 hb2
      rw [Nat.add_zero] at e0
      by_cases e1 : R s < 400
      · rw [if_pos e1] at e0 hb2
        obtain ⟨z1, z2⟩ := kx e1
        rw [hb2, e0]
        exact k4 (R s) e1 z1 (by omega)
      · rw [if_neg e1] at hb2
        refine Or.inl ⟨hb2, ?_⟩
        rw [show R s = 400 by omega]
        exact c1
    · rw [lvo j ej] at h3
      rw [co j ej, hb2' j hj ej]
      have e1 : 4 * j ≠ s := by
        intro z
        rcases hk with ⟨e, el⟩ | ⟨p, t, e, hp, ht, hp0, hlp, hl3⟩
        · omega
        · have ejp : j = p := by omega
          rw [ejp] at h3
          omega
      rw [ho _ (by omega) e1 (by omega)]
      exact k4 j hj ((hl j hj ej).mp h) h3
  · intro k
    rw [co 400 (by omega)]
    exact c1 k
  · intro j hj h h3 k
    by_cases ej : j = n
    · rw [ej] at h3 ⊢
      rw [lvn] at h3 ⊢
      have ht := zt_tn_lt k l
      rw [inn _ ht, cn, co _ (nn _ (by omega))]
      by_cases e1 : R s < 400
      · obtain ⟨z1, z2⟩ := kx e1
        have q := c2 (R s) e1 z1 (by omega) k
        rw [z2] at q
        exact q
      · have e2 : R s = 400 := by omega
        rw [e2]
        have q : R (4 * 400 + zt_tn k l) = 400 := g4 _ ht
        rw [q]
    · rw [lvo j ej] at h3 ⊢
      have q := c2 j hj ((hl j hj ej).mp h) h3 k
      have ht := zt_tn_lt k (lv j)
      rw [co j ej]
      by_cases e1 : 4 * j + zt_tn k (lv j) = s
      · rw [e1, zt_cp_s, cn, q, e1]
      · rw [out _ e1 (by omega), co _ (nn _ (by omega))]
        exact q
/-- what stays -/
theorem zt_own_m {s l n m : Nat} (hI : zt_I R lv C a1 a2 a3) (hk : zt_kd R lv s l) (hn : n < 400) (h0 : zt_n R n = 0) (hm : m < 8) (k : Nat) : va_up C n (C (R s)) (zt_cp R s n (R s) 4 (1604 + m)) k = C (R (1604 + m)) k := by
  obtain ⟨k0, kl, kx, ks⟩ := zt_kd_x hI hk
  by_cases e : 1604 + m = s
  · rw [e, zt_cp_s, va_up_self]
  · rw [zt_cp_out e (by omega), va_up_ne _ _ (zt_n_0 h0 (by omega))]
theorem zt_own_f {s l n j : Nat} (hI : zt_I R lv C a1 a2 a3) (hk : zt_kd R lv s l) (hn : n < 400) (h0 : zt_n R n = 0) (hj : j < 400) (h1 : 0 < zt_n R j) (hl : lv j < l) :
    zt_n (zt_cp R s n (R s) 4) j = zt_n R j ∧ va_up lv n l j = lv j ∧ (∀ w, w < 4 → 4 * j + w ≠ s → zt_cp R s n (R s) 4 (4 * j + w) = R (4 * j + w)) := by
  obtain ⟨k0, kl, kx, ks⟩ := zt_kd_x hI hk
  have hx4 := hI.1 s
  have hjn : j ≠ n := fun z => by rw [z] at h1; omega
  have t := zt_cp_tot (x := R s) hn (show s < 1628 by omega) (zt_kd_n hk hn h0) (zt_dead hI hn h0) hj
  have q : ∀ w, w < 4 → ¬ R (4 * R s + w) = j := fun w hw z => by
    obtain ⟨y1, y2, y3⟩ := zt_ways (x := R s) (w := w) hI hx4 hw (by omega)
    have z2 := (kx y1).2
    rw [z] at y3
    omega
  have q2 : ¬ R s = j := fun z => by
    have z2 := (kx (by omega)).2
    rw [z] at z2
    omega
  rw [if_neg q2, if_neg (fun z => hjn z.symm), if_neg (q 0 (by omega)), if_neg (q 1 (by omega)), if_neg (q 2 (by omega)), if_neg (q 3 (by omega))] at t
  exact ⟨by omega, va_up_ne _ _ hjn, fun w hw hs => zt_cp_out hs (by omega)⟩
end
end
section
/-! ===== a leaf at the end of an owned way is written ===== -/
/-- the working map's way to the key, down to level l, is its own -/
def zt_pa (R lv : Nat → Nat) (key : Nat) (p : Nat → Nat) (l : Nat) : Prop := R 1604 = p 0 ∧ (∀ j, j ≤ l → p j < 400 ∧ zt_n R (p j) = 1 ∧ lv (p j) = j) ∧ ∀ j, j < l → R (4 * p j + zt_tn key j) = p (j + 1)
/-- the new contents: a node on the way binds what meets the key's rest to v -/
def zt_sC (lv : Nat → Nat) (C : Nat → Nat → Int32) (p : Nat → Nat) (key : Nat) (v : Int32) : Nat → Nat → Int32 := fun j k => if (j < 400 ∧ lv j ≤ 3 ∧ j = p (lv j)) ∧ k % 4 ^ (4 - lv j) = key % 4 ^ (4 - lv j) then v else C j k
theorem zt_md {k key l : Nat} (hl : l < 3) : (k % 4 ^ (4 - l) = key % 4 ^ (4 - l)) ↔ (zt_tn k l = zt_tn key l ∧ k % 4 ^ (4 - (l + 1)) = key % 4 ^ (4 - (l + 1))) := by
  have h : l = 0 ∨ l = 1 ∨ l = 2 := by omega
  rcases h with e | e | e
  · subst e
    show (k % 256 = key % 256) ↔ (k / 64 % 4 = key / 64 % 4 ∧ k % 64 = key % 64)
    omega
  · subst e
    show (k % 64 = key % 64) ↔ (k / 16 % 4 = key / 16 % 4 ∧ k % 16 = key % 16)
    omega
  · subst e
    show (k % 16 = key % 16) ↔ (k / 4 % 4 = key / 4 % 4 ∧ k % 4 = key % 4)
    omega
theorem zt_lf_c {h x : Int32} {c c' : Nat → Int32} (e : ∀ k, c' k = c k) (hl : zt_lf h x c) : zt_lf h x c' := by
  rcases hl with ⟨h1, h2⟩ | ⟨h1, h2, h3⟩
  · exact Or.inl ⟨h1, fun k => by rw [e k]; exact h2 k⟩
  · exact Or.inr ⟨h1, h2, fun k => by rw [e k]; exact h3 k⟩
section
variable {R lv : Nat → Nat} {C : Nat → Nat → Int32} {a1 a2 a3 : Nat → Int32} {p : Nat → Nat} {key : Nat} {v : Int32}
theorem zt_sC_off {j : Nat} (h : ¬ (j < 400 ∧ lv j ≤ 3 ∧ j = p (lv j))) (k : Nat) : zt_sC lv C p key v j k = C j k := if_neg (fun z => h z.1)
theorem zt_sC_on {l : Nat} (hp : p l < 400) (hl : lv (p l) = l) (h3 : l ≤ 3) (k : Nat) : zt_sC lv C p key v (p l) k = if k % 4 ^ (4 - l) = key % 4 ^ (4 - l) then v else C (p l) k := by
  unfold zt_sC
  rw [hl]
  by_cases e : k % 4 ^ (4 - l) = key % 4 ^ (4 - l)
  · rw [if_pos e, if_pos ⟨⟨hp, h3, rfl⟩, e⟩]
  · rw [if_neg e, if_neg (fun z => e z.2)]
theorem zt_set {b1 b2 : Nat → Int32} (hI : zt_I R lv C a1 a2 a3) (hpa : zt_pa R lv key p 3)
    (hlf : zt_lf (b2 (p 3)) (b1 (4 * p 3)) (fun k => if k % 4 = key % 4 then v else C (p 3) k))
    (h1 : ∀ j, j < 1600 → (j < 4 * p 3 ∨ 4 * p 3 + 4 ≤ j) → b1 j = a1 j) (h2 : ∀ j, j < 400 → j ≠ p 3 → b2 j = a2 j) :
    zt_I R lv (zt_sC lv C p key v) b1 b2 a3 := by
  obtain ⟨g1, g2, g3, g4, g5, k1, k3, k4, c1, c2⟩ := hI
  obtain ⟨p0, pn, pw⟩ := hpa
  refine ⟨g1, g2, g3, g4, g5, k1, ?_, ?_, ?_, ?_⟩
  · intro n hn hc hl
    have ne : n ≠ p 3 := fun z => by
      have := (pn 3 (by omega)).2.2
      rw [← z] at this
      omega
    obtain ⟨y1, y2⟩ := k3 n hn hc hl
    exact ⟨by rw [h2 n hn ne]; exact y1, fun w hw => by rw [h1 _ (by omega) (by omega)]; exact y2 w hw⟩
  · intro n hn hc hl
    by_cases e : n = p 3
    · obtain ⟨q1, q2, q3⟩ := pn 3 (by omega)
      rw [e]
      exact zt_lf_c (fun k => zt_sC_on q1 q3 (by omega) k) hlf
    · rw [h2 n hn e, h1 _ (by omega) (by omega)]
      refine zt_lf_c (fun k => zt_sC_off (fun z => e ?_) k) (k4 n hn hc hl)
      rw [hl] at z
      exact z.2.2
  · intro k
    rw [zt_sC_off (fun z => absurd z.1 (by omega)) k]
    exact c1 k
  · intro n hn hc hl k
    have q := c2 n hn hc hl k
    have ht := zt_tn_lt k (lv n)
    have ht' := zt_tn_lt key (lv n)
    have e4 := hn
    /- the child is on the way only behind the way's own place -/
    have off : ¬ (n = p (lv n) ∧ zt_tn k (lv n) = zt_tn key (lv n)) → ∀ k', zt_sC lv C p key v (R (4 * n + zt_tn k (lv n))) k' = C (R (4 * n + zt_tn k (lv n))) k' := by
      intro hno k'
      refine zt_sC_off (fun z => hno ?_) k'
      obtain ⟨z1, z2, z3⟩ := z
      have y := (g3 n (zt_tn k (lv n)) hn ht z1).2.2
      rw [y] at z3
      obtain ⟨q1, q2, q3⟩ := pn (lv n + 1) (by omega)
      obtain ⟨r1, r2, r3⟩ := pn (lv n) (by omega)
      have w := pw (lv n) (by omega)
      have u := zt_n_uq q2 (show 4 * n + zt_tn k (lv n) < 1628 by omega) (show 4 * p (lv n) + zt_tn key (lv n) < 1628 by omega) z3 w
      exact ⟨by omega, by omega⟩
    by_cases e : n = p (lv n)
    · obtain ⟨r1, r2, r3⟩ := pn (lv n) (by omega)
      have lhs : zt_sC lv C p key v n k = if k % 4 ^ (4 - lv n) = key % 4 ^ (4 - lv n) then v else C n k := by
        have := zt_sC_on (C := C) (key := key) (v := v) r1 r3 (by omega) k
        rw [← e] at this
        exact this
      rw [lhs]
      by_cases et : zt_tn k (lv n) = zt_tn key (lv n)
      · have w := pw (lv n) (by omega)
        rw [← e, ← et] at w
        obtain ⟨q1, q2, q3⟩ := pn (lv n + 1) (by omega)
        rw [w] at q ⊢
        rw [zt_sC_on q1 q3 (by omega) k, q]
        have m := zt_md (k := k) (key := key) hl
        by_cases em : k % 4 ^ (4 - (lv n + 1)) = key % 4 ^ (4 - (lv n + 1))
        · rw [if_pos em, if_pos (m.mpr ⟨et, em⟩)]
        · rw [if_neg em, if_neg (fun z => em (m.mp z).2)]
      · rw [off (fun z => et z.2) k, if_neg (fun z => et ((zt_md hl).mp z).1)]
        exact q
    · rw [off (fun z => e z.1) k, zt_sC_off (fun z => e z.2.2) k]
      exact q
theorem zt_set_m (hI : zt_I R lv C a1 a2 a3) (hpa : zt_pa R lv key p 3) {m : Nat} (hm : m < 8) (k : Nat) : zt_sC lv C p key v (R (1604 + m)) k = if m = 0 ∧ k % 256 = key % 256 then v else C (R (1604 + m)) k := by
  obtain ⟨p0, pn, pw⟩ := hpa
  obtain ⟨r1, r2, r3⟩ := pn 0 (by omega)
  by_cases e : m = 0
  · subst e
    show zt_sC lv C p key v (R 1604) k = if 0 = 0 ∧ k % 256 = key % 256 then v else C (R 1604) k
    rw [p0, zt_sC_on r1 r3 (by omega) k]
    show (if k % 256 = key % 256 then v else C (p 0) k) = _
    by_cases e2 : k % 256 = key % 256
    · rw [if_pos e2, if_pos ⟨rfl, e2⟩]
    · rw [if_neg e2, if_neg (fun z => e2 z.2)]
  · rw [if_neg (fun z => e z.1)]
    refine zt_sC_off (fun z => ?_) k
    have y := hI.2.1 m hm z.1
    have z3 := z.2.2
    rw [y] at z3
    have u := zt_n_uq r2 (show 1604 + m < 1628 by omega) (show 1604 < 1628 by omega) z3 p0
    omega
/-! ===== an owned node that leads nowhere is taken away ===== -/
theorem zt_unl {s l x : Nat} {b1 b3 : Nat → Int32} (hI : zt_I R lv C a1 a2 a3) (hk : zt_kd R lv s l) (hx : R s = x) (hx4 : x < 400) (h1 : zt_n R x = 1) (hc : ∀ k, C x k = 0) (hw : ∀ w, w < 4 → R (4 * x + w) = 400)
    (hb1 : s < 1600 → b1 s = -1) (hb1' : ∀ j, j < 1600 → j ≠ s → b1 j = a1 j) (hb3 : b3 x = 0) (hb3' : ∀ j, j < 400 → j ≠ x → b3 j = a3 j) :
    zt_I (va_up R s 400) lv C b1 a2 b3 := by
  obtain ⟨k0, kl, kx, ks⟩ := zt_kd_x hI hk
  have hlx := (kx (by rw [hx]; exact hx4)).2
  rw [hx] at hlx
  obtain ⟨g1, g2, g3, g4, g5, k1, k3, k4, c1, c2⟩ := hI
  have up : ∀ j, j < 400 → zt_n (va_up R s 400) j + (if x = j then 1 else 0) = zt_n R j := fun j hj => by
    have := zt_n_up (R := R) (s := s) 400 j (by omega)
    rw [hx, if_neg (show ¬ 400 = j by omega)] at this
    exact this
  have upx : zt_n (va_up R s 400) x = 0 := by
    have := up x hx4
    rw [if_pos rfl] at this
    omega
  have upo : ∀ j, j < 400 → j ≠ x → zt_n (va_up R s 400) j = zt_n R j := fun j hj ne => by
    have := up j hj
    rw [if_neg (fun z => ne z.symm)] at this
    exact this
  have live : ∀ j, j < 400 → 0 < zt_n (va_up R s 400) j → j ≠ x ∧ 0 < zt_n R j := fun j hj h => by
    have ne : j ≠ x := fun z => by rw [z] at h; omega
    exact ⟨ne, by rw [← upo j hj ne]; exact h⟩
  refine ⟨?_, ?_, ?_, ?_, ?_, ?_, ?_, ?_, c1, ?_⟩
  · intro t
    by_cases e : t = s
    · rw [e, va_up_self]
      omega
    · rw [va_up_ne _ _ e]
      exact g1 t
  · intro m hm h
    by_cases e : 1604 + m = s
    · rw [e, va_up_self] at h
      omega
    · rw [va_up_ne _ _ e] at h ⊢
      exact g2 m hm h
  · intro n w hn hw' h
    by_cases e : 4 * n + w = s
    · rw [e, va_up_self] at h
      omega
    · rw [va_up_ne _ _ e] at h ⊢
      obtain ⟨y1, y2, y3⟩ := g3 n w hn hw' h
      have ne : n ≠ x := fun z => by
        rw [z, hw w hw'] at h
        omega
      exact ⟨by rw [upo n hn ne]; exact y1, y2, y3⟩
  · intro w hw'
    rw [va_up_ne _ _ (by omega)]
    exact g4 w hw'
  · intro n hn h
    exact g5 n hn (live n hn h).2
  · intro j hj
    by_cases e : j = x
    · rw [e, hb3, upx]
      rfl
    · rw [hb3' j hj e, upo j hj e]
      exact k1 j hj
  · intro n hn h hl
    obtain ⟨ne, h'⟩ := live n hn h
    obtain ⟨y1, y2⟩ := k3 n hn h' hl
    refine ⟨y1, fun w hw' => ?_⟩
    by_cases e : 4 * n + w = s
    · rw [e, va_up_self, hb1 (by omega)]
      rfl
    · rw [va_up_ne _ _ e, hb1' _ (by omega) e]
      exact y2 w hw'
  · intro n hn h hl
    obtain ⟨ne, h'⟩ := live n hn h
    have e : 4 * n ≠ s := fun z => by
      rcases hk with ⟨e, _⟩ | ⟨q, t, e, hq, ht, _, hlq, hl3⟩
      · omega
      · have : n = q := by omega
        rw [this] at hl
        omega
    rw [hb1' _ (by omega) e]
    exact k4 n hn h' hl
  · intro n hn h hl k
    obtain ⟨ne, h'⟩ := live n hn h
    have q := c2 n hn h' hl k
    by_cases e : 4 * n + zt_tn k (lv n) = s
    · rw [e] at q ⊢
      rw [va_up_self, q, hx, hc k, c1 k]
    · rw [va_up_ne _ _ e]
      exact q
theorem zt_unl_m {s x m k : Nat} (hx : R s = x) (hc : ∀ k, C x k = 0) (c1 : ∀ k, C 400 k = 0) : C (va_up R s 400 (1604 + m)) k = C (R (1604 + m)) k := by
  by_cases e : 1604 + m = s
  · rw [e, va_up_self, hx, hc k, c1 k]
  · rw [va_up_ne _ _ e]
/-- a node without ways binds nothing -/
theorem zt_bare (hI : zt_I R lv C a1 a2 a3) {x : Nat} (hx : x < 400) (h : 0 < zt_n R x) (hl : lv x < 3) (hw : ∀ w, w < 4 → R (4 * x + w) = 400) (k : Nat) : C x k = 0 := by
  obtain ⟨g1, g2, g3, g4, g5, k1, k3, k4, c1, c2⟩ := hI
  rw [c2 x hx h hl k, hw _ (zt_tn_lt _ _)]
  exact c1 k
/-! ===== a root is set anew, its old node goes to the stack ===== -/
def zt_mv (R : Nat → Nat) (m y : Nat) : Nat → Nat := va_up (va_up R 1612 (R (1604 + m))) (1604 + m) y
theorem zt_mv_n {m y j : Nat} (hm : m < 8) (h12 : R 1612 = 400) (hj : j < 400) : zt_n (zt_mv R m y) j = zt_n R j + (if y = j then 1 else 0) := by
  have e1 := zt_n_up (R := R) (s := 1612) (R (1604 + m)) j (by omega)
  have e2 := zt_n_up (R := va_up R 1612 (R (1604 + m))) (s := 1604 + m) y j (by omega)
  rw [va_up_ne R (R (1604 + m)) (show 1604 + m ≠ 1612 by omega)] at e2
  rw [h12, if_neg (show ¬ 400 = j by omega)] at e1
  show zt_n (va_up (va_up R 1612 (R (1604 + m))) (1604 + m) y) j = _
  omega
theorem zt_mv_lo {m y t : Nat} (ht : t < 1612) (hm : t ≠ 1604 + m) : zt_mv R m y t = R t := by
  unfold zt_mv
  rw [va_up_ne _ _ hm, va_up_ne _ _ (by omega)]
theorem zt_mv_s {m y : Nat} : zt_mv R m y (1604 + m) = y := va_up_self _ _ _
theorem zt_mv_12 {m y : Nat} (hm : m < 8) : zt_mv R m y 1612 = R (1604 + m) := by
  unfold zt_mv
  rw [va_up_ne _ _ (show 1612 ≠ 1604 + m by omega), va_up_self]
theorem zt_mv_hi {m y t : Nat} (hm : m < 8) (ht : 1612 < t) : zt_mv R m y t = R t := by
  unfold zt_mv
  rw [va_up_ne _ _ (by omega), va_up_ne _ _ (by omega)]
theorem zt_mv_I {m y : Nat} {b3 : Nat → Int32} (hI : zt_I R lv C a1 a2 a3) (hm : m < 8) (h12 : R 1612 = 400) (hy : y = 400 ∨ ∃ m', m' < 8 ∧ y = R (1604 + m'))
    (hb3 : ∀ j, j < 400 → b3 j = nI (zt_n R j + (if y = j then 1 else 0))) : zt_I (zt_mv R m y) lv C a1 a2 b3 := by
  obtain ⟨g1, g2, g3, g4, g5, k1, k3, k4, c1, c2⟩ := hI
  have y4 : y ≤ 400 := by
    rcases hy with e | ⟨m', _, e⟩
    · omega
    · rw [e]
      exact g1 _
  have nn : ∀ j, j < 400 → zt_n (zt_mv R m y) j = zt_n R j + (if y = j then 1 else 0) := fun j hj => zt_mv_n hm h12 hj
  have live : ∀ j, j < 400 → (0 < zt_n (zt_mv R m y) j ↔ 0 < zt_n R j) := fun j hj => by
    rw [nn j hj]
    by_cases e : y = j
    · rcases hy with e2 | ⟨m', hm', e2⟩
      · omega
      · have := zt_n_pos (R := R) (s := 1604 + m') (j := j) (by omega) (by rw [← e2]; exact e)
        omega
    · rw [if_neg e]
      omega
  have lo : ∀ n w, n < 400 → w < 4 → zt_mv R m y (4 * n + w) = R (4 * n + w) := fun n w hn hw => zt_mv_lo (by omega) (by omega)
  refine ⟨?_, ?_, ?_, ?_, ?_, ?_, ?_, ?_, c1, ?_⟩
  · intro t
    by_cases e : t = 1604 + m
    · rw [e, zt_mv_s]
      exact y4
    · by_cases e2 : t = 1612
      · rw [e2, zt_mv_12 hm]
        exact g1 _
      · unfold zt_mv
        rw [va_up_ne _ _ e, va_up_ne _ _ e2]
        exact g1 t
  · intro m' hm' h
    by_cases e : m' = m
    · rw [e, zt_mv_s] at h ⊢
      rcases hy with e2 | ⟨m2, hm2, e2⟩
      · omega
      · rw [e2] at h ⊢
        exact g2 m2 hm2 h
    · rw [zt_mv_lo (by omega) (by omega)] at h ⊢
      exact g2 m' hm' h
  · intro n w hn hw h
    rw [lo n w hn hw] at h ⊢
    obtain ⟨y1, y2, y3⟩ := g3 n w hn hw h
    exact ⟨(live n hn).mpr y1, y2, y3⟩
  · intro w hw
    rw [zt_mv_lo (by omega) (by omega)]
    exact g4 w hw
  · intro n hn h
    exact g5 n hn ((live n hn).mp h)
  · intro j hj
    rw [nn j hj]
    exact hb3 j hj
  · intro n hn h hl
    obtain ⟨y1, y2⟩ := k3 n hn ((live n hn).mp h) hl
    exact ⟨y1, fun w hw => by rw [lo n w hn hw]; exact y2 w hw⟩
  · intro n hn h hl
    exact k4 n hn ((live n hn).mp h) hl
  · intro n hn h hl k
    rw [lo n _ hn (zt_tn_lt _ _)]
    exact c2 n hn ((live n hn).mp h) hl k
/-! ===== a use is given back; a node without uses hands its ways to the stack ===== -/
theorem zt_pop {n : Nat} {R' : Nat → Nat} {b3 : Nat → Int32} (hI : zt_I R lv C a1 a2 a3) (hn : n < 400)
    (hlo : ∀ t, t < 1612 → (t < 4 * n ∨ 4 * n + 4 ≤ t) → R' t = R t) (hle : ∀ t, R' t ≤ 400) (hct : ∀ j, j < 400 → zt_n R' j + (if n = j then 1 else 0) = zt_n R j)
    (hcs : (2 ≤ zt_n R n ∧ ∀ w, w < 4 → R' (4 * n + w) = R (4 * n + w)) ∨ (zt_n R n = 1 ∧ ∀ w, w < 4 → R' (4 * n + w) = 400))
    (hb3 : ∀ j, j < 400 → b3 j = nI (zt_n R' j)) : zt_I R' lv C a1 a2 b3 := by
  obtain ⟨g1, g2, g3, g4, g5, k1, k3, k4, c1, c2⟩ := hI
  have live : ∀ j, j < 400 → 0 < zt_n R' j → 0 < zt_n R j := fun j hj h => by
    have := hct j hj
    omega
  have ways : ∀ j w, j < 400 → w < 4 → 0 < zt_n R' j → R' (4 * j + w) = R (4 * j + w) := fun j w hj hw h => by
    by_cases e : j = n
    · rw [e] at h ⊢
      rcases hcs with ⟨z1, z2⟩ | ⟨z1, z2⟩
      · exact z2 w hw
      · have := hct n hn
        rw [if_pos rfl] at this
        omega
    · exact hlo _ (by omega) (by omega)
  refine ⟨hle, ?_, ?_, ?_, ?_, hb3, ?_, ?_, c1, ?_⟩
  · intro m hm h
    rw [hlo _ (by omega) (by omega)] at h ⊢
    exact g2 m hm h
  · intro j w hj hw h
    by_cases e : j = n
    · rw [e] at h ⊢
      rcases hcs with ⟨z1, z2⟩ | ⟨z1, z2⟩
      · rw [z2 w hw] at h ⊢
        obtain ⟨y1, y2, y3⟩ := g3 n w hn hw h
        have := hct n hn
        rw [if_pos rfl] at this
        exact ⟨by omega, y2, y3⟩
      · rw [z2 w hw] at h
        omega
    · rw [hlo _ (by omega) (by omega)] at h ⊢
      obtain ⟨y1, y2, y3⟩ := g3 j w hj hw h
      have := hct j hj
      rw [if_neg (fun z => e z.symm)] at this
      exact ⟨by omega, y2, y3⟩
  · intro w hw
    rw [hlo _ (by omega) (by omega)]
    exact g4 w hw
  · intro j hj h
    exact g5 j hj (live j hj h)
  · intro j hj h hl
    obtain ⟨y1, y2⟩ := k3 j hj (live j hj h) hl
    exact ⟨y1, fun w hw => by rw [ways j w hj hw h]; exact y2 w hw⟩
  · intro j hj h hl
    exact k4 j hj (live j hj h) hl
  · intro j hj h hl k
    rw [ways j _ hj (zt_tn_lt _ _) h]
    exact c2 j hj (live j hj h) hl k
end
end
section
/-! ===== ownNode, twice (a small program writes both out of own.tmpl.txt) ===== -/
/-- what the new node's way w gets -/
def zt_V (R : Nat → Nat) (a1 : Nat → Int32) (x l w : Nat) : Int32 := if l < 3 then zt_p (R (4 * x + w)) else if x < 400 then a1 (4 * x + w) else 0
/-- i ways are copied -/
def zt_oQ (R : Nat → Nat) (s n l : Nat) (a1 : Nat → Int32) (i : Nat) (b1 b3 : Nat → Int32) : Prop := (∀ w, w < i → b1 (4 * n + w) = zt_V R a1 (R s) l w) ∧ (∀ j, j < 1600 → (j < 4 * n ∨ 4 * n + i ≤ j) → b1 j = a1 j) ∧ (∀ j, j < 400 → b3 j = nI (zt_n (zt_cp R s n (R s) i) j + (if R s = j then 1 else 0)))
/-- the node is copied -/
def zt_oR (R : Nat → Nat) (s n l : Nat) (a1 a2 b1 b2 b3 : Nat → Int32) : Prop := (∀ w, w < 4 → b1 (4 * n + w) = zt_V R a1 (R s) l w) ∧ (∀ j, j < 1600 → (j < 4 * n ∨ 4 * n + 4 ≤ j) → b1 j = a1 j) ∧ b2 n = (if l < 3 then 0 else if R s < 400 then a2 (R s) else 256) ∧ (∀ j, j < 400 → j ≠ n → b2 j = a2 j) ∧ (∀ j, j < 400 → b3 j = nI (zt_n (zt_cp R s n (R s) 4) j))
theorem zt_freeNode {R lv : Nat → Nat} {C : Nat → Nat → Int32} {a1 a2 a3 a4 a5 a6 a7 a8 : Nat → Int32} {post : Int32 → Prop} (hI : zt_I R lv C a1 a2 a3) (he : zt_em R) (h4 : zt_r4 R) (hp : ∀ n, n < 400 → zt_n R n = 0 → post (nI n)) : wpX_freeNode post (a1, a2, a3, a4, a5, a6, a7, a8) := by
  obtain ⟨n, ⟨hn, h0⟩, hmin⟩ := pk_least (fun n => n < 400 ∧ zt_n R n = 0) (zt_free hI he h4)
  have k1 := hI.2.2.2.2.2.1
  refine pk_loop (σ := Unit) (fun q i _ => wX_freeNode_2 post a1 a2 a3 a4 a5 a6 a7 a8 q (nI i)) (fun _ _ => True) n 0 () (by omega) trivial (fun q _ _ => ?_) (fun q i _ hi _ hw => ?_)
  · exact pk_le 400 n (fun z => absurd z (by omega)) (fun _ => ⟨pk_in n 400 hn, br_t (by rw [nI_clamp (by omega), k1 n hn, h0]; rfl) (hp n hn h0)⟩)
  · have hc := zt_n_le R i
    have hz : zt_n R i ≠ 0 := fun z => hmin i hi ⟨by omega, z⟩
    exact pk_le 400 i (fun z => absurd z (by omega)) (fun _ => ⟨pk_in i 400 (by omega), br_f (by rw [nI_clamp (by omega), k1 i (by omega)]; exact nI_ne0 (by omega) (by omega)) (nm_r (nI_1 i) (hw () trivial))⟩)
section
variable {R lv : Nat → Nat} {C : Nat → Nat → Int32} {a1 a2 a3 a4 a5 a6 a7 a8 : Nat → Int32} {post : Int32 → St1 → Prop} {s l n : Nat}
theorem zt_o75 {J : Int32 → (Nat → Int32) → (Nat → Int32) → (Nat → Int32) → (Nat → Int32) → (Nat → Int32) → (Nat → Int32) → (Nat → Int32) → (Nat → Int32) → Prop} {i : Nat} {b1 b3 : Nat → Int32} {z0 : Int32} (hI : zt_I R lv C a1 a2 a3) (hk : zt_kd R lv s l) (hn : n < 400) (h0 : zt_n R n = 0) (hi : i < 4) (hQ : zt_oQ R s n l a1 i b1 b3) (hz : z0 = zt_V R a1 (R s) l i)
    (hJ : ∀ c1 c3, zt_oQ R s n l a1 (i + 1) c1 c3 → J (nI (i + 1)) c1 a2 c3 a4 a5 a6 a7 a8) : wX_ownNode_75 post J (zt_p (R s)) (nI l) (nI n) (nI i) z0 (4 * nI n + nI i) b1 a2 b3 a4 a5 a6 a7 a8 := by
  obtain ⟨q1, q2, q3⟩ := hQ
  obtain ⟨k0, kl, kx, ks⟩ := zt_kd_x hI hk
  have hsn := zt_kd_n hk hn h0
  have hd := zt_dead hI hn h0
  have cS : ∀ j, j < 400 → zt_n (zt_cp R s n (R s) (i + 1)) j = zt_n (zt_cp R s n (R s) i) j + (if R (4 * R s + i) = j then 1 else 0) := fun j hj => zt_cp_S hn hi hsn (hd i hi) hj
  rw [zt_ix]
  refine ⟨vp_in_nI (by omega) (by omega), fun c1 ec => ?_⟩
  rw [nI_clamp (by omega), hz] at ec
  have q1' : ∀ w, w < i + 1 → c1 (4 * n + w) = zt_V R a1 (R s) l w := by
    intro w hw
    rw [ec]
    by_cases e : w = i
    · rw [e, pk_us]
    · rw [pk_un (by omega)]
      exact q1 w (by omega)
  have q2' : ∀ j, j < 1600 → (j < 4 * n ∨ 4 * n + (i + 1) ≤ j) → c1 j = a1 j := by
    intro j hj h
    rw [ec, pk_un (by omega)]
    exact q2 j hj (by omega)
  have keep : R (4 * R s + i) = 400 → zt_oQ R s n l a1 (i + 1) c1 b3 := by
    intro e
    refine ⟨q1', q2', fun j hj => ?_⟩
    rw [cS j hj, if_neg (show ¬ R (4 * R s + i) = j by omega), Nat.add_zero]
    exact q3 j hj
  refine pk_le 3 l (fun z => nm_r (nI_1 i) (hJ c1 b3 (keep ?_))) (fun z => ?_)
  · rcases Nat.lt_or_ge (R (4 * R s + i)) 400 with y | y
    · obtain ⟨y1, y2, y3⟩ := zt_ways hI (hI.1 s) hi y
      have := (kx y1).2
      omega
    · have := hI.1 (4 * R s + i)
      omega
  · have ev : c1 (4 * n + i) = zt_p (R (4 * R s + i)) := by
      rw [q1' i (by omega)]
      exact if_pos z
    rw [zt_ix, nI_clamp (by omega), ev]
    refine ⟨vp_in_nI (by omega) (by omega), zt_neg (hI.1 _) (fun e => nm_r (nI_1 i) (hJ c1 b3 (keep e))) (fun h => ?_)⟩
    rw [zt_p_lt h]
    refine ⟨vp_in_nI (by omega) (by omega), vp_in_nI h (by omega), vp_in_nI h (by omega), fun c3 e3 => nm_r (nI_1 i) (hJ c1 c3 ⟨q1', q2', fun j hj => ?_⟩)⟩
    rw [nI_clamp (by omega)] at e3
    rw [cS j hj, e3]
    by_cases e : R (4 * R s + i) = j
    · rw [e, pk_us, if_pos rfl, q3 j hj, nI_1]
      exact congrArg nI (by omega)
    · rw [pk_un (fun z => e z.symm), if_neg e, Nat.add_zero]
      exact q3 j hj
theorem zt_o140 {b1 b3 : Nat → Int32} {z0 : Int32} (hI : zt_I R lv C a1 a2 a3) (hk : zt_kd R lv s l) (hn : n < 400) (h0 : zt_n R n = 0) (hQ : zt_oQ R s n l a1 4 b1 b3) (hz : z0 = if R s < 400 then a2 (R s) else 0)
    (H : ∀ b1 b2 b3, zt_oR R s n l a1 a2 b1 b2 b3 → post (nI n) (b1, b2, b3, a4, a5, a6, a7, a8)) : wX_ownNode_140 post (zt_p (R s)) (nI l) (nI n) z0 (nI n) b1 a2 b3 a4 a5 a6 a7 a8 := by
  obtain ⟨q1, q2, q3⟩ := hQ
  obtain ⟨k0, kl, kx, ks⟩ := zt_kd_x hI hk
  have fin : ∀ c2, c2 n = (if l < 3 then 0 else if R s < 400 then a2 (R s) else 256) → (∀ j, j < 400 → j ≠ n → c2 j = a2 j) → (zt_p (R s) < 0 → post (nI n) (b1, c2, b3, a4, a5, a6, a7, a8)) ∧ (¬ zt_p (R s) < 0 → (vp_in (zt_p (R s)) 400 ∧ (vp_in (zt_p (R s)) 400 ∧ ∀ c3 : Nat → Int32, c3 = upd b3 (zt_p (R s)).toNatClampNeg ((b3 (zt_p (R s)).toNatClampNeg) - 1) → post (nI n) (b1, c2, c3, a4, a5, a6, a7, a8)))) := by
    intro c2 e1 e2
    refine zt_neg (hI.1 s) (fun e => H b1 c2 b3 ⟨q1, q2, e1, e2, fun j hj => ?_⟩) (fun h => ?_)
    · rw [q3 j hj, if_neg (show ¬ R s = j by omega), Nat.add_zero]
    · rw [zt_p_lt h]
      refine ⟨vp_in_nI h (by omega), vp_in_nI h (by omega), fun c3 e3 => H b1 c2 c3 ⟨q1, q2, e1, e2, fun j hj => ?_⟩⟩
      rw [nI_clamp (by omega)] at e3
      rw [e3]
      by_cases e : j = R s
      · rw [e, pk_us, q3 (R s) h, if_pos rfl, nI_pred]
      · rw [pk_un e, q3 j hj, if_neg (fun z => e z.symm), Nat.add_zero]
  refine ⟨vp_in_nI hn (by omega), fun c2 ec => ?_⟩
  rw [nI_clamp (by omega)] at ec
  refine pk_eq l 3 (fun z => ⟨vp_in_nI hn (by omega), vp_in_nI hn (by omega), fun d2 ed => fin d2 ?_ ?_⟩) (fun z => ⟨vp_in_nI hn (by omega), fun d2 ed => fin d2 ?_ ?_⟩)
  · rw [nI_clamp (by omega)] at ed
    rw [ed, pk_us, ec, pk_us, if_neg (by omega), hz]
    by_cases e : R s < 400
    · rw [if_pos e, if_pos e]
      obtain ⟨y1, y2⟩ := kx e
      rcases hI.2.2.2.2.2.2.2.1 (R s) e y1 (by omega) with ⟨e6, _⟩ | ⟨e7, _⟩
      · rw [e6]
        rfl
      · rw [e7]
        rfl
    · rw [if_neg e, if_neg e]
      rfl
  · intro j hj ne
    rw [nI_clamp (by omega)] at ed
    rw [ed, pk_un ne, ec, pk_un ne]
  · rw [nI_clamp (by omega)] at ed
    rw [ed, pk_us, if_pos (by omega)]
  · intro j hj ne
    rw [nI_clamp (by omega)] at ed
    rw [ed, pk_un ne, ec, pk_un ne]
theorem zt_o16 (hI : zt_I R lv C a1 a2 a3) (he : zt_em R) (h4 : zt_r4 R) (hk : zt_kd R lv s l)
    (H : ∀ n b1 b2 b3, n < 400 → zt_n R n = 0 → zt_oR R s n l a1 a2 b1 b2 b3 → post (nI n) (b1, b2, b3, a4, a5, a6, a7, a8)) : wX_ownNode_16 post (zt_p (R s)) (nI l) a1 a2 a3 a4 a5 a6 a7 a8 := by
  obtain ⟨k0, kl, kx, ks⟩ := zt_kd_x hI hk
  refine zt_freeNode hI he h4 (fun n hn h0 => ⟨vp_in_nI hn (by omega), fun c3 ec => ?_⟩)
  rw [nI_clamp (by omega)] at ec
  have hx4 := hI.1 s
  have hxn : R s ≠ n := zt_n_0 h0 (by omega)
  refine pk_loop (σ := (Nat → Int32) × (Nat → Int32)) (fun q i t => wX_ownNode_31 post (zt_p (R s)) (nI l) (nI n) q (nI i) t.1 a2 t.2 a4 a5 a6 a7 a8) (fun i t => zt_oQ R s n l a1 i t.1 t.2) 4 0 (a1, c3) (by omega) ⟨fun w hw => absurd hw (by omega), fun j _ _ => rfl, fun j hj => ?_⟩ (fun q t hQ => ?_) (fun q i t hi hQ hw => ?_)
  · show c3 j = _
    have e := zt_cp_0 (R := R) (n := n) (x := R s) (show s < 1628 by omega) j
    rw [e, ec]
    by_cases ej : j = n
    · rw [ej, pk_us, h0, if_pos rfl]
      rfl
    · rw [pk_un ej, if_neg (fun z => ej z.symm), Nat.add_zero]
      exact hI.2.2.2.2.2.1 j hj
  · obtain ⟨b1, b3⟩ := t
    refine pk_le 4 4 (fun _ => ?_) (fun z => absurd z (by omega))
    have fin := fun z0 hz => zt_o140 (a4 := a4) (a5 := a5) (a6 := a6) (a7 := a7) (a8 := a8) (z0 := z0) hI hk hn h0 hQ hz (fun b1 b2 b3 h => H n b1 b2 b3 hn h0 h)
    refine zt_nneg hx4 (fun h => ?_) (fun e => fin 0 (by rw [if_neg (by omega)]))
    have g := fin (a2 (R s)) (by rw [if_pos h])
    rw [zt_p_lt h] at g ⊢
    refine ⟨vp_in_nI h (by omega), ?_⟩
    rw [nI_clamp (by omega)]
    exact g
  · obtain ⟨b1, b3⟩ := t
    refine pk_le 4 i (fun z => absurd z (by omega)) (fun _ => ?_)
    have fin := fun z0 hz => zt_o75 (post := post) (a4 := a4) (a5 := a5) (a6 := a6) (a7 := a7) (a8 := a8) (z0 := z0) hI hk hn h0 hi hQ hz (fun c1 c3 h => hw (c1, c3) h)
    refine zt_nneg hx4 (fun h => ?_) (fun e => ?_)
    · have ev : b1 (4 * R s + i) = zt_V R a1 (R s) l i := by
        have e1 := hQ.2.1 (4 * R s + i) (by omega) (by omega)
        have e1' : b1 (4 * R s + i) = a1 (4 * R s + i) := e1
        rw [e1']
        unfold zt_V
        by_cases z : l < 3
        · rw [if_pos z]
          obtain ⟨y1, y2⟩ := kx h
          exact (hI.2.2.2.2.2.2.1 (R s) h y1 (by omega)).2 i hi
        · rw [if_neg z, if_pos h]
      have g := fin _ ev
      rw [zt_p_lt h] at g ⊢
      rw [zt_ix (R s) i]
      refine ⟨vp_in_nI (by omega) (by omega), ?_⟩
      rw [nI_clamp (by omega)]
      exact g
    · refine pk_le 3 l (fun z => fin 0 ?_) (fun z => fin (-1) ?_)
      · unfold zt_V
        rw [if_neg (by omega), if_neg (by omega)]
      · unfold zt_V
        rw [if_pos z, e]
        have q : R (4 * 400 + i) = 400 := hI.2.2.2.1 i hi
        rw [q]
        rfl
theorem zt_ownNode (hI : zt_I R lv C a1 a2 a3) (he : zt_em R) (h4 : zt_r4 R) (hk : zt_kd R lv s l)
    (H1 : R s < 400 → zt_n R (R s) = 1 → post (nI (R s)) (a1, a2, a3, a4, a5, a6, a7, a8))
    (H : (R s = 400 ∨ 2 ≤ zt_n R (R s)) → ∀ n b1 b2 b3, n < 400 → zt_n R n = 0 → zt_oR R s n l a1 a2 b1 b2 b3 → post (nI n) (b1, b2, b3, a4, a5, a6, a7, a8)) : wpX_ownNode post (a1, a2, a3, a4, a5, a6, a7, a8) (zt_p (R s)) (nI l) := by
  obtain ⟨k0, kl, kx, ks⟩ := zt_kd_x hI hk
  refine zt_neg (hI.1 s) (fun e => zt_o16 hI he h4 hk (H (Or.inl e))) (fun h => ?_)
  obtain ⟨y1, y2⟩ := kx h
  have g := fun hh => zt_o16 (a4 := a4) (a5 := a5) (a6 := a6) (a7 := a7) (a8 := a8) hI he h4 hk (H (Or.inr hh))
  have hc := zt_n_le R (R s)
  rw [zt_p_lt h] at g ⊢
  refine ⟨vp_in_nI h (by omega), ?_⟩
  rw [nI_clamp (by omega), hI.2.2.2.2.2.1 (R s) h]
  exact pk_eq (zt_n R (R s)) 1 (fun z => H1 h z) (fun z => g (by omega))
end
section
variable {R lv : Nat → Nat} {C : Nat → Nat → Int32} {a1 a2 a3 a4 a5 a6 a7 a8 : Nat → Int32} {post : Int32 → St1 → Prop} {s l n : Nat}
theorem zt_o75_2 {J : Int32 → (Nat → Int32) → (Nat → Int32) → (Nat → Int32) → (Nat → Int32) → (Nat → Int32) → (Nat → Int32) → (Nat → Int32) → (Nat → Int32) → Prop} {i : Nat} {b1 b3 : Nat → Int32} {z0 : Int32} (hI : zt_I R lv C a1 a2 a3) (hk : zt_kd R lv s l) (hn : n < 400) (h0 : zt_n R n = 0) (hi : i < 4) (hQ : zt_oQ R s n l a1 i b1 b3) (hz : z0 = zt_V R a1 (R s) l i)
    (hJ : ∀ c1 c3, zt_oQ R s n l a1 (i + 1) c1 c3 → J (nI (i + 1)) c1 a2 c3 a4 a5 a6 a7 a8) : wX_ownNode_2_75 post J (zt_p (R s)) (nI l) (nI n) (nI i) z0 (4 * nI n + nI i) b1 a2 b3 a4 a5 a6 a7 a8 := by
  obtain ⟨q1, q2, q3⟩ := hQ
  obtain ⟨k0, kl, kx, ks⟩ := zt_kd_x hI hk
  have hsn := zt_kd_n hk hn h0
  have hd := zt_dead hI hn h0
  have cS : ∀ j, j < 400 → zt_n (zt_cp R s n (R s) (i + 1)) j = zt_n (zt_cp R s n (R s) i) j + (if R (4 * R s + i) = j then 1 else 0) := fun j hj => zt_cp_S hn hi hsn (hd i hi) hj
  rw [zt_ix]
  refine ⟨vp_in_nI (by omega) (by omega), fun c1 ec => ?_⟩
  rw [nI_clamp (by omega), hz] at ec
  have q1' : ∀ w, w < i + 1 → c1 (4 * n + w) = zt_V R a1 (R s) l w := by
    intro w hw
    rw [ec]
    by_cases e : w = i
    · rw [e, pk_us]
    · rw [pk_un (by omega)]
      exact q1 w (by omega)
  have q2' : ∀ j, j < 1600 → (j < 4 * n ∨ 4 * n + (i + 1) ≤ j) → c1 j = a1 j := by
    intro j hj h
    rw [ec, pk_un (by omega)]
    exact q2 j hj (by omega)
  have keep : R (4 * R s + i) = 400 → zt_oQ R s n l a1 (i + 1) c1 b3 := by
    intro e
    refine ⟨q1', q2', fun j hj => ?_⟩
    rw [cS j hj, if_neg (show ¬ R (4 * R s + i) = j by omega), Nat.add_zero]
    exact q3 j hj
  refine pk_le 3 l (fun z => nm_r (nI_1 i) (hJ c1 b3 (keep ?_))) (fun z => ?_)
  · rcases Nat.lt_or_ge (R (4 * R s + i)) 400 with y | y
    · obtain ⟨y1, y2, y3⟩ := zt_ways hI (hI.1 s) hi y
      have := (kx y1).2
      omega
    · have := hI.1 (4 * R s + i)
      omega
  · have ev : c1 (4 * n + i) = zt_p (R (4 * R s + i)) := by
      rw [q1' i (by omega)]
      exact if_pos z
    rw [zt_ix, nI_clamp (by omega), ev]
    refine ⟨vp_in_nI (by omega) (by omega), zt_neg (hI.1 _) (fun e => nm_r (nI_1 i) (hJ c1 b3 (keep e))) (fun h => ?_)⟩
    rw [zt_p_lt h]
    refine ⟨vp_in_nI (by omega) (by omega), vp_in_nI h (by omega), vp_in_nI h (by omega), fun c3 e3 => nm_r (nI_1 i) (hJ c1 c3 ⟨q1', q2', fun j hj => ?_⟩)⟩
    rw [nI_clamp (by omega)] at e3
    rw [cS j hj, e3]
    by_cases e : R (4 * R s + i) = j
    · rw [e, pk_us, if_pos rfl, q3 j hj, nI_1]
      exact congrArg nI (by omega)
    · rw [pk_un (fun z => e z.symm), if_neg e, Nat.add_zero]
      exact q3 j hj
theorem zt_o140_2 {b1 b3 : Nat → Int32} {z0 : Int32} (hI : zt_I R lv C a1 a2 a3) (hk : zt_kd R lv s l) (hn : n < 400) (h0 : zt_n R n = 0) (hQ : zt_oQ R s n l a1 4 b1 b3) (hz : z0 = if R s < 400 then a2 (R s) else 0)
    (H : ∀ b1 b2 b3, zt_oR R s n l a1 a2 b1 b2 b3 → post (nI n) (b1, b2, b3, a4, a5, a6, a7, a8)) : wX_ownNode_2_140 post (zt_p (R s)) (nI l) (nI n) z0 (nI n) b1 a2 b3 a4 a5 a6 a7 a8 := by
  obtain ⟨q1, q2, q3⟩ := hQ
  obtain ⟨k0, kl, kx, ks⟩ := zt_kd_x hI hk
  have fin : ∀ c2, c2 n = (if l < 3 then 0 else if R s < 400 then a2 (R s) else 256) → (∀ j, j < 400 → j ≠ n → c2 j = a2 j) → (zt_p (R s) < 0 → post (nI n) (b1, c2, b3, a4, a5, a6, a7, a8)) ∧ (¬ zt_p (R s) < 0 → (vp_in (zt_p (R s)) 400 ∧ (vp_in (zt_p (R s)) 400 ∧ ∀ c3 : Nat → Int32, c3 = upd b3 (zt_p (R s)).toNatClampNeg ((b3 (zt_p (R s)).toNatClampNeg) - 1) → post (nI n) (b1, c2, c3, a4, a5, a6, a7, a8)))) := by
    intro c2 e1 e2
    refine zt_neg (hI.1 s) (fun e => H b1 c2 b3 ⟨q1, q2, e1, e2, fun j hj => ?_⟩) (fun h => ?_)
    · rw [q3 j hj, if_neg (show ¬ R s = j by omega), Nat.add_zero]
    · rw [zt_p_lt h]
      refine ⟨vp_in_nI h (by omega), vp_in_nI h (by omega), fun c3 e3 => H b1 c2 c3 ⟨q1, q2, e1, e2, fun j hj => ?_⟩⟩
      rw [nI_clamp (by omega)] at e3
      rw [e3]
      by_cases e : j = R s
      · rw [e, pk_us, q3 (R s) h, if_pos rfl, nI_pred]
      · rw [pk_un e, q3 j hj, if_neg (fun z => e z.symm), Nat.add_zero]
  refine ⟨vp_in_nI hn (by omega), fun c2 ec => ?_⟩
  rw [nI_clamp (by omega)] at ec
  refine pk_eq l 3 (fun z => ⟨vp_in_nI hn (by omega), vp_in_nI hn (by omega), fun d2 ed => fin d2 ?_ ?_⟩) (fun z => ⟨vp_in_nI hn (by omega), fun d2 ed => fin d2 ?_ ?_⟩)
  · rw [nI_clamp (by omega)] at ed
    rw [ed, pk_us, ec, pk_us, if_neg (by omega), hz]
    by_cases e : R s < 400
    · rw [if_pos e, if_pos e]
      obtain ⟨y1, y2⟩ := kx e
      rcases hI.2.2.2.2.2.2.2.1 (R s) e y1 (by omega) with ⟨e6, _⟩ | ⟨e7, _⟩
      · rw [e6]
        rfl
      · rw [e7]
        rfl
    · rw [if_neg e, if_neg e]
      rfl
  · intro j hj ne
    rw [nI_clamp (by omega)] at ed
    rw [ed, pk_un ne, ec, pk_un ne]
  · rw [nI_clamp (by omega)] at ed
    rw [ed, pk_us, if_pos (by omega)]
  · intro j hj ne
    rw [nI_clamp (by omega)] at ed
    rw [ed, pk_un ne, ec, pk_un ne]
theorem zt_o16_2 (hI : zt_I R lv C a1 a2 a3) (he : zt_em R) (h4 : zt_r4 R) (hk : zt_kd R lv s l)
    (H : ∀ n b1 b2 b3, n < 400 → zt_n R n = 0 → zt_oR R s n l a1 a2 b1 b2 b3 → post (nI n) (b1, b2, b3, a4, a5, a6, a7, a8)) : wX_ownNode_2_16 post (zt_p (R s)) (nI l) a1 a2 a3 a4 a5 a6 a7 a8 := by
  obtain ⟨k0, kl, kx, ks⟩ := zt_kd_x hI hk
  refine zt_freeNode hI he h4 (fun n hn h0 => ⟨vp_in_nI hn (by omega), fun c3 ec => ?_⟩)
  rw [nI_clamp (by omega)] at ec
  have hx4 := hI.1 s
  have hxn : R s ≠ n := zt_n_0 h0 (by omega)
  refine pk_loop (σ := (Nat → Int32) × (Nat → Int32)) (fun q i t => wX_ownNode_2_31 post (zt_p (R s)) (nI l) (nI n) q (nI i) t.1 a2 t.2 a4 a5 a6 a7 a8) (fun i t => zt_oQ R s n l a1 i t.1 t.2) 4 0 (a1, c3) (by omega) ⟨fun w hw => absurd hw (by omega), fun j _ _ => rfl, fun j hj => ?_⟩ (fun q t hQ => ?_) (fun q i t hi hQ hw => ?_)
  · show c3 j = _
    have e := zt_cp_0 (R := R) (n := n) (x := R s) (show s < 1628 by omega) j
    rw [e, ec]
    by_cases ej : j = n
    · rw [ej, pk_us, h0, if_pos rfl]
      rfl
    · rw [pk_un ej, if_neg (fun z => ej z.symm), Nat.add_zero]
      exact hI.2.2.2.2.2.1 j hj
  · obtain ⟨b1, b3⟩ := t
    refine pk_le 4 4 (fun _ => ?_) (fun z => absurd z (by omega))
    have fin := fun z0 hz => zt_o140_2 (a4 := a4) (a5 := a5) (a6 := a6) (a7 := a7) (a8 := a8) (z0 := z0) hI hk hn h0 hQ hz (fun b1 b2 b3 h => H n b1 b2 b3 hn h0 h)
    refine zt_nneg hx4 (fun h => ?_) (fun e => fin 0 (by rw [if_neg (by omega)]))
    have g := fin (a2 (R s)) (by rw [if_pos h])
    rw [zt_p_lt h] at g ⊢
    refine ⟨vp_in_nI h (by omega), ?_⟩
    rw [nI_clamp (by omega)]
    exact g
  · obtain ⟨b1, b3⟩ := t
    refine pk_le 4 i (fun z => absurd z (by omega)) (fun _ => ?_)
    have fin := fun z0 hz => zt_o75_2 (post := post) (a4 := a4) (a5 := a5) (a6 := a6) (a7 := a7) (a8 := a8) (z0 := z0) hI hk hn h0 hi hQ hz (fun c1 c3 h => hw (c1, c3) h)
    refine zt_nneg hx4 (fun h => ?_) (fun e => ?_)
    · have ev : b1 (4 * R s + i) = zt_V R a1 (R s) l i := by
        have e1 := hQ.2.1 (4 * R s + i) (by omega) (by omega)
        have e1' : b1 (4 * R s + i) = a1 (4 * R s + i) := e1
        rw [e1']
        unfold zt_V
        by_cases z : l < 3
        · rw [if_pos z]
          obtain ⟨y1, y2⟩ := kx h
          exact (hI.2.2.2.2.2.2.1 (R s) h y1 (by omega)).2 i hi
        · rw [if_neg z, if_pos h]
      have g := fin _ ev
      rw [zt_p_lt h] at g ⊢
      rw [zt_ix (R s) i]
      refine ⟨vp_in_nI (by omega) (by omega), ?_⟩
      rw [nI_clamp (by omega)]
      exact g
    · refine pk_le 3 l (fun z => fin 0 ?_) (fun z => fin (-1) ?_)
      · unfold zt_V
        rw [if_neg (by omega), if_neg (by omega)]
      · unfold zt_V
        rw [if_pos z, e]
        have q : R (4 * 400 + i) = 400 := hI.2.2.2.1 i hi
        rw [q]
        rfl
theorem zt_ownNode_2 (hI : zt_I R lv C a1 a2 a3) (he : zt_em R) (h4 : zt_r4 R) (hk : zt_kd R lv s l)
    (H1 : R s < 400 → zt_n R (R s) = 1 → post (nI (R s)) (a1, a2, a3, a4, a5, a6, a7, a8))
    (H : (R s = 400 ∨ 2 ≤ zt_n R (R s)) → ∀ n b1 b2 b3, n < 400 → zt_n R n = 0 → zt_oR R s n l a1 a2 b1 b2 b3 → post (nI n) (b1, b2, b3, a4, a5, a6, a7, a8)) : wpX_ownNode_2 post (a1, a2, a3, a4, a5, a6, a7, a8) (zt_p (R s)) (nI l) := by
  obtain ⟨k0, kl, kx, ks⟩ := zt_kd_x hI hk
  refine zt_neg (hI.1 s) (fun e => zt_o16_2 hI he h4 hk (H (Or.inl e))) (fun h => ?_)
  obtain ⟨y1, y2⟩ := kx h
  have g := fun hh => zt_o16_2 (a4 := a4) (a5 := a5) (a6 := a6) (a7 := a7) (a8 := a8) hI he h4 hk (H (Or.inr hh))
  have hc := zt_n_le R (R s)
  rw [zt_p_lt h] at g ⊢
  refine ⟨vp_in_nI h (by omega), ?_⟩
  rw [nI_clamp (by omega), hI.2.2.2.2.2.1 (R s) h]
  exact pk_eq (zt_n R (R s)) 1 (fun z => H1 h z) (fun z => g (by omega))
end
end
section
/-! ===== the whole picture: the heap, the roots, the maps' contents M ===== -/
def zt_T (R lv : Nat → Nat) (C M : Nat → Nat → Int32) (a1 a2 a3 a4 a5 : Nat → Int32) : Prop :=
  zt_I R lv C a1 a2 a3 ∧ zt_em R ∧ ((∀ m, m < 8 → a4 m = 0 → R (1604 + m) = 400) ∧ (∀ m, m < 8 → 4 ≤ m → a4 m = 0) ∧ a4 0 ≠ 0) ∧ zt_rt R a5 ∧ (∀ m, m < 8 → ∀ k, C (R (1604 + m)) k = M m k)
def zt_S (M : Nat → Nat → Int32) (a1 a2 a3 a4 a5 : Nat → Int32) : Prop := ∃ R lv C, zt_T R lv C M a1 a2 a3 a4 a5
/-- the working map's key is bound to v -/
def zt_M1 (M : Nat → Nat → Int32) (key : Nat) (v : Int32) : Nat → Nat → Int32 := fun m k => if m = 0 ∧ k % 256 = key % 256 then v else M m k
section
variable {R lv : Nat → Nat} {C M : Nat → Nat → Int32} {a1 a2 a3 a4 a5 a6 a7 a8 : Nat → Int32} {s l n key : Nat} {p : Nat → Nat}
theorem zt_T_r4 (h : zt_T R lv C M a1 a2 a3 a4 a5) : zt_r4 R := fun m hm h4 => h.2.2.1.1 m hm (h.2.2.1.2.1 m hm h4)
theorem zt_T_own {b1 b2 b3 c1 c5 : Nat → Int32} (hT : zt_T R lv C M a1 a2 a3 a4 a5) (hk : zt_kd R lv s l) (hn : n < 400) (h0 : zt_n R n = 0) (hx : R s = 400 ∨ 2 ≤ zt_n R (R s)) (hR : zt_oR R s n l a1 a2 b1 b2 b3)
    (hc1 : ∀ j, j < 1600 → j ≠ s → c1 j = b1 j) (hc1s : s < 1600 → c1 s = nI n) (h5 : ∀ m, m < 8 → 1604 + m ≠ s → c5 m = a5 m) (h5s : s = 1604 → c5 0 = nI n) :
    zt_T (zt_cp R s n (R s) 4) (va_up lv n l) (va_up C n (C (R s))) M c1 b2 b3 a4 c5 := by
  obtain ⟨hI, he, ⟨q1, q2, q3⟩, hr, hM⟩ := hT
  obtain ⟨k0, kl, kx, ks⟩ := zt_kd_x hI hk
  have hsn := zt_kd_n hk hn h0
  obtain ⟨r1, r2, r3, r4, r5⟩ := hR
  refine ⟨zt_own hI hk hn h0 hx (fun w hw => ?_) hc1s (fun j hj hjs h => ?_) r3 r4 r5, fun d hd => ?_, ⟨fun m hm h => ?_, q2, q3⟩, fun m hm => ?_, fun m hm k => ?_⟩
  · rw [hc1 _ (by omega) (hsn w hw)]
    exact r1 w hw
  · rw [hc1 j hj hjs]
    exact r2 j hj h
  · rw [zt_cp_out (by omega) (by omega)]
    exact he d hd
  · by_cases e : 1604 + m = s
    · have : m = 0 := by omega
      rw [this] at h
      exact absurd h q3
    · rw [zt_cp_out e (by omega)]
      exact q1 m hm h
  · by_cases e : 1604 + m = s
    · have e0 : m = 0 := by omega
      rw [e, zt_cp_s, zt_p_lt hn, e0]
      exact h5s (by omega)
    · rw [zt_cp_out e (by omega), h5 m hm e]
      exact hr m hm
  · rw [zt_own_m hI hk hn h0 hm k]
    exact hM m hm k
theorem zt_pa_same {x : Nat} (hpa : zt_pa R lv key p l) (hx : R (4 * p l + zt_tn key l) = x) (h4 : x < 400) (h1 : zt_n R x = 1) (hl : lv x = l + 1) : zt_pa R lv key (va_up p (l + 1) x) (l + 1) := by
  obtain ⟨p0, pn, pw⟩ := hpa
  refine ⟨?_, fun j hj => ?_, fun j hj => ?_⟩
  · rw [va_up_ne _ _ (by omega)]
    exact p0
  · by_cases e : j = l + 1
    · rw [e, va_up_self]
      exact ⟨h4, h1, hl⟩
    · rw [va_up_ne _ _ e]
      exact pn j (by omega)
  · rw [va_up_ne _ _ (show j ≠ l + 1 by omega)]
    by_cases e : j = l
    · rw [e, va_up_self]
      exact hx
    · rw [va_up_ne _ _ (show j + 1 ≠ l + 1 by omega)]
      exact pw j (by omega)
theorem zt_pa_cp (hI : zt_I R lv C a1 a2 a3) (hpa : zt_pa R lv key p l) (hk : zt_kd R lv (4 * p l + zt_tn key l) (l + 1)) (hn : n < 400) (h0 : zt_n R n = 0) : zt_pa (zt_cp R (4 * p l + zt_tn key l) n (R (4 * p l + zt_tn key l)) 4) (va_up lv n (l + 1)) key p l := by
  obtain ⟨p0, pn, pw⟩ := hpa
  have ht := zt_tn_lt key l
  have hpl := pn l (by omega)
  have f := fun j (hj : j ≤ l) => zt_own_f (j := p j) hI hk hn h0 (pn j hj).1 (by have := (pn j hj).2.1; omega) (by have := (pn j hj).2.2; omega)
  refine ⟨?_, fun j hj => ?_, fun j hj => ?_⟩
  · rw [zt_cp_out (by omega) (by omega)]
    exact p0
  · obtain ⟨f1, f2, f3⟩ := f j hj
    obtain ⟨y1, y2, y3⟩ := pn j hj
    exact ⟨y1, by rw [f1]; exact y2, by rw [f2]; exact y3⟩
  · obtain ⟨f1, f2, f3⟩ := f j (by omega)
    obtain ⟨y1, y2, y3⟩ := pn j (by omega)
    have ne : p j ≠ p l := fun z => by
      rw [z, hpl.2.2] at y3
      omega
    have ht2 := zt_tn_lt key j
    rw [f3 _ ht2 (by omega)]
    exact pw j hj
theorem zt_opL {post : Int32 → St1 → Prop} (hkey : key < 256) (H : ∀ R lv C a1 a2 a3 a7 p, zt_T R lv C M a1 a2 a3 a4 a5 → zt_pa R lv key p 3 → (∀ j, j ≤ 3 → a7 j = nI (p j)) → post (nI (p 3)) (a1, a2, a3, a4, a5, a6, a7, a8)) :
    ∀ c l, l + c = 3 → ∀ R lv C a1 a2 a3 a7 p, zt_T R lv C M a1 a2 a3 a4 a5 → zt_pa R lv key p l → (∀ j, j ≤ l → a7 j = nI (p j)) → wX_ownPath_31 post (nI key) (c + 1) (nI l) a1 a2 a3 a4 a5 a6 a7 a8 := by
  intro c
  induction c with
  | zero =>
    intro l hl R lv C a1 a2 a3 a7 p hT hpa h7
    have e : l = 3 := by omega
    subst e
    refine br_t (by decide) ?_
    rw [h7 3 (by omega)]
    exact H R lv C a1 a2 a3 a7 p hT hpa h7
  | succ c ih =>
    intro l hl R lv C a1 a2 a3 a7 p hT hpa h7
    have hI := hT.1
    have ht := zt_tn_lt key l
    obtain ⟨y1, y2, y3⟩ := hpa.2.1 l (by omega)
    have hkd : zt_kd R lv (4 * p l + zt_tn key l) (l + 1) := Or.inr ⟨p l, zt_tn key l, rfl, y1, ht, by omega, by omega, by omega⟩
    obtain ⟨k0, kl, kx, ks⟩ := zt_kd_x hI hkd
    have ea : a1 (4 * p l + zt_tn key l) = zt_p (R (4 * p l + zt_tn key l)) := (hI.2.2.2.2.2.2.1 (p l) y1 (by omega) (by omega)).2 _ ht
    refine br_f (nI_ge (b := 3) (by omega) (by decide)) ⟨vp_in_nI (by omega) (by decide), zt_turn hkey (by omega) (nm_r (e' := nI (4 * p l + zt_tn key l)) ?_ ⟨vp_in_nI (by omega) (by omega), ?_⟩)⟩
    · rw [nI_clamp (by omega), h7 l (by omega), zt_ix]
    rw [nI_clamp (by omega), ea, nI_1]
    have h7' : ∀ (x : Nat) (c7 : Nat → Int32), c7 = upd a7 (l + 1) (nI x) → ∀ j, j ≤ l + 1 → c7 j = nI (va_up p (l + 1) x j) := by
      intro x c7 ec j hj
      rw [ec]
      by_cases e : j = l + 1
      · rw [e, pk_us, va_up_self]
      · rw [pk_un e, va_up_ne _ _ e]
        exact h7 j (by omega)
    refine zt_ownNode_2 hI hT.2.1 (zt_T_r4 hT) hkd (fun h h1 => ?_) (fun hx n b1 b2 b3 hn h0 hR => ?_)
    · refine ⟨vp_in_nI (by omega) (by omega), fun c1 ec => ⟨vp_in_nI (by omega) (by omega), vp_in_nI (by omega) (by omega), fun c7 e7 x2 e2 => ?_⟩⟩
      rw [zt_upd_eq a1 _ _ (by rw [ea, zt_p_lt h])] at ec
      rw [ec, ea, zt_p_lt h, nI_clamp (by omega)] at e7
      rw [e2, ec]
      exact ih (l + 1) (by omega) R lv C a1 a2 a3 c7 (va_up p (l + 1) (R (4 * p l + zt_tn key l))) hT (zt_pa_same hpa rfl h h1 (kx h).2) (h7' _ c7 e7)
    · refine ⟨vp_in_nI (by omega) (by omega), fun c1 ec => ⟨vp_in_nI (by omega) (by omega), vp_in_nI (by omega) (by omega), fun c7 e7 x2 e2 => ?_⟩⟩
      rw [ec, pk_us, nI_clamp (by omega)] at e7
      rw [e2]
      have hT' := zt_T_own (c1 := c1) (c5 := a5) hT hkd hn h0 hx hR (fun j _ hj => by rw [ec, pk_un hj]) (fun _ => by rw [ec, pk_us]) (fun _ _ _ => rfl) (fun z => absurd z (by omega))
      exact ih (l + 1) (by omega) _ _ _ c1 b2 b3 c7 (va_up p (l + 1) n) hT' (zt_pa_same (zt_pa_cp hI hpa hkd hn h0) zt_cp_s hn (zt_own_n hI hkd hn h0) (va_up_self _ _ _)) (h7' n c7 e7)
theorem zt_ownPath {post : Int32 → St1 → Prop} (hkey : key < 256) (hT : zt_T R lv C M a1 a2 a3 a4 a5) (H : ∀ R lv C b1 b2 b3 b5 b7 p, zt_T R lv C M b1 b2 b3 a4 b5 → zt_pa R lv key p 3 → (∀ j, j ≤ 3 → b7 j = nI (p j)) → post (nI (p 3)) (b1, b2, b3, a4, b5, a6, b7, a8)) : wpX_ownPath post (a1, a2, a3, a4, a5, a6, a7, a8) (nI key) := by
  have hI := hT.1
  have hkd : zt_kd R lv 1604 0 := Or.inl ⟨rfl, rfl⟩
  have e5 : a5 0 = zt_p (R 1604) := hT.2.2.2.1 0 (by omega)
  obtain ⟨k0, kl, kx, ks⟩ := zt_kd_x hI hkd
  unfold wpX_ownPath
  dsimp only
  rw [e5]
  refine zt_ownNode hI hT.2.1 (zt_T_r4 hT) hkd (fun h h1 => ?_) (fun hx n b1 b2 b3 hn h0 hR => ?_)
  · intro c5 ec5 c7 ec7
    rw [zt_upd_eq a5 0 _ (by rw [e5, zt_p_lt h])] at ec5
    rw [ec5, e5, zt_p_lt h] at ec7
    rw [ec5]
    refine ⟨4, zt_opL hkey (fun R lv C a1 a2 a3 a7 p => H R lv C a1 a2 a3 a5 a7 p) 3 0 rfl R lv C a1 a2 a3 c7 (fun _ => R 1604) hT ⟨rfl, fun j hj => ⟨h, h1, ?_⟩, fun j hj => absurd hj (by omega)⟩ (fun j hj => ?_)⟩
    · rw [(kx h).2]
      omega
    · rw [ec7, show j = 0 by omega, pk_us]
  · intro c5 ec5 c7 ec7
    rw [ec5, pk_us] at ec7
    have hT' := zt_T_own (c1 := b1) (c5 := c5) hT hkd hn h0 hx hR (fun _ _ _ => rfl) (fun z => absurd z (by omega)) (fun m _ hm => by rw [ec5, pk_un (by omega)]) (fun _ => by rw [ec5, pk_us])
    refine ⟨4, zt_opL hkey (fun R lv C a1 a2 a3 a7 p => H R lv C a1 a2 a3 c5 a7 p) 3 0 rfl _ _ _ b1 b2 b3 c7 (fun _ => n) hT' ⟨zt_cp_s, fun j hj => ⟨hn, zt_own_n hI hkd hn h0, ?_⟩, fun j hj => absurd hj (by omega)⟩ (fun j hj => ?_)⟩
    · rw [va_up_self]
      omega
    · rw [ec7, show j = 0 by omega, pk_us]
/-! ===== a leaf is written ===== -/
theorem zt_T_set {b1 b2 : Nat → Int32} {v : Int32} (hT : zt_T R lv C M a1 a2 a3 a4 a5) (hpa : zt_pa R lv key p 3)
    (hlf : zt_lf (b2 (p 3)) (b1 (4 * p 3)) (fun k => if k % 4 = key % 4 then v else C (p 3) k))
    (h1 : ∀ j, j < 1600 → (j < 4 * p 3 ∨ 4 * p 3 + 4 ≤ j) → b1 j = a1 j) (h2 : ∀ j, j < 400 → j ≠ p 3 → b2 j = a2 j) :
    zt_T R lv (zt_sC lv C p key v) (zt_M1 M key v) b1 b2 a3 a4 a5 := by
  obtain ⟨hI, he, hq, hr, hM⟩ := hT
  refine ⟨zt_set hI hpa hlf h1 h2, he, hq, hr, fun m hm k => ?_⟩
  rw [zt_set_m hI hpa hm k, hM m hm k]
  rfl
/-- the leaf of an owned way -/
theorem zt_T_lf (hT : zt_T R lv C M a1 a2 a3 a4 a5) (hpa : zt_pa R lv key p 3) : p 3 < 400 ∧ zt_lf (a2 (p 3)) (a1 (4 * p 3)) (C (p 3)) := by
  obtain ⟨y1, y2, y3⟩ := hpa.2.1 3 (by omega)
  exact ⟨y1, hT.1.2.2.2.2.2.2.2.1 (p 3) y1 (by omega) y3⟩
theorem zt_lf_0 {h x : Int32} {c : Nat → Int32} {k : Nat} (hl : zt_lf h x c) (hk : ¬ k % 4 = 0) : c k = 0 := by
  rcases hl with ⟨_, h2⟩ | ⟨_, _, h3⟩
  · exact h2 k
  · rw [h3 k, if_neg hk]
theorem zt_put {post : Int32 → St1 → Prop} {v : Int32} (hS : zt_S M a1 a2 a3 a4 a5) (hk : key < 256) (hk4 : key % 4 = 0) (hv : v ≠ 0) (h6 : a6 0 < 16)
    (H0 : M 0 key = 0 → ∀ b1 b2 b3 b5 b7, zt_S (zt_M1 M key v) b1 b2 b3 a4 b5 → post (a6 0 + 1) (b1, b2, b3, a4, b5, upd a6 0 (a6 0 + 1), b7, a8))
    (H1 : M 0 key ≠ 0 → ∀ b1 b2 b3 b5 b7, zt_S (zt_M1 M key v) b1 b2 b3 a4 b5 → post (a6 0 + 0) (b1, b2, b3, a4, b5, upd a6 0 (a6 0 + 0), b7, a8)) : wpX_put post (a1, a2, a3, a4, a5, a6, a7, a8) (nI key) v := by
  obtain ⟨R, lv, C, hT⟩ := hS
  have e0 : C (R (1604 + 0)) key = M 0 key := hT.2.2.2.2 0 (by omega) key
  have go : ∀ x3 : Int32, (x3 = 0 ∧ M 0 key = 0 ∨ x3 ≠ 0 ∧ M 0 key ≠ 0) → wX_put_37 post (nI key) v x3 a1 a2 a3 a4 a5 a6 a7 a8 := by
    intro x3 h3
    unfold wX_put_37
    refine zt_ownPath hk hT (fun R lv C b1 b2 b3 b5 b7 p hT' hpa h7 => ?_)
    obtain ⟨y1, y2⟩ := zt_T_lf hT' hpa
    show vp_in (4 * nI (p 3) + (nI key &&& 3)) 1600 ∧ _
    rw [zt_and3 key hk, hk4, zt_ix, nI_clamp (by omega)]
    refine ⟨vp_in_nI (by omega) (by omega), fun c1 ec1 => ?_⟩
    rw [nI_clamp (by omega)]
    refine ⟨vp_in_nI y1 (by omega), vp_in_nI y1 (by omega), fun c2 ec2 => ?_⟩
    have ec1' : c1 = upd b1 (4 * p 3) v := ec1
    have e7 : c2 (p 3) = 257 := by
      rw [ec2, pk_us]
      rcases y2 with ⟨z, _⟩ | ⟨z, _⟩
      · rw [z]
        decide
      · rw [z]
        decide
    have hT2 := zt_T_set (b1 := c1) (b2 := c2) (v := v) hT' hpa (Or.inr ⟨e7, by rw [ec1', pk_us]; exact hv, fun k => by
      rw [ec1', pk_us, hk4]
      dsimp only
      by_cases z : k % 4 = 0
      · rw [if_pos z, if_pos z]
      · rw [if_neg z, if_neg z]
        exact zt_lf_0 y2 z⟩) (fun j _ hj => by rw [ec1', pk_un (by omega)]) (fun j _ hj => by rw [ec2, pk_un hj])
    refine ⟨fun z c6 e6 => ?_, fun z c6 e6 => ?_⟩
    · rcases h3 with ⟨_, w⟩ | ⟨w, _⟩
      · rw [e6, pk_us]
        exact H0 w c1 c2 b3 b5 b7 ⟨R, lv, _, hT2⟩
      · exact absurd z w
    · rcases h3 with ⟨w, _⟩ | ⟨_, w⟩
      · exact absurd w z
      · rw [e6, pk_us]
        exact H1 w c1 c2 b3 b5 b7 ⟨R, lv, _, hT2⟩
  refine br_f (nI_pos (by omega)) (br_t (nI_le (b := 255) (by omega) (by decide)) ?_)
  refine zt_holds (m := 0) hT.1 hT.2.2.2.1 (by omega) hk (fun e => br_t rfl (br_t h6 (go 0 (Or.inl ⟨rfl, by rw [← e0]; exact e⟩)))) (fun e => br_f (by decide) (go 1 (Or.inr ⟨by decide, by rw [← e0]; exact e⟩)))
/-! ===== prune ===== -/
theorem zt_leadsOn {post : Int32 → Prop} {x : Nat} (hI : zt_I R lv C a1 a2 a3) (hx : x < 400) (h : 0 < zt_n R x) (hl : lv x < 3) (h0 : (∀ w, w < 4 → R (4 * x + w) = 400) → post 0) (h1 : post 1) : wpX_leadsOn post (a1, a2, a3, a4, a5, a6, a7, a8) (nI x) := by
  have rd := (hI.2.2.2.2.2.2.1 x hx h hl).2
  refine pk_loop (σ := Unit) (fun q i _ => wX_leadsOn_2 post (nI x) a1 a2 a3 a4 a5 a6 a7 a8 q (nI i)) (fun i _ => ∀ w, w < i → R (4 * x + w) = 400) 4 0 () (by omega) (fun w hw => absurd hw (by omega)) (fun q _ hQ => ?_) (fun q i _ hi hQ hw => ?_)
  · exact pk_le 4 4 (fun _ => h0 hQ) (fun z => absurd z (by omega))
  · refine pk_le 4 i (fun z => absurd z (by omega)) (fun _ => ?_)
    rw [zt_ix, nI_clamp (by omega), rd i hi]
    refine ⟨vp_in_nI (by omega) (by omega), zt_neg (hI.1 _) (fun e => nm_r (nI_1 i) (hw () (fun w hw' => ?_))) (fun _ => h1)⟩
    by_cases e2 : w = i
    · rw [e2]
      exact e
    · exact hQ w (by omega)
def zt_m1 : Nat → Int32
  | 0 => -1
  | j + 1 => nI j
theorem zt_m1_eq (j : Nat) : nI j + (-1) = zt_m1 j := by
  cases j with
  | zero => rfl
  | succ j => exact pk_m1 j
theorem zt_T_unl {x : Nat} {b1 b3 b5 : Nat → Int32} (hT : zt_T R lv C M a1 a2 a3 a4 a5) (hk : zt_kd R lv s l) (hx : R s = x) (hx4 : x < 400) (h1 : zt_n R x = 1) (hc : ∀ k, C x k = 0) (hw : ∀ w, w < 4 → R (4 * x + w) = 400)
    (hb1 : s < 1600 → b1 s = -1) (hb1' : ∀ j, j < 1600 → j ≠ s → b1 j = a1 j) (hb3 : b3 x = 0) (hb3' : ∀ j, j < 400 → j ≠ x → b3 j = a3 j) (h5 : ∀ m, m < 8 → 1604 + m ≠ s → b5 m = a5 m) (h5s : s = 1604 → b5 0 = -1) :
    zt_T (va_up R s 400) lv C M b1 a2 b3 a4 b5 := by
  obtain ⟨hI, he, ⟨q1, q2, q3⟩, hr, hM⟩ := hT
  obtain ⟨k0, kl, kx, ks⟩ := zt_kd_x hI hk
  refine ⟨zt_unl hI hk hx hx4 h1 hc hw hb1 hb1' hb3 hb3', fun d hd => ?_, ⟨fun m hm h => ?_, q2, q3⟩, fun m hm => ?_, fun m hm k => ?_⟩
  · rw [va_up_ne _ _ (by omega)]
    exact he d hd
  · by_cases e : 1604 + m = s
    · rw [e, va_up_self]
    · rw [va_up_ne _ _ e]
      exact q1 m hm h
  · by_cases e : 1604 + m = s
    · have e0 : m = 0 := by omega
      rw [e, va_up_self, zt_p_400, e0]
      exact h5s (by omega)
    · rw [va_up_ne _ _ e, h5 m hm e]
      exact hr m hm
  · rw [zt_unl_m hx hc hI.2.2.2.2.2.2.2.2.1]
    exact hM m hm k
theorem zt_prL {post : St1 → Prop} (hkey : key < 256) (h7 : ∀ j, j ≤ 3 → a7 j = nI (p j)) (H : ∀ b1 b3 b5, zt_S M b1 a2 b3 a4 b5 → post (b1, a2, b3, a4, b5, a6, a7, a8)) :
    ∀ j, j ≤ 3 → ∀ R a1 a3 b3, zt_T R lv C M a1 a2 a3 a4 a5 → zt_pa R lv key p j → (∀ k, C (p j) k = 0) → (∀ w, w < 4 → R (4 * p j + w) = 400) → b3 (p j) = 0 → (∀ i, i < 400 → i ≠ p j → b3 i = a3 i) → wX_prune_32 post (nI key) (j + 1) (zt_m1 j) a1 a2 b3 a4 a5 a6 a7 a8 := by
  intro j
  induction j with
  | zero =>
    intro _ R a1 a3 b3 hT hpa hc hw hb3 hb3'
    obtain ⟨y1, y2, y3⟩ := hpa.2.1 0 (by omega)
    refine br_t (by decide) (nm_e (H a1 b3 _ ⟨va_up R 1604 400, lv, C, zt_T_unl hT (Or.inl ⟨rfl, rfl⟩) hpa.1 y1 y2 hc hw (fun z => absurd z (by omega)) (fun _ _ _ => rfl) hb3 hb3' (fun m _ hm => pk_un (by omega)) (fun _ => pk_us)⟩))
  | succ j ih =>
    intro hj R a1 a3 b3 hT hpa hc hw hb3 hb3'
    have ht := zt_tn_lt key j
    obtain ⟨y1, y2, y3⟩ := hpa.2.1 (j + 1) (by omega)
    obtain ⟨z1, z2, z3⟩ := hpa.2.1 j (by omega)
    have hkd : zt_kd R lv (4 * p j + zt_tn key j) (j + 1) := Or.inr ⟨p j, zt_tn key j, rfl, z1, ht, by omega, by omega, by omega⟩
    have es := hpa.2.2 j (by omega)
    rw [show zt_m1 (j + 1) = nI j from rfl]
    refine br_f (nI_pos (by omega)) ⟨vp_in_nI (by omega) (by decide), zt_turn hkey (by omega) ?_⟩
    rw [nI_clamp (show j < 2 ^ 31 by omega), h7 j (by omega), zt_ix]
    refine ⟨vp_in_nI (by omega) (by omega), fun c1 ec => ⟨vp_in_nI (by omega) (by decide), ?_⟩⟩
    rw [nI_clamp (by omega)] at ec
    have hT' : zt_T (va_up R (4 * p j + zt_tn key j) 400) lv C M c1 a2 b3 a4 a5 := zt_T_unl hT hkd es y1 y2 hc hw (fun _ => by rw [ec, pk_us]) (fun i _ hi => by rw [ec, pk_un hi]) hb3 hb3' (fun _ _ _ => rfl) (fun z => absurd z (by omega))
    have up : ∀ i, i ≤ j → zt_n (va_up R (4 * p j + zt_tn key j) 400) (p i) = 1 := by
      intro i hi
      obtain ⟨x1, x2, x3⟩ := hpa.2.1 i (by omega)
      have q := zt_n_up (R := R) (s := 4 * p j + zt_tn key j) 400 (p i) (by omega)
      have ne : ¬ p (j + 1) = p i := fun z => by
        rw [z, x3] at y3
        omega
      rw [es, if_neg ne, if_neg (show ¬ 400 = p i by omega)] at q
      omega
    have hpa' : zt_pa (va_up R (4 * p j + zt_tn key j) 400) lv key p j := by
      refine ⟨?_, fun i hi => ⟨(hpa.2.1 i (by omega)).1, up i hi, (hpa.2.1 i (by omega)).2.2⟩, fun i hi => ?_⟩
      · rw [va_up_ne _ _ (by omega)]
        exact hpa.1
      · obtain ⟨x1, x2, x3⟩ := hpa.2.1 i (by omega)
        have ht2 := zt_tn_lt key i
        have ne : p i ≠ p j := fun z => by
          rw [z, z3] at x3
          omega
        rw [va_up_ne _ _ (by omega)]
        exact hpa.2.2 i (by omega)
    have up0 := up j (by omega)
    refine zt_leadsOn hT'.1 z1 (by omega) (by omega) (fun hw' => br_t rfl ⟨vp_in_nI (by omega) (by decide), vp_in_nI z1 (by omega), fun c3 e3 => nm_r (zt_m1_eq j) ?_⟩) (br_f (by decide) (H c1 b3 a5 ⟨_, lv, C, hT'⟩))
    rw [nI_clamp (by omega)] at e3
    exact ih (by omega) _ c1 b3 c3 hT' hpa' (zt_bare hT'.1 z1 (by omega) (by omega) hw') hw' (by rw [e3, pk_us]) (fun i _ hi => by rw [e3, pk_un hi])
theorem zt_prune {post : St1 → Prop} (hkey : key < 256) (hT : zt_T R lv C M a1 a2 a3 a4 a5) (hpa : zt_pa R lv key p 3) (h7 : ∀ j, j ≤ 3 → a7 j = nI (p j)) (h2 : a2 (p 3) = 256) (H : ∀ b1 b3 b5, zt_S M b1 a2 b3 a4 b5 → post (b1, a2, b3, a4, b5, a6, a7, a8)) : wpX_prune post (a1, a2, a3, a4, a5, a6, a7, a8) (nI key) := by
  obtain ⟨y1, y2, y3⟩ := hpa.2.1 3 (by omega)
  obtain ⟨_, lf⟩ := zt_T_lf hT hpa
  have hc : ∀ k, C (p 3) k = 0 := by
    rcases lf with ⟨_, h⟩ | ⟨h, _⟩
    · exact h
    · rw [h2] at h
      exact absurd h (by decide)
  have hw : ∀ w, w < 4 → R (4 * p 3 + w) = 400 := by
    intro w hw
    rcases Nat.lt_or_ge (R (4 * p 3 + w)) 400 with z | z
    · have := (hT.1.2.2.1 (p 3) w y1 hw z).2.1
      omega
    · have := hT.1.1 (4 * p 3 + w)
      omega
  unfold wpX_prune
  dsimp only
  rw [h7 3 (by omega), nI_clamp (by omega), h2]
  refine ⟨vp_in_nI y1 (by omega), br_t (by decide) ⟨vp_in_nI y1 (by omega), fun c3 e3 => ⟨4, ?_⟩⟩⟩
  exact zt_prL hkey h7 H 3 (by omega) R a1 a3 c3 hT hpa hc hw (by rw [e3, pk_us]) (fun i _ hi => by rw [e3, pk_un hi])
theorem zt_remove {post : Int32 → St1 → Prop} (hS : zt_S M a1 a2 a3 a4 a5) (hk : key < 256) (hk4 : key % 4 = 0)
    (H0 : M 0 key = 0 → post (-1) (a1, a2, a3, a4, a5, a6, a7, a8))
    (H1 : M 0 key ≠ 0 → ∀ b1 b2 b3 b5 b7, zt_S (zt_M1 M key 0) b1 b2 b3 a4 b5 → post (a6 0 - 1) (b1, b2, b3, a4, b5, upd a6 0 (a6 0 - 1), b7, a8)) : wpX_remove post (a1, a2, a3, a4, a5, a6, a7, a8) (nI key) := by
  obtain ⟨R, lv, C, hT⟩ := hS
  have e0 : C (R (1604 + 0)) key = M 0 key := hT.2.2.2.2 0 (by omega) key
  refine br_f (nI_pos (by omega)) (br_f (nI_nlt (a := 255) (by omega) (by decide)) ?_)
  refine zt_holds (m := 0) hT.1 hT.2.2.2.1 (by omega) hk (fun e => br_t rfl (H0 (by rw [← e0]; exact e))) (fun e => br_f (by decide) ?_)
  refine zt_ownPath hk hT (fun R lv C b1 b2 b3 b5 b7 p hT' hpa h7 => ?_)
  obtain ⟨y1, y2⟩ := zt_T_lf hT' hpa
  show vp_in (nI (p 3)) 400 ∧ _
  rw [zt_and3 key hk, hk4, nI_clamp (by omega)]
  refine ⟨vp_in_nI y1 (by omega), vp_in_nI y1 (by omega), fun c2 ec2 => ?_⟩
  have e6 : c2 (p 3) = 256 := by
    rw [ec2, pk_us]
    rcases y2 with ⟨z, _⟩ | ⟨z, _⟩
    · rw [z]
      decide
    · rw [z]
      decide
  have hT2 := zt_T_set (b1 := b1) (b2 := c2) (v := 0) hT' hpa (Or.inl ⟨e6, fun k => by
    show (if k % 4 = key % 4 then 0 else C (p 3) k) = 0
    rw [hk4]
    by_cases z : k % 4 = 0
    · rw [if_pos z]
    · rw [if_neg z]
      exact zt_lf_0 y2 z⟩) (fun j _ hj => rfl) (fun j _ hj => by rw [ec2, pk_un hj])
  refine zt_prune hk hT2 hpa h7 e6 (fun d1 d3 d5 hS' => ?_)
  intro c6 e6'
  rw [e6', pk_us]
  exact H1 (by rw [← e0]; exact e) d1 c2 d3 d5 b7 hS'
end
end
section
/-! ===== giveBack ===== -/
def zt_wt : Nat → Nat
  | 0 => 85
  | 1 => 21
  | 2 => 5
  | _ => 1
/-- how many turns the stack may still cost -/
def zt_ph (R lv : Nat → Nat) : Nat → Nat
  | 0 => 0
  | d + 1 => zt_ph R lv d + zt_wt (lv (R (1612 + d)))
theorem zt_wt_1 (l : Nat) : 1 ≤ zt_wt l := by
  unfold zt_wt
  split <;> omega
theorem zt_wt_S {l : Nat} (h : l < 3) : zt_wt l = 1 + 4 * zt_wt (l + 1) := by
  have h' : l = 0 ∨ l = 1 ∨ l = 2 := by omega
  rcases h' with e | e | e
  · subst e
    rfl
  · subst e
    rfl
  · subst e
    rfl
theorem zt_ph_congr {R R' lv : Nat → Nat} (d : Nat) (h : ∀ q, q < d → R' (1612 + q) = R (1612 + q)) : zt_ph R' lv d = zt_ph R lv d := by
  induction d with
  | zero => rfl
  | succ d ih => rw [zt_ph, zt_ph, ih (fun q hq => h q (by omega)), h d (by omega)]
/-- the dead node n has handed i of its ways to the stack, whose depth was e and is d -/
def zt_gQ (R1 lv : Nat → Nat) (n e i d : Nat) (c8 : Nat → Int32) (Ri : Nat → Nat) : Prop :=
  (∀ w, w < i → Ri (4 * n + w) = 400) ∧ (∀ w, w < 4 → i ≤ w → Ri (4 * n + w) = R1 (4 * n + w)) ∧ (∀ t, t < 1612 → (t < 4 * n ∨ 4 * n + 4 ≤ t) → Ri t = R1 t) ∧ (∀ t, Ri t ≤ 400) ∧
  (∀ j, j < 400 → zt_n Ri j + (if n = j then 1 else 0) = zt_n R1 j) ∧ (∀ q, q < d → Ri (1612 + q) < 400 ∧ q ≤ 3 * lv (Ri (1612 + q)) ∧ c8 q = nI (Ri (1612 + q))) ∧ (∀ q, q < 16 → d ≤ q → Ri (1612 + q) = 400) ∧
  e ≤ d ∧ d ≤ e + i ∧ zt_ph Ri lv d ≤ zt_ph R1 lv e + i * zt_wt (lv n + 1)
section
variable {R R1 lv : Nat → Nat} {C M : Nat → Nat → Int32} {a1 a2 a3 a4 a5 a6 a7 a8 b3 c3 b8 : Nat → Int32}
theorem zt_gQ_push {n e i d : Nat} {c8 d8 : Nat → Int32} {Ri : Nat → Nat} (hn : n < 400) (hi : i < 4) (hd : d < 16) (hl : lv (R1 (4 * n + i)) = lv n + 1) (he : e ≤ 3 * lv n) (hc : R1 (4 * n + i) < 400) (hQ : zt_gQ R1 lv n e i d c8 Ri) (h8 : d8 = upd c8 d (nI (R1 (4 * n + i)))) :
    zt_gQ R1 lv n e (i + 1) (d + 1) d8 (va_up (va_up Ri (4 * n + i) 400) (1612 + d) (R1 (4 * n + i))) := by
  obtain ⟨q1, q2, q3, q4, q5, q6, q7, q8, q9, q10⟩ := hQ
  have hs : ∀ q, q < d → va_up (va_up Ri (4 * n + i) 400) (1612 + d) (R1 (4 * n + i)) (1612 + q) = Ri (1612 + q) := fun q hq => by
    rw [va_up_ne _ _ (by omega), va_up_ne _ _ (by omega)]
  refine ⟨?_, ?_, ?_, ?_, ?_, ?_, ?_, by omega, by omega, ?_⟩
  · intro w hw
    rw [va_up_ne _ _ (by omega)]
    by_cases e : w = i
    · rw [e, va_up_self]
    · rw [va_up_ne _ _ (by omega)]
      exact q1 w (by omega)
  · intro w hw hw2
    rw [va_up_ne _ _ (by omega), va_up_ne _ _ (by omega)]
    exact q2 w hw (by omega)
  · intro t ht h
    rw [va_up_ne _ _ (by omega), va_up_ne _ _ (by omega)]
    exact q3 t ht h
  · intro t
    by_cases e : t = 1612 + d
    · rw [e, va_up_self]
      omega
    · rw [va_up_ne _ _ e]
      by_cases e2 : t = 4 * n + i
      · rw [e2, va_up_self]
        omega
      · rw [va_up_ne _ _ e2]
        exact q4 t
  · intro j hj
    have u1 := zt_n_up (R := Ri) (s := 4 * n + i) 400 j (by omega)
    have u2 := zt_n_up (R := va_up Ri (4 * n + i) 400) (s := 1612 + d) (R1 (4 * n + i)) j (by omega)
    rw [va_up_ne Ri 400 (show 1612 + d ≠ 4 * n + i by omega), q7 d hd (by omega), if_neg (show ¬ 400 = j by omega)] at u2
    rw [q2 i hi (by omega), if_neg (show ¬ 400 = j by omega)] at u1
    have u3 := q5 j hj
    omega
  · intro q hq
    by_cases e : q = d
    · rw [e, va_up_self, h8, pk_us, hl]
      exact ⟨hc, by omega, rfl⟩
    · rw [hs q (by omega), h8, pk_un e]
      exact q6 q (by omega)
  · intro q hq hq2
    rw [va_up_ne _ _ (by omega), va_up_ne _ _ (by omega)]
    exact q7 q hq (by omega)
  · rw [zt_ph, zt_ph_congr d hs, va_up_self, hl, Nat.succ_mul]
    omega
theorem zt_gQ_keep {n e i d : Nat} {c8 : Nat → Int32} {Ri : Nat → Nat} (hi : i < 4) (hc : R1 (4 * n + i) = 400) (hQ : zt_gQ R1 lv n e i d c8 Ri) : zt_gQ R1 lv n e (i + 1) d c8 Ri := by
  obtain ⟨q1, q2, q3, q4, q5, q6, q7, q8, q9, q10⟩ := hQ
  refine ⟨?_, ?_, q3, q4, q5, q6, q7, q8, by omega, ?_⟩
  · intro w hw
    by_cases e : w = i
    · rw [e, q2 i hi (by omega)]
      exact hc
    · exact q1 w (by omega)
  · intro w hw hw2
    exact q2 w hw (by omega)
  · rw [Nat.succ_mul]
    omega
theorem zt_gb76 {post : St1 → Prop} {J : Int32 → Int32 → (Nat → Int32) → (Nat → Int32) → (Nat → Int32) → (Nat → Int32) → (Nat → Int32) → (Nat → Int32) → (Nat → Int32) → (Nat → Int32) → Prop} {x3 : Int32} {n e : Nat} {Rp : Nat → Nat}
    (hI : zt_I R1 lv C a1 a2 b3) (hn : n < 400) (hc : 0 < zt_n R1 n) (hl : lv n < 3) (he : e ≤ 3 * lv n) (hQ : zt_gQ R1 lv n e 0 e b8 Rp) (HJ : ∀ d c8 Ri, zt_gQ R1 lv n e 4 d c8 Ri → J (nI d) (x3 + 1) a1 a2 c3 a4 a5 a6 a7 c8) :
    ∃ q, wX_giveBack_76 post J x3 (nI n) q (nI e) 0 a1 a2 c3 a4 a5 a6 a7 b8 := by
  have rd := (hI.2.2.2.2.2.2.1 n hn hc hl).2
  refine pk_loop (σ := Nat × (Nat → Int32)) (fun q i t => wX_giveBack_76 post J x3 (nI n) q (nI t.1) (nI i) a1 a2 c3 a4 a5 a6 a7 t.2) (fun i t => ∃ Ri, zt_gQ R1 lv n e i t.1 t.2 Ri) 4 0 (e, b8) (by omega) ⟨Rp, hQ⟩ (fun q t h => ?_) (fun q i t hi h hw => ?_)
  · obtain ⟨d, c8⟩ := t
    obtain ⟨Ri, h⟩ := h
    exact pk_le 4 4 (fun _ => nm_e (HJ d c8 Ri h)) (fun z => absurd z (by omega))
  · obtain ⟨d, c8⟩ := t
    obtain ⟨Ri, h⟩ := h
    have hd : d ≤ e + i := h.2.2.2.2.2.2.2.2.1
    refine pk_le 4 i (fun z => absurd z (by omega)) (fun _ => ?_)
    rw [zt_ix, nI_clamp (by omega), rd i hi]
    refine ⟨vp_in_nI (by omega) (by omega), zt_neg (hI.1 _) (fun z => nm_r (nI_1 i) (hw (d, c8) ⟨Ri, zt_gQ_keep hi z h⟩)) (fun z => ?_)⟩
    have hl' := (hI.2.2.1 n i hn hi z).2.2
    refine ⟨vp_in_nI (by omega) (by omega), vp_in_nI (show d < 16 by omega) (by omega), fun d8 e8 => nm_r (nI_1 d) (nm_r (nI_1 i) (hw (d + 1, d8) ⟨_, zt_gQ_push hn hi (by omega) hl' he z h ?_⟩))⟩
    rw [e8, zt_p_lt z]
    exact congrArg (fun q => upd c8 q (nI (R1 (4 * n + i)))) (nI_clamp (by omega))
theorem zt_gb {post : St1 → Prop} (hI : zt_I R lv C a1 a2 a3) (hst : ∀ d, d < 16 → 1 ≤ d → R (1612 + d) = 400) (hx0 : R 1612 < 400 → lv (R 1612) = 0)
    (H : ∀ R' b3 b8, zt_I R' lv C a1 a2 b3 → zt_em R' → (∀ t, 1604 ≤ t → t < 1612 → R' t = R t) → post (a1, a2, b3, a4, a5, a6, a7, b8)) : wpX_giveBack post (a1, a2, a3, a4, a5, a6, a7, a8) (zt_p (R 1612)) := by
  refine zt_nneg (hI.1 _) (fun hx => ?_) (fun e => H R a3 a8 hI (fun d hd => ?_) (fun _ _ _ => rfl))
  rotate_left 1
  · by_cases z : d = 0
    · rw [z]
      exact e
    · exact hst d hd (by omega)
  rw [zt_p_lt hx]
  refine nm_e ?_
  refine loop_m (σ := Nat × Nat × (Nat → Int32) × (Nat → Int32)) (fun q t => wX_giveBack_16 post q (nI t.1) (nI t.2.1) a1 a2 t.2.2.1 a4 a5 a6 a7 t.2.2.2)
    (fun t => ∃ R1, zt_I R1 lv C a1 a2 t.2.2.1 ∧ (∀ u, 1604 ≤ u → u < 1612 → R1 u = R u) ∧ (∀ q, q < t.1 → R1 (1612 + q) < 400 ∧ q ≤ 3 * lv (R1 (1612 + q)) ∧ t.2.2.2 q = nI (R1 (1612 + q))) ∧ (∀ q, q < 16 → t.1 ≤ q → R1 (1612 + q) = 400) ∧ t.1 ≤ 16 ∧ t.2.1 + zt_ph R1 lv t.1 ≤ 85)
    (fun t => 86 - t.2.1) ?_ (1, 0, a3, upd a8 0 (nI (R 1612))) ⟨R, hI, fun _ _ _ => rfl, fun q hq => ?_, fun q h1 h2 => hst q h1 h2, by show 1 ≤ 16; omega, ?_⟩
  rotate_left 1
  · have hq' : q < 1 := hq
    have e : q = 0 := by omega
    subst e
    have e8 : upd a8 0 (nI (R 1612)) 0 = nI (R 1612) := pk_us
    exact ⟨hx, by omega, e8⟩
  · show 0 + (0 + zt_wt (lv (R (1612 + 0)))) ≤ 85
    rw [show lv (R (1612 + 0)) = 0 from hx0 hx]
    decide
  intro q t hInv ih
  obtain ⟨dep, st, b3, b8⟩ := t
  obtain ⟨R1, i1, i2, i3, i4, i5, i6⟩ := hInv
  dsimp only at i1 i2 i3 i4 i5 i6
  show wX_giveBack_16 post (q + 1) (nI dep) (nI st) a1 a2 b3 a4 a5 a6 a7 b8
  refine pk_le 400 st (fun z => absurd z (by omega)) (fun _ => ?_)
  refine pk_le dep 0 (fun z => H R1 b3 b8 i1 (fun d hd => i4 d hd (by omega)) i2) (fun z => ?_)
  obtain ⟨e, rfl⟩ : ∃ e, dep = e + 1 := ⟨dep - 1, by omega⟩
  obtain ⟨s1, s2, s3⟩ := i3 e (by omega)
  rw [zt_ph] at i6
  obtain ⟨n, hn⟩ : ∃ n, R1 (1612 + e) = n := ⟨_, rfl⟩
  rw [hn] at s1 s2 s3 i6
  have w1 := zt_wt_1 (lv n)
  have live : 0 < zt_n R1 n := zt_n_pos (s := 1612 + e) (by omega) hn
  have l3 := i1.2.2.2.2.1 n s1 live
  refine nm_r (pk_m1 e) ⟨vp_in_nI (by omega) (by omega), nm_r (e' := nI n) (by rw [nI_clamp (by omega)]; exact s3) ⟨vp_in_nI s1 (by omega), vp_in_nI s1 (by omega), fun c3 ec => ⟨vp_in_nI s1 (by omega), ?_⟩⟩⟩
  rw [nI_clamp (show n < 2 ^ 31 by omega)] at ec ⊢
  have ct : ∀ j, j < 400 → zt_n (va_up R1 (1612 + e) 400) j + (if n = j then 1 else 0) = zt_n R1 j := fun j hj => by
    have u := zt_n_up (R := R1) (s := 1612 + e) 400 j (by omega)
    rw [hn, if_neg (show ¬ 400 = j by omega)] at u
    exact u
  have ctn : zt_n (va_up R1 (1612 + e) 400) n + 1 = zt_n R1 n := by
    have u := ct n s1
    rw [if_pos rfl] at u
    exact u
  have c3j : ∀ j, j < 400 → c3 j = nI (zt_n (va_up R1 (1612 + e) 400) j) := by
    intro j hj
    rw [ec]
    by_cases ej : j = n
    · rw [ej, pk_us, i1.2.2.2.2.2.1 n s1, ← ctn, nI_pred]
    · have u := ct j hj
      rw [if_neg (fun z => ej z.symm)] at u
      rw [pk_un ej, i1.2.2.2.2.2.1 j hj, ← u]
      rfl
  have le1 : ∀ t, va_up R1 (1612 + e) 400 t ≤ 400 := fun t => by
    by_cases et : t = 1612 + e
    · rw [et, va_up_self]
      omega
    · rw [va_up_ne _ _ et]
      exact i1.1 t
  have lo : ∀ t, t < 1612 → va_up R1 (1612 + e) 400 t = R1 t := fun t ht => va_up_ne _ _ (by omega)
  have sk : ∀ q, q < e → va_up R1 (1612 + e) 400 (1612 + q) = R1 (1612 + q) := fun q hq => va_up_ne _ _ (by omega)
  have st1 : ∀ q, q < e → va_up R1 (1612 + e) 400 (1612 + q) < 400 ∧ q ≤ 3 * lv (va_up R1 (1612 + e) 400 (1612 + q)) ∧ b8 q = nI (va_up R1 (1612 + e) 400 (1612 + q)) := fun q hq => by
    rw [sk q hq]
    exact i3 q (by omega)
  have st2 : ∀ q, q < 16 → e ≤ q → va_up R1 (1612 + e) 400 (1612 + q) = 400 := fun q hq hq2 => by
    by_cases eq : q = e
    · rw [eq, va_up_self]
    · rw [va_up_ne _ _ (by omega)]
      exact i4 q hq (by omega)
  have phe : zt_ph (va_up R1 (1612 + e) 400) lv e = zt_ph R1 lv e := zt_ph_congr e sk
  /- the turn ends here: nothing is handed on -/
  have plain : ((2 ≤ zt_n R1 n ∧ ∀ w, w < 4 → va_up R1 (1612 + e) 400 (4 * n + w) = R1 (4 * n + w)) ∨ (zt_n R1 n = 1 ∧ ∀ w, w < 4 → va_up R1 (1612 + e) 400 (4 * n + w) = 400)) → wX_giveBack_16 post q (nI e) (nI (st + 1)) a1 a2 c3 a4 a5 a6 a7 b8 := by
    intro hcs
    refine ih (e, st + 1, c3, b8) ⟨va_up R1 (1612 + e) 400, zt_pop i1 s1 (fun t ht _ => lo t ht) le1 ct hcs c3j, fun u h1 h2 => ?_, st1, st2, by show e ≤ 16; omega, ?_⟩ (by show 86 - (st + 1) < 86 - st; omega)
    · rw [lo u h2]
      exact i2 u h1 h2
    · show st + 1 + zt_ph (va_up R1 (1612 + e) 400) lv e ≤ 85
      rw [phe]
      omega
  have nle := zt_n_le R1 n
  refine pk_eq (zt_n (va_up R1 (1612 + e) 400) n) 0 (fun z => ?_) (fun z => nm_r (nI_1 st) (plain (Or.inl ⟨by omega, fun w hw => lo _ (by omega)⟩))) (c3j n s1) rfl (by omega) (by omega)
  refine ⟨vp_in_nI s1 (by omega), ?_⟩
  by_cases hl : lv n < 3
  · have e2 := (i1.2.2.2.2.2.2.1 n s1 live hl).1
    refine br_t (by rw [e2]; decide) ?_
    have hQ0 : zt_gQ R1 lv n e 0 e b8 (va_up R1 (1612 + e) 400) := ⟨fun w hw => absurd hw (by omega), fun w hw _ => lo _ (by omega), fun t ht _ => lo t ht, le1, ct, st1, st2, by omega, by omega, by rw [phe]; omega⟩
    refine zt_gb76 i1 s1 live hl s2 hQ0 (fun d c8 Ri hQ => ?_)
    obtain ⟨q1, q2, q3, q4, q5, q6, q7, q8, q9, q10⟩ := hQ
    have wS := zt_wt_S hl
    rw [nI_1]
    refine ih (d, st + 1, c3, c8) ⟨Ri, zt_pop i1 s1 q3 q4 q5 (Or.inr ⟨by omega, q1⟩) (fun j hj => ?_), fun u h1 h2 => ?_, q6, q7, by show d ≤ 16; omega, ?_⟩ (by show 86 - (st + 1) < 86 - st; omega)
    · show c3 j = nI (zt_n Ri j)
      rw [c3j j hj]
      have u1 := ct j hj
      have u2 := q5 j hj
      exact congrArg nI (by omega)
    · rw [q3 u h2 (by omega)]
      exact i2 u h1 h2
    · show st + 1 + zt_ph Ri lv d ≤ 85
      omega
  · refine br_f ?_ (nm_r (nI_1 st) (plain (Or.inr ⟨by omega, fun w hw => ?_⟩)))
    · rcases i1.2.2.2.2.2.2.2.1 n s1 live (by omega) with ⟨e6, _⟩ | ⟨e7, _⟩
      · rw [e6]
        decide
      · rw [e7]
        decide
    · rw [lo _ (by omega)]
      rcases Nat.lt_or_ge (R1 (4 * n + w)) 400 with y | y
      · have := (i1.2.2.1 n w s1 hw y).2.1
        omega
      · have := i1.1 (4 * n + w)
        omega
/-! ===== share, commit, restore, drop ===== -/
theorem zt_share {post : St1 → Prop} {f t : Nat} (hI : zt_I R lv C a1 a2 a3) (hr : zt_rt R a5) (h12 : R 1612 = 400) (hf : f < 8) (ht : t < 8) (H : ∀ b3, zt_I (zt_mv R t (R (1604 + f))) lv C a1 a2 b3 → post (a1, a2, b3, a4, upd a5 t (a5 f), upd a6 t (a6 f), a7, a8)) : wpX_share post (a1, a2, a3, a4, a5, a6, a7, a8) (nI f) (nI t) := by
  unfold wpX_share
  dsimp only
  rw [nI_clamp (show f < 2 ^ 31 by omega), nI_clamp (show t < 2 ^ 31 by omega)]
  refine ⟨vp_in_nI hf (by omega), vp_in_nI ht (by omega), fun c5 e5 => ⟨vp_in_nI hf (by omega), vp_in_nI ht (by omega), fun c6 e6 => ⟨vp_in_nI ht (by omega), ?_⟩⟩⟩
  have e5t : c5 t = zt_p (R (1604 + f)) := by
    rw [e5, pk_us]
    exact hr f hf
  have hy : R (1604 + f) = 400 ∨ ∃ m', m' < 8 ∧ R (1604 + f) = R (1604 + m') := Or.inr ⟨f, hf, rfl⟩
  rw [e5t]
  refine zt_neg (hI.1 _) (fun e => ?_) (fun h => ?_)
  · rw [e5, e6]
    refine H a3 (zt_mv_I hI ht h12 hy (fun j hj => ?_))
    rw [if_neg (show ¬ R (1604 + f) = j by omega), Nat.add_zero]
    exact hI.2.2.2.2.2.1 j hj
  · rw [zt_p_lt h]
    refine ⟨vp_in_nI ht (by omega), vp_in_nI h (by omega), vp_in_nI h (by omega), fun b3 eb => ?_⟩
    rw [nI_clamp (by omega)] at eb
    rw [e5, e6]
    refine H b3 (zt_mv_I hI ht h12 hy (fun j hj => ?_))
    rw [eb]
    by_cases e : R (1604 + f) = j
    · rw [if_pos e, e, pk_us, hI.2.2.2.2.2.1 j hj, nI_1]
    · rw [if_neg e, pk_un (fun z => e z.symm), Nat.add_zero]
      exact hI.2.2.2.2.2.1 j hj
end
/-- map t gets what map f holds -/
def zt_M2 (M : Nat → Nat → Int32) (t f : Nat) : Nat → Nat → Int32 := fun m k => if m = t then M f k else M m k
/-- map t holds nothing -/
def zt_M3 (M : Nat → Nat → Int32) (t : Nat) : Nat → Nat → Int32 := fun m k => if m = t then 0 else M m k
section
variable {M : Nat → Nat → Int32} {a1 a2 a3 a4 a5 a6 a7 a8 : Nat → Int32} {j : Nat} {post : Int32 → St1 → Prop}
theorem zt_commit (hS : zt_S M a1 a2 a3 a4 a5) (hj : j < 3) (h0 : a4 (j + 1) = 0) (hb : ∀ i, 1 ≤ i → i < j + 1 → a4 i ≠ 0) (H : ∀ b3, zt_S (zt_M2 M (j + 1) 0) a1 a2 b3 (upd a4 (j + 1) 1) (upd a5 (j + 1) (a5 0)) → post (nI j) (a1, a2, b3, upd a4 (j + 1) 1, upd a5 (j + 1) (a5 0), upd a6 (j + 1) (a6 0), a7, a8)) : wpX_commit post (a1, a2, a3, a4, a5, a6, a7, a8) := by
  obtain ⟨R, lv, C, hI, he, ⟨q1, q2, q3⟩, hr, hM⟩ := hS
  have h12 : R 1612 = 400 := he 0 (by omega)
  have hold := q1 (j + 1) (by omega) h0
  refine pk_loop (σ := Unit) (fun q i _ => wX_commit_2 post a1 a2 a3 a4 a5 a6 a7 a8 q (nI i)) (fun i _ => 1 ≤ i) (j + 1) 1 () (by omega) (by omega) (fun q _ _ => ?_) (fun q i _ hi hi1 hw => ?_)
  · refine pk_le 8 (j + 1) (fun z => absurd z (by omega)) (fun _ => ⟨vp_in_nI (by omega) (by omega), ?_⟩)
    rw [nI_clamp (show j + 1 < 2 ^ 31 by omega)]
    refine br_t h0 ⟨vp_in_nI (by omega) (by omega), fun c4 e4 => ?_⟩
    refine zt_share (f := 0) hI hr h12 (by omega) (by omega) (fun b3 hI' => ?_)
    show post (nI (j + 1) - 1) _
    rw [nI_pred, e4]
    refine H b3 ⟨zt_mv R (j + 1) (R (1604 + 0)), lv, C, hI', fun d hd => ?_, ⟨fun m hm h => ?_, fun m hm h => ?_, ?_⟩, fun m hm => ?_, fun m hm k => ?_⟩
    · by_cases e : d = 0
      · rw [e]
        show zt_mv R (j + 1) (R (1604 + 0)) 1612 = 400
        rw [zt_mv_12 (by omega)]
        exact hold
      · rw [zt_mv_hi (by omega) (by omega)]
        exact he d hd
    · by_cases e : m = j + 1
      · rw [e, pk_us] at h
        exact absurd h (by decide)
      · rw [pk_un e] at h
        rw [zt_mv_lo (by omega) (by omega)]
        exact q1 m hm h
    · rw [pk_un (by omega)]
      exact q2 m hm h
    · rw [pk_un (by omega)]
      exact q3
    · by_cases e : m = j + 1
      · rw [e, pk_us, zt_mv_s]
        exact hr 0 (by omega)
      · rw [pk_un e, zt_mv_lo (by omega) (by omega)]
        exact hr m hm
    · unfold zt_M2
      by_cases e : m = j + 1
      · rw [if_pos e, e, zt_mv_s]
        exact hM 0 (by omega) k
      · rw [if_neg e, zt_mv_lo (by omega) (by omega)]
        exact hM m hm k
  · refine pk_le 8 i (fun z => absurd z (by omega)) (fun _ => ⟨vp_in_nI (by omega) (by omega), ?_⟩)
    rw [nI_clamp (show i < 2 ^ 31 by omega)]
    exact br_f (hb i hi1 hi) (nm_r (nI_1 i) (hw () (by omega)))
theorem zt_restore0 (hj : j < 3) (h0 : a4 (j + 1) = 0) (H : post (-1) (a1, a2, a3, a4, a5, a6, a7, a8)) : wpX_restore post (a1, a2, a3, a4, a5, a6, a7, a8) (nI j) := by
  unfold wpX_restore
  dsimp only
  rw [nI_1, nI_clamp (by omega)]
  exact br_f (nI_pos (by omega)) (br_f (nI_nlt (a := 6) (by omega) (by decide)) ⟨vp_in_nI (by omega) (by omega), br_t h0 H⟩)
theorem zt_restore (hS : zt_S M a1 a2 a3 a4 a5) (hj : j < 3) (h0 : a4 (j + 1) ≠ 0) (H : ∀ b3 b8, zt_S (zt_M2 M 0 (j + 1)) a1 a2 b3 a4 (upd a5 0 (a5 (j + 1))) → post (a6 (j + 1)) (a1, a2, b3, a4, upd a5 0 (a5 (j + 1)), upd a6 0 (a6 (j + 1)), a7, b8)) : wpX_restore post (a1, a2, a3, a4, a5, a6, a7, a8) (nI j) := by
  obtain ⟨R, lv, C, hI, he, ⟨q1, q2, q3⟩, hr, hM⟩ := hS
  have h12 : R 1612 = 400 := he 0 (by omega)
  unfold wpX_restore
  dsimp only
  rw [nI_1, nI_clamp (by omega)]
  refine br_f (nI_pos (by omega)) (br_f (nI_nlt (a := 6) (by omega) (by decide)) ⟨vp_in_nI (by omega) (by omega), br_f h0 (nm_r (e' := zt_p (R 1604)) (hr 0 (by omega)) ?_)⟩)
  refine zt_share (t := 0) hI hr h12 (show j + 1 < 8 by omega) (by omega) (fun b3 hI' => ?_)
  have e12 : zt_mv R 0 (R (1604 + (j + 1))) 1612 = R 1604 := zt_mv_12 (by omega)
  have gb := fun P hP => zt_gb (post := P) (a4 := a4) (a5 := upd a5 0 (a5 (j + 1))) (a6 := upd a6 0 (a6 (j + 1))) (a7 := a7) (a8 := a8) hI' (fun d hd h1 => by rw [zt_mv_hi (by omega) (by omega)]; exact he d hd) (fun h => by rw [e12] at h ⊢; exact hI.2.1 0 (by omega) h) hP
  rw [e12] at gb
  refine gb _ (fun R' b3' b8' hI2 he2 hR => ?_)
  show post (upd a6 0 (a6 (j + 1)) 0) _
  rw [pk_us]
  have rt0 : R' 1604 = R (1604 + (j + 1)) := by
    rw [hR 1604 (by omega) (by omega)]
    exact zt_mv_s
  have rtm : ∀ m, m < 8 → m ≠ 0 → R' (1604 + m) = R (1604 + m) := fun m hm h => by
    rw [hR _ (by omega) (by omega)]
    exact zt_mv_lo (by omega) (by omega)
  refine H b3' b8' ⟨R', lv, C, hI2, he2, ⟨fun m hm h => ?_, q2, q3⟩, fun m hm => ?_, fun m hm k => ?_⟩
  · by_cases e : m = 0
    · rw [e] at h
      exact absurd h q3
    · rw [rtm m hm e]
      exact q1 m hm h
  · by_cases e : m = 0
    · subst e
      rw [pk_us]
      show a5 (j + 1) = zt_p (R' 1604)
      rw [rt0]
      exact hr (j + 1) (by omega)
    · rw [pk_un e, rtm m hm e]
      exact hr m hm
  · unfold zt_M2
    by_cases e : m = 0
    · subst e
      rw [if_pos rfl]
      show C (R' 1604) k = _
      rw [rt0]
      exact hM (j + 1) (by omega) k
    · rw [if_neg e, rtm m hm e]
      exact hM m hm k
theorem zt_drop0 (hj : j < 3) (h0 : a4 (j + 1) = 0) (H : post (-1) (a1, a2, a3, a4, a5, a6, a7, a8)) : wpX_drop post (a1, a2, a3, a4, a5, a6, a7, a8) (nI j) := by
  unfold wpX_drop
  dsimp only
  rw [nI_1, nI_clamp (by omega)]
  exact br_f (nI_pos (by omega)) (br_f (nI_nlt (a := 6) (by omega) (by decide)) ⟨vp_in_nI (by omega) (by omega), br_t h0 H⟩)
theorem zt_drop (hS : zt_S M a1 a2 a3 a4 a5) (hj : j < 3) (h0 : a4 (j + 1) ≠ 0) (H : ∀ b3 b8, zt_S (zt_M3 M (j + 1)) a1 a2 b3 (upd a4 (j + 1) 0) (upd a5 (j + 1) (-1)) → post 0 (a1, a2, b3, upd a4 (j + 1) 0, upd a5 (j + 1) (-1), upd a6 (j + 1) 0, a7, b8)) : wpX_drop post (a1, a2, a3, a4, a5, a6, a7, a8) (nI j) := by
  obtain ⟨R, lv, C, hI, he, ⟨q1, q2, q3⟩, hr, hM⟩ := hS
  have h12 : R 1612 = 400 := he 0 (by omega)
  have e12 : zt_mv R (j + 1) 400 1612 = R (1604 + (j + 1)) := zt_mv_12 (by omega)
  have hI' : zt_I (zt_mv R (j + 1) 400) lv C a1 a2 a3 := zt_mv_I hI (by omega) h12 (Or.inl rfl) (fun i hi => by
    rw [if_neg (show ¬ 400 = i by omega), Nat.add_zero]
    exact hI.2.2.2.2.2.1 i hi)
  unfold wpX_drop
  dsimp only
  rw [nI_1, nI_clamp (by omega)]
  refine br_f (nI_pos (by omega)) (br_f (nI_nlt (a := 6) (by omega) (by decide)) ⟨vp_in_nI (by omega) (by omega), br_f h0 ⟨vp_in_nI (by omega) (by omega), fun c4 e4 => ⟨vp_in_nI (by omega) (by omega), ?_⟩⟩⟩)
  have gb := fun P hP => zt_gb (post := P) (a4 := c4) (a5 := a5) (a6 := a6) (a7 := a7) (a8 := a8) hI' (fun d hd h1 => by rw [zt_mv_hi (by omega) (by omega)]; exact he d hd) (fun h => by rw [e12] at h ⊢; exact hI.2.1 (j + 1) (by omega) h) hP
  rw [e12, ← hr (j + 1) (by omega)] at gb
  refine gb _ (fun R' b3' b8' hI2 he2 hR => ?_)
  refine ⟨vp_in_nI (by omega) (by omega), fun c5 e5 => ⟨vp_in_nI (by omega) (by omega), fun c6 e6 => ?_⟩⟩
  rw [e4, e5, e6]
  have rt0 : R' (1604 + (j + 1)) = 400 := by
    rw [hR _ (by omega) (by omega)]
    exact zt_mv_s
  have rtm : ∀ m, m < 8 → m ≠ j + 1 → R' (1604 + m) = R (1604 + m) := fun m hm h => by
    rw [hR _ (by omega) (by omega)]
    exact zt_mv_lo (by omega) (by omega)
  refine H b3' b8' ⟨R', lv, C, hI2, he2, ⟨fun m hm h => ?_, fun m hm h => ?_, ?_⟩, fun m hm => ?_, fun m hm k => ?_⟩
  · by_cases e : m = j + 1
    · rw [e]
      exact rt0
    · rw [pk_un e] at h
      rw [rtm m hm e]
      exact q1 m hm h
  · rw [pk_un (by omega)]
    exact q2 m hm h
  · rw [pk_un (by omega)]
    exact q3
  · by_cases e : m = j + 1
    · rw [e, pk_us, rt0]
      rfl
    · rw [pk_un e, rtm m hm e]
      exact hr m hm
  · unfold zt_M3
    by_cases e : m = j + 1
    · rw [if_pos e, e, rt0]
      exact hI.2.2.2.2.2.2.2.2.1 k
    · rw [if_neg e, rtm m hm e]
      exact hM m hm k
end
end
section
/-! ===== Int32 by its bits (rows of BITS.to-paste, named anew) ===== -/
def zb_b (x : Int32) (i : Nat) : Bool := x.toBitVec.getLsbD i
theorem zb_ext {x y : Int32} (h : ∀ i, i < 32 → zb_b x i = zb_b y i) : x = y := Int32.toBitVec_inj.mp (BitVec.eq_of_getLsbD_eq (fun i hi => h i hi))
theorem zb_or (x y : Int32) (i : Nat) : zb_b (x ||| y) i = (zb_b x i || zb_b y i) := by unfold zb_b; rw [Int32.toBitVec_or, BitVec.getLsbD_or]
theorem zb_and (x y : Int32) (i : Nat) : zb_b (x &&& y) i = (zb_b x i && zb_b y i) := by unfold zb_b; rw [Int32.toBitVec_and, BitVec.getLsbD_and]
theorem zb_xor (x y : Int32) (i : Nat) : zb_b (x ^^^ y) i = (zb_b x i ^^ zb_b y i) := by unfold zb_b; rw [Int32.toBitVec_xor, BitVec.getLsbD_xor]
theorem zb_m1 : ∀ i, i < 32 → zb_b (-1) i = true := by decide +kernel
theorem zb_0 (i : Nat) : zb_b 0 i = false := BitVec.getLsbD_zero
theorem zb_15 : ∀ i, i < 32 → zb_b 15 i = decide (i < 4) := by decide +kernel
theorem zb_lo : ∀ v, v < 16 → ∀ i, i < 32 → 4 ≤ i → zb_b (nI v) i = false := by decide +kernel
theorem zb_sl : ∀ n, n < 32 → ((nI n &&& 31).toBitVec.smod 32).toNat = n := by decide +kernel
theorem zb_shl (n : Nat) (hn : n < 32) (x : Int32) {i : Nat} (hi : i < 32) : zb_b (x <<< (nI n &&& 31)) i = (decide (n ≤ i) && zb_b x (i - n)) := by
  unfold zb_b
  rw [Int32.toBitVec_shiftLeft]
  show (x.toBitVec <<< ((nI n &&& 31).toBitVec.smod 32).toNat).getLsbD i = _
  rw [zb_sl n hn, BitVec.getLsbD_shiftLeft]
  rcases Nat.lt_or_ge i n with h | h
  · simp [h, Nat.not_le.mpr h]
  · simp [hi, h, Nat.not_lt.mpr h]
theorem zb_sshr (n : Nat) (hn : n < 32) (x : Int32) {i : Nat} (hi : i < 32) : zb_b (x >>> (nI n &&& 31)) i = if n + i < 32 then zb_b x (n + i) else zb_b x 31 := by
  unfold zb_b
  rw [Int32.toBitVec_shiftRight]
  show (x.toBitVec.sshiftRight ((nI n &&& 31).toBitVec.smod 32).toNat).getLsbD i = _
  rw [zb_sl n hn, BitVec.getLsbD_sshiftRight, BitVec.msb_eq_getLsbD_last]
  simp [hi]
/-! ===== the law's maps: eight values of four bits ===== -/
def zt_g (w : Int32) (i : Nat) : Int32 := (w >>> ((4 * nI i) &&& 31)) &&& 15
theorem zt_4 (i : Nat) : (4 : Int32) * nI i = nI (4 * i) := pk_mul 4 i
theorem zt_36 (i : Nat) : (36 : Int32) * nI i = nI (36 * i) := pk_mul 36 i
theorem zt_g_bit (w : Int32) {i j : Nat} (hi : i < 8) (hj : j < 32) : zb_b (zt_g w i) j = (decide (j < 4) && zb_b w (4 * i + j)) := by
  unfold zt_g
  rw [zt_4, zb_and, zb_15 j hj, zb_sshr _ (by omega) w hj]
  by_cases e : j < 4
  · rw [if_pos (by omega), Bool.and_comm]
  · rw [decide_eq_false e, Bool.and_false, Bool.false_and]
/-- the map with key's value taken away, with key's value v -/
def zt_cl (w : Int32) (key : Nat) : Int32 := w &&& (((15 : Int32) <<< ((4 * nI key) &&& 31)) ^^^ (-1))
def zt_st (w : Int32) (key : Nat) (v : Int32) : Int32 := zt_cl w key ||| (v <<< ((4 * nI key) &&& 31))
theorem zt_cl_bit (w : Int32) {key p : Nat} (hk : key < 8) (hp : p < 32) : zb_b (zt_cl w key) p = (zb_b w p && ! (decide (4 * key ≤ p) && decide (p < 4 * key + 4))) := by
  unfold zt_cl
  rw [zt_4, zb_and, zb_xor, zb_m1 p hp, zb_shl _ (by omega) _ hp, Bool.xor_true]
  by_cases e : 4 * key ≤ p
  · rw [zb_15 _ (by omega), show decide (p - 4 * key < 4) = decide (p < 4 * key + 4) from decide_eq_decide.mpr (by omega)]
  · rw [decide_eq_false e, Bool.false_and, Bool.false_and]
theorem zt_cl_g (w : Int32) {key i : Nat} (hk : key < 8) (hi : i < 8) : zt_g (zt_cl w key) i = if i = key then 0 else zt_g w i := by
  apply zb_ext
  intro j hj
  rw [zt_g_bit _ hi hj]
  by_cases e : j < 4
  · rw [zt_cl_bit w hk (by omega)]
    by_cases ei : i = key
    · rw [if_pos ei, zb_0, decide_eq_true (show 4 * key ≤ 4 * i + j by omega), decide_eq_true (show 4 * i + j < 4 * key + 4 by omega), Bool.and_self, Bool.not_true, Bool.and_false, Bool.and_false]
    · rw [if_neg ei, zt_g_bit w hi hj]
      have q : (decide (4 * key ≤ 4 * i + j) && decide (4 * i + j < 4 * key + 4)) = false := by
        by_cases e2 : 4 * key ≤ 4 * i + j
        · rw [decide_eq_false (show ¬ 4 * i + j < 4 * key + 4 by omega), Bool.and_false]
        · rw [decide_eq_false e2, Bool.false_and]
      rw [q, Bool.not_false, Bool.and_true]
  · rw [decide_eq_false e, Bool.false_and]
    by_cases ei : i = key
    · rw [if_pos ei, zb_0]
    · rw [if_neg ei, zt_g_bit w hi hj, decide_eq_false e, Bool.false_and]
theorem zt_st_g (w : Int32) {key i v : Nat} (hk : key < 8) (hi : i < 8) (hv : v < 16) : zt_g (zt_st w key (nI v)) i = if i = key then nI v else zt_g w i := by
  apply zb_ext
  intro j hj
  rw [zt_g_bit _ hi hj]
  unfold zt_st
  by_cases e : j < 4
  · rw [zb_or, zt_cl_bit w hk (by omega), zt_4, zb_shl _ (by omega) _ (by omega), decide_eq_true e, Bool.true_and]
    by_cases ei : i = key
    · rw [if_pos ei, decide_eq_true (show 4 * key ≤ 4 * i + j by omega), decide_eq_true (show 4 * i + j < 4 * key + 4 by omega), Bool.and_self, Bool.not_true, Bool.and_false, Bool.false_or, Bool.true_and, show 4 * i + j - 4 * key = j by omega]
    · rw [if_neg ei, zt_g_bit w hi hj, decide_eq_true e, Bool.true_and]
      by_cases e2 : 4 * key ≤ 4 * i + j
      · rw [decide_eq_false (show ¬ 4 * i + j < 4 * key + 4 by omega), Bool.and_false, Bool.not_false, Bool.and_true, zb_lo v hv _ (by omega) (by omega), Bool.and_false, Bool.or_false]
      · rw [decide_eq_false e2, Bool.false_and, Bool.not_false, Bool.and_true, Bool.false_and, Bool.or_false]
  · rw [decide_eq_false e, Bool.false_and]
    by_cases ei : i = key
    · rw [if_pos ei, zb_lo v hv j hj (by omega)]
    · rw [if_neg ei, zt_g_bit w hi hj, decide_eq_false e, Bool.false_and]
/-- what the law's map w binds a key of the tree to -/
def zt_co (w : Int32) (k : Nat) : Int32 := if k % 36 = 0 then zt_g w (k / 36) else 0
theorem zt_co_36 (w : Int32) (i : Nat) : zt_co w (36 * i) = zt_g w i := by
  unfold zt_co
  rw [if_pos (by omega), show 36 * i / 36 = i by omega]
theorem zt_co_no (w : Int32) {k : Nat} (h : ¬ k % 36 = 0) : zt_co w k = 0 := if_neg h
theorem zt_co_st (w : Int32) {key v k : Nat} (hk : key < 8) (hv : v < 16) (h : k < 256) : zt_co (zt_st w key (nI v)) k = if k % 256 = 36 * key % 256 then nI v else zt_co w k := by
  unfold zt_co
  by_cases e : k % 36 = 0
  · rw [if_pos e, if_pos e, zt_st_g w hk (by omega) hv]
    by_cases e2 : k / 36 = key
    · rw [if_pos e2, if_pos (by omega)]
    · rw [if_neg e2, if_neg (by omega)]
  · rw [if_neg e, if_neg e, if_neg (fun z => by rw [Nat.mod_eq_of_lt h, Nat.mod_eq_of_lt (show 36 * key < 256 by omega)] at z; omega)]
theorem zt_co_cl (w : Int32) {key k : Nat} (hk : key < 8) (h : k < 256) : zt_co (zt_cl w key) k = if k % 256 = 36 * key % 256 then 0 else zt_co w k := by
  unfold zt_co
  by_cases e : k % 36 = 0
  · rw [if_pos e, if_pos e, zt_cl_g w hk (by omega)]
    by_cases e2 : k / 36 = key
    · rw [if_pos e2, if_pos (by omega)]
    · rw [if_neg e2, if_neg (by omega)]
  · rw [if_neg e, if_neg e, if_neg (fun z => by rw [Nat.mod_eq_of_lt h, Nat.mod_eq_of_lt (show 36 * key < 256 by omega)] at z; omega)]
/-- how many keys are bound -/
def zt_o (w : Int32) : Nat := zt_ct (fun i => decide (zt_g w i ≠ 0)) 8
theorem zt_o_le (w : Int32) : zt_o w ≤ 8 := zt_ct_le 8
theorem zt_o_ch {w w' : Int32} {key : Nat} (hk : key < 8) (h : ∀ i, i < 8 → i ≠ key → zt_g w' i = zt_g w i) : zt_o w' + (if zt_g w key = 0 then 0 else 1) = zt_o w + (if zt_g w' key = 0 then 0 else 1) := by
  have q := zt_ct_one (p := fun i => decide (zt_g w' i ≠ 0)) (q := fun i => decide (zt_g w i ≠ 0)) (s := key) 8 hk (fun j hj ne => by rw [h j hj ne])
  have f : ∀ x : Int32, (if decide (x ≠ 0) = true then 1 else 0) = (if x = 0 then 0 else 1) := fun x => by
    by_cases e : x = 0
    · rw [if_pos e, if_neg (by rw [e]; decide)]
    · rw [if_neg e, if_pos (decide_eq_true e)]
  rw [f, f] at q
  exact q
theorem zt_ones {post : Int32 → Prop} {u : St2} {w : Int32} (hp : post (nI (zt_o w))) : wpL_ones post u w := by
  refine pk_loop (σ := Unit) (fun q i _ => wL_ones_4 post w q (nI (zt_ct (fun i => decide (zt_g w i ≠ 0)) i)) (nI i)) (fun _ _ => True) 8 0 () (by omega) trivial (fun q _ _ => pk_le 8 8 (fun _ => hp) (fun z => absurd z (by omega))) (fun q i _ hi _ hw => pk_le 8 i (fun z => absurd z (by omega)) (fun _ => ?_))
  have hn : wL_ones_4 post w q (nI (zt_ct (fun i => decide (zt_g w i ≠ 0)) (i + 1))) (nI (i + 1)) := hw () trivial
  rw [zt_ct] at hn
  refine br_c (fun e => nm_r (nI_1 i) ?_) (fun e => nm_r (nI_1 _) (nm_r (nI_1 i) ?_))
  · have e' : zt_g w i = 0 := e
    rw [if_neg (by rw [e']; decide)] at hn
    exact hn
  · have e' : zt_g w i ≠ 0 := e
    rw [if_pos (decide_eq_true e')] at hn
    exact hn
theorem zt_ct_succ (p : Nat → Bool) (k : Nat) : zt_ct p (k + 1) = zt_ct p k + (if p k = true then 1 else 0) := rfl
theorem zt_c36 {D E : Nat → Bool} (h1 : ∀ k, k < 256 → ¬ k % 36 = 0 → D k = false) (h2 : ∀ i, i < 8 → D (36 * i) = E i) : zt_ct D 256 = zt_ct E 8 := by
  have main : ∀ i, i ≤ 7 → zt_ct D (36 * i) = zt_ct E i := by
    intro i
    induction i with
    | zero => intro _; rfl
    | succ i ih =>
      intro hi
      have e1 : zt_ct D (36 * (i + 1)) = zt_ct D (36 * i + 1) := zt_ct_skip _ (by omega) (fun s z1 z2 => h1 s (by omega) (by omega))
      rw [e1, zt_ct, zt_ct, ih (by omega), h2 i (by omega)]
  have e1 : zt_ct D 256 = zt_ct D (36 * 7 + 1) := zt_ct_skip 256 (by omega) (fun s z1 z2 => h1 s z2 (by omega))
  rw [e1, zt_ct_succ D (36 * 7), main 7 (by omega), h2 7 (by omega)]
  exact (zt_ct_succ E 7).symm
theorem zt_fst_u {M N : Nat → Int32} {f r r' : Nat} (h : zt_fst M f r) (h' : zt_fst N f r') (e : ∀ k, k < 256 → M k = N k) : r = r' := by
  obtain ⟨x1, x2, x3⟩ := h
  obtain ⟨y1, y2, y3⟩ := h'
  rcases Nat.lt_trichotomy r r' with z | z | z
  · obtain ⟨q1, q2⟩ := x3 (by omega)
    have q3 := y2 r q1 z
    rw [← e r (by omega)] at q3
    exact absurd q3 q2
  · exact z
  · obtain ⟨q1, q2⟩ := y3 (by omega)
    have q3 := x2 r' q1 z
    rw [e r' (by omega)] at q3
    exact absurd q3 q2
/-! ===== shows ===== -/
section
variable {R lv : Nat → Nat} {C M : Nat → Nat → Int32} {a1 a2 a3 a4 a5 a6 a7 a8 : Nat → Int32} {post : Int32 → Prop}
theorem zt_s92 {J : Int32 → Int32 → Int32 → Prop} {p q w v x5 : Int32} {m i f : Nat} (hI : zt_I R lv C a1 a2 a3) (hr : zt_rt R a5) (ha : zt_ar p m) (h4 : a4 m ≠ 0) (hi : i < 8) (hc : ∀ k, k < 256 → C (R (1604 + m)) k = zt_co w k) (hf : zt_fst (zt_co w) (36 * i) f)
    (hJ0 : zt_g w i = zt_g v i → J x5 (nI f) (zt_m1 i)) (hJ1 : zt_g w i ≠ zt_g v i → J (x5 + 1) (nI f) (zt_m1 i)) : wL_shows_92 post J p w v q x5 (nI f) (nI i) (zt_g w i) a1 a2 a3 a4 a5 a6 a7 a8 := by
  unfold wL_shows_92
  rw [zt_36]
  refine zt_next hI hr ha h4 (by omega) (fun r hr' => ?_)
  have e := zt_fst_u hr' hf hc
  rw [e]
  refine br_t rfl ?_
  exact br_c (fun e => nm_r (zt_m1_eq i) (hJ0 e)) (fun e => nm_e (nm_r (zt_m1_eq i) (hJ1 e)))
theorem zt_s60x {J : Int32 → Int32 → Int32 → Prop} {p q w v x5 z : Int32} {m i f : Nat} (hI : zt_I R lv C a1 a2 a3) (hr : zt_rt R a5) (ha : zt_ar p m) (h4 : a4 m ≠ 0) (hi : i < 8) (hc : ∀ k, k < 256 → C (R (1604 + m)) k = zt_co w k) (hf : zt_fst (zt_co w) (36 * (i + 1)) f)
    (hJ0 : ∀ f', zt_fst (zt_co w) (36 * i) f' → zt_g w i = zt_g v i → J x5 (nI f') (zt_m1 i)) (hJ1 : ∀ f', zt_fst (zt_co w) (36 * i) f' → zt_g w i ≠ zt_g v i → J (x5 + 1) (nI f') (zt_m1 i)) : wL_shows_60 post J p w v q x5 (nI f) (nI i) (zt_g w i) z z a1 a2 a3 a4 a5 a6 a7 a8 := by
  unfold wL_shows_60
  rw [zt_36, nI_1]
  refine br_t rfl (zt_has hI hr ha h4 (by omega) (fun _ => br_t rfl ?_) (fun e => absurd (hc (36 * i + 1) (by omega)) (by rw [zt_co_no w (by omega)]; exact e)))
  obtain ⟨f1, f2, f3⟩ := hf
  refine br_c (fun e => ?_) (fun e => nm_e ?_)
  · have hf' : zt_fst (zt_co w) (36 * i) f := by
      refine ⟨f1, fun k h1 h2 => ?_, fun h => ?_⟩
      · by_cases z1 : 36 * (i + 1) ≤ k
        · exact f2 k z1 h2
        · by_cases z2 : k = 36 * i
          · rw [z2, zt_co_36]
            exact e
          · exact zt_co_no w (by omega)
      · obtain ⟨y1, y2⟩ := f3 h
        exact ⟨by omega, y2⟩
    exact zt_s92 hI hr ha h4 hi hc hf' (hJ0 f hf') (hJ1 f hf')
  · have hf' : zt_fst (zt_co w) (36 * i) (36 * i) := ⟨by omega, fun k h1 h2 => absurd h2 (by omega), fun _ => ⟨by omega, by rw [zt_co_36]; exact e⟩⟩
    exact zt_s92 hI hr ha h4 hi hc hf' (hJ0 _ hf') (hJ1 _ hf')
theorem zt_shows {p q w v : Int32} {m b : Nat} (hI : zt_I R lv C a1 a2 a3) (hr : zt_rt R a5) (ha : zt_ar p m) (hb : zt_ar q b) (h4 : a4 m ≠ 0) (h4b : a4 b ≠ 0) (hc : ∀ k, k < 256 → C (R (1604 + m)) k = zt_co w k) (hcb : ∀ k, k < 256 → C (R (1604 + b)) k = zt_co v k) (h6 : a6 m = nI (zt_o w)) (hp : post 1) : wpL_shows post (a1, a2, a3, a4, a5, a6, a7, a8) p w v q := by
  have hD : ∀ E : Nat → Bool, (∀ i, E i = decide (zt_g w i ≠ zt_g v i)) → zt_ct (fun k => decide (C (R (1604 + m)) k ≠ C (R (1604 + b)) k)) 256 = zt_ct E 8 := by
    intro E hE
    refine zt_c36 (fun k hk h => ?_) (fun i hi => ?_)
    · rw [hc k hk, hcb k hk, zt_co_no w h, zt_co_no v h]
      decide
    · rw [hc _ (by omega), hcb _ (by omega), zt_co_36, zt_co_36, hE i]
  have L := pk_loopD (σ := Nat × Nat) (fun n j s => wL_shows_12 post p w v q a1 a2 a3 a4 a5 a6 a7 a8 n (nI s.1) (nI s.2) (zt_m1 j)) (fun j s => j ≤ 8 ∧ s.1 + zt_ct (fun i => decide (zt_g w i ≠ zt_g v i)) j = zt_ct (fun i => decide (zt_g w i ≠ zt_g v i)) 8 ∧ zt_fst (zt_co w) (36 * j) s.2) (fun n s hs => ?_) (fun n i s hs hw => ?_) 8 (0, 256) ⟨by omega, by show 0 + _ = _; omega, by show 256 ≤ 256; omega, fun k h1 h2 => absurd h1 (by have h2' : k < 256 := h2; omega), fun h => absurd h (by show ¬ 256 < 256; omega)⟩
  · exact ⟨9, L⟩
  · obtain ⟨c, f⟩ := s
    obtain ⟨_, e, _⟩ := hs
    have e' : c = zt_ct (fun i => decide (zt_g w i ≠ zt_g v i)) 8 := e
    refine br_t (by decide) (zt_size ha h4 ?_)
    rw [h6]
    refine zt_ones (br_t rfl (zt_changes hI hr ha hb h4 h4b (fun _ => rfl) (fun c' ec => br_t ?_ hp)))
    rw [ec, hD _ (fun _ => rfl), ← e']
  · obtain ⟨c, f⟩ := s
    obtain ⟨h8, e, hf⟩ := hs
    dsimp only at e hf
    have hi : i < 8 := by omega
    rw [zt_ct] at e
    have e36 : C (R (1604 + m)) (36 * i) = zt_g w i := by rw [hc _ (by omega), zt_co_36]
    have hJ0 : ∀ f', zt_fst (zt_co w) (36 * i) f' → zt_g w i = zt_g v i → wL_shows_12 post p w v q a1 a2 a3 a4 a5 a6 a7 a8 n (nI c) (nI f') (zt_m1 i) := by
      intro f' hf' eq
      refine hw (c, f') ⟨by omega, ?_, hf'⟩
      rw [if_neg (by rw [eq]; simp)] at e
      exact e
    have hJ1 : ∀ f', zt_fst (zt_co w) (36 * i) f' → zt_g w i ≠ zt_g v i → wL_shows_12 post p w v q a1 a2 a3 a4 a5 a6 a7 a8 n (nI c + 1) (nI f') (zt_m1 i) := by
      intro f' hf' ne
      rw [nI_1]
      refine hw (c + 1, f') ⟨by omega, ?_, hf'⟩
      rw [if_pos (decide_eq_true ne)] at e
      show c + 1 + zt_ct (fun i => decide (zt_g w i ≠ zt_g v i)) i = _
      omega
    have go := fun z => zt_s60x (post := post) (q := q) (z := z) (a6 := a6) (a7 := a7) (a8 := a8) hI hr ha h4 hi hc hf hJ0 hJ1
    show wL_shows_12 post p w v q a1 a2 a3 a4 a5 a6 a7 a8 (n + 1) (nI c) (nI f) (nI i)
    refine br_f (nI_pos (by omega)) ?_
    unfold wpL_get
    rw [show (w >>> ((4 * nI i) &&& 31)) &&& 15 = zt_g w i from rfl, zt_36]
    refine zt_get hI hr ha h4 (by omega) (br_t e36 ?_)
    refine zt_has hI hr ha h4 (by omega) (fun ez => br_t (by rw [e36] at ez; exact ez) (go 0)) (fun ez => br_f (by rw [e36] at ez; exact ez) (go 1))
end
end
section
/-! ===== the law ===== -/
def zt_pk (a b c : Int32) (j : Nat) : Int32 := if j = 0 then a else if j = 1 then b else c
/-- the law's picture: the working map w, the snapshots a b c, u says which of them are there -/
def zt_J (w a b c : Int32) (u : Nat) (a1 a2 a3 a4 a5 a6 : Nat → Int32) : Prop :=
  u < 8 ∧ ∃ M, zt_S M a1 a2 a3 a4 a5 ∧ (∀ k, k < 256 → M 0 k = zt_co w k) ∧ a6 0 = nI (zt_o w) ∧ ∀ j, j < 3 → (u / 2 ^ j % 2 = 0 → a4 (j + 1) = 0) ∧ (u / 2 ^ j % 2 = 1 → a4 (j + 1) ≠ 0 ∧ (∀ k, k < 256 → M (j + 1) k = zt_co (zt_pk a b c j) k) ∧ a6 (j + 1) = nI (zt_o (zt_pk a b c j)))
theorem zt_ub : ∀ u, u < 8 → ∀ s, s < 3 → ((nI u >>> (nI s &&& 31)) &&& 1 = 0 ↔ u / 2 ^ s % 2 = 0) := by decide +kernel
theorem zt_uor : ∀ u, u < 8 → ∀ s, s < 3 → u / 2 ^ s % 2 = 0 → nI u ||| ((1 : Int32) <<< (nI s &&& 31)) = nI (u + 2 ^ s) := by decide +kernel
theorem zt_ucl : ∀ u, u < 8 → ∀ s, s < 3 → nI u &&& (((1 : Int32) <<< (nI s &&& 31)) ^^^ (-1)) = nI (u - u / 2 ^ s % 2 * 2 ^ s) := by decide +kernel
theorem zt_uo2 : ∀ u, u < 8 → ∀ s, s < 3 → u / 2 ^ s % 2 = 0 → u + 2 ^ s < 8 ∧ ∀ t, t < 3 → (u + 2 ^ s) / 2 ^ t % 2 = if t = s then 1 else u / 2 ^ t % 2 := by decide +kernel
theorem zt_uc2 : ∀ u, u < 8 → ∀ s, s < 3 → ∀ t, t < 3 → (u - u / 2 ^ s % 2 * 2 ^ s) / 2 ^ t % 2 = if t = s then 0 else u / 2 ^ t % 2 := by decide +kernel
theorem zt_u12 : ∀ u, u < 8 → (nI u &&& 1 = 0 ↔ u / 2 ^ 0 % 2 = 0) ∧ (nI u &&& 2 = 0 ↔ u / 2 ^ 1 % 2 = 0) ∧ (u ≠ 7 → ¬ u / 2 ^ 0 % 2 = 0 → ¬ u / 2 ^ 1 % 2 = 0 → u / 2 ^ 2 % 2 = 0) := by decide +kernel
theorem zt_bit01 (x : Nat) (h : ¬ x % 2 = 0) : x % 2 = 1 := by omega
theorem zt_ar0 : zt_ar (-1) 0 := ⟨by decide, by decide, by decide, by decide⟩
theorem zt_arj : ∀ j, j < 3 → (¬ nI j < -1 ∧ ¬ 6 < nI j ∧ nI j + 1 = nI (j + 1) ∧ j + 1 < 8) := by decide +kernel
theorem zt_pick {post : Int32 → Prop} {u : St2} {a b c : Int32} {j : Nat} (hj : j < 3) (h : post (zt_pk a b c j)) : wpL_pick post u (nI j) a b c := by
  unfold zt_pk at h
  refine pk_eq j 0 (fun z => ?_) (fun z => pk_eq j 1 (fun z2 => ?_) (fun z2 => ?_))
  · rw [if_pos z] at h
    exact h
  · rw [if_neg z, if_pos z2] at h
    exact h
  · rw [if_neg z, if_neg z2] at h
    exact h
section
variable {post : Int32 → Prop} {L kc ks : Nat} {xs : Nat → Int32} {J24 : Int32 → Int32 → Int32 → Int32 → Int32 → Int32 → (Nat → Int32) → (Nat → Int32) → (Nat → Int32) → (Nat → Int32) → (Nat → Int32) → (Nat → Int32) → (Nat → Int32) → (Nat → Int32) → Prop} {w a b c x7 : Int32} {u : Nat} {a1 a2 a3 a4 a5 a6 a7 a8 : Nat → Int32}
theorem zt_404 (hJ : zt_J w a b c u a1 a2 a3 a4 a5 a6) (HK : J24 w a b c (nI u) (x7 + 3) a1 a2 a3 a4 a5 a6 a7 a8) : wL_law_404 post L xs J24 w a b c (nI u) x7 kc ks a1 a2 a3 a4 a5 a6 a7 a8 := by
  obtain ⟨hu, M, ⟨R, lv, C, hI, he, ⟨q1, q2, q3⟩, hr, hM⟩, hw, h6, hj⟩ := hJ
  have hcw : ∀ k, k < 256 → C (R (1604 + 0)) k = zt_co w k := fun k hk => by rw [hM 0 (by omega) k, hw k hk]
  refine zt_shows hI hr zt_ar0 zt_ar0 q3 q3 hcw hcw h6 (br_f (by decide) ?_)
  refine pk_loop (σ := Unit) (fun q i _ => wL_law_420 post L xs J24 w a b c (nI u) x7 kc ks a1 a2 a3 a4 a5 a6 a7 a8 q (nI i)) (fun _ _ => True) 3 0 () (by omega) trivial (fun q _ _ => pk_le 3 3 (fun _ => nm_e HK) (fun z => absurd z (by omega))) (fun q i _ hi _ hw' => pk_le 3 i (fun z => absurd z (by omega)) (fun _ => zt_pick hi ?_))
  have hb := zt_ub u hu i hi
  obtain ⟨j0, j1⟩ := hj i hi
  refine ⟨fun e => zt_size0 (zt_arj i hi) (j0 (hb.mp e)) (br_t rfl (nm_r (nI_1 i) (hw' () trivial))), fun e => ?_⟩
  obtain ⟨y1, y2, y3⟩ := j1 (zt_bit01 _ (fun z => e (hb.mpr z)))
  exact zt_shows hI hr (zt_arj i hi) zt_ar0 y1 q3 (fun k hk => by rw [hM (i + 1) (by omega) k, y2 k hk]) hcw y3 (br_f (by decide) (nm_r (nI_1 i) (hw' () trivial)))
/-- the picture with another working map -/
theorem zt_J_w {M' : Nat → Nat → Int32} {w' : Int32} {b1 b2 b3 b5 b6 : Nat → Int32} (hu : u < 8) {M : Nat → Nat → Int32} (hj : ∀ j, j < 3 → (u / 2 ^ j % 2 = 0 → a4 (j + 1) = 0) ∧ (u / 2 ^ j % 2 = 1 → a4 (j + 1) ≠ 0 ∧ (∀ k, k < 256 → M (j + 1) k = zt_co (zt_pk a b c j) k) ∧ a6 (j + 1) = nI (zt_o (zt_pk a b c j))))
    (hS : zt_S M' b1 b2 b3 a4 b5) (h0 : ∀ k, k < 256 → M' 0 k = zt_co w' k) (hm : ∀ j k, M' (j + 1) k = M (j + 1) k) (h6 : b6 0 = nI (zt_o w')) (h6' : ∀ j, b6 (j + 1) = a6 (j + 1)) : zt_J w' a b c u b1 b2 b3 a4 b5 b6 := by
  refine ⟨hu, M', hS, h0, h6, fun j hj3 => ⟨(hj j hj3).1, fun e => ?_⟩⟩
  obtain ⟨y1, y2, y3⟩ := (hj j hj3).2 e
  exact ⟨y1, fun k hk => by rw [hm j k, y2 k hk], by rw [h6' j, y3]⟩
theorem zt_lput {key v : Nat} (hJ : zt_J w a b c u a1 a2 a3 a4 a5 a6) (hk : key < 8) (hv1 : 1 ≤ v) (hv : v < 16) {P : Int32 → St1 → Prop}
    (HP : ∀ b1 b2 b3 b5 b6 b7, zt_J (zt_st w key (nI v)) a b c u b1 b2 b3 a4 b5 b6 → P (nI (zt_o (zt_st w key (nI v)))) (b1, b2, b3, a4, b5, b6, b7, a8)) : wpX_put P (a1, a2, a3, a4, a5, a6, a7, a8) (36 * nI key) (nI v) := by
  obtain ⟨hu, M, hS, hw, h6, hj⟩ := hJ
  have hle := zt_o_le w
  have hv0 : nI v ≠ 0 := nI_ne0 (by omega) (by omega)
  have e0 : M 0 (36 * key) = zt_g w key := by rw [hw _ (by omega), zt_co_36]
  have ch := zt_o_ch (w := w) (w' := zt_st w key (nI v)) hk (fun i hi ne => by rw [zt_st_g w hk hi hv, if_neg ne])
  rw [zt_st_g w hk hk hv, if_pos rfl, if_neg hv0] at ch
  have h0 : ∀ k, k < 256 → zt_M1 M (36 * key) (nI v) 0 k = zt_co (zt_st w key (nI v)) k := by
    intro k hk'
    rw [zt_co_st w hk hv hk', ← hw k hk']
    unfold zt_M1
    by_cases e : k % 256 = 36 * key % 256
    · rw [if_pos e, if_pos ⟨rfl, e⟩]
    · rw [if_neg e, if_neg (fun z => e z.2)]
  have hm : ∀ j k, zt_M1 M (36 * key) (nI v) (j + 1) k = M (j + 1) k := fun j k => if_neg (fun z => absurd z.1 (by omega))
  rw [zt_36]
  refine zt_put hS (by omega) (by omega) hv0 (by rw [h6]; exact nI_lt (b := 16) (by omega) (by omega)) (fun z b1 b2 b3 b5 b7 hS' => ?_) (fun z b1 b2 b3 b5 b7 hS' => ?_)
  · rw [e0] at z
    rw [if_pos z] at ch
    have e6 : a6 0 + 1 = nI (zt_o (zt_st w key (nI v))) := by
      rw [h6, nI_1]
      exact congrArg nI (by omega)
    rw [e6]
    exact HP b1 b2 b3 b5 _ b7 (zt_J_w hu hj hS' h0 hm pk_us (fun j => pk_un (by omega)))
  · rw [e0] at z
    rw [if_neg z] at ch
    have e6 : a6 0 + 0 = nI (zt_o (zt_st w key (nI v))) := by
      rw [h6, Int32.add_zero]
      exact congrArg nI (by omega)
    rw [e6]
    exact HP b1 b2 b3 b5 _ b7 (zt_J_w hu hj hS' h0 hm pk_us (fun j => pk_un (by omega)))
theorem zt_lrem {key : Nat} (hJ : zt_J w a b c u a1 a2 a3 a4 a5 a6) (hk : key < 8) {P : Int32 → St1 → Prop}
    (H0 : zt_g w key = 0 → zt_J (zt_cl w key) a b c u a1 a2 a3 a4 a5 a6 → P (-1) (a1, a2, a3, a4, a5, a6, a7, a8))
    (H1 : zt_g w key ≠ 0 → ∀ b1 b2 b3 b5 b6 b7, zt_J (zt_cl w key) a b c u b1 b2 b3 a4 b5 b6 → P (nI (zt_o (zt_cl w key))) (b1, b2, b3, a4, b5, b6, b7, a8)) : wpX_remove P (a1, a2, a3, a4, a5, a6, a7, a8) (36 * nI key) := by
  obtain ⟨hu, M, hS, hw, h6, hj⟩ := hJ
  have hle := zt_o_le w
  have e0 : M 0 (36 * key) = zt_g w key := by rw [hw _ (by omega), zt_co_36]
  have ch := zt_o_ch (w := w) (w' := zt_cl w key) hk (fun i hi ne => by rw [zt_cl_g w hk hi, if_neg ne])
  rw [zt_cl_g w hk hk, if_pos rfl, if_pos rfl] at ch
  rw [zt_36]
  refine zt_remove hS (by omega) (by omega) (fun z => ?_) (fun z b1 b2 b3 b5 b7 hS' => ?_)
  · rw [e0] at z
    rw [if_pos z] at ch
    refine H0 z (zt_J_w hu hj hS (fun k hk' => ?_) (fun _ _ => rfl) (by rw [h6]; exact congrArg nI (by omega)) (fun _ => rfl))
    rw [zt_co_cl w hk hk', hw k hk']
    by_cases e : k % 256 = 36 * key % 256
    · rw [Nat.mod_eq_of_lt hk', Nat.mod_eq_of_lt (show 36 * key < 256 by omega)] at e
      rw [if_pos (by rw [e]), e, zt_co_36]
      exact z
    · rw [if_neg e]
  · rw [e0] at z
    rw [if_neg z] at ch
    have e6 : a6 0 - 1 = nI (zt_o (zt_cl w key)) := by
      rw [h6, show zt_o w = zt_o (zt_cl w key) + 1 by omega, nI_pred]
    rw [e6]
    refine H1 z b1 b2 b3 b5 _ b7 (zt_J_w hu hj hS' (fun k hk' => ?_) (fun j k => if_neg (fun z => absurd z.1 (by omega))) pk_us (fun j => pk_un (by omega)))
    rw [zt_co_cl w hk hk', ← hw k hk']
    unfold zt_M1
    by_cases e : k % 256 = 36 * key % 256
    · rw [if_pos e, if_pos ⟨rfl, e⟩]
    · rw [if_neg e, if_neg (fun z => e z.2)]
theorem zt_lcom {j : Nat} (hJ : zt_J w a b c u a1 a2 a3 a4 a5 a6) (hj3 : j < 3) (h0 : u / 2 ^ j % 2 = 0) (hb : ∀ i, i < j → u / 2 ^ i % 2 = 1) {P : Int32 → St1 → Prop}
    (HP : ∀ b3 b4 b5 b6, (∀ a' b' c', (∀ i, i < 3 → zt_pk a' b' c' i = if i = j then w else zt_pk a b c i) → zt_J w a' b' c' (u + 2 ^ j) a1 a2 b3 b4 b5 b6) → P (nI j) (a1, a2, b3, b4, b5, b6, a7, a8)) : wpX_commit P (a1, a2, a3, a4, a5, a6, a7, a8) := by
  obtain ⟨hu, M, hS, hw, h6, hj⟩ := hJ
  obtain ⟨u1, u2⟩ := zt_uo2 u hu j hj3 h0
  refine zt_commit hS hj3 ((hj j hj3).1 h0) (fun i h1 h2 => ?_) (fun b3 hS' => HP b3 _ _ _ (fun a' b' c' hp => ?_))
  · have q := ((hj (i - 1) (by omega)).2 (hb (i - 1) (by omega))).1
    rw [show i - 1 + 1 = i by omega] at q
    exact q
  · refine ⟨u1, _, hS', fun k hk => ?_, by rw [pk_un (by omega)]; exact h6, fun i hi => ?_⟩
    · unfold zt_M2
      rw [if_neg (by omega)]
      exact hw k hk
    · rw [u2 i hi, hp i hi]
      by_cases e : i = j
      · rw [if_pos e, if_pos e, e, pk_us, pk_us]
        refine ⟨fun z => absurd z (by omega), fun _ => ⟨by decide, fun k hk => ?_, h6⟩⟩
        unfold zt_M2
        rw [if_pos rfl]
        exact hw k hk
      · rw [if_neg e, if_neg e, pk_un (show i + 1 ≠ j + 1 by omega), pk_un (show i + 1 ≠ j + 1 by omega)]
        refine ⟨(hj i hi).1, fun z => ?_⟩
        obtain ⟨y1, y2, y3⟩ := (hj i hi).2 z
        refine ⟨y1, fun k hk => ?_, y3⟩
        unfold zt_M2
        rw [if_neg (by omega)]
        exact y2 k hk
theorem zt_lres {s : Nat} (hJ : zt_J w a b c u a1 a2 a3 a4 a5 a6) (hs : s < 3) (h1 : u / 2 ^ s % 2 = 1) {P : Int32 → St1 → Prop}
    (HP : ∀ b3 b5 b6 b8, zt_J (zt_pk a b c s) a b c u a1 a2 b3 a4 b5 b6 → P (nI (zt_o (zt_pk a b c s))) (a1, a2, b3, a4, b5, b6, a7, b8)) : wpX_restore P (a1, a2, a3, a4, a5, a6, a7, a8) (nI s) := by
  obtain ⟨hu, M, hS, hw, h6, hj⟩ := hJ
  obtain ⟨y1, y2, y3⟩ := (hj s hs).2 h1
  refine zt_restore hS hs y1 (fun b3 b8 hS' => ?_)
  rw [y3]
  refine HP b3 _ _ b8 (zt_J_w hu hj hS' (fun k hk => ?_) (fun j k => ?_) pk_us (fun j => pk_un (by omega)))
  · unfold zt_M2
    rw [if_pos rfl]
    exact y2 k hk
  · unfold zt_M2
    rw [if_neg (by omega)]
theorem zt_ldrop {s : Nat} (hJ : zt_J w a b c u a1 a2 a3 a4 a5 a6) (hs : s < 3) (h1 : u / 2 ^ s % 2 = 1) {P : Int32 → St1 → Prop}
    (HP : ∀ b3 b4 b5 b6 b8, zt_J w a b c (u - u / 2 ^ s % 2 * 2 ^ s) a1 a2 b3 b4 b5 b6 → P 0 (a1, a2, b3, b4, b5, b6, a7, b8)) : wpX_drop P (a1, a2, a3, a4, a5, a6, a7, a8) (nI s) := by
  obtain ⟨hu, M, hS, hw, h6, hj⟩ := hJ
  obtain ⟨y1, y2, y3⟩ := (hj s hs).2 h1
  have u2 := zt_uc2 u hu s hs
  refine zt_drop hS hs y1 (fun b3 b8 hS' => HP b3 _ _ _ b8 ⟨by omega, _, hS', fun k hk => ?_, by rw [pk_un (by omega)]; exact h6, fun i hi => ?_⟩)
  · unfold zt_M3
    rw [if_neg (by omega)]
    exact hw k hk
  · rw [u2 i hi]
    by_cases e : i = s
    · rw [if_pos e, e, pk_us]
      exact ⟨fun _ => rfl, fun z => absurd z (by omega)⟩
    · rw [if_neg e, pk_un (show i + 1 ≠ s + 1 by omega), pk_un (show i + 1 ≠ s + 1 by omega)]
      refine ⟨(hj i hi).1, fun z => ?_⟩
      obtain ⟨z1, z2, z3⟩ := (hj i hi).2 z
      refine ⟨z1, fun k hk => ?_, z3⟩
      unfold zt_M3
      rw [if_neg (by omega)]
      exact z2 k hk
theorem zt_250 {j : Nat} (hJ : zt_J w a b c u a1 a2 a3 a4 a5 a6) (hj3 : j < 3) (h0 : u / 2 ^ j % 2 = 0) (hb : ∀ i, i < j → u / 2 ^ i % 2 = 1)
    (F : ∀ w a b c u b1 b2 b3 b4 b5 b6 b7 b8, zt_J w a b c u b1 b2 b3 b4 b5 b6 → wL_law_404 post L xs J24 w a b c (nI u) x7 kc ks b1 b2 b3 b4 b5 b6 b7 b8) : wL_law_250 post L xs J24 w a b c (nI u) x7 (nI j) kc ks a1 a2 a3 a4 a5 a6 a7 a8 := by
  have hu := hJ.1
  unfold wL_law_250
  refine zt_lcom hJ hj3 h0 hb (fun b3 b4 b5 b6 hJ' => br_t rfl (nm_r (zt_uor u hu j hj3 h0) ?_))
  have hj' : j = 0 ∨ j = 1 ∨ j = 2 := by omega
  rcases hj' with e | e | e
  · subst e
    refine br_t rfl (br_f (by decide) (br_f (by decide) (F _ _ _ _ _ _ _ _ _ _ _ _ _ (hJ' w b c (fun i hi => ?_)))))
    have hi' : i = 0 ∨ i = 1 ∨ i = 2 := by omega
    rcases hi' with e | e | e <;> subst e <;> rfl
  · subst e
    refine br_f (by decide) (br_t rfl (br_f (by decide) (F _ _ _ _ _ _ _ _ _ _ _ _ _ (hJ' a w c (fun i hi => ?_)))))
    have hi' : i = 0 ∨ i = 1 ∨ i = 2 := by omega
    rcases hi' with e | e | e <;> subst e <;> rfl
  · subst e
    refine br_f (by decide) (br_f (by decide) (br_t rfl (F _ _ _ _ _ _ _ _ _ _ _ _ _ (hJ' a b w (fun i hi => ?_)))))
    have hi' : i = 0 ∨ i = 1 ∨ i = 2 := by omega
    rcases hi' with e | e | e <;> subst e <;> rfl
theorem zt_314 {kk s : Nat} {z0 : Int32} (hkk : kk < 16) (hs : s < 3) (hJ : zt_J w a b c u a1 a2 a3 a4 a5 a6) (hz : z0 = 0 ∧ u / 2 ^ s % 2 = 0 ∨ z0 = 1 ∧ u / 2 ^ s % 2 = 1)
    (F : ∀ w a b c u b1 b2 b3 b4 b5 b6 b7 b8, zt_J w a b c u b1 b2 b3 b4 b5 b6 → wL_law_404 post L xs J24 w a b c (nI u) x7 kc ks b1 b2 b3 b4 b5 b6 b7 b8) : wL_law_314 post L xs J24 w a b c (nI u) x7 (nI kk) (nI s) z0 kc ks a1 a2 a3 a4 a5 a6 a7 a8 := by
  have hu := hJ.1
  have cl := zt_ucl u hu s hs
  refine pk_lt 13 kk (fun z => pk_eq kk 14 (fun z2 => ?_) (fun z2 => F _ _ _ _ _ _ _ _ _ _ _ _ _ hJ)) (fun z => ?_)
  · rcases hz with ⟨e, h⟩ | ⟨e, h⟩
    · rw [e]
      have h4 : a4 (s + 1) = 0 := by
        obtain ⟨_, M, _, _, _, hj⟩ := hJ
        exact (hj s hs).1 h
      refine zt_drop0 hs h4 (br_t rfl (br_t rfl (nm_r cl (F _ _ _ _ _ _ _ _ _ _ _ _ _ ?_))))
      rw [h, Nat.zero_mul, Nat.sub_zero]
      exact hJ
    · rw [e]
      exact zt_ldrop hJ hs h (fun b3 b4 b5 b6 b8 hJ' => br_f (by decide) (br_t rfl (nm_r cl (F _ _ _ _ _ _ _ _ _ _ _ _ _ hJ'))))
  · rcases hz with ⟨e, h⟩ | ⟨e, h⟩
    · rw [e]
      have h4 : a4 (s + 1) = 0 := by
        obtain ⟨_, M, _, _, _, hj⟩ := hJ
        exact (hj s hs).1 h
      exact br_t rfl (zt_restore0 hs h4 (br_t rfl (br_t rfl (F _ _ _ _ _ _ _ _ _ _ _ _ _ hJ))))
    · rw [e]
      refine br_f (by decide) (zt_pick hs ?_)
      exact zt_lres hJ hs h (fun b3 b5 b6 b8 hJ' => br_f (by decide) (zt_ones (br_t rfl (F _ _ _ _ _ _ _ _ _ _ _ _ _ hJ'))))
theorem zt_99 {kk key v s : Nat} {z0 : Int32} (hkk : kk < 16) (hk : key < 8) (hv1 : 1 ≤ v) (hv : v < 16) (hs : s < 3) (hJ : zt_J w a b c u a1 a2 a3 a4 a5 a6) (hz : z0 = 0 ∧ u / 2 ^ s % 2 = 0 ∨ z0 = 1 ∧ u / 2 ^ s % 2 = 1)
    (F : ∀ w a b c u b1 b2 b3 b4 b5 b6 b7 b8, zt_J w a b c u b1 b2 b3 b4 b5 b6 → wL_law_404 post L xs J24 w a b c (nI u) x7 kc ks b1 b2 b3 b4 b5 b6 b7 b8) : wL_law_99 post L xs J24 w a b c (nI u) x7 (nI kk) (nI key) (nI v) (nI s) z0 kc ks a1 a2 a3 a4 a5 a6 a7 a8 := by
  have hu := hJ.1
  obtain ⟨u1, u2, u3⟩ := zt_u12 u hu
  refine pk_lt 6 kk (fun z => pk_lt 8 kk (fun z2 => pk_lt 11 kk (fun z3 => zt_314 hkk hs hJ hz F) (fun z3 => pk_eq u 7 (fun z4 => zt_314 hkk hs hJ hz F) (fun z4 => ?_))) (fun z2 => ?_)) (fun z => nm_e ?_)
  · refine ⟨fun e => zt_250 (j := 0) hJ (by omega) (u1.mp e) (fun i hi => absurd hi (by omega)) F, fun e => ⟨fun e2 => zt_250 (j := 1) hJ (by omega) (u2.mp e2) (fun i hi => ?_) F, fun e2 => zt_250 (j := 2) hJ (by omega) (u3 z4 (fun q => e (u1.mpr q)) (fun q => e2 (u2.mpr q))) (fun i hi => ?_) F⟩⟩
    · rw [show i = 0 by omega]
      exact zt_bit01 _ (fun q => e (u1.mpr q))
    · have hi' : i = 0 ∨ i = 1 := by omega
      rcases hi' with ei | ei
      · rw [ei]
        exact zt_bit01 _ (fun q => e (u1.mpr q))
      · rw [ei]
        exact zt_bit01 _ (fun q => e2 (u2.mpr q))
  · refine br_c (fun e => nm_e ?_) (fun e => nm_e ?_)
    · have e' : zt_g w key = 0 := e
      exact zt_lrem hJ hk (fun _ hJ' => br_t rfl (br_t rfl (F _ _ _ _ _ _ _ _ _ _ _ _ _ hJ'))) (fun ne => absurd e' ne)
    · have e' : zt_g w key ≠ 0 := e
      exact zt_lrem hJ hk (fun ez => absurd ez e') (fun _ b1 b2 b3 b5 b6 b7 hJ' => br_f (by decide) (zt_ones (br_t rfl (F _ _ _ _ _ _ _ _ _ _ _ _ _ hJ'))))
  · exact zt_lput hJ hk hv1 hv (fun b1 b2 b3 b5 b6 b7 hJ' => zt_ones (br_t rfl (F _ _ _ _ _ _ _ _ _ _ _ _ _ hJ')))
end
theorem zt_main {xs : Nat → Int32} {L kc ks : Nat} (hL : L ≤ 260) : ∀ n i, i ≤ L → L ≤ i + n → ∀ w a b c u a1 a2 a3 a4 a5 a6 a7 a8, zt_J w a b c u a1 a2 a3 a4 a5 a6 → wL_law_24 (fun r => r = 1) L xs kc ks (n + 1) w a b c (nI u) (nI i) a1 a2 a3 a4 a5 a6 a7 a8 := by
  intro n
  induction n with
  | zero =>
    intro i hi hn w a b c u a1 a2 a3 a4 a5 a6 a7 a8 hJ
    exact pk_lt L (i + 3) (fun _ => rfl) (fun z => absurd z (by omega)) rfl (nI_add i 3)
  | succ n ih =>
    intro i hi hn w a b c u a1 a2 a3 a4 a5 a6 a7 a8 hJ
    refine pk_lt L (i + 3) (fun _ => rfl) (fun z => ?_) rfl (nI_add i 3)
    obtain ⟨kk, hkk, e8⟩ := pk_andE (xs i) (m := 15) 4 (by decide)
    obtain ⟨key, hk, e9⟩ := pk_andE (xs (i + 1)) (m := 7) 3 (by decide)
    obtain ⟨r1, hr1, e10⟩ := pk_andE (xs (i + 2)) (m := 255) 8 (by decide)
    obtain ⟨r2, hr2, e11⟩ := pk_andE (xs (i + 1)) (m := 255) 8 (by decide)
    have i1 : nI i + 1 = nI (i + 1) := nI_1 i
    have i2 : nI i + 2 = nI (i + 2) := nI_add i 2
    have i3 : nI i + 3 = nI (i + 3) := nI_add i 3
    have ev : (1 : Int32) + (nI r1 - nI r1 / 15 * 15) = nI (1 + r1 % 15) := by
      have q : nI r1 - nI r1 / nI 15 * nI 15 = nI (r1 % 15) := pk_rem (by omega) (by omega) (by omega)
      have q' : nI r1 - nI r1 / 15 * 15 = nI (r1 % 15) := q
      rw [q']
      exact nI_add 1 (r1 % 15)
    have es : nI r2 - nI r2 / 3 * 3 = nI (r2 % 3) := pk_rem (d := 3) (by omega) (by omega) (by omega)
    have F : ∀ w a b c u b1 b2 b3 b4 b5 b6 b7 b8, zt_J w a b c u b1 b2 b3 b4 b5 b6 → wL_law_404 (fun r => r = 1) L xs (wL_law_24 (fun r => r = 1) L xs kc ks (n + 1)) w a b c (nI u) (nI i) kc ks b1 b2 b3 b4 b5 b6 b7 b8 := by
      intro w a b c u b1 b2 b3 b4 b5 b6 b7 b8 hJ'
      refine zt_404 hJ' ?_
      rw [i3]
      exact ih (i + 3) (by omega) (by omega) w a b c u b1 b2 b3 b4 b5 b6 b7 b8 hJ'
    rw [i1, i2, nI_clamp (show i < 2 ^ 31 by omega), nI_clamp (show i + 1 < 2 ^ 31 by omega), nI_clamp (show i + 2 < 2 ^ 31 by omega), e8, e9, e10, e11]
    refine ⟨vp_in_nI (by omega) (by omega), nm_e ⟨vp_in_nI (by omega) (by omega), nm_e ⟨vp_in_nI (by omega) (by omega), by decide, nm_r ev ⟨vp_in_nI (by omega) (by omega), by decide, nm_r es ?_⟩⟩⟩⟩
    have hs : r2 % 3 < 3 := by omega
    have hb := zt_ub u hJ.1 (r2 % 3) hs
    exact br_c (fun e => zt_99 hkk hk (by omega) (by omega) hs hJ (Or.inl ⟨rfl, hb.mp e⟩) F) (fun e => zt_99 hkk hk (by omega) (by omega) hs hJ (Or.inr ⟨rfl, zt_bit01 _ (fun q => e (hb.mpr q))⟩) F)
theorem zt_g0 : ∀ i, i < 8 → zt_g 0 i = 0 := by decide +kernel
theorem zt_o0 : zt_o 0 = 0 := by decide +kernel
theorem zt_n400 (j : Nat) (hj : j < 400) : zt_n (fun _ => 400) j = 0 := by
  rcases Nat.eq_zero_or_pos (zt_n (fun _ => 400) j) with z | z
  · exact z
  · obtain ⟨s, _, e⟩ := zt_n_ex z
    have e' : 400 = j := e
    omega
theorem zt_J0 {a2 a5 a6 : Nat → Int32} {a1 : Nat → Int32} (h5 : ∀ m, m < 8 → a5 m = -1) (h6 : a6 0 = 0) : zt_J 0 0 0 0 0 a1 a2 (fun _ => 0) (upd (fun _ => 0) 0 1) a5 a6 := by
  have n0 := zt_n400
  refine ⟨by omega, fun _ _ => 0, ⟨fun _ => 400, fun _ => 0, fun _ _ => 0, ⟨fun _ => Nat.le_refl _, fun _ _ h => absurd (show (400 : Nat) < 400 from h) (by omega), fun _ _ _ _ h => absurd (show (400 : Nat) < 400 from h) (by omega), fun _ _ => rfl, fun n hn h => absurd h (by rw [n0 n hn]; omega), fun j hj => by rw [n0 j hj]; rfl, fun n hn h => absurd h (by rw [n0 n hn]; omega), fun n hn h => absurd h (by rw [n0 n hn]; omega), fun _ => rfl, fun n hn h => absurd h (by rw [n0 n hn]; omega)⟩, fun _ _ => rfl, ⟨fun _ _ _ => rfl, fun m _ h => pk_un (by omega), by rw [pk_us]; decide⟩, fun m hm => h5 m hm, fun _ _ _ => rfl⟩, fun k hk => ?_, by rw [h6, zt_o0]; rfl, fun j hj => ⟨fun _ => pk_un (by omega), fun z => absurd z (by rw [Nat.zero_div]; omega)⟩⟩
  unfold zt_co
  by_cases e : k % 36 = 0
  · rw [if_pos e, zt_g0 _ (by omega)]
  · rw [if_neg e]
end
section
theorem i_vc (xs : Nat → Int32) (L : Nat) (hL : L ≤ 260) : wpL_law (fun r => r = 1) L xs := by
  refine ⟨8, 2444, by decide, by decide, by decide, by decide, by decide, by decide, by decide, by decide, by decide, by decide, by decide, by decide, by decide, by decide, by decide, by decide, by decide, by decide, nm_e ?_⟩
  refine pk_loop (σ := Nat → Int32) (fun q i s => wX_init_79 _ 8 2444 8 2444 q (nI i) (fun _ => 0) (fun _ => 0) (fun _ => 0) (upd (fun _ => 0) 0 1) s (fun _ => 0) (fun _ => 0) (fun _ => 0)) (fun i s => ∀ m, m < i → s m = -1) 8 0 (fun _ => 0) (by omega) (fun m hm => absurd hm (by omega)) (fun q s h => pk_le 8 8 (fun _ => ?_) (fun z => absurd z (by omega))) (fun q i s hi h hw => pk_le 8 i (fun z => absurd z (by omega)) (fun _ => ⟨vp_in_nI (by omega) (by omega), nm_e (nm_r (nI_1 i) (hw _ (fun m hm => ?_)))⟩))
  · exact ⟨L + 1, zt_main hL L 0 (by omega) (by omega) 0 0 0 0 0 _ _ _ _ _ _ _ _ (zt_J0 h rfl)⟩
  · rw [nI_clamp (show i < 2 ^ 31 by omega)]
    by_cases e : m = i
    · rw [e, pk_us]
    · rw [pk_un e]
      exact h m (by omega)
end
