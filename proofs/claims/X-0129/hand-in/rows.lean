section
theorem pk_us {f : Nat → Int32} {k : Nat} {x : Int32} : upd f k x k = x := if_pos rfl
theorem pk_un {f : Nat → Int32} {k j : Nat} {x : Int32} (h : j ≠ k) : upd f k x j = f j := if_neg h
theorem pk_sub {a b : Nat} (h : b ≤ a) : nI a - nI b = nI (a - b) := by
  obtain ⟨c, rfl⟩ : ∃ c, a = c + b := ⟨a - b, by omega⟩
  rw [← nI_add, Int32.add_sub_cancel, Nat.add_sub_cancel]
theorem pk_m1 (n : Nat) : nI (n + 1) + (-1) = nI n := by
  rw [← nI_1, Int32.add_assoc, show (1 : Int32) + (-1) = 0 from rfl, Int32.add_zero]
theorem pk_mul (a b : Nat) : nI a * nI b = nI (a * b) := (Int32.ofNat_mul a b).symm
theorem pk_div {a d : Nat} (ha : a < 2 ^ 31) (h0 : 0 < d) (hd : d < 2 ^ 31) : nI a / nI d = nI (a / d) := by
  apply Int32.toInt_inj.mp
  rw [lg_idiv_nonneg (by rw [nI_toInt ha]; omega) (by rw [nI_toInt hd]; omega), nI_toInt ha, nI_toInt hd, nI_toInt (Nat.lt_of_le_of_lt (Nat.div_le_self a d) ha)]
  first | rfl | exact (Int.natCast_ediv _ _).symm
theorem pk_rem {a d : Nat} (ha : a < 2 ^ 31) (h0 : 0 < d) (hd : d < 2 ^ 31) : nI a - nI a / nI d * nI d = nI (a % d) := by
  rw [pk_div ha h0 hd, pk_mul, pk_sub (Nat.div_mul_le_self a d)]
  exact congrArg nI (by have := Nat.div_add_mod' a d; omega)
theorem pk_ix (x : Int32) {n : Nat} (hn : n < 2 ^ 31) : x < 0 ∨ nI n ≤ x ∨ ∃ j : Nat, j < n ∧ x = nI j := by
  by_cases h : x < 0
  · exact Or.inl h
  · obtain ⟨j, hj, rfl⟩ := nI_of h
    by_cases h2 : j < n
    · exact Or.inr (Or.inr ⟨j, h2, rfl⟩)
    · exact Or.inr (Or.inl (nI_le (by omega) hj))
theorem pk_le {x y : Int32} {A B : Prop} (a b : Nat) (f : a ≤ b → A) (g : b < a → B) (hx : x = nI a := by rfl) (hy : y = nI b := by rfl) (ha : a < 2 ^ 31 := by omega) (hb : b < 2 ^ 31 := by omega) : (x ≤ y → A) ∧ (¬ x ≤ y → B) := by
  subst hx hy
  rw [nI_leI ha hb]
  exact ⟨f, fun z => g (by omega)⟩
theorem pk_lt {x y : Int32} {A B : Prop} (a b : Nat) (f : a < b → A) (g : b ≤ a → B) (hx : x = nI a := by rfl) (hy : y = nI b := by rfl) (ha : a < 2 ^ 31 := by omega) (hb : b < 2 ^ 31 := by omega) : (x < y → A) ∧ (¬ x < y → B) := by
  subst hx hy
  rw [nI_ltI ha hb]
  exact ⟨f, fun z => g (by omega)⟩
theorem pk_eq {x y : Int32} {A B : Prop} (a b : Nat) (f : a = b → A) (g : a ≠ b → B) (hx : x = nI a := by rfl) (hy : y = nI b := by rfl) (ha : a < 2 ^ 31 := by omega) (hb : b < 2 ^ 31 := by omega) : (x = y → A) ∧ (¬ x = y → B) := by
  subst hx hy
  rw [nI_eq ha hb]
  exact ⟨f, g⟩
theorem pk_in {x : Int32} (n N : Nat) (h : n < N) (hx : x = nI n := by rfl) (hN : N < 2 ^ 31 := by omega) : vp_in x N := by
  subst hx
  exact vp_in_nI h hN
theorem pk_cl {x : Int32} (n : Nat) (hx : x = nI n := by rfl) (h : n < 2 ^ 31 := by omega) : x.toNatClampNeg = n := by
  subst hx
  exact nI_clamp h
theorem pk_least (P : Nat → Prop) (h : ∃ k, P k) : ∃ k, P k ∧ ∀ j, j < k → ¬ P j := by
  obtain ⟨k, hk⟩ := h
  induction k using Nat.strongRecOn with
  | ind k ih =>
    by_cases e : ∃ j, j < k ∧ P j
    · obtain ⟨j, hj, pj⟩ := e
      exact ih j hj pj
    · exact ⟨k, hk, fun j hj pj => e ⟨j, hj, pj⟩⟩
/-! my own basics -/
def mh_e (b j : Nat) : Int32 := if j = 0 then -1 else nI (b + j)
theorem mh_e0 (b : Nat) : mh_e b 0 = -1 := if_pos rfl
theorem mh_es {b j : Nat} (h : j ≠ 0) : mh_e b j = nI (b + j) := if_neg h
theorem mh_m1 : (-1 : Int32) < 0 := by decide
theorem mh_m2 : (-2 : Int32) < 0 := by decide
theorem mh_m1' : ¬ (0 : Int32) ≤ -1 := by decide
theorem mh_m2' : ¬ (0 : Int32) ≤ -2 := by decide
theorem mh_21 : ¬ (-1 : Int32) = -2 := by decide
theorem mh_12 : ¬ (-2 : Int32) = -1 := by decide
theorem mh_01 : ¬ (0 : Int32) = 1 := by decide
theorem mh_10 : ¬ (1 : Int32) = 0 := by decide
theorem mh_n1 {v : Nat} (h : v < 2 ^ 31) : ¬ nI v = -1 := fun e => nI_pos h (e ▸ mh_m1)
theorem mh_n2 {v : Nat} (h : v < 2 ^ 31) : ¬ nI v = -2 := fun e => nI_pos h (e ▸ mh_m2)
theorem mh_ix (o k : Nat) : nI o * 8 + nI k = nI (o * 8 + k) := by rw [← nI_add, ← pk_mul]; rfl
theorem mh_ow (a v : Nat) : (1 + nI a * 3) + nI v = nI (1 + a * 3 + v) := by rw [← nI_add, ← nI_add, ← pk_mul]; rfl
theorem mh_eN {b j : Nat} (hb : b + j < 2 ^ 31) : mh_e b j < 0 ↔ j = 0 := by
  by_cases h : j = 0
  · subst h; rw [mh_e0]; exact ⟨fun _ => rfl, fun _ => mh_m1⟩
  · rw [mh_es h]; exact ⟨fun z => absurd z (nI_pos hb), fun z => absurd z h⟩
theorem mh_eP {b j : Nat} (hb : b + j < 2 ^ 31) : 0 ≤ mh_e b j ↔ j ≠ 0 := by
  by_cases h : j = 0
  · subst h; rw [mh_e0]; exact ⟨fun z => absurd z mh_m1', fun z => absurd rfl z⟩
  · rw [mh_es h]; exact ⟨fun _ => h, fun _ => nI_pos' hb⟩
theorem mh_inj {b i j : Nat} (hi : b + i < 2 ^ 31) (hj : b + j < 2 ^ 31) : mh_e b i = mh_e b j ↔ i = j := by
  constructor
  · intro h
    by_cases h1 : i = 0
    · have := (mh_eN hi).mpr h1
      rw [h] at this
      rw [h1, (mh_eN hj).mp this]
    · have h2 : j ≠ 0 := fun z => by
        have := (mh_eN hj).mpr z
        rw [← h] at this
        exact h1 ((mh_eN hi).mp this)
      rw [mh_es h1, mh_es h2, nI_eq hi hj] at h
      omega
  · intro h; rw [h]
theorem mh_eI {b i j : Nat} (hi : b + i < 2 ^ 31) (hj : b + j < 2 ^ 31) (h0 : j ≠ 0) : mh_e b i = nI (b + j) ↔ i = j := by
  rw [← mh_es h0]; exact mh_inj hi hj
theorem mh_br {b j : Nat} {A B : Prop} (hb : b + j < 2 ^ 31) (f : j = 0 → A) (g : j ≠ 0 → B) : (mh_e b j < 0 → A) ∧ (¬ mh_e b j < 0 → B) := by
  rw [mh_eN hb]; exact ⟨f, g⟩
theorem mh_bp {b j : Nat} {A B : Prop} (hb : b + j < 2 ^ 31) (f : j ≠ 0 → A) (g : j = 0 → B) : (0 ≤ mh_e b j → A) ∧ (¬ 0 ≤ mh_e b j → B) := by
  rw [mh_eP hb]; exact ⟨f, fun z => g (Decidable.not_not.mp z)⟩
theorem mh_bi {b i j : Nat} {A B : Prop} (hi : b + i < 2 ^ 31) (hj : b + j < 2 ^ 31) (f : i = j → A) (g : i ≠ j → B) : (mh_e b i = mh_e b j → A) ∧ (¬ mh_e b i = mh_e b j → B) := by
  rw [mh_inj hi hj]; exact ⟨f, g⟩
theorem mh_bj {b i j : Nat} {A B : Prop} (hi : b + i < 2 ^ 31) (hj : b + j < 2 ^ 31) (h0 : j ≠ 0) (f : i = j → A) (g : i ≠ j → B) : (mh_e b i = nI (b + j) → A) ∧ (¬ mh_e b i = nI (b + j) → B) := by
  rw [mh_eI hi hj h0]; exact ⟨f, g⟩
theorem mh_nb1 : narrow .boolean (.int (1 : Int32)) = .int 1 := rfl
theorem mh_nb0 : narrow .boolean (.int (0 : Int32)) = .int 0 := rfl
theorem mh_vb1 : vp_nar .boolean 1 = 1 := rfl
theorem mh_vb0 : vp_nar .boolean 0 = 0 := rfl
/-- pointwise copy up to k -/
def mh_cp (p l : Nat → Int32) (k : Nat) : Nat → Int32 := fun j => if j < k then l j else p j
theorem mh_cp0 (p l : Nat → Int32) : mh_cp p l 0 = p := rfl
theorem mh_cps (p l : Nat → Int32) (k : Nat) : upd (mh_cp p l k) k (l k) = mh_cp p l (k + 1) := by
  funext j
  by_cases h : j = k
  · subst h; rw [pk_us]; show _ = if j < j + 1 then l j else p j; rw [if_pos (by omega)]
  · rw [pk_un h]
    show (if j < k then l j else p j) = if j < k + 1 then l j else p j
    by_cases h2 : j < k
    · rw [if_pos h2, if_pos (by omega)]
    · rw [if_neg h2, if_neg (by omega)]
theorem mh_uu (f : Nat → Int32) (k : Nat) (x y : Int32) (h : f k = y) : upd (upd f k x) k y = f := by
  funext j
  by_cases e : j = k
  · subst e; rw [pk_us, h]
  · rw [pk_un e, pk_un e]
theorem mh_su (f : Nat → Int32) (k : Nat) : upd f k (f k) = f := by
  funext j
  by_cases e : j = k
  · subst e; rw [pk_us]
  · rw [pk_un e]
end
section
/-! the pure layout: H holder, N name, V version, C child table (0 = none); node 0 is the root -/
def ly_lkF (H : Nat → Nat) (C : Nat → Nat → Nat) (n : Nat) : Nat → Nat → Nat
  | 0, _ => 0
  | f + 1, i => if C i n = 0 then (if i = 0 then 0 else ly_lkF H C n f (H i)) else C i n
def ly_lk (H : Nat → Nat) (C : Nat → Nat → Nat) (i n : Nat) : Nat := ly_lkF H C n (i + 1) i
def ly_HD (m : Nat) (H : Nat → Nat) : Prop := ∀ i, i ≠ 0 → i < m → H i < i
theorem ly_lkF_s {m : Nat} {H : Nat → Nat} {C : Nat → Nat → Nat} {n : Nat} (hd : ly_HD m H) : ∀ f g i, i < m → i < f → i < g → ly_lkF H C n f i = ly_lkF H C n g i := by
  intro f
  induction f with
  | zero => intro g i _ h; exact absurd h (Nat.not_lt_zero _)
  | succ f ih =>
    intro g i hm hf hg
    cases g with
    | zero => exact absurd hg (Nat.not_lt_zero _)
    | succ g =>
      by_cases hc : C i n = 0
      · by_cases h0 : i = 0
        · simp only [ly_lkF, if_pos hc, if_pos h0]
        · have := hd i h0 hm
          simp only [ly_lkF, if_pos hc, if_neg h0]
          exact ih g (H i) (by omega) (by omega) (by omega)
      · simp only [ly_lkF, if_neg hc]
theorem ly_lk_f {H : Nat → Nat} {C : Nat → Nat → Nat} {i n : Nat} (hc : C i n ≠ 0) : ly_lk H C i n = C i n := by
  show ly_lkF H C n (i + 1) i = _
  simp only [ly_lkF, if_neg hc]
theorem ly_lk_0 {H : Nat → Nat} {C : Nat → Nat → Nat} {n : Nat} (hc : C 0 n = 0) : ly_lk H C 0 n = 0 := by
  show ly_lkF H C n (0 + 1) 0 = _
  simp only [ly_lkF, if_pos hc, if_pos]
theorem ly_lk_u {m : Nat} {H : Nat → Nat} {C : Nat → Nat → Nat} {i n : Nat} (hd : ly_HD m H) (hi : i < m) (hc : C i n = 0) (h0 : i ≠ 0) : ly_lk H C i n = ly_lk H C (H i) n := by
  have := hd i h0 hi
  show ly_lkF H C n (i + 1) i = ly_lkF H C n (H i + 1) (H i)
  rw [← ly_lkF_s hd i (H i + 1) (H i) (by omega) (by omega) (by omega)]
  simp only [ly_lkF, if_pos hc, if_neg h0]
/-- strong induction along the holders -/
theorem ly_ind {m : Nat} {H : Nat → Nat} {P : Nat → Prop} (hd : ly_HD m H) (h0 : P 0) (hs : ∀ i, i ≠ 0 → i < m → H i < i → P (H i) → P i) : ∀ i, i < m → P i := by
  intro i
  induction i using Nat.strongRecOn with
  | ind i ih =>
    intro hi
    by_cases z : i = 0
    · rw [z]; exact h0
    · have := hd i z hi
      exact hs i z hi this (ih (H i) this (by omega))
theorem ly_lk_c {m : Nat} {H H' : Nat → Nat} {C C' : Nat → Nat → Nat} {n : Nat} (hd : ly_HD m H) (hH : ∀ i, i ≠ 0 → i < m → H' i = H i) (hC : ∀ i, i < m → C' i n = C i n) : ∀ i, i < m → ly_lk H' C' i n = ly_lk H C i n := by
  have hd' : ly_HD m H' := fun i h0 hi => by rw [hH i h0 hi]; exact hd i h0 hi
  by_cases hm : 0 < m
  · refine ly_ind hd ?_ ?_
    · by_cases hc : C 0 n = 0
      · rw [ly_lk_0 hc, ly_lk_0 (by rw [hC 0 hm]; exact hc)]
      · rw [ly_lk_f hc, ly_lk_f (by rw [hC 0 hm]; exact hc), hC 0 hm]
    · intro i h0 hi _ ih
      by_cases hc : C i n = 0
      · rw [ly_lk_u hd hi hc h0, ly_lk_u hd' hi (by rw [hC i hi]; exact hc) h0, hH i h0 hi, ih]
      · rw [ly_lk_f hc, ly_lk_f (by rw [hC i hi]; exact hc), hC i hi]
  · intro i hi; omega
theorem ly_lk_P {H : Nat → Nat} {C : Nat → Nat → Nat} {n : Nat} {P : Nat → Prop} (h0 : P 0) (hC : ∀ i, C i n ≠ 0 → P (C i n)) (i : Nat) : P (ly_lk H C i n) := by
  have : ∀ f i, P (ly_lkF H C n f i) := by
    intro f
    induction f with
    | zero => intro i; exact h0
    | succ f ih =>
      intro i
      by_cases hc : C i n = 0
      · by_cases z : i = 0
        · simp only [ly_lkF, if_pos hc, if_pos z]; exact h0
        · simp only [ly_lkF, if_pos hc, if_neg z]; exact ih _
      · simp only [ly_lkF, if_neg hc]; exact hC i hc
  exact this _ i
/-! depth -/
def ly_dpF (H : Nat → Nat) : Nat → Nat → Nat
  | 0, _ => 0
  | f + 1, i => if i = 0 then 0 else ly_dpF H f (H i) + 1
def ly_dp (H : Nat → Nat) (i : Nat) : Nat := ly_dpF H (i + 1) i
theorem ly_dpF_s {m : Nat} {H : Nat → Nat} (hd : ly_HD m H) : ∀ f g i, i < m → i < f → i < g → ly_dpF H f i = ly_dpF H g i := by
  intro f
  induction f with
  | zero => intro g i _ h; exact absurd h (Nat.not_lt_zero _)
  | succ f ih =>
    intro g i hm hf hg
    cases g with
    | zero => exact absurd hg (Nat.not_lt_zero _)
    | succ g =>
      by_cases h0 : i = 0
      · simp only [ly_dpF, if_pos h0]
      · have := hd i h0 hm
        simp only [ly_dpF, if_neg h0]
        rw [ih g (H i) (by omega) (by omega) (by omega)]
theorem ly_dp_0 (H : Nat → Nat) : ly_dp H 0 = 0 := rfl
theorem ly_dp_s {m : Nat} {H : Nat → Nat} {i : Nat} (hd : ly_HD m H) (hi : i < m) (h0 : i ≠ 0) : ly_dp H i = ly_dp H (H i) + 1 := by
  have := hd i h0 hi
  show ly_dpF H (i + 1) i = ly_dpF H (H i + 1) (H i) + 1
  rw [← ly_dpF_s hd i (H i + 1) (H i) (by omega) (by omega) (by omega)]
  simp only [ly_dpF, if_neg h0]
theorem ly_dp_le {m : Nat} {H : Nat → Nat} (hd : ly_HD m H) : ∀ i, i < m → ly_dp H i ≤ i := by
  refine ly_ind hd (Nat.le_refl 0) ?_
  intro i h0 hi hl ih
  rw [ly_dp_s hd hi h0]; omega
theorem ly_dp_c {m : Nat} {H H' : Nat → Nat} (hd : ly_HD m H) (hH : ∀ i, i ≠ 0 → i < m → H' i = H i) : ∀ i, i < m → ly_dp H' i = ly_dp H i := by
  have hd' : ly_HD m H' := fun i h0 hi => by rw [hH i h0 hi]; exact hd i h0 hi
  refine ly_ind hd rfl ?_
  intro i h0 hi _ ih
  rw [ly_dp_s hd hi h0, ly_dp_s hd' hi h0, hH i h0 hi, ih]
theorem ly_dp_z {m : Nat} {H : Nat → Nat} {i : Nat} (hd : ly_HD m H) (hi : i < m) (h : ly_dp H i = 0) : i = 0 := by
  by_cases h0 : i = 0
  · exact h0
  · rw [ly_dp_s hd hi h0] at h; omega
/-! the t-th holder -/
def ly_up (H : Nat → Nat) : Nat → Nat → Nat
  | 0, d => d
  | t + 1, d => H (ly_up H t d)
theorem ly_up_f {m : Nat} {H : Nat → Nat} {d : Nat} (hd : ly_HD m H) (hm : d < m) : ∀ t, t ≤ ly_dp H d → ly_up H t d ≤ d ∧ ly_dp H (ly_up H t d) = ly_dp H d - t := by
  intro t
  induction t with
  | zero => intro _; exact ⟨Nat.le_refl d, rfl⟩
  | succ t ih =>
    intro ht
    obtain ⟨h1, h2⟩ := ih (by omega)
    have hn : ly_up H t d ≠ 0 := fun z => by rw [z, ly_dp_0] at h2; omega
    have hl := hd _ hn (by omega)
    have := ly_dp_s hd (i := ly_up H t d) (by omega) hn
    exact ⟨by show H (ly_up H t d) ≤ d; omega, by show ly_dp H (H (ly_up H t d)) = _; omega⟩
theorem ly_up_n {m : Nat} {H : Nat → Nat} {d t : Nat} (hd : ly_HD m H) (hm : d < m) (ht : t < ly_dp H d) : ly_up H t d ≠ 0 := by
  intro z
  have := (ly_up_f hd hm t (by omega)).2
  rw [z, ly_dp_0] at this; omega
theorem ly_up_z {m : Nat} {H : Nat → Nat} {d : Nat} (hd : ly_HD m H) (hm : d < m) : ly_up H (ly_dp H d) d = 0 := by
  have ⟨a, b⟩ := ly_up_f hd hm (ly_dp H d) (Nat.le_refl _)
  exact ly_dp_z hd (by omega) (by omega)
theorem ly_up_c {m : Nat} {H H' : Nat → Nat} {d : Nat} (hd : ly_HD m H) (hH : ∀ i, i ≠ 0 → i < m → H' i = H i) (hm : d < m) : ∀ t, t ≤ ly_dp H d → ly_up H' t d = ly_up H t d := by
  intro t
  induction t with
  | zero => intro _; rfl
  | succ t ih =>
    intro ht
    show H' (ly_up H' t d) = H (ly_up H t d)
    rw [ih (by omega)]
    exact hH _ (ly_up_n hd hm (by omega)) (by have := (ly_up_f hd hm t (by omega)).1; omega)
/-! within -/
def ly_wiF (H : Nat → Nat) (a : Nat) : Nat → Nat → Prop
  | 0, _ => False
  | f + 1, i => i = a ∨ (i ≠ 0 ∧ ly_wiF H a f (H i))
def ly_wi (H : Nat → Nat) (a i : Nat) : Prop := ly_wiF H a (i + 1) i
theorem ly_wiF_s {m : Nat} {H : Nat → Nat} {a : Nat} (hd : ly_HD m H) : ∀ f g i, i < m → i < f → i < g → (ly_wiF H a f i ↔ ly_wiF H a g i) := by
  intro f
  induction f with
  | zero => intro g i _ h; exact absurd h (Nat.not_lt_zero _)
  | succ f ih =>
    intro g i hm hf hg
    cases g with
    | zero => exact absurd hg (Nat.not_lt_zero _)
    | succ g =>
      show (i = a ∨ (i ≠ 0 ∧ ly_wiF H a f (H i))) ↔ (i = a ∨ (i ≠ 0 ∧ ly_wiF H a g (H i)))
      by_cases h0 : i = 0
      · exact ⟨fun h => h.elim Or.inl (fun z => absurd h0 z.1), fun h => h.elim Or.inl (fun z => absurd h0 z.1)⟩
      · have := hd i h0 hm
        have e := ih g (H i) (by omega) (by omega) (by omega)
        exact ⟨fun h => h.elim Or.inl (fun z => Or.inr ⟨h0, e.mp z.2⟩), fun h => h.elim Or.inl (fun z => Or.inr ⟨h0, e.mpr z.2⟩)⟩
theorem ly_wi_e {m : Nat} {H : Nat → Nat} {a i : Nat} (hd : ly_HD m H) (hi : i < m) : ly_wi H a i ↔ (i = a ∨ (i ≠ 0 ∧ ly_wi H a (H i))) := by
  show (i = a ∨ (i ≠ 0 ∧ ly_wiF H a i (H i))) ↔ (i = a ∨ (i ≠ 0 ∧ ly_wiF H a (H i + 1) (H i)))
  by_cases h0 : i = 0
  · exact ⟨fun h => h.elim Or.inl (fun z => absurd h0 z.1), fun h => h.elim Or.inl (fun z => absurd h0 z.1)⟩
  · have := hd i h0 hi
    have e := ly_wiF_s (a := a) hd i (H i + 1) (H i) (by omega) (by omega) (by omega)
    exact ⟨fun h => h.elim Or.inl (fun z => Or.inr ⟨h0, e.mp z.2⟩), fun h => h.elim Or.inl (fun z => Or.inr ⟨h0, e.mpr z.2⟩)⟩
theorem ly_wi_le {m : Nat} {H : Nat → Nat} {a : Nat} (hd : ly_HD m H) : ∀ i, i < m → ly_wi H a i → a ≤ i := by
  refine ly_ind hd ?_ ?_
  · rintro (h | h)
    · omega
    · exact absurd rfl h.1
  · intro i h0 hi hl ih h
    rcases (ly_wi_e hd hi).mp h with e | e
    · omega
    · have := ih e.2; omega
/-! a well-formed layout of m nodes -/
def ly_W (nm vs m : Nat) (H N V : Nat → Nat) (C : Nat → Nat → Nat) : Prop :=
  (1 ≤ m ∧ m ≤ 25) ∧ (∀ i, i ≠ 0 → i < m → H i < i ∧ N i < nm ∧ V i < vs ∧ C (H i) (N i) = i) ∧
    (∀ i n, C i n ≠ 0 → C i n < m ∧ H (C i n) = i ∧ N (C i n) = n)
theorem ly_W_hd {nm vs m : Nat} {H N V : Nat → Nat} {C : Nat → Nat → Nat} (w : ly_W nm vs m H N V C) : ly_HD m H := fun i h0 hi => (w.2.1 i h0 hi).1
theorem ly_W_lk {nm vs m : Nat} {H N V : Nat → Nat} {C : Nat → Nat → Nat} (w : ly_W nm vs m H N V C) (i n : Nat) : ly_lk H C i n < m := by
  refine ly_lk_P (P := fun x => x < m) w.1.1 ?_ i
  intro j hj; exact (w.2.2 j n hj).1
theorem ly_W_lkN {nm vs m : Nat} {H N V : Nat → Nat} {C : Nat → Nat → Nat} (w : ly_W nm vs m H N V C) (i n : Nat) (h : ly_lk H C i n ≠ 0) : N (ly_lk H C i n) = n := by
  have := ly_lk_P (H := H) (C := C) (n := n) (P := fun x => x ≠ 0 → N x = n) (fun z => absurd rfl z) (fun j hj _ => (w.2.2 j n hj).2.2) i
  exact this h
theorem ly_W_in {nm vs m : Nat} {H N V : Nat → Nat} {C : Nat → Nat → Nat} (w : ly_W nm vs m H N V C) {i n : Nat} (h : C i n ≠ 0) : i < m ∧ n < nm := by
  obtain ⟨a, b, c⟩ := w.2.2 i n h
  obtain ⟨p, q, _⟩ := w.2.1 _ h a
  rw [b] at p; rw [c] at q
  omega
def ly_s (f : Nat → Nat) (k x : Nat) : Nat → Nat := fun i => if i = k then x else f i
def ly_s2 (C : Nat → Nat → Nat) (p n x : Nat) : Nat → Nat → Nat := fun i k => if i = p ∧ k = n then x else C i k
theorem ly_ss {f : Nat → Nat} {k x : Nat} : ly_s f k x k = x := if_pos rfl
theorem ly_sn {f : Nat → Nat} {k x i : Nat} (h : i ≠ k) : ly_s f k x i = f i := if_neg h
theorem ly_2s {C : Nat → Nat → Nat} {p n x : Nat} : ly_s2 C p n x p n = x := if_pos ⟨rfl, rfl⟩
theorem ly_2n {C : Nat → Nat → Nat} {p n x i k : Nat} (h : ¬ (i = p ∧ k = n)) : ly_s2 C p n x i k = C i k := if_neg h
theorem ly_W_ext {nm vs m : Nat} {H N V : Nat → Nat} {C : Nat → Nat → Nat} (w : ly_W nm vs m H N V C) {p n v : Nat} (hp : p < m) (hn : n < nm) (hv : v < vs) (hc : C p n = 0) (hm : m < 25) :
    ly_W nm vs (m + 1) (ly_s H m p) (ly_s N m n) (ly_s V m v) (ly_s2 C p n m) := by
  have hm1 := w.1.1
  refine ⟨⟨by omega, by omega⟩, ?_, ?_⟩
  · intro i h0 hi
    by_cases e : i = m
    · subst e
      rw [ly_ss, ly_ss, ly_ss, ly_2s]
      exact ⟨hp, hn, hv, rfl⟩
    · rw [ly_sn e, ly_sn e, ly_sn e]
      obtain ⟨a, b, c, d⟩ := w.2.1 i h0 (by omega)
      refine ⟨a, b, c, ?_⟩
      rw [ly_2n]
      · exact d
      · rintro ⟨x, y⟩
        rw [x, y, hc] at d
        exact h0 d.symm
  · intro i k hk
    by_cases e : i = p ∧ k = n
    · obtain ⟨rfl, rfl⟩ := e
      rw [ly_2s, ly_ss, ly_ss]
      exact ⟨by omega, rfl, rfl⟩
    · rw [ly_2n e] at hk ⊢
      obtain ⟨a, b, c⟩ := w.2.2 i k hk
      rw [ly_sn (by omega), ly_sn (by omega)]
      exact ⟨by omega, b, c⟩
theorem ly_W_1 (nm vs : Nat) (H N V : Nat → Nat) : ly_W nm vs 1 H N V (fun _ _ => 0) :=
  ⟨⟨Nat.le_refl 1, by omega⟩, fun i h0 hi => absurd (by omega : i = 0) h0, fun i n h => absurd rfl h⟩
/-- the owner whose edges node i has -/
def ly_ow (N V : Nat → Nat) (i : Nat) : Nat := if i = 0 then 0 else 1 + N i * 3 + V i
theorem ly_ow_0 (N V : Nat → Nat) : ly_ow N V 0 = 0 := rfl
theorem ly_ow_s {N V : Nat → Nat} {i : Nat} (h : i ≠ 0) : ly_ow N V i = 1 + N i * 3 + V i := if_neg h
theorem ly_ow_lt {nm vs m : Nat} {H N V : Nat → Nat} {C : Nat → Nat → Nat} (w : ly_W nm vs m H N V C) (hnm : nm ≤ 8) (hvs : vs ≤ 3) {i : Nat} (hi : i < m) : ly_ow N V i < 25 := by
  by_cases h : i = 0
  · subst h; rw [ly_ow_0]; omega
  · rw [ly_ow_s h]
    obtain ⟨_, b, c, _⟩ := w.2.1 i h hi
    omega
end
section
/-! X's arrays against the pure layout, and X's reading methods -/
def xl_H (b m : Nat) (H : Nat → Nat) (ho : Nat → Int32) : Prop := ho b = -1 ∧ ∀ i, i ≠ 0 → i < m → ho (b + i) = nI (b + H i)
def xl_C (b : Nat) (C : Nat → Nat → Nat) (ch : Nat → Int32) : Prop := ∀ i n, i < 25 → n < 8 → ch ((b + i) * 8 + n) = mh_e b (C i n)
def xl_N (b m : Nat) (N : Nat → Nat) (na : Nat → Int32) : Prop := ∀ i, i ≠ 0 → i < m → na (b + i) = nI (N i)
def ly_cd (H N V : Nat → Nat) (i : Nat) : Nat := if i = 0 then 0 else ly_dp H i * 32 + N i * 4 + V i
theorem ly_cd_0 (H N V : Nat → Nat) : ly_cd H N V 0 = 0 := rfl
theorem ly_cd_s {H N V : Nat → Nat} {i : Nat} (h : i ≠ 0) : ly_cd H N V i = ly_dp H i * 32 + N i * 4 + V i := if_neg h
theorem mh_cd (a b c : Nat) : (nI a * 32 + nI b * 4) + nI c = nI (a * 32 + b * 4 + c) := by rw [← nI_add, ← nI_add, ← pk_mul, ← pk_mul]; rfl
theorem mh_z (b : Nat) : nI b = nI (b + 0) := rfl
section
variable {f_names f_versions f_rooms f_queued f_live f_liveCount f_draft f_draftCount f_cursor : Int32} {a_lock a_planned a_holder a_nameOf a_versionOf a_depthOf a_child a_fixed a_match a_queue a_reached : Nat → Int32}
variable {post : Int32 → Prop} {b m : Nat} {H N V : Nat → Nat} {C : Nat → Nat → Nat}
theorem xl_lookup5 {n : Nat} (hH : xl_H b m H a_holder) (hC : xl_C b C a_child) (hd : ly_HD m H) (hv : ∀ i n, C i n < 26) (hb : b ≤ 25) (hm : m ≤ 25) (hn : n < 8) :
    ∀ i, i < m → ∀ f s, i + 1 < f → i + s < 25 → post (mh_e b (ly_lk H C i n)) → wX_lookup_5 post (nI n) f_names f_versions f_rooms f_queued f_live f_liveCount f_draft f_draftCount f_cursor a_lock a_planned a_holder a_nameOf a_versionOf a_depthOf a_child a_fixed a_match a_queue a_reached f (nI (b + i)) (nI s) := by
  refine ly_ind hd ?_ ?_
  · intro f s hf hs hp
    obtain ⟨f, rfl⟩ : ∃ g, f = g + 1 + 1 := ⟨f - 2, by omega⟩
    refine br_f (nI_ge (b := 25) (by omega) (by decide)) (br_f (nI_pos (by omega)) ?_)
    rw [mh_ix, nI_clamp (by omega), hC 0 n (by omega) hn]
    have := hv 0 n
    refine ⟨vp_in_nI (by omega) (by decide), nm_e (mh_br (by omega) (fun hc => ?_) (fun hc => ?_))⟩
    · rw [ly_lk_0 hc, mh_e0] at hp
      refine ⟨vp_in_nI (by omega) (by decide), nm_r (e' := -1) ?_ (nm_r (nI_1 s) ?_)⟩
      · rw [nI_clamp (by omega)]; exact hH.1
      · exact br_c (fun _ => hp) (fun _ => br_t mh_m1 hp)
    · rw [ly_lk_f hc] at hp; exact hp
  · intro i h0 hi hl ih f s hf hs hp
    obtain ⟨f, rfl⟩ : ∃ g, f = g + 1 := ⟨f - 1, by omega⟩
    refine br_f (nI_ge (b := 25) (by omega) (by decide)) (br_f (nI_pos (by omega)) ?_)
    rw [mh_ix, nI_clamp (by omega), hC i n (by omega) hn]
    have := hv i n
    refine ⟨vp_in_nI (by omega) (by decide), nm_e (mh_br (by omega) (fun hc => ?_) (fun hc => ?_))⟩
    · rw [ly_lk_u hd hi hc h0] at hp
      refine ⟨vp_in_nI (by omega) (by decide), nm_r (e' := nI (b + H i)) ?_ (nm_r (nI_1 s) ?_)⟩
      · rw [nI_clamp (by omega)]; exact hH.2 i h0 hi
      · exact ih f (s + 1) (by omega) (by omega) hp
    · rw [ly_lk_f hc] at hp; exact hp
theorem xl_lookup {n i : Nat} (hH : xl_H b m H a_holder) (hC : xl_C b C a_child) (hd : ly_HD m H) (hv : ∀ i n, C i n < 26) (hb : b ≤ 25) (hm : m ≤ 25) (hn : n < 8) (hi : i < m)
    (hp : post (mh_e b (ly_lk H C i n))) : wpX_lookup post (f_names, f_versions, f_rooms, f_queued, f_live, f_liveCount, f_draft, f_draftCount, f_cursor, a_lock, a_planned, a_holder, a_nameOf, a_versionOf, a_depthOf, a_child, a_fixed, a_match, a_queue, a_reached) (nI (b + i)) (nI n) :=
  Exists.intro (i + 2) (xl_lookup5 hH hC hd hv hb hm hn i hi (i + 2) 0 (by omega) (by omega) hp)
theorem xl_ownerOf {i : Nat} (hH : xl_H b m H a_holder) (hN : xl_N b m N a_nameOf) (hV : xl_N b m V a_versionOf) (hd : ly_HD m H) (hb : b ≤ 25) (hm : m ≤ 25) (hi : i < m)
    (hp : post (nI (ly_ow N V i))) : wpX_ownerOf post (f_names, f_versions, f_rooms, f_queued, f_live, f_liveCount, f_draft, f_draftCount, f_cursor, a_lock, a_planned, a_holder, a_nameOf, a_versionOf, a_depthOf, a_child, a_fixed, a_match, a_queue, a_reached) (nI (b + i)) := by
  unfold wpX_ownerOf
  dsimp only
  rw [nI_clamp (by omega)]
  have hin : vp_in (nI (b + i)) 50 := vp_in_nI (by omega) (by decide)
  refine ⟨hin, ?_⟩
  by_cases h0 : i = 0
  · subst h0
    rw [ly_ow_0] at hp
    refine br_f ?_ hp
    show ¬ 0 ≤ a_holder b
    rw [hH.1]; exact mh_m1'
  · have := hd i h0 hi
    refine br_t ?_ ⟨hin, hin, ?_⟩
    · rw [hH.2 i h0 hi]; exact nI_pos' (by omega)
    · rw [hN i h0 hi, hV i h0 hi, mh_ow, ← ly_ow_s h0]; exact hp
theorem xl_codeOf {i : Nat} (hH : xl_H b m H a_holder) (hN : xl_N b m N a_nameOf) (hV : xl_N b m V a_versionOf) (hD : xl_N b m (ly_dp H) a_depthOf) (hd : ly_HD m H) (hb : b ≤ 25) (hm : m ≤ 25) (hi : i < m)
    (hp : post (nI (ly_cd H N V i))) : wpX_codeOf post (f_names, f_versions, f_rooms, f_queued, f_live, f_liveCount, f_draft, f_draftCount, f_cursor, a_lock, a_planned, a_holder, a_nameOf, a_versionOf, a_depthOf, a_child, a_fixed, a_match, a_queue, a_reached) (nI (b + i)) := by
  unfold wpX_codeOf
  dsimp only
  rw [nI_clamp (by omega)]
  have hin : vp_in (nI (b + i)) 50 := vp_in_nI (by omega) (by decide)
  refine ⟨hin, ?_⟩
  by_cases h0 : i = 0
  · subst h0
    rw [ly_cd_0] at hp
    refine br_f ?_ hp
    show ¬ 0 ≤ a_holder b
    rw [hH.1]; exact mh_m1'
  · have := hd i h0 hi
    refine br_t ?_ ⟨hin, hin, hin, ?_⟩
    · rw [hH.2 i h0 hi]; exact nI_pos' (by omega)
    · rw [hN i h0 hi, hV i h0 hi, hD i h0 hi, mh_cd, ← ly_cd_s h0]; exact hp
theorem xl_isBelow10 {a : Nat} (hH : xl_H b m H a_holder) (hd : ly_HD m H) (hb : b ≤ 25) (hm : m ≤ 25) (ha : a < m) :
    ∀ i, i < m → ∀ f s, i + 1 < f → i + s < 25 → (ly_wi H a i → post 1) → (¬ ly_wi H a i → post 0) → wX_isBelow_10 post (nI (b + a)) f_names f_versions f_rooms f_queued f_live f_liveCount f_draft f_draftCount f_cursor a_lock a_planned a_holder a_nameOf a_versionOf a_depthOf a_child a_fixed a_match a_queue a_reached f (nI (b + i)) (nI s) := by
  refine ly_ind hd ?_ ?_
  · intro f s hf hs h1 h0
    obtain ⟨f, rfl⟩ : ∃ g, f = g + 1 + 1 := ⟨f - 2, by omega⟩
    refine br_f (nI_ge (b := 25) (by omega) (by decide)) (br_f (nI_pos (by omega)) (pk_eq (b + 0) (b + a) (fun e => ?_) (fun e => ?_)))
    · exact h1 (Or.inl (by omega))
    · have hp : post 0 := h0 (by rintro (z | z); exact e (by omega); exact z.1 rfl)
      refine ⟨vp_in_nI (by omega) (by decide), nm_r (e' := -1) ?_ (nm_r (nI_1 s) ?_)⟩
      · rw [nI_clamp (by omega)]; exact hH.1
      · exact br_c (fun _ => hp) (fun _ => br_t mh_m1 hp)
  · intro i hz hi hl ih f s hf hs h1 h0
    obtain ⟨f, rfl⟩ : ∃ g, f = g + 1 := ⟨f - 1, by omega⟩
    have hw := ly_wi_e (a := a) hd hi
    refine br_f (nI_ge (b := 25) (by omega) (by decide)) (br_f (nI_pos (by omega)) (pk_eq (b + i) (b + a) (fun e => ?_) (fun e => ?_)))
    · exact h1 (hw.mpr (Or.inl (by omega)))
    · refine ⟨vp_in_nI (by omega) (by decide), nm_r (e' := nI (b + H i)) ?_ (nm_r (nI_1 s) ?_)⟩
      · rw [nI_clamp (by omega)]; exact hH.2 i hz hi
      · refine ih f (s + 1) (by omega) (by omega) (fun w => h1 (hw.mpr (Or.inr ⟨hz, w⟩))) (fun w => h0 (fun z => ?_))
        rcases hw.mp z with z | z
        · exact e (by omega)
        · exact w z.2
theorem xl_isBelow {a i : Nat} (hH : xl_H b m H a_holder) (hd : ly_HD m H) (hb : b ≤ 25) (hm : m ≤ 25) (ha : a < m) (hi : i < m)
    (h1 : (i ≠ 0 ∧ ly_wi H a (H i)) → post 1) (h0 : ¬ (i ≠ 0 ∧ ly_wi H a (H i)) → post 0) : wpX_isBelow post (f_names, f_versions, f_rooms, f_queued, f_live, f_liveCount, f_draft, f_draftCount, f_cursor, a_lock, a_planned, a_holder, a_nameOf, a_versionOf, a_depthOf, a_child, a_fixed, a_match, a_queue, a_reached) (nI (b + i)) (nI (b + a)) := by
  by_cases z : i = 0
  · subst z
    refine And.intro (vp_in_nI (by omega) (by decide)) (nm_r (e' := -1) ?_ (Exists.intro 1 ?_))
    · rw [nI_clamp (by omega)]; exact hH.1
    · exact br_f (nI_ge (a := 0) (b := 25) (by omega) (by decide)) (br_t mh_m1 (h0 (fun w => w.1 rfl)))
  · have := hd i z hi
    refine And.intro (vp_in_nI (by omega) (by decide)) (nm_r (e' := nI (b + H i)) ?_ (Exists.intro (i + 2) ?_))
    · rw [nI_clamp (by omega)]; exact hH.2 i z hi
    · exact xl_isBelow10 hH hd hb hm ha (H i) (by omega) (i + 2) 0 (by omega) (by omega) (fun w => h1 ⟨z, w⟩) (fun w => h0 (fun y => w y.2))
end
section
variable {f_versions f_rooms f_queued f_live f_liveCount f_draft f_draftCount f_cursor : Int32} {a_lock a_planned a_holder a_nameOf a_versionOf a_depthOf a_child a_fixed a_match a_queue a_reached : Nat → Int32}
variable {post : Int32 → Prop} {nm b m : Nat} {H N V : Nat → Nat} {C : Nat → Nat → Nat}
theorem xl_samePeers3 {p q o : Nat} (hH : xl_H b m H a_holder) (hC : xl_C b C a_child) (hd : ly_HD m H) (hv : ∀ i n, C i n < 26) (hl : ∀ i n, ly_lk H C i n < 26) (hb : b ≤ 25) (hm : m ≤ 25) (hnm : nm ≤ 8) (hp : p < m) (hq : q < m) (ho : o < 25)
    (h1 : (∀ k, k < nm → a_lock (o * 8 + k) = -2 → ly_lk H C p k ≠ 0 ∧ ly_lk H C p k = ly_lk H C q k) → post 1)
    (h0 : ¬ (∀ k, k < nm → a_lock (o * 8 + k) = -2 → ly_lk H C p k ≠ 0 ∧ ly_lk H C p k = ly_lk H C q k) → post 0) :
    ∀ j k, k + j = nm → (∀ k', k' < k → a_lock (o * 8 + k') = -2 → ly_lk H C p k' ≠ 0 ∧ ly_lk H C p k' = ly_lk H C q k') → wX_samePeers_3 post (nI (b + p)) (nI (b + q)) (nI o) (nI nm) f_versions f_rooms f_queued f_live f_liveCount f_draft f_draftCount f_cursor a_lock a_planned a_holder a_nameOf a_versionOf a_depthOf a_child a_fixed a_match a_queue a_reached (j + 1) (nI k) := by
  intro j
  induction j with
  | zero =>
    intro k hk hQ
    obtain rfl : k = nm := by omega
    exact br_t (nI_le (Nat.le_refl _) (by omega)) (h1 hQ)
  | succ j ih =>
    intro k hk hQ
    refine br_f (nI_ge (by omega) (by omega)) ?_
    rw [mh_ix, nI_clamp (by omega)]
    refine ⟨vp_in_nI (by omega) (by decide), br_c (fun hl2 => ?_) (fun hl2 => ?_)⟩
    · have l1 := hl p k
      have l2 := hl q k
      refine xl_lookup hH hC hd hv hb hm (by omega) hp ?_
      refine mh_br (by omega) (fun z => ?_) (fun z => ?_)
      · exact h0 (fun w => (w k (by omega) hl2).1 z)
      · refine xl_lookup hH hC hd hv hb hm (by omega) hq ?_
        refine mh_bi (by omega) (by omega) (fun e => nm_r (nI_1 k) (ih (k + 1) (by omega) ?_)) (fun e => ?_)
        · exact lt_s hQ (fun _ => ⟨z, e⟩)
        · exact h0 (fun w => e (w k (by omega) hl2).2)
    · exact nm_r (nI_1 k) (ih (k + 1) (by omega) (lt_s hQ (fun z => absurd z hl2)))
theorem xl_samePeers {p q o : Nat} (hH : xl_H b m H a_holder) (hC : xl_C b C a_child) (hd : ly_HD m H) (hv : ∀ i n, C i n < 26) (hl : ∀ i n, ly_lk H C i n < 26) (hb : b ≤ 25) (hm : m ≤ 25) (hnm : nm ≤ 8) (hp : p < m) (hq : q < m) (ho : o < 25)
    (h1 : (∀ k, k < nm → a_lock (o * 8 + k) = -2 → ly_lk H C p k ≠ 0 ∧ ly_lk H C p k = ly_lk H C q k) → post 1)
    (h0 : ¬ (∀ k, k < nm → a_lock (o * 8 + k) = -2 → ly_lk H C p k ≠ 0 ∧ ly_lk H C p k = ly_lk H C q k) → post 0) : wpX_samePeers post (nI nm, f_versions, f_rooms, f_queued, f_live, f_liveCount, f_draft, f_draftCount, f_cursor, a_lock, a_planned, a_holder, a_nameOf, a_versionOf, a_depthOf, a_child, a_fixed, a_match, a_queue, a_reached) (nI (b + p)) (nI (b + q)) (nI o) :=
  Exists.intro (nm + 1) (xl_samePeers3 hH hC hd hv hl hb hm hnm hp hq ho h1 h0 nm 0 (by omega) lt_0)
theorem xl_serves {u d v : Nat} (hH : xl_H b m H a_holder) (hN : xl_N b m N a_nameOf) (hV : xl_N b m V a_versionOf) (hC : xl_C b C a_child) (hd : ly_HD m H) (hv : ∀ i n, C i n < 26) (hl : ∀ i n, ly_lk H C i n < 26) (hb : b ≤ 25) (hm : m ≤ 25) (hnm : nm ≤ 8) (hu : u < m) (hdm : d < m) (ho : ly_ow N V u < 25) (hvu : V u < 26) (hvv : v < 26)
    (h1 : (u ≠ 0 ∧ V u = v ∧ ∀ k, k < nm → a_lock (ly_ow N V u * 8 + k) = -2 → ly_lk H C u k ≠ 0 ∧ ly_lk H C u k = ly_lk H C d k) → post 1)
    (h0 : ¬ (u ≠ 0 ∧ V u = v ∧ ∀ k, k < nm → a_lock (ly_ow N V u * 8 + k) = -2 → ly_lk H C u k ≠ 0 ∧ ly_lk H C u k = ly_lk H C d k) → post 0) : wpX_serves post (nI nm, f_versions, f_rooms, f_queued, f_live, f_liveCount, f_draft, f_draftCount, f_cursor, a_lock, a_planned, a_holder, a_nameOf, a_versionOf, a_depthOf, a_child, a_fixed, a_match, a_queue, a_reached) (mh_e b u) (nI (b + d)) (nI v) := by
  refine mh_br (by omega) (fun z => h0 (fun w => w.1 z)) (fun z => ?_)
  rw [mh_es z, nI_clamp (by omega), hV u z hu]
  refine ⟨vp_in_nI (by omega) (by decide), pk_eq (V u) v (fun e => ?_) (fun e => h0 (fun w => e w.2.1))⟩
  refine xl_ownerOf hH hN hV hd hb hm hu ?_
  exact xl_samePeers hH hC hd hv hl hb hm hnm hu hdm ho (fun w => ⟨mh_nb1, h1 ⟨z, e, w⟩⟩) (fun w => ⟨mh_nb0, h0 (fun y => w y.2.2)⟩)
end
end
section
/-! Y's arrays against the pure layout, and Y's reading methods -/
def yl_H (b m : Nat) (H : Nat → Nat) (ho : Nat → Int32) : Prop := xl_H b m H ho ∧ ∀ i, m ≤ i → i < 25 → ho (b + i) = -1
def yl_B (b : Nat) : Prop := b = 0 ∨ b = 25
theorem yl_B_le {b : Nat} (h : yl_B b) : b ≤ 25 := by rcases h with h | h <;> omega
section
variable {y_names y_versions y_rooms y_nodes y_made y_cursor : Int32} {z_lock z_planned z_reach z_nameOf z_verOf z_holder z_fixed : Nat → Int32}
variable {post : Int32 → Prop} {nm vs b m : Nat} {H N V : Nat → Nat} {C : Nat → Nat → Nat}
theorem yl_child16 {d n : Nat} (hH : yl_H b m H z_holder) (hN : xl_N b m N z_nameOf) (w : ly_W nm vs m H N V C) (hnm : nm ≤ 8) (hb : b ≤ 25) (hdm : d < 25) (hn : n < 8) (hp : post (mh_e b (C d n))) :
    ∀ j i, i + j = 25 → (∀ i', i' < i → i' ≠ 0 → i' < m → ¬ (H i' = d ∧ N i' = n)) → wY_child_16 post (nI (b + d)) (nI n) (nI b) y_names y_versions y_rooms y_nodes y_made y_cursor z_lock z_planned z_reach z_nameOf z_verOf z_holder z_fixed (j + 1) (nI (b + i)) := by
  have hm := w.1.2
  intro j
  induction j with
  | zero =>
    intro i hi hQ
    have hz : C d n = 0 := by
      by_cases z : C d n = 0
      · exact z
      · obtain ⟨a, c, e⟩ := w.2.2 d n z
        exact absurd ⟨c, e⟩ (hQ _ (by omega) z a)
    rw [hz, mh_e0] at hp
    exact pk_le (b + 25) (b + i) (fun _ => hp) (fun h => absurd h (by omega)) (hx := nI_add b 25)
  | succ j ih =>
    intro i hi hQ
    refine pk_le (b + 25) (b + i) (fun h => absurd h (by omega)) (fun _ => ?_) (hx := nI_add b 25)
    have hin : vp_in (nI (b + i)) 50 := vp_in_nI (by omega) (by decide)
    rw [nI_clamp (by omega)]
    by_cases hc : i ≠ 0 ∧ i < m
    · obtain ⟨h0, him⟩ := hc
      obtain ⟨wl, wn, _, wc⟩ := w.2.1 i h0 him
      rw [hH.1.2 i h0 him, hN i h0 him]
      refine ⟨hin, pk_eq (b + H i) (b + d) (fun e => ⟨hin, pk_eq (N i) n (fun e2 => ?_) (fun e2 => ?_)⟩) (fun e => ?_)⟩
      · have e3 : H i = d := by omega
        rw [e3, e2] at wc
        rw [wc, mh_es h0] at hp
        exact hp
      · exact nm_r (nI_1 (b + i)) (ih (i + 1) (by omega) (lt_s hQ (fun _ _ z => e2 z.2)))
      · exact nm_r (nI_1 (b + i)) (ih (i + 1) (by omega) (lt_s hQ (fun _ _ z => e (by omega))))
    · have hv : z_holder (b + i) = -1 := by
        by_cases h0 : i = 0
        · subst h0; exact hH.1.1
        · exact hH.2 i (by omega) (by omega)
      rw [hv]
      refine ⟨hin, br_f (fun z => mh_n1 (by omega) z.symm) ?_⟩
      exact nm_r (nI_1 (b + i)) (ih (i + 1) (by omega) (lt_s hQ (fun h1 h2 _ => hc ⟨h1, h2⟩)))
theorem yl_child {d n : Nat} (hB : yl_B b) (hH : yl_H b m H z_holder) (hN : xl_N b m N z_nameOf) (w : ly_W nm vs m H N V C) (hnm : nm ≤ 8) (hdm : d < 25) (hn : n < 8) (hp : post (mh_e b (C d n))) :
    wpY_child post (y_names, y_versions, y_rooms, y_nodes, y_made, y_cursor, z_lock, z_planned, z_reach, z_nameOf, z_verOf, z_holder, z_fixed) (nI (b + d)) (nI n) := by
  rcases hB with rfl | rfl
  · refine br_f (nI_ge (b := 25) (by omega) (by decide)) (Exists.intro 26 ?_)
    exact yl_child16 hH hN w hnm (by omega) hdm hn hp 25 0 (by omega) lt_0
  · refine br_t (nI_le (a := 25) (by omega) (by omega)) (Exists.intro 26 ?_)
    exact yl_child16 hH hN w hnm (by omega) hdm hn hp 25 0 (by omega) lt_0
theorem yl_lookup5 {n : Nat} (hB : yl_B b) (hH : yl_H b m H z_holder) (hN : xl_N b m N z_nameOf) (w : ly_W nm vs m H N V C) (hnm : nm ≤ 8) (hn : n < 8) :
    ∀ i, i < m → ∀ f s, i + 1 < f → i + s < 49 → post (mh_e b (ly_lk H C i n)) → wY_lookup_5 post (nI n) y_names y_versions y_rooms y_nodes y_made y_cursor z_lock z_planned z_reach z_nameOf z_verOf z_holder z_fixed f (nI (b + i)) (nI s) := by
  have hm := w.1.2
  have hb := yl_B_le hB
  have hd := ly_W_hd w
  have hv : ∀ i n, C i n < 26 := fun i n => by
    by_cases z : C i n = 0
    · omega
    · have := (w.2.2 i n z).1; omega
  refine ly_ind hd ?_ ?_
  · intro f s hf hs hp
    obtain ⟨f, rfl⟩ : ∃ g, f = g + 1 + 1 := ⟨f - 2, by omega⟩
    refine br_f (nI_ge (b := 50) (by omega) (by decide)) (br_f (nI_pos (by omega)) ?_)
    refine yl_child hB hH hN w hnm (by omega) hn ?_
    have := hv 0 n
    refine mh_br (by omega) (fun hc => ?_) (fun hc => ?_)
    · rw [ly_lk_0 hc, mh_e0] at hp
      refine ⟨vp_in_nI (by omega) (by decide), nm_r (e' := -1) ?_ (nm_r (nI_1 s) ?_)⟩
      · rw [nI_clamp (by omega)]; exact hH.1.1
      · exact br_c (fun _ => hp) (fun _ => br_t mh_m1 hp)
    · rw [ly_lk_f hc] at hp; exact hp
  · intro i h0 hi hl ih f s hf hs hp
    obtain ⟨f, rfl⟩ : ∃ g, f = g + 1 := ⟨f - 1, by omega⟩
    refine br_f (nI_ge (b := 50) (by omega) (by decide)) (br_f (nI_pos (by omega)) ?_)
    refine yl_child hB hH hN w hnm (by omega) hn ?_
    have := hv i n
    refine mh_br (by omega) (fun hc => ?_) (fun hc => ?_)
    · rw [ly_lk_u hd hi hc h0] at hp
      refine ⟨vp_in_nI (by omega) (by decide), nm_r (e' := nI (b + H i)) ?_ (nm_r (nI_1 s) ?_)⟩
      · rw [nI_clamp (by omega)]; exact hH.1.2 i h0 hi
      · exact ih f (s + 1) (by omega) (by omega) hp
    · rw [ly_lk_f hc] at hp; exact hp
theorem yl_lookup {n i : Nat} (hB : yl_B b) (hH : yl_H b m H z_holder) (hN : xl_N b m N z_nameOf) (w : ly_W nm vs m H N V C) (hnm : nm ≤ 8) (hn : n < 8) (hi : i < m)
    (hp : post (mh_e b (ly_lk H C i n))) : wpY_lookup post (y_names, y_versions, y_rooms, y_nodes, y_made, y_cursor, z_lock, z_planned, z_reach, z_nameOf, z_verOf, z_holder, z_fixed) (nI (b + i)) (nI n) :=
  Exists.intro (i + 2) (yl_lookup5 hB hH hN w hnm hn i hi (i + 2) 0 (by omega) (by have := w.1.2; omega) hp)
theorem yl_depth12 (hH : xl_H b m H z_holder) (hd : ly_HD m H) (hb : b ≤ 25) (hm : m ≤ 25) :
    ∀ i, i < m → ∀ f s k, i + 1 < f → i + s < 49 → post (nI (k + ly_dp H i + 1)) → wY_depth_12 post y_names y_versions y_rooms y_nodes y_made y_cursor z_lock z_planned z_reach z_nameOf z_verOf z_holder z_fixed f (nI k) (nI (b + i)) (nI s) := by
  refine ly_ind hd ?_ ?_
  · intro f s k hf hs hp
    obtain ⟨f, rfl⟩ : ∃ g, f = g + 1 + 1 := ⟨f - 2, by omega⟩
    refine br_f (nI_ge (b := 50) (by omega) (by decide)) (br_f (nI_pos (by omega)) (nm_r (nI_1 k) ⟨vp_in_nI (by omega) (by decide), nm_r (e' := -1) ?_ (nm_r (nI_1 s) ?_)⟩))
    · rw [nI_clamp (by omega)]; exact hH.1
    · exact br_c (fun _ => hp) (fun _ => br_t mh_m1 hp)
  · intro i h0 hi hl ih f s k hf hs hp
    obtain ⟨f, rfl⟩ : ∃ g, f = g + 1 := ⟨f - 1, by omega⟩
    refine br_f (nI_ge (b := 50) (by omega) (by decide)) (br_f (nI_pos (by omega)) (nm_r (nI_1 k) ⟨vp_in_nI (by omega) (by decide), nm_r (e' := nI (b + H i)) ?_ (nm_r (nI_1 s) ?_)⟩))
    · rw [nI_clamp (by omega)]; exact hH.2 i h0 hi
    · refine ih f (s + 1) (k + 1) (by omega) (by omega) ?_
      rw [ly_dp_s hd hi h0] at hp
      have e : k + (ly_dp H (H i) + 1) + 1 = k + 1 + ly_dp H (H i) + 1 := by omega
      rw [e] at hp; exact hp
theorem yl_depth {i : Nat} (hH : xl_H b m H z_holder) (hd : ly_HD m H) (hb : b ≤ 25) (hm : m ≤ 25) (hi : i < m) (hp : post (nI (ly_dp H i))) : wpY_depth post (y_names, y_versions, y_rooms, y_nodes, y_made, y_cursor, z_lock, z_planned, z_reach, z_nameOf, z_verOf, z_holder, z_fixed) (nI (b + i)) := by
  by_cases z : i = 0
  · subst z
    refine And.intro (vp_in_nI (by omega) (by decide)) (nm_r (e' := -1) ?_ (Exists.intro 1 ?_))
    · rw [nI_clamp (by omega)]; exact hH.1
    · exact br_f (nI_ge (a := 0) (b := 50) (by omega) (by decide)) (br_t mh_m1 hp)
  · have := hd i z hi
    refine And.intro (vp_in_nI (by omega) (by decide)) (nm_r (e' := nI (b + H i)) ?_ (Exists.intro (i + 2) ?_))
    · rw [nI_clamp (by omega)]; exact hH.2 i z hi
    · refine yl_depth12 hH hd hb hm (H i) (by omega) (i + 2) 0 0 (by omega) (by omega) ?_
      rw [ly_dp_s hd hi z] at hp
      rw [Nat.zero_add]; exact hp
theorem yl_ancestor5 {d k : Nat} (hH : xl_H b m H z_holder) (hd : ly_HD m H) (hb : b ≤ 25) (hm : m ≤ 25) (hdm : d < m) (hk : k ≤ ly_dp H d) (hp : post (nI (b + ly_up H (ly_dp H d - k) d))) :
    ∀ g j, j + g = ly_dp H d - k → wY_ancestor_5 post (nI k) y_names y_versions y_rooms y_nodes y_made y_cursor z_lock z_planned z_reach z_nameOf z_verOf z_holder z_fixed (g + 1) (nI (b + ly_up H j d)) (nI j) := by
  have hD := ly_dp_le hd d hdm
  intro g
  induction g with
  | zero =>
    intro j hj
    obtain ⟨u1, u2⟩ := ly_up_f hd hdm j (by omega)
    refine br_f (nI_ge (b := 50) (by omega) (by decide)) (yl_depth hH hd hb hm (by omega) ?_)
    refine br_t (nI_le (by omega) (by omega)) ?_
    obtain rfl : j = ly_dp H d - k := by omega
    exact hp
  | succ g ih =>
    intro j hj
    obtain ⟨u1, u2⟩ := ly_up_f hd hdm j (by omega)
    have un := ly_up_n hd hdm (t := j) (by omega)
    have ul := hd _ un (by omega)
    refine br_f (nI_ge (b := 50) (by omega) (by decide)) (yl_depth hH hd hb hm (by omega) ?_)
    refine br_f (nI_ge (by omega) (by omega)) ?_
    have hin : vp_in (nI (b + ly_up H j d)) 50 := vp_in_nI (by omega) (by decide)
    rw [nI_clamp (by omega), hH.2 _ un (by omega)]
    exact ⟨hin, br_f (nI_pos (by omega)) ⟨hin, nm_e (nm_r (nI_1 j) (ih (j + 1) (by omega)))⟩⟩
theorem yl_ancestor {d k : Nat} (hH : xl_H b m H z_holder) (hd : ly_HD m H) (hb : b ≤ 25) (hm : m ≤ 25) (hdm : d < m) (hk : k ≤ ly_dp H d) (hp : post (nI (b + ly_up H (ly_dp H d - k) d))) :
    wpY_ancestor post (y_names, y_versions, y_rooms, y_nodes, y_made, y_cursor, z_lock, z_planned, z_reach, z_nameOf, z_verOf, z_holder, z_fixed) (nI (b + d)) (nI k) :=
  Exists.intro (ly_dp H d - k + 1) (yl_ancestor5 hH hd hb hm hdm hk hp (ly_dp H d - k) 0 (by omega))
theorem yl_within5 {a : Nat} (hH : xl_H b m H z_holder) (hd : ly_HD m H) (hb : b ≤ 25) (hm : m ≤ 25) (ha : a < m) :
    ∀ i, i < m → ∀ f s, i + 1 < f → i + s < 49 → (ly_wi H a i → post 1) → (¬ ly_wi H a i → post 0) → wY_within_5 post (nI (b + a)) y_names y_versions y_rooms y_nodes y_made y_cursor z_lock z_planned z_reach z_nameOf z_verOf z_holder z_fixed f (nI (b + i)) (nI s) := by
  refine ly_ind hd ?_ ?_
  · intro f s hf hs h1 h0
    obtain ⟨f, rfl⟩ : ∃ g, f = g + 1 + 1 := ⟨f - 2, by omega⟩
    refine br_f (nI_ge (b := 50) (by omega) (by decide)) (br_f (nI_pos (by omega)) (pk_eq (b + 0) (b + a) (fun e => ?_) (fun e => ?_)))
    · exact h1 (Or.inl (by omega))
    · have hp : post 0 := h0 (by rintro (z | z); exact e (by omega); exact z.1 rfl)
      refine ⟨vp_in_nI (by omega) (by decide), nm_r (e' := -1) ?_ (nm_r (nI_1 s) ?_)⟩
      · rw [nI_clamp (by omega)]; exact hH.1
      · exact br_c (fun _ => hp) (fun _ => br_t mh_m1 hp)
  · intro i hz hi hl ih f s hf hs h1 h0
    obtain ⟨f, rfl⟩ : ∃ g, f = g + 1 := ⟨f - 1, by omega⟩
    have hw := ly_wi_e (a := a) hd hi
    refine br_f (nI_ge (b := 50) (by omega) (by decide)) (br_f (nI_pos (by omega)) (pk_eq (b + i) (b + a) (fun e => ?_) (fun e => ?_)))
    · exact h1 (hw.mpr (Or.inl (by omega)))
    · refine ⟨vp_in_nI (by omega) (by decide), nm_r (e' := nI (b + H i)) ?_ (nm_r (nI_1 s) ?_)⟩
      · rw [nI_clamp (by omega)]; exact hH.2 i hz hi
      · refine ih f (s + 1) (by omega) (by omega) (fun w => h1 (hw.mpr (Or.inr ⟨hz, w⟩))) (fun w => h0 (fun z => ?_))
        rcases hw.mp z with z | z
        · exact e (by omega)
        · exact w z.2
theorem yl_within {a i : Nat} (hH : xl_H b m H z_holder) (hd : ly_HD m H) (hb : b ≤ 25) (hm : m ≤ 25) (ha : a < m) (hi : i < m)
    (h1 : ly_wi H a i → post 1) (h0 : ¬ ly_wi H a i → post 0) : wpY_within post (y_names, y_versions, y_rooms, y_nodes, y_made, y_cursor, z_lock, z_planned, z_reach, z_nameOf, z_verOf, z_holder, z_fixed) (nI (b + i)) (nI (b + a)) :=
  Exists.intro (i + 2) (yl_within5 hH hd hb hm ha i hi (i + 2) 0 (by omega) (by omega) h1 h0)
theorem yl_ownerOf {i : Nat} (h0n : z_nameOf b = -1) (hN : xl_N b m N z_nameOf) (hV : xl_N b m V z_verOf) (w : ly_W nm vs m H N V C) (hnm : nm ≤ 8) (hb : b ≤ 25) (hm : m ≤ 25) (hi : i < m)
    (hp : post (nI (ly_ow N V i))) : wpY_ownerOf post (y_names, y_versions, y_rooms, y_nodes, y_made, y_cursor, z_lock, z_planned, z_reach, z_nameOf, z_verOf, z_holder, z_fixed) (nI (b + i)) := by
  unfold wpY_ownerOf
  dsimp only
  rw [nI_clamp (by omega)]
  have hin : vp_in (nI (b + i)) 50 := vp_in_nI (by omega) (by decide)
  refine ⟨hin, ?_⟩
  by_cases h0 : i = 0
  · subst h0
    rw [ly_ow_0] at hp
    refine br_f ?_ hp
    show ¬ 0 ≤ z_nameOf b
    rw [h0n]; exact mh_m1'
  · obtain ⟨_, wn, _, _⟩ := w.2.1 i h0 hi
    rw [hN i h0 hi, hV i h0 hi]
    refine br_t (nI_pos' (by omega)) ⟨hin, hin, ?_⟩
    rw [mh_ow, ← ly_ow_s h0]; exact hp
theorem yl_code {i : Nat} (hH : xl_H 0 m H z_holder) (hN : xl_N 0 m N z_nameOf) (hV : xl_N 0 m V z_verOf) (hd : ly_HD m H) (hm : m ≤ 25) (hi : i < m)
    (hp : post (nI (ly_cd H N V i))) : wpY_code post (y_names, y_versions, y_rooms, y_nodes, y_made, y_cursor, z_lock, z_planned, z_reach, z_nameOf, z_verOf, z_holder, z_fixed) (nI i) := by
  by_cases h0 : i = 0
  · subst h0
    rw [ly_cd_0] at hp
    exact br_t rfl hp
  · refine br_f (nI_ne0 (by omega) (by omega)) ?_
    have h := yl_depth (post := fun r_2 => (vp_in (nI i) 50 ∧ (vp_in (nI i) 50 ∧ (post (((r_2 * 32) + ((z_nameOf (nI i).toNatClampNeg) * 4)) + (z_verOf (nI i).toNatClampNeg)))))) (b := 0) (i := i) hH hd (by omega) hm hi
      (y_names := y_names) (y_versions := y_versions) (y_rooms := y_rooms) (y_nodes := y_nodes) (y_made := y_made) (y_cursor := y_cursor) (z_lock := z_lock) (z_planned := z_planned) (z_reach := z_reach) (z_nameOf := z_nameOf) (z_verOf := z_verOf) (z_fixed := z_fixed) ?_
    · rw [Nat.zero_add] at h; exact h
    · have e1 := hN i h0 hi
      have e2 := hV i h0 hi
      rw [Nat.zero_add] at e1 e2
      have hin : vp_in (nI i) 50 := vp_in_nI (by omega) (by decide)
      refine ⟨hin, hin, ?_⟩
      rw [nI_clamp (by omega), e1, e2, mh_cd, ← ly_cd_s h0]; exact hp
theorem yl_agree9 {p q o : Nat} (hB : yl_B b) (hH : yl_H b m H z_holder) (hN : xl_N b m N z_nameOf) (w : ly_W nm vs m H N V C) (hnm : nm ≤ 8) (hp : p < m) (hq : q < m) (ho : o < 25)
    (h1 : (∀ k, k < 8 → z_lock (o * 8 + k) = -2 → ly_lk H C p k = ly_lk H C q k) → post 1)
    (h0 : ¬ (∀ k, k < 8 → z_lock (o * 8 + k) = -2 → ly_lk H C p k = ly_lk H C q k) → post 0) :
    ∀ j k, k + j = 8 → (∀ k', k' < k → z_lock (o * 8 + k') = -2 → ly_lk H C p k' = ly_lk H C q k') → wY_agree_9 post (nI (b + p)) (nI (b + q)) (nI o) y_names y_versions y_rooms y_nodes y_made y_cursor z_lock z_planned z_reach z_nameOf z_verOf z_holder z_fixed (j + 1) (nI k) := by
  have hm := w.1.2
  have hb := yl_B_le hB
  intro j
  induction j with
  | zero =>
    intro k hk hQ
    obtain rfl : k = 8 := by omega
    exact br_t (nI_le (Nat.le_refl 8) (by omega)) (h1 hQ)
  | succ j ih =>
    intro k hk hQ
    refine br_f (nI_ge (b := 8) (by omega) (by omega)) ?_
    rw [mh_ix, nI_clamp (by omega)]
    refine ⟨vp_in_nI (by omega) (by decide), br_c (fun hl2 => ?_) (fun hl2 => ?_)⟩
    · have l1 := ly_W_lk w p k
      have l2 := ly_W_lk w q k
      refine yl_lookup hB hH hN w hnm (by omega) hp ?_
      refine yl_lookup hB hH hN w hnm (by omega) hq ?_
      refine mh_bi (by omega) (by omega) (fun e => nm_r (nI_1 k) (ih (k + 1) (by omega) ?_)) (fun e => ?_)
      · exact lt_s hQ (fun _ => e)
      · exact h0 (fun w => e (w k (by omega) hl2))
    · exact nm_r (nI_1 k) (ih (k + 1) (by omega) (lt_s hQ (fun z => absurd z hl2)))
theorem yl_agree {p q : Nat} (hB : yl_B b) (h0n : z_nameOf b = -1) (hH : yl_H b m H z_holder) (hN : xl_N b m N z_nameOf) (hV : xl_N b m V z_verOf) (w : ly_W nm vs m H N V C) (hnm : nm ≤ 8) (hvs : vs ≤ 3) (hp : p < m) (hq : q < m)
    (h1 : (∀ k, k < 8 → z_lock (ly_ow N V p * 8 + k) = -2 → ly_lk H C p k = ly_lk H C q k) → post 1)
    (h0 : ¬ (∀ k, k < 8 → z_lock (ly_ow N V p * 8 + k) = -2 → ly_lk H C p k = ly_lk H C q k) → post 0) : wpY_agree post (y_names, y_versions, y_rooms, y_nodes, y_made, y_cursor, z_lock, z_planned, z_reach, z_nameOf, z_verOf, z_holder, z_fixed) (nI (b + p)) (nI (b + q)) := by
  unfold wpY_agree
  dsimp only
  refine yl_ownerOf h0n hN hV w hnm (yl_B_le hB) w.1.2 hp ?_
  exact ⟨9, yl_agree9 hB hH hN w hnm hp hq (ly_ow_lt w hnm hvs hp) h1 h0 8 0 (by omega) lt_0⟩
end
end
section
/-! the planner's mathematics, without a program: suitable places, the invariant of the draft -/
def ly_Su (lock : Nat → Int32) (nm m : Nat) (H : Nat → Nat) (C F : Nat → Nat → Nat) (o d n p : Nat) : Prop :=
  (∀ k, k < nm → lock (o * 8 + k) = -2 → ly_lk H C p k ≠ 0 ∧ ly_lk H C p k = ly_lk H C d k) ∧ (∀ i, i < m → F i n ≠ 0 → ly_lk H (ly_s2 C p n m) i n = F i n)
def ly_Rg (H : Nat → Nat) (C : Nat → Nat → Nat) (d n t : Nat) : Prop := t ≤ ly_dp H d ∧ ∀ r, r ≤ t → C (ly_up H r d) n = 0
def ly_Be (lock : Nat → Int32) (nm m : Nat) (H : Nat → Nat) (C F : Nat → Nat → Nat) (o d n t : Nat) : Prop :=
  ly_Rg H C d n t ∧ ly_Su lock nm m H C F o d n (ly_up H t d) ∧ ∀ s, t < s → ly_Rg H C d n s → ¬ ly_Su lock nm m H C F o d n (ly_up H s d)
theorem ly_Be_u {lock : Nat → Int32} {nm m : Nat} {H : Nat → Nat} {C F : Nat → Nat → Nat} {o d n t t0 : Nat} (h0 : ly_Be lock nm m H C F o d n t0) (h : ly_Be lock nm m H C F o d n t) : t = t0 := by
  rcases Nat.lt_trichotomy t t0 with a | a | a
  · exact absurd h0.2.1 (h.2.2 t0 a h0.1)
  · exact a
  · exact absurd h.2.1 (h0.2.2 t a h.1)
theorem ly_Be_ex {lock : Nat → Int32} {nm m : Nat} {H : Nat → Nat} {C F : Nat → Nat → Nat} {o d n : Nat} (h1 : ly_Rg H C d n 0) (h2 : ly_Su lock nm m H C F o d n d) : ∃ t, ly_Be lock nm m H C F o d n t := by
  obtain ⟨u, ⟨hu, a, b⟩, hmin⟩ := pk_least (fun u => u ≤ ly_dp H d ∧ ly_Rg H C d n (ly_dp H d - u) ∧ ly_Su lock nm m H C F o d n (ly_up H (ly_dp H d - u) d)) ⟨ly_dp H d, Nat.le_refl _, by rw [Nat.sub_self]; exact h1, by rw [Nat.sub_self]; exact h2⟩
  refine ⟨ly_dp H d - u, a, b, ?_⟩
  intro s hs hr hsu
  have hsd := hr.1
  have e : ly_dp H d - (ly_dp H d - s) = s := by omega
  exact hmin (ly_dp H d - s) (by omega) ⟨by omega, by rw [e]; exact hr, by rw [e]; exact hsu⟩
theorem ly_lk_up {m : Nat} {H : Nat → Nat} {C : Nat → Nat → Nat} {d n : Nat} (hd : ly_HD m H) (hm : d < m) : ∀ r, r ≤ ly_dp H d → (∀ q, q < r → C (ly_up H q d) n = 0) → ly_lk H C d n = ly_lk H C (ly_up H r d) n := by
  intro r
  induction r with
  | zero => intro _ _; rfl
  | succ r ih =>
    intro hr hq
    rw [ih (by omega) (fun q h => hq q (by omega))]
    exact ly_lk_u hd (by have := (ly_up_f hd hm r (by omega)).1; omega) (hq r (by omega)) (ly_up_n hd hm (by omega))
/-- the lock: entries are none, a peer of a smaller name, or a good version, at good names -/
def pi_K (nm vs : Nat) (lock : Nat → Int32) : Prop :=
  ((2 ≤ nm ∧ nm ≤ 8) ∧ (1 ≤ vs ∧ vs ≤ 3)) ∧
  (∀ o k, o < 25 → k < 8 → lock (o * 8 + k) = -1 ∨ (k < nm ∧ (lock (o * 8 + k) = -2 ∨ ∃ v, v < vs ∧ lock (o * 8 + k) = nI v))) ∧
  (∀ n v k, n < 8 → v < 3 → k < 8 → lock ((1 + n * 3 + v) * 8 + k) = -2 → k < n) ∧ (∀ k, k < 8 → lock k ≠ -2)
/-- R: a set of owners with the root, closed under ordinary edges, where no peer is missing -/
def pi_R (lock : Nat → Int32) (R : Nat → Prop) : Prop :=
  R 0 ∧ ∀ o k v, o < 25 → R o → k < 8 → v < 3 → lock (o * 8 + k) = nI v → R (1 + k * 3 + v) ∧ ∀ j, j < 8 → lock ((1 + k * 3 + v) * 8 + j) = -2 → lock (o * 8 + j) ≠ -1
/-- the draft while the edge n of node d is next -/
def pi_I (nm vs : Nat) (lock : Nat → Int32) (R : Nat → Prop) (d n m : Nat) (H N V : Nat → Nat) (C F : Nat → Nat → Nat) : Prop :=
  ly_W nm vs m H N V C ∧ (∀ i, i < m → R (ly_ow N V i)) ∧
  (∀ i k, F i k ≠ 0 → i < m ∧ k < 8 ∧ ly_lk H C i k = F i k) ∧
  (∀ i k v, i < m → k < 8 → v < 3 → lock (ly_ow N V i * 8 + k) = nI v → (i < d ∨ (i = d ∧ k < n)) → F i k ≠ 0) ∧
  (∀ i k, i < m → k < 8 → lock (ly_ow N V i * 8 + k) = -2 → F i k ≠ 0) ∧
  (∀ i k, F i k ≠ 0 → (i < d ∨ (i = d ∧ k < n)) ∨ lock (ly_ow N V i * 8 + k) = -2) ∧
  (∀ i k, C i k ≠ 0 → i < d ∨ (i = d ∧ k < n))
section
variable {nm vs : Nat} {lock : Nat → Int32} {R : Nat → Prop} {d n m v : Nat} {H N V : Nat → Nat} {C F : Nat → Nat → Nat}
theorem pi_lt (K : pi_K nm vs lock) {o k v : Nat} (ho : o < 25) (hk : k < 8) (hv : v < 3) (h : lock (o * 8 + k) = nI v) : k < nm ∧ v < vs := by
  rcases K.2.1 o k ho hk with e | ⟨a, e | ⟨w, hw, e⟩⟩
  · exact absurd (h.symm.trans e) (mh_n1 (by omega))
  · exact absurd (h.symm.trans e) (mh_n2 (by omega))
  · have hvs := K.1.2.2
    have := (nI_eq (by omega) (by omega)).mp (h.symm.trans e)
    omega
/-- (A) the peers of the package that d needs are found from d -/
theorem pi_peer (K : pi_K nm vs lock) (hR : pi_R lock R) (I : pi_I nm vs lock R d n m H N V C F) (hd : d < m) (hn : n < 8) (hv : v < 3) (he : lock (ly_ow N V d * 8 + n) = nI v) :
    ∀ k, k < 8 → lock ((1 + n * 3 + v) * 8 + k) = -2 → ly_lk H C d k ≠ 0 := by
  obtain ⟨w, hr, f1, f2, f3, f4, c1⟩ := I
  have ho := ly_ow_lt w K.1.1.2 K.1.2.2 hd
  intro k hk hp
  have hkn := K.2.2.1 n v k hn hv hk hp
  have hl := ((hR.2 _ n v ho (hr d hd) hn hv he).2 k hk) hp
  rcases K.2.1 _ k ho hk with e | ⟨a, e | ⟨x, hx, e⟩⟩
  · exact absurd e hl
  · have := f3 d k hd hk e
    rw [(f1 d k this).2.2]; exact this
  · have hvs := K.1.2.2
    have := f2 d k x hd hk (by omega) e (Or.inr ⟨rfl, hkn⟩)
    rw [(f1 d k this).2.2]; exact this
/-- (C) d has no child of the name n yet -/
theorem pi_rg0 (I : pi_I nm vs lock R d n m H N V C F) : ly_Rg H C d n 0 := by
  refine ⟨Nat.zero_le _, ?_⟩
  intro r hr
  obtain rfl : r = 0 := by omega
  show C d n = 0
  by_cases z : C d n = 0
  · exact z
  · have := I.2.2.2.2.2.2 d n z
    omega
/-- (B) d's own directory suits -/
theorem pi_su0 (K : pi_K nm vs lock) (hR : pi_R lock R) (I : pi_I nm vs lock R d n m H N V C F) (hd : d < m) (hn : n < 8) (hv : v < 3) (he : lock (ly_ow N V d * 8 + n) = nI v) :
    ly_Su lock nm m H C F (1 + n * 3 + v) d n d := by
  have hnm := K.1.1.2
  refine ⟨fun k hk hp => ⟨pi_peer K hR I hd hn hv he k (by omega) hp, rfl⟩, ?_⟩
  obtain ⟨w, hr, f1, f2, f3, f4, c1⟩ := I
  have hD := ly_W_hd w
  -- outside the subtree of d nothing changes
  have key : ∀ i, i < m → (i ≠ d ∧ (i ≠ 0 → H i ≠ d)) → ly_lk H (ly_s2 C d n m) i n = ly_lk H C i n := by
    refine ly_ind hD ?_ ?_
    · rintro ⟨h1, _⟩
      have e : ly_s2 C d n m 0 n = C 0 n := ly_2n (fun z => h1 z.1)
      by_cases hc : C 0 n = 0
      · rw [ly_lk_0 hc, ly_lk_0 (by rw [e]; exact hc)]
      · rw [ly_lk_f hc, ly_lk_f (by rw [e]; exact hc), e]
    · rintro i h0 hi hl ih ⟨h1, h2⟩
      have e : ly_s2 C d n m i n = C i n := ly_2n (fun z => h1 z.1)
      by_cases hc : C i n = 0
      · rw [ly_lk_u hD hi hc h0, ly_lk_u hD hi (by rw [e]; exact hc) h0]
        refine ih ⟨h2 h0, fun hz hh => ?_⟩
        have a := hD (H i) hz (by omega)
        have b := (w.2.1 i h0 hi).2.2.2
        have c := c1 (H i) (N i) (by rw [b]; exact h0)
        omega
      · rw [ly_lk_f hc, ly_lk_f (by rw [e]; exact hc), e]
  intro i hi hf
  rw [← (f1 i n hf).2.2]
  have hne : ¬ (i = d) := by
    intro z
    subst z
    rcases f4 i n hf with a | a
    · omega
    · exact mh_n2 (v := v) (by omega) (he.symm.trans a)
  refine key i hi ⟨hne, fun h0 hh => ?_⟩
  have a := hD i h0 hi
  obtain ⟨_, wn, wv, b⟩ := w.2.1 i h0 hi
  rw [hh] at b
  have c := c1 d (N i) (by rw [b]; exact h0)
  rcases f4 i n hf with x | x
  · omega
  · rw [ly_ow_s h0] at x
    have hvs := K.1.2.2
    have := K.2.2.1 (N i) (V i) n (by omega) (by omega) hn x
    omega
theorem pi_be (K : pi_K nm vs lock) (hR : pi_R lock R) (I : pi_I nm vs lock R d n m H N V C F) (hd : d < m) (hn : n < 8) (hv : v < 3) (he : lock (ly_ow N V d * 8 + n) = nI v) :
    ∃ t, ly_Be lock nm m H C F (1 + n * 3 + v) d n t := ly_Be_ex (pi_rg0 I) (pi_su0 K hR I hd hn hv he)
/-- lookups in the layout with a new copy m of name n in p's directory -/
theorem pi_lkx (w : ly_W nm vs m H N V C) {p : Nat} (hp : p < m) : ∀ i k, i < m → ly_lk (ly_s H m p) (ly_s2 C p n m) i k = ly_lk H (ly_s2 C p n m) i k := by
  intro i k hi
  exact ly_lk_c (ly_W_hd w) (fun j h0 hj => ly_sn (by omega)) (fun j hj => rfl) i hi
theorem pi_lko (w : ly_W nm vs m H N V C) {p : Nat} : ∀ i k, i < m → k ≠ n → ly_lk H (ly_s2 C p n m) i k = ly_lk H C i k := by
  intro i k hi hk
  exact ly_lk_c (ly_W_hd w) (fun j h0 hj => rfl) (fun j hj => ly_2n (fun z => hk z.2)) i hi
theorem pi_lkm (w : ly_W nm vs m H N V C) {p : Nat} (hp : p < m) (k : Nat) : ly_lk (ly_s H m p) (ly_s2 C p n m) m k = ly_lk H (ly_s2 C p n m) p k := by
  have hD : ly_HD (m + 1) (ly_s H m p) := by
    intro i h0 hi
    by_cases e : i = m
    · subst e; rw [ly_ss]; exact hp
    · rw [ly_sn e]; exact ly_W_hd w i h0 (by omega)
  have hc : ly_s2 C p n m m k = 0 := by
    rw [ly_2n (by omega)]
    by_cases z : C m k = 0
    · exact z
    · have := (ly_W_in w z).1; omega
  rw [ly_lk_u hD (by omega) hc (by omega), ly_ss]
  exact pi_lkx w hp p k hp
/-- the reference's test, said of the climb -/
theorem pi_fit (K : pi_K nm vs lock) (hR : pi_R lock R) (I : pi_I nm vs lock R d n m H N V C F) (hd : d < m) (hn : n < 8) (hv : v < 3) (he : lock (ly_ow N V d * 8 + n) = nI v) {s : Nat} (hs : s ≤ ly_dp H d) :
    (C (ly_up H s d) n = 0 ∧ ly_lk (ly_s H m (ly_up H s d)) (ly_s2 C (ly_up H s d) n m) d n = m ∧
      (∀ i k, F i k ≠ 0 → ly_lk (ly_s H m (ly_up H s d)) (ly_s2 C (ly_up H s d) n m) i k = F i k) ∧
      (∀ k, k < 8 → lock ((1 + n * 3 + v) * 8 + k) = -2 → ly_lk (ly_s H m (ly_up H s d)) (ly_s2 C (ly_up H s d) n m) m k = ly_lk (ly_s H m (ly_up H s d)) (ly_s2 C (ly_up H s d) n m) d k))
    ↔ (ly_Rg H C d n s ∧ ly_Su lock nm m H C F (1 + n * 3 + v) d n (ly_up H s d)) := by
  have hpeer := pi_peer K hR I hd hn hv he
  have w := I.1
  have f1 := I.2.2.1
  have hD := ly_W_hd w
  have hm1 := w.1.1
  obtain ⟨u1, u2⟩ := ly_up_f hD hd s hs
  have hp : ly_up H s d < m := by omega
  constructor
  · rintro ⟨a, b, c, e⟩
    rw [pi_lkx w hp d n hd] at b
    refine ⟨⟨hs, ?_⟩, ?_, ?_⟩
    · by_cases hall : ∀ r, r ≤ s → C (ly_up H r d) n = 0
      · exact hall
      · exfalso
        have hex : ∃ r, r ≤ s ∧ C (ly_up H r d) n ≠ 0 := by
          by_cases z : ∃ r, r ≤ s ∧ C (ly_up H r d) n ≠ 0
          · exact z
          · exact absurd (fun r hr => Decidable.not_not.mp (fun y => z ⟨r, hr, y⟩)) hall
        obtain ⟨r, ⟨hr, hc⟩, hmin⟩ := pk_least _ hex
        have hrs : r ≠ s := fun z => hc (by rw [z]; exact a)
        have hne : ∀ q, q < s → ly_s2 C (ly_up H s d) n m (ly_up H q d) n = C (ly_up H q d) n := by
          intro q hq
          refine ly_2n (fun z => ?_)
          have := (ly_up_f hD hd q (by omega)).2
          rw [z.1] at this
          omega
        have h1 := ly_lk_up (C := ly_s2 C (ly_up H s d) n m) (n := n) hD hd r (by omega) (fun q hq => by
          rw [hne q (by omega)]
          exact Decidable.not_not.mp (fun y => hmin q hq ⟨by omega, y⟩))
        rw [ly_lk_f (i := ly_up H r d) (by rw [hne r (by omega)]; exact hc), hne r (by omega)] at h1
        have := (w.2.2 _ _ hc).1
        omega
    · intro k hk hl
      have hnm := K.1.1.2
      have hkn := K.2.2.1 n v k hn hv (by omega) hl
      have := e k (by omega) hl
      rw [pi_lkm w hp, pi_lkx w hp d k hd, pi_lko w _ k hp (by omega), pi_lko w d k hd (by omega)] at this
      exact ⟨by rw [this]; exact hpeer k (by omega) hl, this⟩
    · intro i hi hf
      rw [← pi_lkx w hp i n hi]
      exact c i n hf
  · rintro ⟨⟨_, hr⟩, h1, h2⟩
    refine ⟨hr s (Nat.le_refl s), ?_, ?_, ?_⟩
    · rw [pi_lkx w hp d n hd]
      have hne : ∀ q, q < s → ly_s2 C (ly_up H s d) n m (ly_up H q d) n = C (ly_up H q d) n := by
        intro q hq
        refine ly_2n (fun z => ?_)
        have := (ly_up_f hD hd q (by omega)).2
        rw [z.1] at this
        omega
      rw [ly_lk_up (C := ly_s2 C (ly_up H s d) n m) (n := n) hD hd s hs (fun q hq => by rw [hne q hq]; exact hr q (by omega))]
      rw [ly_lk_f (by rw [ly_2s]; omega), ly_2s]
    · intro i k hf
      obtain ⟨hi, hk, e⟩ := f1 i k hf
      rw [pi_lkx w hp i k hi]
      by_cases z : k = n
      · subst z; exact h2 i hi hf
      · rw [pi_lko w i k hi z]; exact e
    · intro k hk hl
      have hkn := K.2.2.1 n v k hn hv hk hl
      have hknm : k < nm := by
        have ho : (1 + n * 3 + v) < 25 := by omega
        rcases K.2.1 _ k ho hk with e | ⟨a, _⟩
        · exact absurd (hl.symm.trans e) mh_12
        · exact a
      rw [pi_lkm w hp, pi_lkx w hp d k hd, pi_lko w _ k hp (by omega), pi_lko w d k hd (by omega)]
      exact (h1 k hknm hl).2
end
end
section
/-! the invariant's steps -/
def ly_pf (lock : Nat → Int32) (F : Nat → Nat → Nat) (c o e : Nat) (L : Nat → Nat) : Nat → Nat → Nat := fun i j => if i = c ∧ j < e ∧ lock (o * 8 + j) = -2 then L j else F i j
theorem ly_pf_p {lock : Nat → Int32} {F : Nat → Nat → Nat} {c o e : Nat} {L : Nat → Nat} {i j : Nat} (h : i = c ∧ j < e ∧ lock (o * 8 + j) = -2) : ly_pf lock F c o e L i j = L j := if_pos h
theorem ly_pf_n {lock : Nat → Int32} {F : Nat → Nat → Nat} {c o e : Nat} {L : Nat → Nat} {i j : Nat} (h : ¬ (i = c ∧ j < e ∧ lock (o * 8 + j) = -2)) : ly_pf lock F c o e L i j = F i j := if_neg h
theorem ly_pf_0 (lock : Nat → Int32) (F : Nat → Nat → Nat) (c o : Nat) (L : Nat → Nat) : ly_pf lock F c o 0 L = F := by
  funext i j
  exact ly_pf_n (fun z => absurd z.2.1 (Nat.not_lt_zero _))
theorem ly_pf_s (lock : Nat → Int32) (F : Nat → Nat → Nat) (c o e : Nat) (L : Nat → Nat) (h : lock (o * 8 + e) = -2) : ly_pf lock F c o (e + 1) L = ly_s2 (ly_pf lock F c o e L) c e (L e) := by
  funext i j
  by_cases z : i = c ∧ j = e
  · obtain ⟨rfl, rfl⟩ := z
    rw [ly_2s]
    exact ly_pf_p ⟨rfl, by omega, h⟩
  · rw [ly_2n z]
    by_cases y : i = c ∧ j < e ∧ lock (o * 8 + j) = -2
    · rw [ly_pf_p y, ly_pf_p ⟨y.1, by omega, y.2.2⟩]
    · rw [ly_pf_n y, ly_pf_n]
      rintro ⟨a, b, c⟩
      by_cases x : j = e
      · exact z ⟨a, x⟩
      · exact y ⟨a, by omega, c⟩
theorem ly_pf_k (lock : Nat → Int32) (F : Nat → Nat → Nat) (c o e : Nat) (L : Nat → Nat) (h : ¬ lock (o * 8 + e) = -2) : ly_pf lock F c o (e + 1) L = ly_pf lock F c o e L := by
  funext i j
  by_cases y : i = c ∧ j < e ∧ lock (o * 8 + j) = -2
  · rw [ly_pf_p y, ly_pf_p ⟨y.1, by omega, y.2.2⟩]
  · rw [ly_pf_n y, ly_pf_n]
    rintro ⟨a, b, c⟩
    by_cases x : j = e
    · subst x; exact h c
    · exact y ⟨a, by omega, c⟩
section
variable {nm vs : Nat} {lock : Nat → Int32} {R : Nat → Prop} {d n m v : Nat} {H N V : Nat → Nat} {C F : Nat → Nat → Nat}
theorem pi_pf8 (K : pi_K nm vs lock) (F : Nat → Nat → Nat) (c : Nat) {o : Nat} (ho : o < 25) (L : Nat → Nat) : ly_pf lock F c o nm L = ly_pf lock F c o 8 L := by
  have hnm := K.1.1.2
  funext i j
  by_cases y : i = c ∧ j < nm ∧ lock (o * 8 + j) = -2
  · rw [ly_pf_p y, ly_pf_p ⟨y.1, by omega, y.2.2⟩]
  · rw [ly_pf_n y, ly_pf_n]
    rintro ⟨a, b, e⟩
    rcases K.2.1 o j ho b with x | ⟨x, _⟩
    · exact mh_12 (e.symm.trans x)
    · exact y ⟨a, x, e⟩
theorem pi_skip (I : pi_I nm vs lock R d n m H N V C F) (hno : ∀ v, v < 3 → lock (ly_ow N V d * 8 + n) ≠ nI v) : pi_I nm vs lock R d (n + 1) m H N V C F := by
  obtain ⟨w, hr, f1, f2, f3, f4, c1⟩ := I
  refine ⟨w, hr, f1, ?_, f3, ?_, ?_⟩
  · intro i k v hi hk hv he hc
    by_cases z : i = d ∧ k = n
    · obtain ⟨rfl, rfl⟩ := z
      exact absurd he (hno v hv)
    · exact f2 i k v hi hk hv he (by omega)
  · intro i k hf
    rcases f4 i k hf with a | a
    · exact Or.inl (by omega)
    · exact Or.inr a
  · intro i k hc
    have := c1 i k hc
    omega
theorem pi_row (K : pi_K nm vs lock) (I : pi_I nm vs lock R d nm m H N V C F) : pi_I nm vs lock R (d + 1) 0 m H N V C F := by
  obtain ⟨w, hr, f1, f2, f3, f4, c1⟩ := I
  refine ⟨w, hr, f1, ?_, f3, ?_, ?_⟩
  · intro i k v hi hk hv he hc
    have := pi_lt K (ly_ow_lt w K.1.1.2 K.1.2.2 hi) hk hv he
    exact f2 i k v hi hk hv he (by omega)
  · intro i k hf
    rcases f4 i k hf with a | a
    · exact Or.inl (by omega)
    · exact Or.inr a
  · intro i k hc
    have := c1 i k hc
    omega
theorem pi_use (I : pi_I nm vs lock R d n m H N V C F) (hd : d < m) (hn : n < 8) (hu : ly_lk H C d n ≠ 0) : pi_I nm vs lock R d (n + 1) m H N V C (ly_s2 F d n (ly_lk H C d n)) := by
  obtain ⟨w, hr, f1, f2, f3, f4, c1⟩ := I
  have keep : ∀ i k, F i k ≠ 0 → ly_s2 F d n (ly_lk H C d n) i k ≠ 0 := by
    intro i k h
    by_cases z : i = d ∧ k = n
    · obtain ⟨rfl, rfl⟩ := z
      rw [ly_2s]; exact hu
    · rw [ly_2n z]; exact h
  refine ⟨w, hr, ?_, ?_, fun i k hi hk he => keep i k (f3 i k hi hk he), ?_, ?_⟩
  · intro i k hf
    by_cases z : i = d ∧ k = n
    · obtain ⟨rfl, rfl⟩ := z
      rw [ly_2s]; exact ⟨hd, hn, rfl⟩
    · rw [ly_2n z] at hf ⊢; exact f1 i k hf
  · intro i k v hi hk hv he hc
    by_cases z : i = d ∧ k = n
    · obtain ⟨rfl, rfl⟩ := z
      rw [ly_2s]; exact hu
    · exact keep i k (f2 i k v hi hk hv he (by omega))
  · intro i k hf
    by_cases z : i = d ∧ k = n
    · exact Or.inl (by omega)
    · rw [ly_2n z] at hf
      rcases f4 i k hf with a | a
      · exact Or.inl (by omega)
      · exact Or.inr a
  · intro i k hc
    have := c1 i k hc
    omega
theorem ly_ow_n {N V : Nat → Nat} {m n v i : Nat} (h : i ≠ m) : ly_ow (ly_s N m n) (ly_s V m v) i = ly_ow N V i := by
  show (if i = 0 then 0 else 1 + ly_s N m n i * 3 + ly_s V m v i) = _
  rw [ly_sn h, ly_sn h]; rfl
theorem ly_ow_m {N V : Nat → Nat} {m n v : Nat} (h : m ≠ 0) : ly_ow (ly_s N m n) (ly_s V m v) m = 1 + n * 3 + v := by
  rw [ly_ow_s h, ly_ss, ly_ss]
/-- a new copy m in the directory p = the best of the climb -/
theorem pi_new (K : pi_K nm vs lock) (hR : pi_R lock R) (I : pi_I nm vs lock R d n m H N V C F) (hd : d < m) (hn : n < 8) (hv : v < 3) (he : lock (ly_ow N V d * 8 + n) = nI v) (hm : m < 25) {t p : Nat}
    (hB : ly_Be lock nm m H C F (1 + n * 3 + v) d n t) (hpe : p = ly_up H t d) :
    pi_I nm vs lock R d (n + 1) (m + 1) (ly_s H m p) (ly_s N m n) (ly_s V m v) (ly_s2 C p n m)
      (ly_s2 (ly_pf lock F m (1 + n * 3 + v) 8 (fun k => ly_lk (ly_s H m p) (ly_s2 C p n m) m k)) d n m) := by
  have hpeer := pi_peer K hR I hd hn hv he
  have ht := hB.1.1
  obtain ⟨q1, q2, q3, q4⟩ := (pi_fit K hR I hd hn hv he ht).mpr ⟨hB.1, hB.2.1⟩
  rw [← hpe] at q1 q2 q3 q4
  obtain ⟨w, hr, f1, f2, f3, f4, c1⟩ := I
  have hD := ly_W_hd w
  have hm1 := w.1.1
  have hpd : p ≤ d := by rw [hpe]; exact (ly_up_f hD hd t ht).1
  have ho := ly_ow_lt w K.1.1.2 K.1.2.2 hd
  obtain ⟨hnn, hvv⟩ := pi_lt K ho hn hv he
  have w' := ly_W_ext w (p := p) (n := n) (v := v) (by omega) hnn hvv q1 hm
  -- the new fixed table off the new entry
  have fo : ∀ i k, i ≠ m → ¬ (i = d ∧ k = n) → ly_s2 (ly_pf lock F m (1 + n * 3 + v) 8 (fun k => ly_lk (ly_s H m p) (ly_s2 C p n m) m k)) d n m i k = F i k := by
    intro i k h1 h2
    rw [ly_2n h2, ly_pf_n (fun z => h1 z.1)]
  have keep : ∀ i k, F i k ≠ 0 → i ≠ m → ly_s2 (ly_pf lock F m (1 + n * 3 + v) 8 (fun k => ly_lk (ly_s H m p) (ly_s2 C p n m) m k)) d n m i k ≠ 0 := by
    intro i k h hi
    by_cases z : i = d ∧ k = n
    · obtain ⟨rfl, rfl⟩ := z
      rw [ly_2s]; omega
    · rw [fo i k hi z]; exact h
  have fm : ∀ k, ly_s2 (ly_pf lock F m (1 + n * 3 + v) 8 (fun k => ly_lk (ly_s H m p) (ly_s2 C p n m) m k)) d n m m k ≠ 0 → (k < 8 ∧ lock ((1 + n * 3 + v) * 8 + k) = -2) ∧ ly_s2 (ly_pf lock F m (1 + n * 3 + v) 8 (fun k => ly_lk (ly_s H m p) (ly_s2 C p n m) m k)) d n m m k = ly_lk (ly_s H m p) (ly_s2 C p n m) m k := by
    intro k h
    rw [ly_2n (fun z => absurd z.1 (by omega))] at h ⊢
    by_cases y : k < 8 ∧ lock ((1 + n * 3 + v) * 8 + k) = -2
    · rw [ly_pf_p ⟨rfl, y⟩]; exact ⟨y, rfl⟩
    · rw [ly_pf_n (fun z => y z.2)] at h
      exact absurd (f1 m k h).1 (by omega)
  refine ⟨w', ?_, ?_, ?_, ?_, ?_, ?_⟩
  · intro i hi
    by_cases z : i = m
    · subst z
      rw [ly_ow_m (by omega)]
      exact (hR.2 _ n v ho (hr d hd) hn hv he).1
    · rw [ly_ow_n z]; exact hr i (by omega)
  · intro i k hf
    by_cases z : i = d ∧ k = n
    · obtain ⟨rfl, rfl⟩ := z
      rw [ly_2s]; exact ⟨by omega, hn, q2⟩
    · by_cases y : i = m
      · subst y
        obtain ⟨a, b⟩ := fm k hf
        rw [b]; exact ⟨by omega, a.1, rfl⟩
      · rw [fo i k y z] at hf ⊢
        obtain ⟨a, b, _⟩ := f1 i k hf
        exact ⟨by omega, b, q3 i k hf⟩
  · intro i k x hi hk hx hl hc
    have hne : i ≠ m := by omega
    rw [ly_ow_n hne] at hl
    by_cases z : i = d ∧ k = n
    · obtain ⟨rfl, rfl⟩ := z
      rw [ly_2s]; omega
    · exact keep i k (f2 i k x (by omega) hk hx hl (by omega)) hne
  · intro i k hi hk hl
    by_cases y : i = m
    · subst y
      rw [ly_ow_m (by omega)] at hl
      rw [ly_2n (fun z => absurd z.1 (by omega)), ly_pf_p ⟨rfl, hk, hl⟩]
      have hkn := K.2.2.1 n v k hn hv hk hl
      show ly_lk (ly_s H i p) (ly_s2 C p n i) i k ≠ 0
      rw [q4 k hk hl, pi_lkx w (by omega) d k hd, pi_lko w d k hd (by omega)]
      exact hpeer k hk hl
    · rw [ly_ow_n y] at hl
      exact keep i k (f3 i k (by omega) hk hl) y
  · intro i k hf
    by_cases z : i = d ∧ k = n
    · exact Or.inl (by omega)
    · by_cases y : i = m
      · subst y
        obtain ⟨a, b⟩ := fm k hf
        rw [ly_ow_m (by omega)]
        exact Or.inr a.2
      · rw [fo i k y z] at hf
        rw [ly_ow_n y]
        rcases f4 i k hf with a | a
        · exact Or.inl (by omega)
        · exact Or.inr a
  · intro i k hc
    by_cases z : i = p ∧ k = n
    · omega
    · rw [ly_2n z] at hc
      have := c1 i k hc
      omega
theorem pi_start (K : pi_K nm vs lock) (hR : pi_R lock R) (H N V : Nat → Nat) : pi_I nm vs lock R 0 0 1 H N V (fun _ _ => 0) (fun _ _ => 0) := by
  refine ⟨ly_W_1 nm vs H N V, ?_, fun i k h => absurd rfl h, ?_, ?_, fun i k h => absurd rfl h, fun i k h => absurd rfl h⟩
  · intro i hi
    obtain rfl : i = 0 := by omega
    exact hR.1
  · intro i k v hi hk hv he hc; omega
  · intro i k hi hk he
    obtain rfl : i = 0 := by omega
    rw [ly_ow_0, Nat.zero_mul, Nat.zero_add] at he
    exact absurd he (K.2.2.2 k hk)
end
end
section
/-! X's placing of a new copy -/
theorem xl_C_set {b : Nat} {C : Nat → Nat → Nat} {ch : Nat → Int32} (h : xl_C b C ch) {p n x : Nat} (hp : p < 25) (hn : n < 8) : xl_C b (ly_s2 C p n x) (upd ch ((b + p) * 8 + n) (mh_e b x)) := by
  intro i k hi hk
  by_cases z : i = p ∧ k = n
  · obtain ⟨rfl, rfl⟩ := z; rw [pk_us, ly_2s]
  · rw [pk_un (by omega), ly_2n z]; exact h i k hi hk
theorem ly_s2_b {C : Nat → Nat → Nat} {p n m : Nat} (hv : ∀ i n, C i n < 26) (hm : m < 26) : ∀ i k, ly_s2 C p n m i k < 26 := by
  intro i k
  by_cases z : i = p ∧ k = n
  · obtain ⟨rfl, rfl⟩ := z; rw [ly_2s]; exact hm
  · rw [ly_2n z]; exact hv i k
theorem ly_lk_b {H : Nat → Nat} {C : Nat → Nat → Nat} (hv : ∀ i n, C i n < 26) : ∀ i n, ly_lk H C i n < 26 := fun i n => ly_lk_P (P := fun x => x < 26) (by omega) (fun j _ => hv j n) i
theorem ly_W_b {nm vs m : Nat} {H N V : Nat → Nat} {C : Nat → Nat → Nat} (w : ly_W nm vs m H N V C) : ∀ i n, C i n < 26 := fun i n => by
  have := w.1.2
  by_cases z : C i n = 0
  · omega
  · have := (w.2.2 i n z).1; omega
section
variable {f_versions f_rooms f_queued f_live f_liveCount f_draft f_draftCount f_cursor : Int32} {a_lock a_planned a_holder a_nameOf a_versionOf a_depthOf a_child a_fixed a_match a_queue a_reached : Nat → Int32}
variable {post : Int32 → Prop} {nm : Nat}
theorem xl_ownerIndex {a v : Nat} (ha : a < 2 ^ 31) (hp : post (nI (1 + a * 3 + v))) : wpX_ownerIndex post (nI nm, f_versions, f_rooms, f_queued, f_live, f_liveCount, f_draft, f_draftCount, f_cursor, a_lock, a_planned, a_holder, a_nameOf, a_versionOf, a_depthOf, a_child, a_fixed, a_match, a_queue, a_reached) (nI a) (nI v) := by
  refine br_f (mh_n1 ha) ?_
  rw [mh_ow]; exact hp
end
section
variable {f_versions f_rooms f_queued f_live f_liveCount f_cursor : Int32} {a_lock a_planned a_holder a_nameOf a_versionOf a_depthOf a_child a_fixed a_match a_queue a_reached : Nat → Int32}
variable {nm b m : Nat} {H N V : Nat → Nat} {C F : Nat → Nat → Nat}
theorem xl_fixedHold2 {post : Int32 → Prop} {n : Nat} (hH : xl_H b m H a_holder) (hC : xl_C b C a_child) (hF : xl_C b F a_fixed) (hd : ly_HD m H) (hv : ∀ i n, C i n < 26) (hFv : ∀ i n, F i n < 26) (hb : b ≤ 25) (hm : m < 25) (hn : n < 8) (hFm : F m n = 0)
    (h1 : (∀ i, i < m → F i n ≠ 0 → ly_lk H C i n = F i n) → post 1) (h0 : ¬ (∀ i, i < m → F i n ≠ 0 → ly_lk H C i n = F i n) → post 0) :
    ∀ j i, i + j = m + 1 → (∀ i', i' < i → i' < m → F i' n ≠ 0 → ly_lk H C i' n = F i' n) → wX_fixedHold_2 post (nI n) (nI nm) f_versions f_rooms f_queued f_live f_liveCount (nI b) (nI m) f_cursor a_lock a_planned a_holder a_nameOf a_versionOf a_depthOf a_child a_fixed a_match a_queue a_reached (j + 1) (nI i) := by
  intro j
  induction j with
  | zero =>
    intro i hi hQ
    exact br_t (nI_lt (by omega) (by omega)) (h1 (fun i' h => hQ i' (by omega) h))
  | succ j ih =>
    intro i hi hQ
    refine br_f (nI_nlt (by omega) (by omega)) (nm_r (nI_add b i) ?_)
    rw [mh_ix, nI_clamp (by omega), hF i n (by omega) hn]
    have l1 := hFv i n
    have l2 := ly_lk_b (H := H) hv i n
    refine ⟨vp_in_nI (by omega) (by decide), nm_e (mh_br (by omega) (fun z => ?_) (fun z => ?_))⟩
    · exact nm_r (nI_1 i) (ih (i + 1) (by omega) (lt_s hQ (fun _ y => absurd z y)))
    · have him : i < m := by
        by_cases e : i = m
        · subst e; exact absurd hFm z
        · omega
      refine xl_lookup hH hC hd hv hb (by omega) hn him ?_
      refine mh_bi (by omega) (by omega) (fun e => nm_r (nI_1 i) (ih (i + 1) (by omega) (lt_s hQ (fun _ _ => e)))) (fun e => h0 (fun y => e (y i him z)))
theorem xl_fixedHold {post : Int32 → Prop} {n : Nat} (hH : xl_H b m H a_holder) (hC : xl_C b C a_child) (hF : xl_C b F a_fixed) (hd : ly_HD m H) (hv : ∀ i n, C i n < 26) (hFv : ∀ i n, F i n < 26) (hb : b ≤ 25) (hm : m < 25) (hn : n < 8) (hFm : F m n = 0)
    (h1 : (∀ i, i < m → F i n ≠ 0 → ly_lk H C i n = F i n) → post 1) (h0 : ¬ (∀ i, i < m → F i n ≠ 0 → ly_lk H C i n = F i n) → post 0) : wpX_fixedHold post (nI nm, f_versions, f_rooms, f_queued, f_live, f_liveCount, nI b, nI m, f_cursor, a_lock, a_planned, a_holder, a_nameOf, a_versionOf, a_depthOf, a_child, a_fixed, a_match, a_queue, a_reached) (nI n) :=
  Exists.intro (m + 1 + 1) (xl_fixedHold2 hH hC hF hd hv hFv hb hm hn hFm h1 h0 (m + 1) 0 (by omega) lt_0)
theorem xl_keepsFixed {post : Int32 → SX → Prop} {p n : Nat} (hH : xl_H b m H a_holder) (hC : xl_C b C a_child) (hF : xl_C b F a_fixed) (hd : ly_HD m H) (hv : ∀ i n, C i n < 26) (hFv : ∀ i n, F i n < 26) (hb : b ≤ 25) (hm0 : 0 < m) (hm : m < 25) (hn : n < 8) (hFm : F m n = 0)
    (hp : p < m) (hna : a_nameOf (b + m) = nI n) (hcp : C p n = 0)
    (h1 : (∀ i, i < m → F i n ≠ 0 → ly_lk H (ly_s2 C p n m) i n = F i n) → post 1 (nI nm, f_versions, f_rooms, f_queued, f_live, f_liveCount, nI b, nI m, f_cursor, a_lock, a_planned, a_holder, a_nameOf, a_versionOf, a_depthOf, a_child, a_fixed, a_match, a_queue, a_reached)) (h0 : ¬ (∀ i, i < m → F i n ≠ 0 → ly_lk H (ly_s2 C p n m) i n = F i n) → post 0 (nI nm, f_versions, f_rooms, f_queued, f_live, f_liveCount, nI b, nI m, f_cursor, a_lock, a_planned, a_holder, a_nameOf, a_versionOf, a_depthOf, a_child, a_fixed, a_match, a_queue, a_reached)) :
    wpX_keepsFixed post (nI nm, f_versions, f_rooms, f_queued, f_live, f_liveCount, nI b, nI m, f_cursor, a_lock, a_planned, a_holder, a_nameOf, a_versionOf, a_depthOf, a_child, a_fixed, a_match, a_queue, a_reached) (nI (b + p)) (nI (b + m)) := by
  unfold wpX_keepsFixed
  dsimp only
  refine ⟨vp_in_nI (by omega) (by decide), nm_r (e' := nI n) (by rw [nI_clamp (by omega)]; exact hna) ?_⟩
  rw [mh_ix, nI_clamp (by omega)]
  have hin : vp_in (nI ((b + p) * 8 + n)) 400 := vp_in_nI (by omega) (by decide)
  have hch : a_child ((b + p) * 8 + n) = -1 := by rw [hC p n (by omega) hn, hcp, mh_e0]
  refine ⟨hin, nm_e ?_⟩
  have hC' : xl_C b (ly_s2 C p n m) (upd a_child ((b + p) * 8 + n) (nI (b + m))) := by
    rw [← mh_es (b := b) (j := m) (by omega)]
    exact xl_C_set hC (by omega) hn
  exact xl_fixedHold hH hC' hF hd (ly_s2_b hv (by omega)) hFv hb hm hn hFm (fun w => ⟨hin, nm_r (mh_uu _ _ _ _ hch) ⟨mh_nb1, h1 w⟩⟩) (fun w => ⟨hin, nm_r (mh_uu _ _ _ _ hch) ⟨mh_nb0, h0 w⟩⟩)
theorem xl_suits {post : Int32 → SX → Prop} {p n d v : Nat} (hH : xl_H b m H a_holder) (hC : xl_C b C a_child) (hF : xl_C b F a_fixed) (hd : ly_HD m H) (hv : ∀ i n, C i n < 26) (hFv : ∀ i n, F i n < 26) (hnm : nm ≤ 8) (hb : b ≤ 25) (hm0 : 0 < m) (hm : m < 25) (hn : n < 8) (hvv : v < 3) (hFm : F m n = 0)
    (hp : p < m) (hdm : d < m) (hna : a_nameOf (b + m) = nI n) (hve : a_versionOf (b + m) = nI v) (hcp : C p n = 0)
    (h1 : ly_Su a_lock nm m H C F (1 + n * 3 + v) d n p → post 1 (nI nm, f_versions, f_rooms, f_queued, f_live, f_liveCount, nI b, nI m, f_cursor, a_lock, a_planned, a_holder, a_nameOf, a_versionOf, a_depthOf, a_child, a_fixed, a_match, a_queue, a_reached)) (h0 : ¬ ly_Su a_lock nm m H C F (1 + n * 3 + v) d n p → post 0 (nI nm, f_versions, f_rooms, f_queued, f_live, f_liveCount, nI b, nI m, f_cursor, a_lock, a_planned, a_holder, a_nameOf, a_versionOf, a_depthOf, a_child, a_fixed, a_match, a_queue, a_reached)) :
    wpX_suits post (nI nm, f_versions, f_rooms, f_queued, f_live, f_liveCount, nI b, nI m, f_cursor, a_lock, a_planned, a_holder, a_nameOf, a_versionOf, a_depthOf, a_child, a_fixed, a_match, a_queue, a_reached) (nI (b + p)) (nI (b + d)) (nI (b + m)) := by
  unfold wpX_suits
  dsimp only
  have hin : vp_in (nI (b + m)) 50 := vp_in_nI (by omega) (by decide)
  rw [nI_clamp (by omega), hna, hve]
  refine ⟨hin, hin, xl_ownerIndex (by omega) ?_⟩
  refine xl_samePeers hH hC hd hv (ly_lk_b hv) hb (by omega) hnm hp hdm (by omega) (fun w => ?_) (fun w => ?_)
  · refine br_f mh_10 ?_
    exact xl_keepsFixed hH hC hF hd hv hFv hb hm0 hm hn hFm hp hna hcp (fun y => br_f mh_10 (h1 ⟨w, y⟩)) (fun y => br_t rfl (h0 (fun z => y z.2)))
  · exact br_t rfl (h0 (fun z => w z.1))
theorem xl_choose16 {post : Int32 → SX → Prop} {n d v t0 : Nat} (hH : xl_H b m H a_holder) (hC : xl_C b C a_child) (hF : xl_C b F a_fixed) (hd : ly_HD m H) (hv : ∀ i n, C i n < 26) (hFv : ∀ i n, F i n < 26) (hnm : nm ≤ 8) (hb : b ≤ 25) (hm0 : 0 < m) (hm : m < 25) (hn : n < 8) (hvv : v < 3) (hFm : F m n = 0)
    (hdm : d < m) (hna : a_nameOf (b + m) = nI n) (hve : a_versionOf (b + m) = nI v)
    (hB : ly_Be a_lock nm m H C F (1 + n * 3 + v) d n t0) (hp : post (nI (b + ly_up H t0 d)) (nI nm, f_versions, f_rooms, f_queued, f_live, f_liveCount, nI b, nI m, f_cursor, a_lock, a_planned, a_holder, a_nameOf, a_versionOf, a_depthOf, a_child, a_fixed, a_match, a_queue, a_reached)) :
    ∀ g s t x5, s + g = ly_dp H d + 1 → (s ≤ ly_dp H d → x5 = nI (b + ly_up H s d)) → (ly_dp H d < s → x5 = -1) → t ≤ s → ly_Rg H C d n t → ly_Su a_lock nm m H C F (1 + n * 3 + v) d n (ly_up H t d) →
      (∀ r, t < r → r < s → ¬ ly_Su a_lock nm m H C F (1 + n * 3 + v) d n (ly_up H r d)) → (∀ r, r < s → C (ly_up H r d) n = 0) →
      wX_choosePlace_16 post (nI (b + d)) (nI (b + m)) (nI n) (g + 1) (nI (b + ly_up H t d)) x5 (nI s) (nI nm) f_versions f_rooms f_queued f_live f_liveCount (nI b) (nI m) f_cursor a_lock a_planned a_holder a_nameOf a_versionOf a_depthOf a_child a_fixed a_match a_queue a_reached := by
  have hD := ly_dp_le hd d hdm
  intro g
  induction g with
  | zero =>
    intro s t x5 hs ha hb5 hts hr hsu hno hz
    have e5 := hb5 (by omega)
    subst e5
    refine br_f (nI_ge (b := 25) (by omega) (by decide)) (br_t mh_m1 ?_)
    have hB' : ly_Be a_lock nm m H C F (1 + n * 3 + v) d n t := ⟨hr, hsu, fun r h1 h2 => hno r h1 (by have := h2.1; omega)⟩
    rw [ly_Be_u hB hB']; exact hp
  | succ g ih =>
    intro s t x5 hs ha hb5 hts hr hsu hno hz
    have e5 := ha (by omega)
    subst e5
    obtain ⟨u1, u2⟩ := ly_up_f hd hdm s (by omega)
    refine br_f (nI_ge (b := 25) (by omega) (by decide)) (br_f (nI_pos (by omega)) ?_)
    rw [mh_ix, nI_clamp (by omega), hC _ n (by omega) hn]
    have l1 := hv (ly_up H s d) n
    refine ⟨vp_in_nI (by omega) (by decide), mh_br (by omega) (fun z => ?_) (fun z => ?_)⟩
    · have hin : vp_in (nI (b + ly_up H s d)) 50 := vp_in_nI (by omega) (by decide)
      have hz' : ∀ r, r < s + 1 → C (ly_up H r d) n = 0 := lt_s hz z
      have hlo : s + 1 ≤ ly_dp H d → a_holder (nI (b + ly_up H s d)).toNatClampNeg = nI (b + ly_up H (s + 1) d) := by
        intro h
        rw [nI_clamp (by omega)]
        exact hH.2 _ (ly_up_n hd hdm (by omega)) (by omega)
      have hhi : ly_dp H d < s + 1 → a_holder (nI (b + ly_up H s d)).toNatClampNeg = -1 := by
        intro h
        rw [nI_clamp (by omega), ly_dp_z hd (i := ly_up H s d) (by omega) (by omega)]
        exact hH.1
      refine xl_suits hH hC hF hd hv hFv hnm hb hm0 hm hn hvv hFm (by omega) hdm hna hve z (fun w => ?_) (fun w => ?_)
      · refine br_f mh_10 ⟨hin, nm_e (nm_r (nI_1 s) ?_)⟩
        exact ih (s + 1) s _ (by omega) hlo hhi (by omega) ⟨by omega, fun r h => hz' r (by omega)⟩ w (fun r h1 h2 => by omega) hz'
      · refine br_t rfl ⟨hin, nm_e (nm_r (nI_1 s) ?_)⟩
        refine ih (s + 1) t _ (by omega) hlo hhi (by omega) hr hsu (fun r h1 h2 => ?_) hz'
        by_cases e : r = s
        · subst e; exact w
        · exact hno r h1 (by omega)
    · have hB' : ly_Be a_lock nm m H C F (1 + n * 3 + v) d n t := by
        refine ⟨hr, hsu, fun r h1 h2 => hno r h1 ?_⟩
        by_cases e : r < s
        · exact e
        · exact absurd (h2.2 s (by omega)) z
      rw [ly_Be_u hB hB']; exact hp
theorem xl_choosePlace {post : Int32 → SX → Prop} {n d v t0 : Nat} (hH : xl_H b m H a_holder) (hC : xl_C b C a_child) (hF : xl_C b F a_fixed) (hd : ly_HD m H) (hv : ∀ i n, C i n < 26) (hFv : ∀ i n, F i n < 26) (hnm : nm ≤ 8) (hb : b ≤ 25) (hm0 : 0 < m) (hm : m < 25) (hn : n < 8) (hvv : v < 3) (hFm : F m n = 0)
    (hdm : d < m) (hna : a_nameOf (b + m) = nI n) (hve : a_versionOf (b + m) = nI v) (hr0 : ly_Rg H C d n 0) (hs0 : ly_Su a_lock nm m H C F (1 + n * 3 + v) d n d)
    (hB : ly_Be a_lock nm m H C F (1 + n * 3 + v) d n t0) (hp : post (nI (b + ly_up H t0 d)) (nI nm, f_versions, f_rooms, f_queued, f_live, f_liveCount, nI b, nI m, f_cursor, a_lock, a_planned, a_holder, a_nameOf, a_versionOf, a_depthOf, a_child, a_fixed, a_match, a_queue, a_reached)) :
    wpX_choosePlace post (nI nm, f_versions, f_rooms, f_queued, f_live, f_liveCount, nI b, nI m, f_cursor, a_lock, a_planned, a_holder, a_nameOf, a_versionOf, a_depthOf, a_child, a_fixed, a_match, a_queue, a_reached) (nI (b + d)) (nI (b + m)) := by
  refine And.intro (vp_in_nI (by omega) (by decide)) (nm_r (e' := nI n) (by rw [nI_clamp (by omega)]; exact hna) (Exists.intro (ly_dp H d + 1 + 1) ?_))
  exact xl_choose16 hH hC hF hd hv hFv hnm hb hm0 hm hn hvv hFm hdm hna hve hB hp (ly_dp H d + 1) 0 0 (nI (b + d)) (by omega) (fun _ => rfl) (fun h => by omega) (by omega) hr0 hs0 (fun r h1 h2 => by omega) lt_0
end
section
variable {f_versions f_rooms f_queued f_live f_liveCount f_draftCount f_cursor : Int32} {a_lock a_planned a_holder a_nameOf a_versionOf a_depthOf a_child a_fixed a_match a_queue a_reached : Nat → Int32}
variable {nm b m : Nat} {H N V : Nat → Nat} {C F : Nat → Nat → Nat}
theorem xl_fixPeers8 {post : SX → Prop} {c o : Nat} (hH : xl_H b m H a_holder) (hC : xl_C b C a_child) (hd : ly_HD m H) (hv : ∀ i n, C i n < 26) (hnm : nm ≤ 8) (hb : b ≤ 25) (hm : m ≤ 25) (hc : c < m) (ho : o < 25)
    (hp : ∀ fi, xl_C b (ly_pf a_lock F c o nm (fun k => ly_lk H C c k)) fi → post (nI nm, f_versions, f_rooms, f_queued, f_live, f_liveCount, nI b, f_draftCount, f_cursor, a_lock, a_planned, a_holder, a_nameOf, a_versionOf, a_depthOf, a_child, fi, a_match, a_queue, a_reached)) :
    ∀ j k fi, k + j = nm → xl_C b (ly_pf a_lock F c o k (fun k => ly_lk H C c k)) fi → wX_fixPeers_8 post (nI (b + c)) (nI o) (nI nm) f_versions f_rooms f_queued f_live f_liveCount (nI b) f_draftCount f_cursor (j + 1) (nI k) a_lock a_planned a_holder a_nameOf a_versionOf a_depthOf a_child fi a_match a_queue a_reached := by
  intro j
  induction j with
  | zero =>
    intro k fi hk hfi
    obtain rfl : k = nm := by omega
    exact br_t (nI_le (Nat.le_refl _) (by omega)) (hp fi hfi)
  | succ j ih =>
    intro k fi hk hfi
    refine br_f (nI_ge (by omega) (by omega)) ?_
    rw [mh_ix, nI_clamp (by omega)]
    refine ⟨vp_in_nI (by omega) (by decide), br_c (fun hl => ?_) (fun hl => ?_)⟩
    · refine xl_lookup hH hC hd hv hb hm (by omega) hc ?_
      rw [mh_ix, nI_clamp (by omega)]
      refine ⟨vp_in_nI (by omega) (by decide), nm_e (nm_r (nI_1 k) (ih (k + 1) _ (by omega) ?_))⟩
      rw [ly_pf_s _ _ _ _ _ _ hl]
      exact xl_C_set hfi (by omega) (by omega)
    · refine nm_r (nI_1 k) (ih (k + 1) fi (by omega) ?_)
      rw [ly_pf_k _ _ _ _ _ _ hl]; exact hfi
theorem xl_fixPeers {post : SX → Prop} {c : Nat} (hH : xl_H b m H a_holder) (hN : xl_N b m N a_nameOf) (hV : xl_N b m V a_versionOf) (hC : xl_C b C a_child) (hF : xl_C b F a_fixed) (hd : ly_HD m H) (hv : ∀ i n, C i n < 26) (hnm : nm ≤ 8) (hb : b ≤ 25) (hm : m ≤ 25) (hc : c < m) (ho : ly_ow N V c < 25)
    (hp : ∀ fi, xl_C b (ly_pf a_lock F c (ly_ow N V c) nm (fun k => ly_lk H C c k)) fi → post (nI nm, f_versions, f_rooms, f_queued, f_live, f_liveCount, nI b, f_draftCount, f_cursor, a_lock, a_planned, a_holder, a_nameOf, a_versionOf, a_depthOf, a_child, fi, a_match, a_queue, a_reached)) : wpX_fixPeers post (nI nm, f_versions, f_rooms, f_queued, f_live, f_liveCount, nI b, f_draftCount, f_cursor, a_lock, a_planned, a_holder, a_nameOf, a_versionOf, a_depthOf, a_child, a_fixed, a_match, a_queue, a_reached) (nI (b + c)) := by
  unfold wpX_fixPeers
  dsimp only
  refine xl_ownerOf hH hN hV hd hb hm hc ?_
  refine ⟨nm + 1, xl_fixPeers8 (F := F) hH hC hd hv hnm hb hm hc ho hp nm 0 a_fixed (by omega) ?_⟩
  rw [ly_pf_0]; exact hF
end
end
section
/-! X's whole layout, a new copy, an edge met -/
def xl_L (b m : Nat) (H N V : Nat → Nat) (C : Nat → Nat → Nat) (ho na ve de ch : Nat → Int32) : Prop :=
  xl_H b m H ho ∧ xl_N b m N na ∧ xl_N b m V ve ∧ xl_N b m (ly_dp H) de ∧ de b = 0 ∧ xl_C b C ch
theorem xl_N_ext {b m x : Nat} {N : Nat → Nat} {na : Nat → Int32} (h : xl_N b m N na) : xl_N b (m + 1) (ly_s N m x) (upd na (b + m) (nI x)) := by
  intro i h0 hi
  by_cases e : i = m
  · subst e; rw [pk_us, ly_ss]
  · rw [pk_un (by omega), ly_sn e]; exact h i h0 (by omega)
theorem xl_H_ext {b m p : Nat} {H : Nat → Nat} {ho : Nat → Int32} (h : xl_H b m H ho) (hm : 0 < m) : xl_H b (m + 1) (ly_s H m p) (upd ho (b + m) (nI (b + p))) := by
  refine ⟨by rw [pk_un (by omega)]; exact h.1, ?_⟩
  intro i h0 hi
  by_cases e : i = m
  · subst e; rw [pk_us, ly_ss]
  · rw [pk_un (by omega), ly_sn e]; exact h.2 i h0 (by omega)
theorem ly_HD_ext {m p : Nat} {H : Nat → Nat} (hd : ly_HD m H) (hp : p < m) : ly_HD (m + 1) (ly_s H m p) := by
  intro i h0 hi
  by_cases e : i = m
  · subst e; rw [ly_ss]; exact hp
  · rw [ly_sn e]; exact hd i h0 (by omega)
theorem ly_dp_x {m p : Nat} {H : Nat → Nat} (hd : ly_HD m H) : ∀ i, i < m → ly_dp (ly_s H m p) i = ly_dp H i := ly_dp_c hd (fun i _ hi => ly_sn (by omega))
theorem ly_dp_m {m p : Nat} {H : Nat → Nat} (hd : ly_HD m H) (hp : p < m) : ly_dp (ly_s H m p) m = ly_dp H p + 1 := by
  rw [ly_dp_s (ly_HD_ext hd hp) (by omega) (by omega), ly_ss, ly_dp_x hd p hp]
theorem xl_L_ext {b m p n v : Nat} {H N V : Nat → Nat} {C : Nat → Nat → Nat} {ho na ve de ch : Nat → Int32} (h : xl_L b m H N V C ho na ve de ch) (hd : ly_HD m H) (hp : p < m) (hn : n < 8) (hm : m < 25) :
    xl_L b (m + 1) (ly_s H m p) (ly_s N m n) (ly_s V m v) (ly_s2 C p n m) (upd ho (b + m) (nI (b + p))) (upd na (b + m) (nI n)) (upd ve (b + m) (nI v)) (upd de (b + m) (nI (ly_dp H p + 1))) (upd ch ((b + p) * 8 + n) (nI (b + m))) := by
  obtain ⟨a1, a2, a3, a4, a5, a6⟩ := h
  refine ⟨xl_H_ext a1 (by omega), xl_N_ext a2, xl_N_ext a3, ?_, ?_, ?_⟩
  · intro i h0 hi
    by_cases e : i = m
    · subst e; rw [pk_us, ly_dp_m hd hp]
    · rw [pk_un (by omega), ly_dp_x hd i (by omega)]; exact a4 i h0 (by omega)
  · rw [pk_un (by omega)]; exact a5
  · rw [← mh_es (b := b) (j := m) (by omega)]
    exact xl_C_set a6 (by omega) hn
def xl_LB (L b : Nat) : Prop := (L = 0 ∧ b = 25) ∨ (L = 25 ∧ b = 0)
theorem xl_L_fr {L b mL m p n : Nat} {H N V : Nat → Nat} {C : Nat → Nat → Nat} {ho na ve de ch : Nat → Int32} (hLb : xl_LB L b) (h : xl_L L mL H N V C ho na ve de ch) (hmL : mL ≤ 25) (hm : m < 25) (hp : p < 25) (hn : n < 8) (x1 x2 x3 x4 x5 : Int32) :
    xl_L L mL H N V C (upd ho (b + m) x1) (upd na (b + m) x2) (upd ve (b + m) x3) (upd de (b + m) x4) (upd ch ((b + p) * 8 + n) x5) := by
  obtain ⟨a1, a2, a3, a4, a5, a6⟩ := h
  have hne : ∀ i, i < 25 → L + i ≠ b + m := by intro i hi; rcases hLb with ⟨a, c⟩ | ⟨a, c⟩ <;> omega
  have hne2 : ∀ i k, i < 25 → k < 8 → (L + i) * 8 + k ≠ (b + p) * 8 + n := by intro i k hi hk; rcases hLb with ⟨a, c⟩ | ⟨a, c⟩ <;> omega
  have hne0 := hne 0 (by omega)
  rw [Nat.add_zero] at hne0
  refine ⟨⟨by rw [pk_un hne0]; exact a1.1, ?_⟩, ?_, ?_, ?_, by rw [pk_un hne0]; exact a5, ?_⟩
  · intro i h0 hi; rw [pk_un (hne i (by omega))]; exact a1.2 i h0 hi
  · intro i h0 hi; rw [pk_un (hne i (by omega))]; exact a2 i h0 hi
  · intro i h0 hi; rw [pk_un (hne i (by omega))]; exact a3 i h0 hi
  · intro i h0 hi; rw [pk_un (hne i (by omega))]; exact a4 i h0 hi
  · intro i k hi hk; rw [pk_un (hne2 i k hi hk)]; exact a6 i k hi hk
/-- X's word on whether the copy u found serves d -/
def ly_Sv (lock : Nat → Int32) (nm : Nat) (H N V : Nat → Nat) (C : Nat → Nat → Nat) (d v u : Nat) : Prop :=
  u ≠ 0 ∧ V u = v ∧ ∀ k, k < nm → lock (ly_ow N V u * 8 + k) = -2 → ly_lk H C u k ≠ 0 ∧ ly_lk H C u k = ly_lk H C d k
section
variable {f_versions f_rooms f_queued f_live f_liveCount f_cursor : Int32} {a_lock a_planned a_holder a_nameOf a_versionOf a_depthOf a_child a_fixed a_match a_queue a_reached : Nat → Int32}
variable {nm vs b c : Nat} {H N V : Nat → Nat} {C F : Nat → Nat → Nat}
theorem xl_addCopy {post : Int32 → SX → Prop} {n d v t0 p : Nat} (hL : xl_L b (c + 1) H N V C a_holder a_nameOf a_versionOf a_depthOf a_child) (hF : xl_C b F a_fixed) (w : ly_W nm vs (c + 1) H N V C) (hFv : ∀ i n, F i n < 26) (hnm : nm ≤ 8) (hvs : vs ≤ 3) (hb : b ≤ 25) (hm : c + 1 < 25)
    (hn : n < nm) (hv : v < vs) (hFm : F (c + 1) n = 0) (hdm : d < c + 1) (hr0 : ly_Rg H C d n 0) (hs0 : ly_Su a_lock nm (c + 1) H C F (1 + n * 3 + v) d n d)
    (hB : ly_Be a_lock nm (c + 1) H C F (1 + n * 3 + v) d n t0) (hpe : p = ly_up H t0 d)
    (hp : ∀ fi, xl_C b (ly_pf a_lock F (c + 1) (1 + n * 3 + v) nm (fun k => ly_lk (ly_s H (c + 1) p) (ly_s2 C p n (c + 1)) (c + 1) k)) fi →
      post (nI (b + (c + 1))) (nI nm, f_versions, f_rooms, f_queued, f_live, f_liveCount, nI b, nI (c + 1), f_cursor, a_lock, a_planned, upd a_holder (b + (c + 1)) (nI (b + p)), upd a_nameOf (b + (c + 1)) (nI n), upd a_versionOf (b + (c + 1)) (nI v), upd a_depthOf (b + (c + 1)) (nI (ly_dp H p + 1)), upd a_child ((b + p) * 8 + n) (nI (b + (c + 1))), fi, a_match, a_queue, a_reached)) :
    wpX_addCopy post (nI nm, f_versions, f_rooms, f_queued, f_live, f_liveCount, nI b, nI c, f_cursor, a_lock, a_planned, a_holder, a_nameOf, a_versionOf, a_depthOf, a_child, a_fixed, a_match, a_queue, a_reached) (nI (b + d)) (nI n) (nI v) := by
  have hD := ly_W_hd w
  have hCv := ly_W_b w
  have hB1 := hB.1
  have hpc : C p n = 0 := by rw [hpe]; exact hB1.2 t0 (Nat.le_refl _)
  have hpd : p ≤ d := by rw [hpe]; exact (ly_up_f hD hdm t0 hB1.1).1
  have w' := ly_W_ext w (p := p) (n := n) (v := v) (by omega) hn hv hpc hm
  obtain ⟨a1, a2, a3, a4, a5, a6⟩ := hL
  have hin : vp_in (nI (b + (c + 1))) 50 := vp_in_nI (by omega) (by decide)
  have hcl : (nI (b + (c + 1))).toNatClampNeg = b + (c + 1) := nI_clamp (by omega)
  unfold wpX_addCopy
  dsimp only
  refine nm_r (nI_1 c) (nm_r (nI_add b (c + 1)) ?_)
  rw [hcl]
  refine ⟨hin, nm_e ⟨hin, nm_e ?_⟩⟩
  refine xl_choosePlace a1 a6 hF hD hCv hFv hnm hb (by omega) hm (by omega) (by omega) hFm hdm pk_us pk_us hr0 hs0 hB ?_
  rw [← hpe]
  dsimp only
  refine And.intro hin (nm_e (And.intro (vp_in_nI (by omega) (by decide)) (And.intro hin (nm_r (e' := upd a_depthOf (b + (c + 1)) (nI (ly_dp H p + 1))) ?_ ?_))))
  · have e : a_depthOf (b + p) = nI (ly_dp H p) := by
      by_cases z : p = 0
      · rw [z]; exact a5
      · exact a4 p z (by omega)
    rw [nI_clamp (by omega), e, nI_1]
  · rw [mh_ix, nI_clamp (by omega)]
    refine And.intro (vp_in_nI (by omega) (by decide)) (nm_e ?_)
    obtain ⟨e1, e2, e3, e4, e5, e6⟩ := xl_L_ext (p := p) (n := n) (v := v) ⟨a1, a2, a3, a4, a5, a6⟩ hD (by omega) (by omega) hm
    have how : ly_ow (ly_s N (c + 1) n) (ly_s V (c + 1) v) (c + 1) = 1 + n * 3 + v := ly_ow_m (by omega)
    refine xl_fixPeers (m := c + 1 + 1) (F := F) e1 e2 e3 e6 hF (ly_W_hd w') (ly_W_b w') hnm hb (by omega) (by omega) (by rw [how]; omega) ?_
    rw [how]
    exact hp
theorem xl_meet41 {post : Int32 → SX → Prop} {n d u : Nat} (hF : xl_C b F a_fixed) (hb : b ≤ 25) (hd : d < 25) (hn : n < 8)
    (hp : ∀ fi, xl_C b (ly_s2 F d n u) fi → post 1 (nI nm, f_versions, f_rooms, f_queued, f_live, f_liveCount, nI b, nI c, f_cursor, a_lock, a_planned, a_holder, a_nameOf, a_versionOf, a_depthOf, a_child, fi, a_match, a_queue, a_reached)) : wX_meetEdge_41 post (nI (b + d)) (nI n) (mh_e b u) (nI nm) f_versions f_rooms f_queued f_live f_liveCount (nI b) (nI c) f_cursor a_lock a_planned a_holder a_nameOf a_versionOf a_depthOf a_child a_fixed a_match a_queue a_reached := by
  unfold wX_meetEdge_41
  rw [mh_ix, nI_clamp (by omega)]
  exact ⟨vp_in_nI (by omega) (by decide), nm_e (hp _ (xl_C_set hF hd hn))⟩
end
section
variable {f_versions f_queued f_live f_liveCount f_cursor : Int32} {a_lock a_planned a_holder a_nameOf a_versionOf a_depthOf a_child a_fixed a_match a_queue a_reached : Nat → Int32}
variable {nm vs rm b c : Nat} {H N V : Nat → Nat} {C F : Nat → Nat → Nat}
theorem xl_lkserve {Q : Int32 → Int32 → Prop} {n d v : Nat} (hL : xl_L b (c + 1) H N V C a_holder a_nameOf a_versionOf a_depthOf a_child) (w : ly_W nm vs (c + 1) H N V C) (hnm : nm ≤ 8) (hvs : vs ≤ 3) (hb : b ≤ 25) (hn : n < nm) (hv : v < vs) (hdm : d < c + 1)
    (hu : ly_Sv a_lock nm H N V C d v (ly_lk H C d n) → Q (mh_e b (ly_lk H C d n)) 1) (hx : ¬ ly_Sv a_lock nm H N V C d v (ly_lk H C d n) → Q (mh_e b (ly_lk H C d n)) 0) :
    wpX_lookup (fun r_1 => (wpX_serves (fun r_22 => Q r_1 r_22) (nI nm, f_versions, nI rm, f_queued, f_live, f_liveCount, nI b, nI c, f_cursor, a_lock, a_planned, a_holder, a_nameOf, a_versionOf, a_depthOf, a_child, a_fixed, a_match, a_queue, a_reached) r_1 (nI (b + d)) (nI v))) (nI nm, f_versions, nI rm, f_queued, f_live, f_liveCount, nI b, nI c, f_cursor, a_lock, a_planned, a_holder, a_nameOf, a_versionOf, a_depthOf, a_child, a_fixed, a_match, a_queue, a_reached) (nI (b + d)) (nI n) := by
  have hD := ly_W_hd w
  have hCv := ly_W_b w
  have hm := w.1.2
  obtain ⟨a1, a2, a3, a4, a5, a6⟩ := hL
  refine xl_lookup a1 a6 hD hCv hb hm (by omega) hdm ?_
  have hl := ly_W_lk w d n
  by_cases z : ly_lk H C d n = 0
  · have := hx (fun y => y.1 z)
    rw [z, mh_e0] at this ⊢
    exact br_t mh_m1 this
  · have hvu := (w.2.1 _ z hl).2.2.1
    exact xl_serves a1 a2 a3 a6 hD hCv (ly_lk_b hCv) hb hm hnm hl hdm (ly_ow_lt w hnm hvs hl) (by omega) (by omega) hu hx
theorem xl_meet_use {post : Int32 → SX → Prop} {n d v : Nat} (hL : xl_L b (c + 1) H N V C a_holder a_nameOf a_versionOf a_depthOf a_child) (hF : xl_C b F a_fixed) (w : ly_W nm vs (c + 1) H N V C) (hnm : nm ≤ 8) (hvs : vs ≤ 3) (hb : b ≤ 25) (hn : n < nm) (hv : v < vs) (hdm : d < c + 1)
    (hs : ly_Sv a_lock nm H N V C d v (ly_lk H C d n)) (hp : ∀ fi, xl_C b (ly_s2 F d n (ly_lk H C d n)) fi → post 1 (nI nm, f_versions, nI rm, f_queued, f_live, f_liveCount, nI b, nI c, f_cursor, a_lock, a_planned, a_holder, a_nameOf, a_versionOf, a_depthOf, a_child, fi, a_match, a_queue, a_reached)) : wpX_meetEdge post (nI nm, f_versions, nI rm, f_queued, f_live, f_liveCount, nI b, nI c, f_cursor, a_lock, a_planned, a_holder, a_nameOf, a_versionOf, a_depthOf, a_child, a_fixed, a_match, a_queue, a_reached) (nI (b + d)) (nI n) (nI v) := by
  have hm := w.1.2
  unfold wpX_meetEdge
  dsimp only
  refine xl_lkserve hL w hnm hvs hb hn hv hdm (fun y => ?_) (fun y => absurd hs y)
  exact br_f mh_10 (xl_meet41 hF hb (by omega) (by omega) hp)
theorem xl_meet_full {post : Int32 → SX → Prop} {n d v : Nat} (hL : xl_L b (c + 1) H N V C a_holder a_nameOf a_versionOf a_depthOf a_child) (w : ly_W nm vs (c + 1) H N V C) (hnm : nm ≤ 8) (hvs : vs ≤ 3) (hb : b ≤ 25) (hn : n < nm) (hv : v < vs) (hdm : d < c + 1)
    (hs : ¬ ly_Sv a_lock nm H N V C d v (ly_lk H C d n)) (hrm : rm ≤ c) (hp : post 0 (nI nm, f_versions, nI rm, f_queued, f_live, f_liveCount, nI b, nI c, f_cursor, a_lock, a_planned, a_holder, a_nameOf, a_versionOf, a_depthOf, a_child, a_fixed, a_match, a_queue, a_reached)) : wpX_meetEdge post (nI nm, f_versions, nI rm, f_queued, f_live, f_liveCount, nI b, nI c, f_cursor, a_lock, a_planned, a_holder, a_nameOf, a_versionOf, a_depthOf, a_child, a_fixed, a_match, a_queue, a_reached) (nI (b + d)) (nI n) (nI v) := by
  have hm := w.1.2
  unfold wpX_meetEdge
  dsimp only
  refine xl_lkserve hL w hnm hvs hb hn hv hdm (fun y => absurd y hs) (fun y => ?_)
  exact br_t rfl (br_f (nI_nlt hrm (by omega)) hp)
theorem xl_meet_new {post : Int32 → SX → Prop} {n d v t0 p : Nat} (hL : xl_L b (c + 1) H N V C a_holder a_nameOf a_versionOf a_depthOf a_child) (hF : xl_C b F a_fixed) (w : ly_W nm vs (c + 1) H N V C) (hFv : ∀ i n, F i n < 26) (hnm : nm ≤ 8) (hvs : vs ≤ 3) (hb : b ≤ 25) (hrm : rm ≤ 24) (hcr : c < rm)
    (hn : n < nm) (hv : v < vs) (hFm : F (c + 1) n = 0) (hdm : d < c + 1) (hr0 : ly_Rg H C d n 0) (hs0 : ly_Su a_lock nm (c + 1) H C F (1 + n * 3 + v) d n d)
    (hB : ly_Be a_lock nm (c + 1) H C F (1 + n * 3 + v) d n t0) (hpe : p = ly_up H t0 d) (hs : ¬ ly_Sv a_lock nm H N V C d v (ly_lk H C d n))
    (hp : ∀ fi, xl_C b (ly_s2 (ly_pf a_lock F (c + 1) (1 + n * 3 + v) nm (fun k => ly_lk (ly_s H (c + 1) p) (ly_s2 C p n (c + 1)) (c + 1) k)) d n (c + 1)) fi →
      post 1 (nI nm, f_versions, nI rm, f_queued, f_live, f_liveCount, nI b, nI (c + 1), f_cursor, a_lock, a_planned, upd a_holder (b + (c + 1)) (nI (b + p)), upd a_nameOf (b + (c + 1)) (nI n), upd a_versionOf (b + (c + 1)) (nI v), upd a_depthOf (b + (c + 1)) (nI (ly_dp H p + 1)), upd a_child ((b + p) * 8 + n) (nI (b + (c + 1))), fi, a_match, a_queue, a_reached)) :
    wpX_meetEdge post (nI nm, f_versions, nI rm, f_queued, f_live, f_liveCount, nI b, nI c, f_cursor, a_lock, a_planned, a_holder, a_nameOf, a_versionOf, a_depthOf, a_child, a_fixed, a_match, a_queue, a_reached) (nI (b + d)) (nI n) (nI v) := by
  unfold wpX_meetEdge
  dsimp only
  refine xl_lkserve hL w hnm hvs hb hn hv hdm (fun y => absurd y hs) (fun y => ?_)
  refine br_t rfl (br_t (nI_lt hcr (by omega)) ?_)
  refine xl_addCopy hL hF w hFv hnm hvs hb (by omega) hn hv hFm hdm hr0 hs0 hB hpe (fun fi hfi => ?_)
  dsimp only
  have e : nI (b + (c + 1)) = mh_e b (c + 1) := (mh_es (by omega)).symm
  have h := xl_meet41 (post := post) (c := c + 1) (n := n) (d := d) (u := c + 1) (b := b) (nm := nm) hfi hb (by omega) (by omega) hp
  rw [← e] at h
  exact h
end
end
section
/-! Y's placing of a new copy -/
def yl_F (F : Nat → Nat → Nat) (fi : Nat → Int32) : Prop := (∀ j, j < 200 → fi j = -1) ∧ xl_C 25 F fi
theorem yl_F_set {F : Nat → Nat → Nat} {fi : Nat → Int32} (h : yl_F F fi) {p n x : Nat} (hp : p < 25) (hn : n < 8) : yl_F (ly_s2 F p n x) (upd fi ((25 + p) * 8 + n) (mh_e 25 x)) :=
  ⟨fun j hj => by rw [pk_un (by omega)]; exact h.1 j hj, xl_C_set h.2 hp hn⟩
theorem mh_d8 {j : Nat} (h : j < 2 ^ 31) : nI j / 8 = nI (j / 8) := pk_div (d := 8) h (by omega) (by omega)
theorem mh_r8 {j : Nat} (h : j < 2 ^ 31) : nI j - nI j / 8 * 8 = nI (j % 8) := pk_rem (d := 8) h (by omega) (by omega)
theorem mh_8 : ¬ (8 : Int32) = 0 := by decide
def ly_Ft (lock : Nat → Int32) (m : Nat) (H : Nat → Nat) (C F : Nat → Nat → Nat) (o d n p : Nat) : Prop :=
  C p n = 0 ∧ ly_lk (ly_s H m p) (ly_s2 C p n m) d n = m ∧
      (∀ i k, F i k ≠ 0 → ly_lk (ly_s H m p) (ly_s2 C p n m) i k = F i k) ∧
      (∀ k, k < 8 → lock (o * 8 + k) = -2 → ly_lk (ly_s H m p) (ly_s2 C p n m) m k = ly_lk (ly_s H m p) (ly_s2 C p n m) d k)
section
variable {y_names y_versions y_rooms y_nodes y_made y_cursor : Int32} {z_lock z_planned z_reach z_nameOf z_verOf z_holder z_fixed : Nat → Int32}
variable {post : Int32 → Prop} {nm vs m : Nat} {H N V : Nat → Nat} {C F : Nat → Nat → Nat}
/-- the scan of all fixed lookups, over a layout of M nodes -/
theorem yl_fits71 {M c d : Nat} (h0n : z_nameOf 25 = -1) (hH : yl_H 25 M H z_holder) (hN : xl_N 25 M N z_nameOf) (hV : xl_N 25 M V z_verOf) (w : ly_W nm vs M H N V C) (hnm : nm ≤ 8) (hvs : vs ≤ 3) (hF : yl_F F z_fixed) (hFv : ∀ i k, F i k ≠ 0 → i < M ∧ k < 8 ∧ F i k < 26) (hc : c < M) (hd : d < M)
    (h1 : (∀ i k, F i k ≠ 0 → ly_lk H C i k = F i k) → (∀ k, k < 8 → z_lock (ly_ow N V c * 8 + k) = -2 → ly_lk H C c k = ly_lk H C d k) → post 1)
    (h0 : ¬ ((∀ i k, F i k ≠ 0 → ly_lk H C i k = F i k) ∧ (∀ k, k < 8 → z_lock (ly_ow N V c * 8 + k) = -2 → ly_lk H C c k = ly_lk H C d k)) → post 0) :
    ∀ g j, j + g = 400 → (∀ i k, i < 25 → k < 8 → (25 + i) * 8 + k < j → F i k ≠ 0 → ly_lk H C i k = F i k) → wY_fits_71 post (nI (25 + c)) (nI (25 + d)) y_names y_versions y_rooms y_nodes y_made y_cursor z_lock z_planned z_reach z_nameOf z_verOf z_holder z_fixed (g + 1) (nI j) := by
  have hM := w.1.2
  intro g
  induction g with
  | zero =>
    intro j hj hQ
    obtain rfl : j = 400 := by omega
    refine br_t (nI_le (Nat.le_refl 400) (by omega)) ?_
    have hall : ∀ i k, F i k ≠ 0 → ly_lk H C i k = F i k := fun i k hf => by
      obtain ⟨a, b, _⟩ := hFv i k hf
      exact hQ i k (by omega) b (by omega) hf
    exact yl_agree (Or.inr rfl) h0n hH hN hV w hnm hvs hc hd (fun y => ⟨mh_nb1, h1 hall y⟩) (fun y => ⟨mh_nb0, h0 (fun z => y z.2)⟩)
  | succ g ih =>
    intro j hj hQ
    refine br_f (nI_ge (b := 400) (by omega) (by omega)) ?_
    rw [mh_d8 (by omega), nI_clamp (by omega)]
    have hin : vp_in (nI j) 400 := vp_in_nI (by omega) (by decide)
    by_cases hj2 : j < 200
    · rw [hF.1 j hj2]
      refine ⟨hin, br_t mh_m1 (nm_r (nI_1 j) (ih (j + 1) (by omega) ?_))⟩
      intro i k hi hk hl hf; omega
    · obtain ⟨i, k, hi, hk, e⟩ : ∃ i k, i < 25 ∧ k < 8 ∧ j = (25 + i) * 8 + k := ⟨j / 8 - 25, j % 8, by omega, by omega, by omega⟩
      have e1 : j / 8 = 25 + i := by omega
      have e2 : j % 8 = k := by omega
      have hr : nI j - nI (25 + i) * 8 = nI k := by
        rw [← e1, ← mh_d8 (by omega), mh_r8 (by omega), e2]
      have hfx : z_fixed j = mh_e 25 (F i k) := by rw [e]; exact hF.2 i k hi hk
      rw [hfx, e1, hr]
      by_cases z : F i k = 0
      · rw [z, mh_e0]
        refine ⟨hin, br_t mh_m1 (nm_r (nI_1 j) (ih (j + 1) (by omega) ?_))⟩
        intro i' k' hi' hk' hl hf
        by_cases y : i' = i ∧ k' = k
        · rw [y.1, y.2] at hf; exact absurd z hf
        · exact hQ i' k' hi' hk' (by omega) hf
      · obtain ⟨b1, b2, b3⟩ := hFv i k z
        have l := ly_W_lk w i k
        refine ⟨hin, br_f ?_ ⟨mh_8, mh_8, yl_lookup (Or.inr rfl) hH hN w hnm hk b1 ⟨hin, mh_bi (by omega) (by omega) (fun y => ?_) (fun y => ?_)⟩⟩⟩
        · rw [mh_es z]; exact nI_pos (by omega)
        · refine nm_r (nI_1 j) (ih (j + 1) (by omega) ?_)
          intro i' k' hi' hk' hl hf
          by_cases x : i' = i ∧ k' = k
          · rw [x.1, x.2]; exact y
          · exact hQ i' k' hi' hk' (by omega) hf
        · exact h0 (fun x => y (x.1 i k z))
theorem yl_fits3 {n d p : Nat} (hH : yl_H 25 (m + 1) (ly_s H m p) z_holder) (hN : xl_N 25 (m + 1) (ly_s N m n) z_nameOf) (w : ly_W nm vs m H N V C) (hnm : nm ≤ 8) (hn : n < 8) (hm : m < 25) (hp : p < m)
    (h0 : C p n ≠ 0 → post 0)
    (hk : C p n = 0 → wpY_lookup (fun r_3 => (((r_3 = nI (25 + m) → (∃ n71 : Nat, wY_fits_71 post (nI (25 + m)) (nI (25 + d)) y_names y_versions y_rooms y_nodes y_made y_cursor z_lock z_planned z_reach z_nameOf z_verOf z_holder z_fixed n71 0)) ∧ (¬ r_3 = nI (25 + m) → (post 0))))) (y_names, y_versions, y_rooms, y_nodes, y_made, y_cursor, z_lock, z_planned, z_reach, z_nameOf, z_verOf, z_holder, z_fixed) (nI (25 + d)) (nI n)) :
    ∀ g i, i + g = 25 → (∀ i', i' < i → i' ≠ 0 → i' < m → ¬ (H i' = p ∧ N i' = n)) → wY_fits_3 post (nI (25 + m)) (nI (25 + d)) y_names y_versions y_rooms y_nodes y_made y_cursor z_lock z_planned z_reach z_nameOf z_verOf z_holder z_fixed (g + 1) (nI (25 + i)) := by
  have hm1 := w.1.1
  have hinm : vp_in (nI (25 + m)) 50 := vp_in_nI (by omega) (by decide)
  have hNm : z_nameOf (nI (25 + m)).toNatClampNeg = nI n := by
    rw [nI_clamp (by omega), hN m (by omega) (by omega), ly_ss]
  have hHm : z_holder (nI (25 + m)).toNatClampNeg = nI (25 + p) := by
    rw [nI_clamp (by omega), hH.1.2 m (by omega) (by omega), ly_ss]
  intro g
  induction g with
  | zero =>
    intro i hi hQ
    obtain rfl : i = 25 := by omega
    refine br_t (nI_le (a := 50) (Nat.le_refl 50) (by omega)) ⟨hinm, ?_⟩
    rw [hNm]
    refine hk ?_
    by_cases z : C p n = 0
    · exact z
    · obtain ⟨a, c, e⟩ := w.2.2 p n z
      exact absurd ⟨c, e⟩ (hQ _ (by omega) z a)
  | succ g ih =>
    intro i hi hQ
    refine br_f (nI_ge (b := 50) (by omega) (by omega)) (pk_eq (25 + i) (25 + m) (fun e => ?_) (fun e => ?_))
    · exact nm_r (nI_1 (25 + i)) (ih (i + 1) (by omega) (lt_s hQ (fun _ z => by omega)))
    · have hin : vp_in (nI (25 + i)) 50 := vp_in_nI (by omega) (by decide)
      rw [hHm, hNm, nI_clamp (by omega)]
      by_cases hc : i ≠ 0 ∧ i < m
      · obtain ⟨h0i, him⟩ := hc
        obtain ⟨wl, wn, _, wc⟩ := w.2.1 i h0i him
        rw [hH.1.2 i h0i (by omega), hN i h0i (by omega), ly_sn (by omega), ly_sn (by omega)]
        refine ⟨hin, hinm, pk_eq (25 + H i) (25 + p) (fun e1 => ⟨hin, hinm, pk_eq (N i) n (fun e2 => ?_) (fun e2 => ?_)⟩) (fun e1 => ?_)⟩
        · have e3 : H i = p := by omega
          rw [e3, e2] at wc
          exact h0 (by rw [wc]; exact h0i)
        · exact nm_r (nI_1 (25 + i)) (ih (i + 1) (by omega) (lt_s hQ (fun _ _ z => e2 z.2)))
        · exact nm_r (nI_1 (25 + i)) (ih (i + 1) (by omega) (lt_s hQ (fun _ _ z => e1 (by omega))))
      · have hv : z_holder (25 + i) = -1 := by
          by_cases h0 : i = 0
          · subst h0; exact hH.1.1
          · exact hH.2 i (by omega) (by omega)
        rw [hv]
        refine ⟨hin, hinm, br_f (fun z => mh_n1 (by omega) z.symm) ?_⟩
        exact nm_r (nI_1 (25 + i)) (ih (i + 1) (by omega) (lt_s hQ (fun h1 h2 _ => hc ⟨h1, h2⟩)))
theorem yl_fits {n d p v : Nat} (h0n : z_nameOf 25 = -1) (hH : yl_H 25 (m + 1) (ly_s H m p) z_holder) (hN : xl_N 25 (m + 1) (ly_s N m n) z_nameOf) (hV : xl_N 25 (m + 1) (ly_s V m v) z_verOf) (w : ly_W nm vs m H N V C) (hnm : nm ≤ 8) (hvs : vs ≤ 3) (hn : n < nm) (hv : v < vs) (hm : m < 25) (hp : p < m) (hd : d < m)
    (hF : yl_F F z_fixed) (hFv : ∀ i k, F i k ≠ 0 → i < m ∧ k < 8 ∧ F i k < 26)
    (h1 : ly_Ft z_lock m H C F (1 + n * 3 + v) d n p → post 1) (h0 : ¬ ly_Ft z_lock m H C F (1 + n * 3 + v) d n p → post 0) :
    wpY_fits post (y_names, y_versions, y_rooms, y_nodes, y_made, y_cursor, z_lock, z_planned, z_reach, z_nameOf, z_verOf, z_holder, z_fixed) (nI (25 + m)) (nI (25 + d)) := by
  have hm1 := w.1.1
  refine Exists.intro 26 (yl_fits3 (n := n) hH hN w hnm (by omega) hm hp (fun z => h0 (fun y => z y.1)) (fun z => ?_) 25 0 (by omega) lt_0)
  have w' := ly_W_ext w (p := p) (n := n) (v := v) hp hn hv z hm
  have l := ly_W_lk w' d n
  have how : ly_ow (ly_s N m n) (ly_s V m v) m = 1 + n * 3 + v := ly_ow_m (by omega)
  refine yl_lookup (Or.inr rfl) hH hN w' hnm (by omega) (by omega) ?_
  refine mh_bj (by omega) (by omega) (by omega) (fun e => ?_) (fun e => h0 (fun y => e y.2.1))
  refine ⟨401, yl_fits71 (c := m) h0n hH hN hV w' hnm hvs hF (fun i k hf => ?_) (by omega) (by omega) (fun a c => ?_) (fun a => ?_) 400 0 (by omega) (fun i k _ _ hl => by omega)⟩
  · obtain ⟨a, c, x⟩ := hFv i k hf; exact ⟨by omega, c, x⟩
  · rw [how] at c; exact h1 ⟨z, e, a, c⟩
  · rw [how] at a; exact h0 (fun y => a y.2.2)
end
section
variable {y_names y_versions y_rooms y_nodes y_made y_cursor : Int32} {z_lock z_planned z_reach z_nameOf z_verOf z_holder z_fixed : Nat → Int32}
variable {nm vs m : Nat} {H N V : Nat → Nat} {C F : Nat → Nat → Nat}
theorem yl_place9 {post : SY → Prop} {n d v t0 : Nat} {h0 : Nat → Int32} (h0n : z_nameOf 25 = -1) (hH0 : yl_H 25 m H h0) (hN : xl_N 25 (m + 1) (ly_s N m n) z_nameOf) (hV : xl_N 25 (m + 1) (ly_s V m v) z_verOf) (w : ly_W nm vs m H N V C) (hnm : nm ≤ 8) (hvs : vs ≤ 3) (hn : n < nm) (hv : v < vs) (hm : m < 25) (hd : d < m)
    (hF : yl_F F z_fixed) (hFv : ∀ i k, F i k ≠ 0 → i < m ∧ k < 8 ∧ F i k < 26) (ht : t0 ≤ ly_dp H d)
    (hyes : ly_Ft z_lock m H C F (1 + n * 3 + v) d n (ly_up H t0 d)) (hno : ∀ s, t0 < s → s ≤ ly_dp H d → ¬ ly_Ft z_lock m H C F (1 + n * 3 + v) d n (ly_up H s d))
    (hp : post (y_names, y_versions, y_rooms, y_nodes, y_made, y_cursor, z_lock, z_planned, z_reach, z_nameOf, z_verOf, upd h0 (25 + m) (nI (25 + ly_up H t0 d)), z_fixed)) :
    ∀ g k ho, k + g = ly_dp H d - t0 → (∀ j, j ≠ 25 + m → ho j = h0 j) → wY_place_9 post (nI (25 + m)) (nI (25 + d)) (nI (ly_dp H d)) y_names y_versions y_rooms y_nodes y_made y_cursor (g + 1) (nI k) z_lock z_planned z_reach z_nameOf z_verOf ho z_fixed := by
  have hm1 := w.1.1
  have hD := ly_W_hd w
  have hdp := ly_dp_le hD d hd
  have hX : ∀ ho : Nat → Int32, (∀ j, j ≠ 25 + m → ho j = h0 j) → xl_H 25 m H ho := by
    intro ho hh
    refine ⟨by rw [hh 25 (by omega)]; exact hH0.1.1, fun i z hi => ?_⟩
    rw [hh (25 + i) (by omega)]; exact hH0.1.2 i z hi
  have hup : ∀ ho : Nat → Int32, (∀ j, j ≠ 25 + m → ho j = h0 j) → ∀ x, upd ho (25 + m) x = upd h0 (25 + m) x := by
    intro ho hh x
    funext j
    by_cases e : j = 25 + m
    · subst e; rw [pk_us, pk_us]
    · rw [pk_un e, pk_un e]; exact hh j e
  have hY : ∀ p, yl_H 25 (m + 1) (ly_s H m p) (upd h0 (25 + m) (nI (25 + p))) := by
    intro p
    refine ⟨xl_H_ext hH0.1 (by omega), fun i h1 h2 => ?_⟩
    rw [pk_un (by omega)]; exact hH0.2 i (by omega) h2
  have hinm : vp_in (nI (25 + m)) 50 := vp_in_nI (by omega) (by decide)
  have hcl : (nI (25 + m)).toNatClampNeg = 25 + m := nI_clamp (by omega)
  intro g
  induction g with
  | zero =>
    intro k ho hk hh
    refine br_f (nI_nlt (by omega) (by omega)) ?_
    refine yl_ancestor (hX ho hh) hD (by omega) (by omega) hd (by omega) ?_
    have e : ly_dp H d - k = t0 := by omega
    rw [e, hcl, hup ho hh]
    have hu := (ly_up_f hD hd t0 ht).1
    refine ⟨hinm, nm_e ?_⟩
    exact yl_fits h0n (hY _) hN hV w hnm hvs hn hv hm (by omega) hd hF hFv (fun _ => br_f mh_10 hp) (fun y => absurd hyes y)
  | succ g ih =>
    intro k ho hk hh
    refine br_f (nI_nlt (by omega) (by omega)) ?_
    refine yl_ancestor (hX ho hh) hD (by omega) (by omega) hd (by omega) ?_
    rw [hcl, hup ho hh]
    have hu := (ly_up_f hD hd (ly_dp H d - k) (by omega)).1
    refine ⟨hinm, nm_e ?_⟩
    refine yl_fits h0n (hY _) hN hV w hnm hvs hn hv hm (by omega) hd hF hFv (fun y => absurd y (hno _ (by omega) (by omega))) (fun _ => br_t rfl (nm_r (nI_1 k) ?_))
    exact ih (k + 1) _ (by omega) (fun j e => pk_un e)
theorem yl_place {post : SY → Prop} {n d v t0 : Nat} (h0n : z_nameOf 25 = -1) (hH0 : yl_H 25 m H z_holder) (hN : xl_N 25 (m + 1) (ly_s N m n) z_nameOf) (hV : xl_N 25 (m + 1) (ly_s V m v) z_verOf) (w : ly_W nm vs m H N V C) (hnm : nm ≤ 8) (hvs : vs ≤ 3) (hn : n < nm) (hv : v < vs) (hm : m < 25) (hd : d < m)
    (hF : yl_F F z_fixed) (hFv : ∀ i k, F i k ≠ 0 → i < m ∧ k < 8 ∧ F i k < 26) (ht : t0 ≤ ly_dp H d)
    (hyes : ly_Ft z_lock m H C F (1 + n * 3 + v) d n (ly_up H t0 d)) (hno : ∀ s, t0 < s → s ≤ ly_dp H d → ¬ ly_Ft z_lock m H C F (1 + n * 3 + v) d n (ly_up H s d))
    (hp : post (y_names, y_versions, y_rooms, y_nodes, y_made, y_cursor, z_lock, z_planned, z_reach, z_nameOf, z_verOf, upd z_holder (25 + m) (nI (25 + ly_up H t0 d)), z_fixed)) : wpY_place post (y_names, y_versions, y_rooms, y_nodes, y_made, y_cursor, z_lock, z_planned, z_reach, z_nameOf, z_verOf, z_holder, z_fixed) (nI (25 + m)) (nI (25 + d)) := by
  unfold wpY_place
  dsimp only
  refine yl_depth hH0.1 (ly_W_hd w) (by omega) (by omega) hd ?_
  exact ⟨ly_dp H d - t0 + 1, yl_place9 h0n hH0 hN hV w hnm hvs hn hv hm hd hF hFv ht hyes hno hp (ly_dp H d - t0) 0 z_holder (by omega) (fun _ _ => rfl)⟩
end
end
section
/-! Y's resolve -/
def yl_L (b m : Nat) (H N V : Nat → Nat) (ho na ve : Nat → Int32) : Prop := yl_H b m H ho ∧ na b = -1 ∧ xl_N b m N na ∧ xl_N b m V ve
def yl_Sv (lock : Nat → Int32) (H N V : Nat → Nat) (C : Nat → Nat → Nat) (d v u : Nat) : Prop :=
  u ≠ 0 ∧ V u = v ∧ ∀ k, k < 8 → lock (ly_ow N V u * 8 + k) = -2 → ly_lk H C u k = ly_lk H C d k
section
variable {nm vs : Nat} {lock : Nat → Int32} {R : Nat → Prop} {d n m v : Nat} {H N V : Nat → Nat} {C F : Nat → Nat → Nat}
theorem pi_sv (K : pi_K nm vs lock) (I : pi_I nm vs lock R d n m H N V C F) {u : Nat} (hu : u < m) : yl_Sv lock H N V C d v u ↔ ly_Sv lock nm H N V C d v u := by
  obtain ⟨w, hr, f1, f2, f3, f4, c1⟩ := I
  have hnm := K.1.1.2
  have ho := ly_ow_lt w K.1.1.2 K.1.2.2 hu
  constructor
  · rintro ⟨a, b, c⟩
    refine ⟨a, b, fun k hk hl => ⟨?_, c k (by omega) hl⟩⟩
    have := f3 u k hu (by omega) hl
    rw [(f1 u k this).2.2]; exact this
  · rintro ⟨a, b, c⟩
    refine ⟨a, b, fun k hk hl => ?_⟩
    rcases K.2.1 _ k ho hk with e | ⟨x, _⟩
    · exact absurd (hl.symm.trans e) mh_12
    · exact (c k x hl).2
end
section
variable {y_names y_versions y_rooms y_nodes y_made y_cursor : Int32} {z_lock z_planned z_reach z_nameOf z_verOf z_holder z_fixed : Nat → Int32}
variable {nm vs rm : Nat} {H N V : Nat → Nat} {C F : Nat → Nat → Nat}
theorem yl_res154 {post : Int32 → SY → Prop} {n d u : Nat} (hF : yl_F F z_fixed) (hd : d < 25) (hn : n < 8) (hp : ∀ fi, yl_F (ly_s2 F d n u) fi → post 1 (y_names, y_versions, y_rooms, y_nodes, y_made, y_cursor, z_lock, z_planned, z_reach, z_nameOf, z_verOf, z_holder, fi)) : wY_resolve_154 post (nI (25 + d)) (nI n) (mh_e 25 u) y_names y_versions y_rooms y_nodes y_made y_cursor z_lock z_planned z_reach z_nameOf z_verOf z_holder z_fixed := by
  unfold wY_resolve_154
  rw [mh_ix, nI_clamp (by omega)]
  exact ⟨vp_in_nI (by omega) (by decide), nm_e (hp _ (yl_F_set hF hd hn))⟩
theorem yl_res102 {post : Int32 → SY → Prop} {n d c o M : Nat} (hH : yl_H 25 M H z_holder) (hN : xl_N 25 M N z_nameOf) (w : ly_W nm vs M H N V C) (hnm : nm ≤ 8) (hd : d < 25) (hn : n < 8) (hc : c < M) (hc0 : c ≠ 0) (ho : o < 25)
    (hp : ∀ fi, yl_F (ly_s2 (ly_pf z_lock F c o 8 (fun k => ly_lk H C c k)) d n c) fi → post 1 (y_names, y_versions, y_rooms, y_nodes, y_made, y_cursor, z_lock, z_planned, z_reach, z_nameOf, z_verOf, z_holder, fi)) :
    ∀ j k fi, k + j = 8 → yl_F (ly_pf z_lock F c o k (fun k => ly_lk H C c k)) fi → wY_resolve_102 post (nI (25 + d)) (nI n) (nI (25 + c)) (nI o) y_names y_versions y_rooms y_nodes y_made y_cursor (j + 1) (nI k) z_lock z_planned z_reach z_nameOf z_verOf z_holder fi := by
  have hM := w.1.2
  intro j
  induction j with
  | zero =>
    intro k fi hk hfi
    obtain rfl : k = 8 := by omega
    refine br_t (nI_le (Nat.le_refl 8) (by omega)) ?_
    rw [← mh_es (b := 25) hc0]
    exact yl_res154 hfi hd hn hp
  | succ j ih =>
    intro k fi hk hfi
    refine br_f (nI_ge (b := 8) (by omega) (by omega)) ?_
    rw [mh_ix, nI_clamp (by omega)]
    refine ⟨vp_in_nI (by omega) (by decide), br_c (fun hl => ?_) (fun hl => ?_)⟩
    · refine yl_lookup (Or.inr rfl) hH hN w hnm (by omega) hc ?_
      rw [mh_ix, nI_clamp (by omega)]
      refine ⟨vp_in_nI (by omega) (by decide), nm_e (nm_r (nI_1 k) (ih (k + 1) _ (by omega) ?_))⟩
      rw [ly_pf_s _ _ _ _ _ _ hl]
      exact yl_F_set hfi (by omega) (by omega)
    · refine nm_r (nI_1 k) (ih (k + 1) fi (by omega) ?_)
      rw [ly_pf_k _ _ _ _ _ _ hl]; exact hfi
end
section
variable {y_names y_versions y_nodes y_cursor : Int32} {z_lock z_planned z_reach z_nameOf z_verOf z_holder z_fixed : Nat → Int32}
variable {nm vs rm c : Nat} {H N V : Nat → Nat} {C F : Nat → Nat → Nat}
theorem yl_res34_full {post : Int32 → SY → Prop} {x1 x2 x3 : Int32} (hrm : rm ≤ c) (hc : c < 25) (hp : post 0 (y_names, y_versions, nI rm, y_nodes, nI (c + 1), y_cursor, z_lock, z_planned, z_reach, z_nameOf, z_verOf, z_holder, z_fixed)) : wY_resolve_34 post x1 x2 x3 y_names y_versions (nI rm) y_nodes (nI (c + 1)) y_cursor z_lock z_planned z_reach z_nameOf z_verOf z_holder z_fixed := by
  unfold wY_resolve_34
  rw [nI_pred]
  exact br_f (nI_nlt hrm (by omega)) hp
theorem yl_res34_new {post : Int32 → SY → Prop} {n d v t0 p : Nat} (hL : yl_L 25 (c + 1) H N V z_holder z_nameOf z_verOf) (w : ly_W nm vs (c + 1) H N V C) (hnm : nm ≤ 8) (hvs : vs ≤ 3) (hn : n < nm) (hv : v < vs) (hrm : rm ≤ 24) (hcr : c < rm) (hd : d < c + 1)
    (hF : yl_F F z_fixed) (hFv : ∀ i k, F i k ≠ 0 → i < c + 1 ∧ k < 8 ∧ F i k < 26) (ht : t0 ≤ ly_dp H d) (hpe : p = ly_up H t0 d)
    (hyes : ly_Ft z_lock (c + 1) H C F (1 + n * 3 + v) d n p) (hno : ∀ s, t0 < s → s ≤ ly_dp H d → ¬ ly_Ft z_lock (c + 1) H C F (1 + n * 3 + v) d n (ly_up H s d))
    (hp : ∀ fi, yl_F (ly_s2 (ly_pf z_lock F (c + 1) (1 + n * 3 + v) 8 (fun k => ly_lk (ly_s H (c + 1) p) (ly_s2 C p n (c + 1)) (c + 1) k)) d n (c + 1)) fi →
      post 1 (y_names, y_versions, nI rm, y_nodes, nI (c + 1 + 1), y_cursor, z_lock, z_planned, z_reach, upd z_nameOf (25 + (c + 1)) (nI n), upd z_verOf (25 + (c + 1)) (nI v), upd z_holder (25 + (c + 1)) (nI (25 + p)), fi)) :
    wY_resolve_34 post (nI (25 + d)) (nI n) (nI v) y_names y_versions (nI rm) y_nodes (nI (c + 1)) y_cursor z_lock z_planned z_reach z_nameOf z_verOf z_holder z_fixed := by
  obtain ⟨a1, a2, a3, a4⟩ := hL
  have hD := ly_W_hd w
  have hin : vp_in (nI (25 + (c + 1))) 50 := vp_in_nI (by omega) (by decide)
  have hcl : (nI (25 + (c + 1))).toNatClampNeg = 25 + (c + 1) := nI_clamp (by omega)
  have hpd : p ≤ d := by rw [hpe]; exact (ly_up_f hD hd t0 ht).1
  have w' := ly_W_ext w (p := p) (n := n) (v := v) (by omega) hn hv hyes.1 (by omega)
  have how : ly_ow (ly_s N (c + 1) n) (ly_s V (c + 1) v) (c + 1) = 1 + n * 3 + v := ly_ow_m (by omega)
  have hN' : xl_N 25 (c + 1 + 1) (ly_s N (c + 1) n) (upd z_nameOf (25 + (c + 1)) (nI n)) := xl_N_ext a3
  have hV' : xl_N 25 (c + 1 + 1) (ly_s V (c + 1) v) (upd z_verOf (25 + (c + 1)) (nI v)) := xl_N_ext a4
  have h0n : upd z_nameOf (25 + (c + 1)) (nI n) 25 = -1 := by rw [pk_un (by omega)]; exact a2
  have hH' : yl_H 25 (c + 1 + 1) (ly_s H (c + 1) p) (upd z_holder (25 + (c + 1)) (nI (25 + p))) := by
    refine ⟨xl_H_ext a1.1 (by omega), fun i h1 h2 => ?_⟩
    rw [pk_un (by omega)]; exact a1.2 i (by omega) h2
  unfold wY_resolve_34
  rw [nI_pred]
  refine br_t (nI_lt hcr (by omega)) (nm_r (nI_add 25 (c + 1)) (nm_r (nI_1 (c + 1)) ?_))
  rw [hcl]
  refine ⟨hin, nm_e ⟨hin, nm_e ?_⟩⟩
  refine yl_place (m := c + 1) (t0 := t0) h0n a1 hN' hV' w hnm hvs hn hv (by omega) hd hF hFv ht (by rw [← hpe]; exact hyes) hno ?_
  rw [← hpe]
  refine yl_ownerOf (b := 25) (m := c + 1 + 1) h0n hN' hV' w' hnm (by omega) (by omega) (by omega) ?_
  rw [how]
  refine ⟨9, yl_res102 (F := F) hH' hN' w' hnm (by omega) (by omega) (by omega) (by omega) (by omega) hp 8 0 z_fixed (by omega) ?_⟩
  rw [ly_pf_0]; exact hF
theorem yl_res_no {post : Int32 → SY → Prop} {n d v : Nat} (hL : yl_L 25 (c + 1) H N V z_holder z_nameOf z_verOf) (w : ly_W nm vs (c + 1) H N V C) (hnm : nm ≤ 8) (hvs : vs ≤ 3) (hn : n < nm) (hv : v < vs) (hd : d < c + 1)
    (hs : ¬ yl_Sv z_lock H N V C d v (ly_lk H C d n)) (hp : wY_resolve_34 post (nI (25 + d)) (nI n) (nI v) y_names y_versions (nI rm) y_nodes (nI (c + 1)) y_cursor z_lock z_planned z_reach z_nameOf z_verOf z_holder z_fixed) : wpY_resolve post (y_names, y_versions, nI rm, y_nodes, nI (c + 1), y_cursor, z_lock, z_planned, z_reach, z_nameOf, z_verOf, z_holder, z_fixed) (nI (25 + d)) (nI n) (nI v) := by
  obtain ⟨a1, a2, a3, a4⟩ := hL
  have hm := w.1.2
  have hl := ly_W_lk w d n
  unfold wpY_resolve
  dsimp only
  refine yl_lookup (Or.inr rfl) a1 a3 w hnm (by omega) hd ?_
  refine mh_br (by omega) (fun z => hp) (fun z => ?_)
  have hvu := (w.2.1 _ z hl).2.2.1
  rw [mh_es z, nI_clamp (by omega), a4 _ z hl]
  refine ⟨vp_in_nI (by omega) (by decide), pk_eq (V (ly_lk H C d n)) v (fun e => ?_) (fun e => hp)⟩
  refine yl_agree (Or.inr rfl) a2 a1 a3 a4 w hnm hvs hl hd (fun y => absurd ⟨z, e, y⟩ hs) (fun y => br_t rfl hp)
theorem yl_res_use {post : Int32 → SY → Prop} {n d v : Nat} (hL : yl_L 25 (c + 1) H N V z_holder z_nameOf z_verOf) (w : ly_W nm vs (c + 1) H N V C) (hnm : nm ≤ 8) (hvs : vs ≤ 3) (hn : n < nm) (hv : v < vs) (hd : d < c + 1) (hF : yl_F F z_fixed)
    (hs : yl_Sv z_lock H N V C d v (ly_lk H C d n)) (hp : ∀ fi, yl_F (ly_s2 F d n (ly_lk H C d n)) fi → post 1 (y_names, y_versions, nI rm, y_nodes, nI (c + 1), y_cursor, z_lock, z_planned, z_reach, z_nameOf, z_verOf, z_holder, fi)) : wpY_resolve post (y_names, y_versions, nI rm, y_nodes, nI (c + 1), y_cursor, z_lock, z_planned, z_reach, z_nameOf, z_verOf, z_holder, z_fixed) (nI (25 + d)) (nI n) (nI v) := by
  obtain ⟨a1, a2, a3, a4⟩ := hL
  have hm := w.1.2
  have hl := ly_W_lk w d n
  unfold wpY_resolve
  dsimp only
  refine yl_lookup (Or.inr rfl) a1 a3 w hnm (by omega) hd ?_
  obtain ⟨z, e, y⟩ := hs
  have h154 := yl_res154 (post := post) (n := n) (d := d) (u := ly_lk H C d n) hF (by omega) (by omega) hp
  refine mh_br (by omega) (fun q => absurd q z) (fun _ => ?_)
  rw [mh_es z] at h154 ⊢
  rw [nI_clamp (by omega), a4 _ z hl]
  refine ⟨vp_in_nI (by omega) (by decide), br_t (by rw [e]) ?_⟩
  exact yl_agree (Or.inr rfl) a2 a1 a3 a4 w hnm hvs hl hd (fun _ => br_f mh_10 h154) (fun q => absurd y q)
end
end
section
/-! the two drafts in lockstep -/
def xx_R (L b mL : Nat) (HL NL VL : Nat → Nat) (CL : Nat → Nat → Nat) (c : Nat) (H N V : Nat → Nat) (C F : Nat → Nat → Nat) (ho na ve de ch fi : Nat → Int32) : Prop :=
  xl_L L mL HL NL VL CL ho na ve de ch ∧ xl_L b (c + 1) H N V C ho na ve de ch ∧ xl_C b F fi
def yy_R (mL : Nat) (HL NL VL : Nat → Nat) (c : Nat) (H N V : Nat → Nat) (F : Nat → Nat → Nat) (hb nb vb fb : Nat → Int32) : Prop :=
  yl_L 0 mL HL NL VL hb nb vb ∧ yl_L 25 (c + 1) H N V hb nb vb ∧ yl_F F fb
theorem yl_L_fr {mL m : Nat} {H N V : Nat → Nat} {hb nb vb : Nat → Int32} (h : yl_L 0 mL H N V hb nb vb) (hmL : mL ≤ 25) (x1 x2 x3 : Int32) : yl_L 0 mL H N V (upd hb (25 + m) x1) (upd nb (25 + m) x2) (upd vb (25 + m) x3) := by
  obtain ⟨⟨⟨a1, a2⟩, a3⟩, b, c, d⟩ := h
  refine ⟨⟨⟨by rw [pk_un (by omega)]; exact a1, ?_⟩, ?_⟩, by rw [pk_un (by omega)]; exact b, ?_, ?_⟩
  · intro i h0 hi; rw [pk_un (by omega)]; exact a2 i h0 hi
  · intro i h1 h2; rw [pk_un (by omega)]; exact a3 i h1 h2
  · intro i h0 hi; rw [pk_un (by omega)]; exact c i h0 hi
  · intro i h0 hi; rw [pk_un (by omega)]; exact d i h0 hi
theorem yl_L_ext {m p n v : Nat} {H N V : Nat → Nat} {hb nb vb : Nat → Int32} (h : yl_L 25 m H N V hb nb vb) (hm : 0 < m) : yl_L 25 (m + 1) (ly_s H m p) (ly_s N m n) (ly_s V m v) (upd hb (25 + m) (nI (25 + p))) (upd nb (25 + m) (nI n)) (upd vb (25 + m) (nI v)) := by
  obtain ⟨a, b, c, d⟩ := h
  refine ⟨⟨xl_H_ext a.1 hm, ?_⟩, by rw [pk_un (by omega)]; exact b, xl_N_ext c, xl_N_ext d⟩
  intro i h1 h2; rw [pk_un (by omega)]; exact a.2 i (by omega) h2
section
variable {f_versions f_queued f_live f_liveCount f_cursor : Int32} {a_planned a_match a_queue a_reached : Nat → Int32}
variable {y_versions y_nodes y_cursor : Int32} {z_planned : Nat → Int32}
variable {nm vs rm L b mL : Nat} {lock : Nat → Int32} {R : Nat → Prop} {HL NL VL : Nat → Nat} {CL : Nat → Nat → Nat}
/-- one edge met by both -/
theorem ls_meet (K : pi_K nm vs lock) (hR : pi_R lock R) (hLb : xl_LB L b) (hmL : mL ≤ 25) (hrm : rm ≤ 24) {d n v c : Nat} {H N V : Nat → Nat} {C F : Nat → Nat → Nat} (I : pi_I nm vs lock R d n (c + 1) H N V C F) (hd : d < c + 1) (hn : n < nm) (hv : v < vs) (he : lock (ly_ow N V d * 8 + n) = nI v) :
    (∃ (c' : Nat) (H' N' V' : Nat → Nat) (C' F' : Nat → Nat → Nat), pi_I nm vs lock R d (n + 1) (c' + 1) H' N' V' C' F' ∧ c ≤ c' ∧ ly_ow N' V' d = ly_ow N V d ∧
      (∀ (post : Int32 → SX → Prop) (ho na ve de ch fi : Nat → Int32), xx_R L b mL HL NL VL CL c H N V C F ho na ve de ch fi → (∀ ho' na' ve' de' ch' fi', xx_R L b mL HL NL VL CL c' H' N' V' C' F' ho' na' ve' de' ch' fi' → post 1 (nI nm, f_versions, nI rm, f_queued, f_live, f_liveCount, nI b, nI c', f_cursor, lock, a_planned, ho', na', ve', de', ch', fi', a_match, a_queue, a_reached)) → wpX_meetEdge post (nI nm, f_versions, nI rm, f_queued, f_live, f_liveCount, nI b, nI c, f_cursor, lock, a_planned, ho, na, ve, de, ch, fi, a_match, a_queue, a_reached) (nI (b + d)) (nI n) (nI v)) ∧
      (∀ (post : Int32 → SY → Prop) (zr hb nb vb fb : Nat → Int32), yy_R mL HL NL VL c H N V F hb nb vb fb → (∀ hb' nb' vb' fb', yy_R mL HL NL VL c' H' N' V' F' hb' nb' vb' fb' → post 1 (nI nm, y_versions, nI rm, y_nodes, nI (c' + 1), y_cursor, lock, z_planned, zr, nb', vb', hb', fb')) → wpY_resolve post (nI nm, y_versions, nI rm, y_nodes, nI (c + 1), y_cursor, lock, z_planned, zr, nb, vb, hb, fb) (nI (25 + d)) (nI n) (nI v))) ∨
    ((∀ (post : Int32 → SX → Prop) (ho na ve de ch fi : Nat → Int32), xx_R L b mL HL NL VL CL c H N V C F ho na ve de ch fi → post 0 (nI nm, f_versions, nI rm, f_queued, f_live, f_liveCount, nI b, nI c, f_cursor, lock, a_planned, ho, na, ve, de, ch, fi, a_match, a_queue, a_reached) → wpX_meetEdge post (nI nm, f_versions, nI rm, f_queued, f_live, f_liveCount, nI b, nI c, f_cursor, lock, a_planned, ho, na, ve, de, ch, fi, a_match, a_queue, a_reached) (nI (b + d)) (nI n) (nI v)) ∧
      (∀ (post : Int32 → SY → Prop) (zr hb nb vb fb : Nat → Int32), yy_R mL HL NL VL c H N V F hb nb vb fb → post 0 (nI nm, y_versions, nI rm, y_nodes, nI (c + 1), y_cursor, lock, z_planned, zr, nb, vb, hb, fb) → wpY_resolve post (nI nm, y_versions, nI rm, y_nodes, nI (c + 1), y_cursor, lock, z_planned, zr, nb, vb, hb, fb) (nI (25 + d)) (nI n) (nI v))) := by
  have hnm := K.1.1.2
  have hvs := K.1.2.2
  have w := I.1
  have f1 := I.2.2.1
  have hm := w.1.2
  have hb : b ≤ 25 := by rcases hLb with ⟨_, e⟩ | ⟨_, e⟩ <;> omega
  have hl := ly_W_lk w d n
  have hFv : ∀ i k, F i k < 26 := fun i k => by
    by_cases z : F i k = 0
    · omega
    · have := ly_W_lk w i k
      rw [(f1 i k z).2.2] at this; omega
  have hsv := pi_sv (v := v) K I hl
  by_cases hs : ly_Sv lock nm H N V C d v (ly_lk H C d n)
  · refine Or.inl ⟨c, H, N, V, C, _, pi_use I hd (by omega) hs.1, Nat.le_refl _, rfl, ?_, ?_⟩
    · intro post ho na ve de ch fi hx hp
      exact xl_meet_use hx.2.1 hx.2.2 w hnm hvs hb hn hv hd hs (fun fi' h => hp _ _ _ _ _ fi' ⟨hx.1, hx.2.1, h⟩)
    · intro post zr hb' nb vb fb hy hp
      exact yl_res_use hy.2.1 w hnm hvs hn hv hd hy.2.2 (hsv.mpr hs) (fun fi' h => hp _ _ _ fi' ⟨hy.1, hy.2.1, h⟩)
  · by_cases hcr : c < rm
    · obtain ⟨t0, hB⟩ := pi_be K hR I hd (by omega) (by omega) he
      have hr0 := pi_rg0 I
      have hs0 := pi_su0 K hR I hd (by omega) (by omega) he
      have hnew := pi_new K hR I hd (by omega) (by omega) he (by omega) hB rfl
      have ht := hB.1.1
      have hyes := (pi_fit K hR I hd (by omega) (by omega) he ht).mpr ⟨hB.1, hB.2.1⟩
      have hno : ∀ s, t0 < s → s ≤ ly_dp H d → ¬ ly_Ft lock (c + 1) H C F (1 + n * 3 + v) d n (ly_up H s d) := fun s h1 h2 h3 => by
        have := (pi_fit K hR I hd (by omega) (by omega) he h2).mp h3
        exact hB.2.2 s h1 this.1 this.2
      have hpd : ly_up H t0 d ≤ d := (ly_up_f (ly_W_hd w) hd t0 ht).1
      have hFm : F (c + 1) n = 0 := by
        by_cases z : F (c + 1) n = 0
        · exact z
        · have := (f1 _ _ z).1; omega
      refine Or.inl ⟨c + 1, _, _, _, _, _, hnew, by omega, ly_ow_n (by omega), ?_, ?_⟩
      · intro post ho na ve de ch fi hx hp
        refine xl_meet_new hx.2.1 hx.2.2 w hFv hnm hvs hb hrm hcr hn hv hFm hd hr0 hs0 hB rfl hs (fun fi' h => hp _ _ _ _ _ fi' ⟨?_, ?_, ?_⟩)
        · exact xl_L_fr hLb hx.1 hmL (by omega) (by omega) (by omega) _ _ _ _ _
        · exact xl_L_ext hx.2.1 (ly_W_hd w) (by omega) (by omega) (by omega)
        · rw [pi_pf8 K F (c + 1) (by omega)] at h; exact h
      · intro post zr hb' nb vb fb hy hp
        refine yl_res_no hy.2.1 w hnm hvs hn hv hd (fun z => hs (hsv.mp z)) ?_
        refine yl_res34_new hy.2.1 w hnm hvs hn hv hrm hcr hd hy.2.2 (fun i k z => ⟨(f1 i k z).1, (f1 i k z).2.1, hFv i k⟩) ht rfl hyes hno (fun fi' h => hp _ _ _ fi' ⟨?_, ?_, h⟩)
        · exact yl_L_fr hy.1 hmL _ _ _
        · exact yl_L_ext hy.2.1 (by omega)
    · refine Or.inr ⟨?_, ?_⟩
      · intro post ho na ve de ch fi hx hp
        exact xl_meet_full hx.2.1 w hnm hvs hb hn hv hd hs (by omega) hp
      · intro post zr hb' nb vb fb hy hp
        refine yl_res_no hy.2.1 w hnm hvs hn hv hd (fun z => hs (hsv.mp z)) ?_
        exact yl_res34_full (by omega) (by omega) hp
/-- all edges of node d -/
theorem ls_settle (K : pi_K nm vs lock) (hR : pi_R lock R) (hLb : xl_LB L b) (hmL : mL ≤ 25) (hrm : rm ≤ 24) {d o : Nat} (ho : o < 25) : ∀ j n (c : Nat) (H N V : Nat → Nat) (C F : Nat → Nat → Nat), n + j = nm → pi_I nm vs lock R d n (c + 1) H N V C F → d < c + 1 → ly_ow N V d = o →
    (∃ (c' : Nat) (H' N' V' : Nat → Nat) (C' F' : Nat → Nat → Nat), pi_I nm vs lock R d nm (c' + 1) H' N' V' C' F' ∧ c ≤ c' ∧
      (∀ (post : Int32 → SX → Prop) (ho na ve de ch fi : Nat → Int32), xx_R L b mL HL NL VL CL c H N V C F ho na ve de ch fi → (∀ ho' na' ve' de' ch' fi', xx_R L b mL HL NL VL CL c' H' N' V' C' F' ho' na' ve' de' ch' fi' → post 1 (nI nm, f_versions, nI rm, f_queued, f_live, f_liveCount, nI b, nI c', f_cursor, lock, a_planned, ho', na', ve', de', ch', fi', a_match, a_queue, a_reached)) → wX_settle_8 post (nI (b + d)) (nI o) (j + 1) (nI n) (nI nm) f_versions (nI rm) f_queued f_live f_liveCount (nI b) (nI c) f_cursor lock a_planned ho na ve de ch fi a_match a_queue a_reached) ∧
      (∀ (post : Int32 → SY → Prop) (J : Int32 → Int32 → Int32 → Int32 → Int32 → Int32 → Int32 → (Nat → Int32) → (Nat → Int32) → (Nat → Int32) → (Nat → Int32) → (Nat → Int32) → (Nat → Int32) → (Nat → Int32) → Prop) (zr hb nb vb fb : Nat → Int32), yy_R mL HL NL VL c H N V F hb nb vb fb → (∀ hb' nb' vb' fb', yy_R mL HL NL VL c' H' N' V' F' hb' nb' vb' fb' → J (nI (25 + (d + 1))) (nI nm) y_versions (nI rm) y_nodes (nI (c' + 1)) y_cursor lock z_planned zr nb' vb' hb' fb') → wY_plan_101 post J (nI (25 + d)) (nI o) (j + 1) (nI n) (nI nm) y_versions (nI rm) y_nodes (nI (c + 1)) y_cursor lock z_planned zr nb vb hb fb)) ∨
    (∃ (c' : Nat) (H' N' V' : Nat → Nat) (C' F' : Nat → Nat → Nat), 
      (∀ (post : Int32 → SX → Prop) (ho na ve de ch fi : Nat → Int32), xx_R L b mL HL NL VL CL c H N V C F ho na ve de ch fi → (∀ ho' na' ve' de' ch' fi', xx_R L b mL HL NL VL CL c' H' N' V' C' F' ho' na' ve' de' ch' fi' → post 0 (nI nm, f_versions, nI rm, f_queued, f_live, f_liveCount, nI b, nI c', f_cursor, lock, a_planned, ho', na', ve', de', ch', fi', a_match, a_queue, a_reached)) → wX_settle_8 post (nI (b + d)) (nI o) (j + 1) (nI n) (nI nm) f_versions (nI rm) f_queued f_live f_liveCount (nI b) (nI c) f_cursor lock a_planned ho na ve de ch fi a_match a_queue a_reached) ∧
      (∀ (post : Int32 → SY → Prop) (J : Int32 → Int32 → Int32 → Int32 → Int32 → Int32 → Int32 → (Nat → Int32) → (Nat → Int32) → (Nat → Int32) → (Nat → Int32) → (Nat → Int32) → (Nat → Int32) → (Nat → Int32) → Prop) (zr hb nb vb fb : Nat → Int32), yy_R mL HL NL VL c H N V F hb nb vb fb → (∀ hb' nb' vb' fb', yy_R mL HL NL VL c' H' N' V' F' hb' nb' vb' fb' → post (-5) (nI nm, y_versions, nI rm, y_nodes, nI (c' + 1), y_cursor, lock, z_planned, zr, nb', vb', hb', fb')) → wY_plan_101 post J (nI (25 + d)) (nI o) (j + 1) (nI n) (nI nm) y_versions (nI rm) y_nodes (nI (c + 1)) y_cursor lock z_planned zr nb vb hb fb)) := by
  have hnm := K.1.1.2
  have hvs := K.1.2.2
  intro j
  induction j with
  | zero =>
    intro n c H N V C F hn I hd how
    obtain rfl : n = nm := by omega
    refine Or.inl ⟨c, H, N, V, C, F, I, Nat.le_refl _, ?_, ?_⟩
    · intro post ho na ve de ch fi hx hp
      exact br_t (nI_le (Nat.le_refl _) (by omega)) (hp _ _ _ _ _ _ hx)
    · intro post J zr hb' nb vb fb hy hp
      exact br_t (nI_le (Nat.le_refl _) (by omega)) (nm_r (nI_1 (25 + d)) (hp _ _ _ _ hy))
  | succ j ih =>
    intro n c H N V C F hn I hd how
    have hin : vp_in (nI (o * 8 + n)) 200 := vp_in_nI (by omega) (by decide)
    have hcl : (nI (o * 8 + n)).toNatClampNeg = o * 8 + n := nI_clamp (by omega)
    by_cases hv : ∃ v, v < vs ∧ lock (o * 8 + n) = nI v
    · obtain ⟨v, hv, he⟩ := hv
      have hpos : ¬ nI v < 0 := nI_pos (by omega)
      rcases ls_meet (f_versions := f_versions) (f_queued := f_queued) (f_live := f_live) (f_liveCount := f_liveCount) (f_cursor := f_cursor) (a_planned := a_planned) (a_match := a_match) (a_queue := a_queue) (a_reached := a_reached) (y_versions := y_versions) (y_nodes := y_nodes) (y_cursor := y_cursor) (z_planned := z_planned) (HL := HL) (NL := NL) (VL := VL) (CL := CL) K hR hLb hmL hrm I hd (by omega) hv (by rw [how]; exact he) with ⟨c1, H1, N1, V1, C1, F1, I1, hc1, how1, hX1, hY1⟩ | ⟨hX1, hY1⟩
      · rcases ih (n + 1) c1 H1 N1 V1 C1 F1 (by omega) I1 (by omega) (how1.trans how) with ⟨c2, H2, N2, V2, C2, F2, I2, hc2, hX2, hY2⟩ | ⟨c2, H2, N2, V2, C2, F2, hX2, hY2⟩
        · refine Or.inl ⟨c2, H2, N2, V2, C2, F2, I2, by omega, ?_, ?_⟩
          · intro post ho na ve de ch fi hx hp
            refine br_f (nI_ge (by omega) (by omega)) ?_
            rw [mh_ix, hcl, he]
            refine ⟨hin, nm_e (br_f hpos ?_)⟩
            refine hX1 _ ho na ve de ch fi hx (fun ho1 na1 ve1 de1 ch1 fi1 hx1 => br_f mh_10 (nm_r (nI_1 n) ?_))
            exact hX2 post _ _ _ _ _ _ hx1 hp
          · intro post J zr hb' nb vb fb hy hp
            refine br_f (nI_ge (by omega) (by omega)) ?_
            rw [mh_ix, hcl, he]
            refine ⟨hin, nm_e (br_f hpos ?_)⟩
            refine hY1 _ zr hb' nb vb fb hy (fun hb1 nb1 vb1 fb1 hy1 => br_f mh_10 (nm_r (nI_1 n) ?_))
            exact hY2 post J zr _ _ _ _ hy1 hp
        · refine Or.inr ⟨c2, H2, N2, V2, C2, F2, ?_, ?_⟩
          · intro post ho na ve de ch fi hx hp
            refine br_f (nI_ge (by omega) (by omega)) ?_
            rw [mh_ix, hcl, he]
            refine ⟨hin, nm_e (br_f hpos ?_)⟩
            refine hX1 _ ho na ve de ch fi hx (fun ho1 na1 ve1 de1 ch1 fi1 hx1 => br_f mh_10 (nm_r (nI_1 n) ?_))
            exact hX2 post _ _ _ _ _ _ hx1 hp
          · intro post J zr hb' nb vb fb hy hp
            refine br_f (nI_ge (by omega) (by omega)) ?_
            rw [mh_ix, hcl, he]
            refine ⟨hin, nm_e (br_f hpos ?_)⟩
            refine hY1 _ zr hb' nb vb fb hy (fun hb1 nb1 vb1 fb1 hy1 => br_f mh_10 (nm_r (nI_1 n) ?_))
            exact hY2 post J zr _ _ _ _ hy1 hp
      · refine Or.inr ⟨c, H, N, V, C, F, ?_, ?_⟩
        · intro post ho na ve de ch fi hx hp
          refine br_f (nI_ge (by omega) (by omega)) ?_
          rw [mh_ix, hcl, he]
          refine ⟨hin, nm_e (br_f hpos ?_)⟩
          exact hX1 _ ho na ve de ch fi hx (br_t rfl (hp _ _ _ _ _ _ hx))
        · intro post J zr hb' nb vb fb hy hp
          refine br_f (nI_ge (by omega) (by omega)) ?_
          rw [mh_ix, hcl, he]
          refine ⟨hin, nm_e (br_f hpos ?_)⟩
          exact hY1 _ zr hb' nb vb fb hy (br_t rfl (hp _ _ _ _ hy))
    · have hneg : lock (o * 8 + n) < 0 := by
        rcases K.2.1 o n ho (by omega) with e | ⟨_, e | e⟩
        · rw [e]; exact mh_m1
        · rw [e]; exact mh_m2
        · exact absurd e hv
      have I1 := pi_skip I (fun x hx e => by
        rw [how] at e
        exact hv ⟨x, (pi_lt K ho (by omega) hx e).2, e⟩)
      rcases ih (n + 1) c H N V C F (by omega) I1 hd how with ⟨c2, H2, N2, V2, C2, F2, I2, hc2, hX2, hY2⟩ | ⟨c2, H2, N2, V2, C2, F2, hX2, hY2⟩
      · refine Or.inl ⟨c2, H2, N2, V2, C2, F2, I2, by omega, ?_, ?_⟩
        · intro post ho na ve de ch fi hx hp
          refine br_f (nI_ge (by omega) (by omega)) ?_
          rw [mh_ix, hcl]
          exact ⟨hin, nm_e (br_t hneg (nm_r (nI_1 n) (hX2 post _ _ _ _ _ _ hx hp)))⟩
        · intro post J zr hb' nb vb fb hy hp
          refine br_f (nI_ge (by omega) (by omega)) ?_
          rw [mh_ix, hcl]
          exact ⟨hin, nm_e (br_t hneg (nm_r (nI_1 n) (hY2 post J zr _ _ _ _ hy hp)))⟩
      · refine Or.inr ⟨c2, H2, N2, V2, C2, F2, ?_, ?_⟩
        · intro post ho na ve de ch fi hx hp
          refine br_f (nI_ge (by omega) (by omega)) ?_
          rw [mh_ix, hcl]
          exact ⟨hin, nm_e (br_t hneg (nm_r (nI_1 n) (hX2 post _ _ _ _ _ _ hx hp)))⟩
        · intro post J zr hb' nb vb fb hy hp
          refine br_f (nI_ge (by omega) (by omega)) ?_
          rw [mh_ix, hcl]
          exact ⟨hin, nm_e (br_t hneg (nm_r (nI_1 n) (hY2 post J zr _ _ _ _ hy hp)))⟩
end
end
section
/-! all nodes of the draft, by both -/
section
variable {f_names f_versions f_rooms f_queued f_live f_liveCount f_draft f_cursor : Int32} {a_lock a_planned a_holder a_nameOf a_versionOf a_depthOf a_child a_fixed a_match a_queue a_reached : Nat → Int32}
variable {q8 : Int32} {b m : Nat} {H N V : Nat → Nat}
theorem xl_settle {post : Int32 → SX → Prop} {d : Nat} (hH : xl_H b m H a_holder) (hN : xl_N b m N a_nameOf) (hV : xl_N b m V a_versionOf) (hd : ly_HD m H) (hb : b ≤ 25) (hm : m ≤ 25) (hi : d < m)
    (h : ∃ n8 : Nat, wX_settle_8 post (nI (b + d)) (nI (ly_ow N V d)) n8 0 f_names f_versions f_rooms f_queued f_live f_liveCount f_draft q8 f_cursor a_lock a_planned a_holder a_nameOf a_versionOf a_depthOf a_child a_fixed a_match a_queue a_reached) : wpX_settle post (f_names, f_versions, f_rooms, f_queued, f_live, f_liveCount, f_draft, q8, f_cursor, a_lock, a_planned, a_holder, a_nameOf, a_versionOf, a_depthOf, a_child, a_fixed, a_match, a_queue, a_reached) (nI (b + d)) := by
  unfold wpX_settle
  dsimp only
  exact xl_ownerOf hH hN hV hd hb hm hi h
end
section
variable {f_versions f_queued f_live f_liveCount f_cursor : Int32} {a_planned a_match a_queue a_reached : Nat → Int32}
variable {y_versions y_nodes y_cursor : Int32} {z_planned : Nat → Int32}
variable {nm vs rm L b mL : Nat} {lock : Nat → Int32} {R : Nat → Prop} {HL NL VL : Nat → Nat} {CL : Nat → Nat → Nat}
theorem ls_layout (K : pi_K nm vs lock) (hR : pi_R lock R) (hLb : xl_LB L b) (hmL : mL ≤ 25) (hrm : rm ≤ 24) : ∀ g d (c : Nat) (H N V : Nat → Nat) (C F : Nat → Nat → Nat), d + g = 25 → pi_I nm vs lock R d 0 (c + 1) H N V C F → d ≤ c + 1 →
    (∃ (c' : Nat) (H' N' V' : Nat → Nat) (C' F' : Nat → Nat → Nat), ly_W nm vs (c' + 1) H' N' V' C' ∧
      (∀ (post : Int32 → SX → Prop) (ho na ve de ch fi : Nat → Int32), xx_R L b mL HL NL VL CL c H N V C F ho na ve de ch fi → (∀ ho' na' ve' de' ch' fi', xx_R L b mL HL NL VL CL c' H' N' V' C' F' ho' na' ve' de' ch' fi' → post 1 (nI nm, f_versions, nI rm, f_queued, f_live, f_liveCount, nI b, nI c', f_cursor, lock, a_planned, ho', na', ve', de', ch', fi', a_match, a_queue, a_reached)) → wX_layOut_2 post (g + 1) (nI d) (nI nm) f_versions (nI rm) f_queued f_live f_liveCount (nI b) (nI c) f_cursor lock a_planned ho na ve de ch fi a_match a_queue a_reached) ∧
      (∀ (post : Int32 → SY → Prop) (zr hb nb vb fb : Nat → Int32), yy_R mL HL NL VL c H N V F hb nb vb fb → (∀ hb' nb' vb' fb', yy_R mL HL NL VL c' H' N' V' F' hb' nb' vb' fb' → ∃ n158 : Nat, wY_plan_158 post (nI nm) y_versions (nI rm) y_nodes (nI (c' + 1)) y_cursor lock z_planned zr nb' vb' hb' fb' n158 0 26) → wY_plan_76 post (g + 1) (nI (25 + d)) (nI nm) y_versions (nI rm) y_nodes (nI (c + 1)) y_cursor lock z_planned zr nb vb hb fb)) ∨
    (∃ (c' : Nat) (H' N' V' : Nat → Nat) (C' F' : Nat → Nat → Nat), 
      (∀ (post : Int32 → SX → Prop) (ho na ve de ch fi : Nat → Int32), xx_R L b mL HL NL VL CL c H N V C F ho na ve de ch fi → (∀ ho' na' ve' de' ch' fi', xx_R L b mL HL NL VL CL c' H' N' V' C' F' ho' na' ve' de' ch' fi' → post 0 (nI nm, f_versions, nI rm, f_queued, f_live, f_liveCount, nI b, nI c', f_cursor, lock, a_planned, ho', na', ve', de', ch', fi', a_match, a_queue, a_reached)) → wX_layOut_2 post (g + 1) (nI d) (nI nm) f_versions (nI rm) f_queued f_live f_liveCount (nI b) (nI c) f_cursor lock a_planned ho na ve de ch fi a_match a_queue a_reached) ∧
      (∀ (post : Int32 → SY → Prop) (zr hb nb vb fb : Nat → Int32), yy_R mL HL NL VL c H N V F hb nb vb fb → (∀ hb' nb' vb' fb', yy_R mL HL NL VL c' H' N' V' F' hb' nb' vb' fb' → post (-5) (nI nm, y_versions, nI rm, y_nodes, nI (c' + 1), y_cursor, lock, z_planned, zr, nb', vb', hb', fb')) → wY_plan_76 post (g + 1) (nI (25 + d)) (nI nm) y_versions (nI rm) y_nodes (nI (c + 1)) y_cursor lock z_planned zr nb vb hb fb)) := by
  have hnm := K.1.1.2
  have hvs := K.1.2.2
  have hb : b ≤ 25 := by rcases hLb with ⟨_, e⟩ | ⟨_, e⟩ <;> omega
  intro g
  induction g with
  | zero =>
    intro d c H N V C F hd I hdc
    have w := I.1
    have hm := w.1.2
    refine Or.inl ⟨c, H, N, V, C, F, w, ?_, ?_⟩
    · intro post ho na ve de ch fi hx hp
      exact br_t (nI_lt (by omega) (by omega)) (hp _ _ _ _ _ _ hx)
    · intro post zr hb' nb vb fb hy hp
      exact br_t (nI_le (a := 50) (by omega) (by omega)) (hp _ _ _ _ hy)
  | succ g ih =>
    intro d c H N V C F hd I hdc
    have w := I.1
    have hm := w.1.2
    by_cases hdc2 : d = c + 1
    · refine Or.inl ⟨c, H, N, V, C, F, w, ?_, ?_⟩
      · intro post ho na ve de ch fi hx hp
        exact br_t (nI_lt (by omega) (by omega)) (hp _ _ _ _ _ _ hx)
      · intro post zr hb' nb vb fb hy hp
        refine br_f (nI_ge (b := 50) (by omega) (by omega)) (br_t ?_ (hp _ _ _ _ hy))
        rw [show (25 : Int32) + nI (c + 1) = nI (25 + (c + 1)) from nI_add 25 (c + 1)]
        exact nI_le (by omega) (by omega)
    · have hdm : d < c + 1 := by omega
      have howl := ly_ow_lt w hnm hvs hdm
      have hD := ly_W_hd w
      have hge : ¬ (25 : Int32) + nI (c + 1) ≤ nI (25 + d) := by
        rw [show (25 : Int32) + nI (c + 1) = nI (25 + (c + 1)) from nI_add 25 (c + 1)]
        exact nI_ge (by omega) (by omega)
      rcases ls_settle (f_versions := f_versions) (f_queued := f_queued) (f_live := f_live) (f_liveCount := f_liveCount) (f_cursor := f_cursor) (a_planned := a_planned) (a_match := a_match) (a_queue := a_queue) (a_reached := a_reached) (y_versions := y_versions) (y_nodes := y_nodes) (y_cursor := y_cursor) (z_planned := z_planned) (HL := HL) (NL := NL) (VL := VL) (CL := CL) K hR hLb hmL hrm howl nm 0 c H N V C F (by omega) I hdm rfl with ⟨c1, H1, N1, V1, C1, F1, I1, hc1, hX1, hY1⟩ | ⟨c1, H1, N1, V1, C1, F1, hX1, hY1⟩
      · rcases ih (d + 1) c1 H1 N1 V1 C1 F1 (by omega) (pi_row K I1) (by omega) with ⟨c2, H2, N2, V2, C2, F2, w2, hX2, hY2⟩ | ⟨c2, H2, N2, V2, C2, F2, hX2, hY2⟩
        · refine Or.inl ⟨c2, H2, N2, V2, C2, F2, w2, ?_, ?_⟩
          · intro post ho na ve de ch fi hx hp
            refine br_f (nI_nlt (by omega) (by omega)) (br_f (nI_ge (b := 25) (by omega) (by omega)) ?_)
            rw [nI_add]
            refine xl_settle hx.2.1.1 hx.2.1.2.1 hx.2.1.2.2.1 hD hb hm hdm ⟨nm + 1, ?_⟩
            exact hX1 _ _ _ _ _ _ _ hx (fun ho1 na1 ve1 de1 ch1 fi1 hx1 => br_f mh_10 (nm_r (nI_1 d) (hX2 post _ _ _ _ _ _ hx1 hp)))
          · intro post zr hb' nb vb fb hy hp
            refine br_f (nI_ge (b := 50) (by omega) (by omega)) (br_f hge ?_)
            refine yl_ownerOf hy.2.1.2.1 hy.2.1.2.2.1 hy.2.1.2.2.2 w hnm (by omega) hm hdm ⟨nm + 1, ?_⟩
            exact hY1 post _ zr _ _ _ _ hy (fun hb1 nb1 vb1 fb1 hy1 => hY2 post zr _ _ _ _ hy1 hp)
        · refine Or.inr ⟨c2, H2, N2, V2, C2, F2, ?_, ?_⟩
          · intro post ho na ve de ch fi hx hp
            refine br_f (nI_nlt (by omega) (by omega)) (br_f (nI_ge (b := 25) (by omega) (by omega)) ?_)
            rw [nI_add]
            refine xl_settle hx.2.1.1 hx.2.1.2.1 hx.2.1.2.2.1 hD hb hm hdm ⟨nm + 1, ?_⟩
            exact hX1 _ _ _ _ _ _ _ hx (fun ho1 na1 ve1 de1 ch1 fi1 hx1 => br_f mh_10 (nm_r (nI_1 d) (hX2 post _ _ _ _ _ _ hx1 hp)))
          · intro post zr hb' nb vb fb hy hp
            refine br_f (nI_ge (b := 50) (by omega) (by omega)) (br_f hge ?_)
            refine yl_ownerOf hy.2.1.2.1 hy.2.1.2.2.1 hy.2.1.2.2.2 w hnm (by omega) hm hdm ⟨nm + 1, ?_⟩
            exact hY1 post _ zr _ _ _ _ hy (fun hb1 nb1 vb1 fb1 hy1 => hY2 post zr _ _ _ _ hy1 hp)
      · refine Or.inr ⟨c1, H1, N1, V1, C1, F1, ?_, ?_⟩
        · intro post ho na ve de ch fi hx hp
          refine br_f (nI_nlt (by omega) (by omega)) (br_f (nI_ge (b := 25) (by omega) (by omega)) ?_)
          rw [nI_add]
          refine xl_settle hx.2.1.1 hx.2.1.2.1 hx.2.1.2.2.1 hD hb hm hdm ⟨nm + 1, ?_⟩
          exact hX1 _ _ _ _ _ _ _ hx (fun ho1 na1 ve1 de1 ch1 fi1 hx1 => br_t rfl (hp _ _ _ _ _ _ hx1))
        · intro post zr hb' nb vb fb hy hp
          refine br_f (nI_ge (b := 50) (by omega) (by omega)) (br_f hge ?_)
          refine yl_ownerOf hy.2.1.2.1 hy.2.1.2.2.1 hy.2.1.2.2.2 w hnm (by omega) hm hdm ⟨nm + 1, ?_⟩
          exact hY1 post _ zr _ _ _ _ hy hp
end
end
section
/-! reachable owners and missing peers -/
def pm_E (lock : Nat → Int32) (o o' : Nat) : Prop := ∃ k v, k < 8 ∧ v < 3 ∧ lock (o * 8 + k) = nI v ∧ o' = 1 + k * 3 + v
def pm_RC (lock : Nat → Int32) (o : Nat) : Prop := ∀ S : Nat → Prop, S 0 → (∀ o o', o < 25 → S o → pm_E lock o o' → S o') → S o
def pm_Lk (lock : Nat → Int32) (o : Nat) : Prop := ∃ k v j, k < 8 ∧ v < 3 ∧ j < 8 ∧ lock (o * 8 + k) = nI v ∧ lock ((1 + k * 3 + v) * 8 + j) = -2 ∧ lock (o * 8 + j) = -1
def pm_M (lock : Nat → Int32) : Prop := ∃ o, o < 25 ∧ pm_RC lock o ∧ pm_Lk lock o
theorem pm_RC0 (lock : Nat → Int32) : pm_RC lock 0 := fun _ h _ => h
theorem pm_RCs {lock : Nat → Int32} {o o' : Nat} (ho : o < 25) (h : pm_RC lock o) (e : pm_E lock o o') : pm_RC lock o' := fun S h0 hs => hs o o' ho (h S h0 hs) e
theorem pm_E_lt {lock : Nat → Int32} {o o' : Nat} (e : pm_E lock o o') : o' < 25 := by
  obtain ⟨k, v, hk, hv, _, rfl⟩ := e; omega
theorem pm_R {lock : Nat → Int32} (h : ¬ pm_M lock) : pi_R lock (pm_RC lock) := by
  refine ⟨pm_RC0 lock, fun o k v ho hr hk hv he => ⟨pm_RCs ho hr ⟨k, v, hk, hv, he, rfl⟩, fun j hj hl hn => h ⟨o, ho, hr, k, v, j, hk, hv, hj, he, hl, hn⟩⟩⟩
def pm_cn (re : Nat → Int32) : Nat → Nat
  | 0 => 0
  | k + 1 => pm_cn re k + (if re k = 0 then 0 else 1)
theorem pm_cn_le (re : Nat → Int32) : ∀ k, pm_cn re k ≤ k := by
  intro k
  induction k with
  | zero => exact Nat.le_refl 0
  | succ k ih =>
    show pm_cn re k + (if re k = 0 then 0 else 1) ≤ k + 1
    by_cases h : re k = 0
    · rw [if_pos h]; omega
    · rw [if_neg h]; omega
theorem pm_cn_up {re re' : Nat → Int32} (h : ∀ o, re o ≠ 0 → re' o ≠ 0) : ∀ k, pm_cn re k ≤ pm_cn re' k := by
  intro k
  induction k with
  | zero => exact Nat.le_refl 0
  | succ k ih =>
    show pm_cn re k + (if re k = 0 then 0 else 1) ≤ pm_cn re' k + (if re' k = 0 then 0 else 1)
    by_cases z : re k = 0
    · rw [if_pos z]; omega
    · rw [if_neg z, if_neg (h k z)]; omega
theorem pm_cn_s {re re' : Nat → Int32} (h : ∀ o, re o ≠ 0 → re' o ≠ 0) {o : Nat} (h0 : re o = 0) (h1 : re' o ≠ 0) : ∀ k, o < k → pm_cn re k + 1 ≤ pm_cn re' k := by
  intro k
  induction k with
  | zero => intro z; omega
  | succ k ih =>
    intro z
    show pm_cn re k + (if re k = 0 then 0 else 1) + 1 ≤ pm_cn re' k + (if re' k = 0 then 0 else 1)
    by_cases e : o = k
    · subst e
      have := pm_cn_up h o
      rw [if_pos h0, if_neg h1]; omega
    · have := ih (by omega)
      by_cases z : re k = 0
      · rw [if_pos z]; omega
      · rw [if_neg z, if_neg (h k z)]; omega
theorem pm_lk {nm vs : Nat} {lock : Nat → Int32} (K : pi_K nm vs lock) {o k : Nat} (ho : o < 25) (hk : k < 8) : (lock (o * 8 + k) < 0 ∧ ∀ v, v < 3 → lock (o * 8 + k) ≠ nI v) ∨ ∃ v, v < vs ∧ k < nm ∧ lock (o * 8 + k) = nI v := by
  rcases K.2.1 o k ho hk with e | ⟨a, e | ⟨v, hv, e⟩⟩
  · rw [e]; exact Or.inl ⟨mh_m1, fun v hv z => mh_n1 (by omega) z.symm⟩
  · rw [e]; exact Or.inl ⟨mh_m2, fun v hv z => mh_n2 (by omega) z.symm⟩
  · exact Or.inr ⟨v, hv, a, e⟩
/-! X's queue -/
def pm_B (lock : Nat → Int32) (q : Nat) (qu re : Nat → Int32) : Prop :=
  q ≤ pm_cn re 25 ∧ (∀ i, i < q → ∃ o, o < 25 ∧ qu i = nI o ∧ pm_RC lock o) ∧ (∀ o, o < 25 → re o ≠ 0 → ∃ i, i < q ∧ qu i = nI o)
def pm_G (q : Nat) (qu re : Nat → Int32) (q' : Nat) (qu' re' : Nat → Int32) : Prop := q ≤ q' ∧ (∀ i, i < q → qu' i = qu i) ∧ (∀ o, re o ≠ 0 → re' o ≠ 0)
theorem pm_G_r (q : Nat) (qu re : Nat → Int32) : pm_G q qu re q qu re := ⟨Nat.le_refl _, fun _ _ => rfl, fun _ h => h⟩
theorem pm_G_t {q q' q2 : Nat} {qu re qu' re' qu2 re2 : Nat → Int32} (a : pm_G q qu re q' qu' re') (b : pm_G q' qu' re' q2 qu2 re2) : pm_G q qu re q2 qu2 re2 :=
  ⟨Nat.le_trans a.1 b.1, fun i hi => (b.2.1 i (Nat.lt_of_lt_of_le hi a.1)).trans (a.2.1 i hi), fun o h => b.2.2 o (a.2.2 o h)⟩
section
variable {f_versions f_rooms f_live f_liveCount f_draft f_draftCount f_cursor : Int32} {a_planned a_holder a_nameOf a_versionOf a_depthOf a_child a_fixed a_match : Nat → Int32}
variable {nm vs : Nat} {lock : Nat → Int32}
theorem xl_reach {post : SX → Prop} {q o : Nat} {qu re : Nat → Int32} (hB : pm_B lock q qu re) (ho : o < 25) (hr : pm_RC lock o)
    (hp : ∀ q' qu' re', pm_B lock q' qu' re' → pm_G q qu re q' qu' re' → re' o ≠ 0 → post (nI nm, f_versions, f_rooms, nI q', f_live, f_liveCount, f_draft, f_draftCount, f_cursor, lock, a_planned, a_holder, a_nameOf, a_versionOf, a_depthOf, a_child, a_fixed, a_match, qu', re')) : wpX_reach post (nI nm, f_versions, f_rooms, nI q, f_live, f_liveCount, f_draft, f_draftCount, f_cursor, lock, a_planned, a_holder, a_nameOf, a_versionOf, a_depthOf, a_child, a_fixed, a_match, qu, re) (nI o) := by
  have hc := pm_cn_le re 25
  have hq := hB.1
  unfold wpX_reach
  dsimp only
  rw [nI_clamp (by omega), mh_vb1]
  refine ⟨vp_in_nI (by omega) (by decide), br_c (fun z => ?_) (fun z => hp q qu re hB (pm_G_r _ _ _) z)⟩
  have hmono : ∀ x, re x ≠ 0 → upd re o 1 x ≠ 0 := by
    intro x hx
    by_cases e : x = o
    · subst e; rw [pk_us]; exact mh_10
    · rw [pk_un e]; exact hx
  have hs : upd re o 1 o ≠ 0 := by rw [pk_us]; exact mh_10
  have hcs := pm_cn_s hmono z hs 25 ho
  have hcl := pm_cn_le (upd re o 1) 25
  refine br_f (nI_ge (b := 25) (by omega) (by omega)) ⟨vp_in_nI (by omega) (by decide), nm_e ⟨vp_in_nI (by omega) (by decide), ?_⟩⟩
  rw [nI_clamp (by omega)]
  refine nm_e (nm_r (nI_1 q) (hp (q + 1) _ _ ⟨by omega, ?_, ?_⟩ ⟨by omega, ?_, hmono⟩ hs))
  · intro i hi
    by_cases e : i = q
    · subst e; exact ⟨o, ho, pk_us, hr⟩
    · rw [pk_un e]; exact hB.2.1 i (by omega)
  · intro x hx hre
    by_cases e : x = o
    · subst e; exact ⟨q, by omega, pk_us⟩
    · obtain ⟨i, hi, hqi⟩ := hB.2.2 x hx (by rw [pk_un e] at hre; exact hre)
      exact ⟨i, by omega, by rw [pk_un (by omega)]; exact hqi⟩
  · intro i hi; exact pk_un (by omega)
end
section
variable {f_versions f_rooms f_queued f_live f_liveCount f_draft f_draftCount f_cursor : Int32} {a_planned a_holder a_nameOf a_versionOf a_depthOf a_child a_fixed a_match a_queue a_reached : Nat → Int32}
variable {nm vs : Nat} {lock : Nat → Int32}
theorem xl_lacks2 {post : Int32 → Prop} {o p : Nat} (hnm : nm ≤ 8) (ho : o < 25) (hpp : p < 25) (h1 : (∃ j, j < nm ∧ lock (p * 8 + j) = -2 ∧ lock (o * 8 + j) = -1) → post 1) (h0 : (¬ ∃ j, j < nm ∧ lock (p * 8 + j) = -2 ∧ lock (o * 8 + j) = -1) → post 0) :
    ∀ g k, k + g = nm → (∀ j, j < k → ¬ (lock (p * 8 + j) = -2 ∧ lock (o * 8 + j) = -1)) → wX_lacksPeer_2 post (nI o) (nI p) (nI nm) f_versions f_rooms f_queued f_live f_liveCount f_draft f_draftCount f_cursor lock a_planned a_holder a_nameOf a_versionOf a_depthOf a_child a_fixed a_match a_queue a_reached (g + 1) (nI k) := by
  intro g
  induction g with
  | zero =>
    intro k hk hQ
    obtain rfl : k = nm := by omega
    refine br_t (nI_le (Nat.le_refl _) (by omega)) (h0 ?_)
    rintro ⟨j, hj, z⟩
    exact hQ j hj z
  | succ g ih =>
    intro k hk hQ
    refine br_f (nI_ge (by omega) (by omega)) ?_
    rw [mh_ix, mh_ix, nI_clamp (by omega), nI_clamp (by omega)]
    refine ⟨vp_in_nI (by omega) (by decide), br_c (fun z => ⟨vp_in_nI (by omega) (by decide), br_c (fun y => ?_) (fun y => ?_)⟩) (fun z => ?_)⟩
    · exact h1 ⟨k, by omega, z, y⟩
    · exact nm_r (nI_1 k) (ih (k + 1) (by omega) (lt_s hQ (fun x => y x.2)))
    · exact nm_r (nI_1 k) (ih (k + 1) (by omega) (lt_s hQ (fun x => z x.1)))
theorem xl_lacks {post : Int32 → Prop} {o p : Nat} (hnm : nm ≤ 8) (ho : o < 25) (hpp : p < 25) (h1 : (∃ j, j < nm ∧ lock (p * 8 + j) = -2 ∧ lock (o * 8 + j) = -1) → post 1) (h0 : (¬ ∃ j, j < nm ∧ lock (p * 8 + j) = -2 ∧ lock (o * 8 + j) = -1) → post 0) :
    wpX_lacksPeer post (nI nm, f_versions, f_rooms, f_queued, f_live, f_liveCount, f_draft, f_draftCount, f_cursor, lock, a_planned, a_holder, a_nameOf, a_versionOf, a_depthOf, a_child, a_fixed, a_match, a_queue, a_reached) (nI o) (nI p) := Exists.intro (nm + 1) (xl_lacks2 hnm ho hpp h1 h0 nm 0 (by omega) lt_0)
end
section
variable {f_versions f_rooms f_live f_liveCount f_draft f_draftCount f_cursor : Int32} {a_planned a_holder a_nameOf a_versionOf a_depthOf a_child a_fixed a_match : Nat → Int32}
variable {nm vs : Nat} {lock : Nat → Int32}
theorem xl_expand2 {post : Int32 → SX → Prop} {o q0 : Nat} {qu0 re0 : Nat → Int32} (K : pi_K nm vs lock) (ho : o < 25) (hr : pm_RC lock o) (h1 : pm_Lk lock o → ∀ q' qu' re', post 1 (nI nm, f_versions, f_rooms, nI q', f_live, f_liveCount, f_draft, f_draftCount, f_cursor, lock, a_planned, a_holder, a_nameOf, a_versionOf, a_depthOf, a_child, a_fixed, a_match, qu', re'))
    (h0 : ¬ pm_Lk lock o → ∀ q' qu' re', pm_B lock q' qu' re' → pm_G q0 qu0 re0 q' qu' re' → (∀ o', pm_E lock o o' → re' o' ≠ 0) → post 0 (nI nm, f_versions, f_rooms, nI q', f_live, f_liveCount, f_draft, f_draftCount, f_cursor, lock, a_planned, a_holder, a_nameOf, a_versionOf, a_depthOf, a_child, a_fixed, a_match, qu', re')) :
    ∀ g k q qu re, k + g = nm → pm_B lock q qu re → pm_G q0 qu0 re0 q qu re → (∀ i v, i < k → v < 3 → lock (o * 8 + i) = nI v → re (1 + i * 3 + v) ≠ 0 ∧ ¬ ∃ j, j < nm ∧ lock ((1 + i * 3 + v) * 8 + j) = -2 ∧ lock (o * 8 + j) = -1) →
      wX_expandMisses_2 post (nI o) (g + 1) (nI k) (nI nm) f_versions f_rooms (nI q) f_live f_liveCount f_draft f_draftCount f_cursor lock a_planned a_holder a_nameOf a_versionOf a_depthOf a_child a_fixed a_match qu re := by
  have hnm := K.1.1.2
  have hvs := K.1.2.2
  intro g
  induction g with
  | zero =>
    intro k q qu re hk hB hG hQ
    obtain rfl : k = nm := by omega
    refine br_t (nI_le (Nat.le_refl _) (by omega)) (h0 ?_ q qu re hB hG ?_)
    · rintro ⟨i, v, j, hi, hv, hj, e1, e2, e3⟩
      have hik := (pi_lt K ho hi hv e1).1
      refine (hQ i v hik hv e1).2 ⟨j, ?_, e2, e3⟩
      rcases K.2.1 (1 + i * 3 + v) j (by omega) hj with x | ⟨x, _⟩
      · exact absurd (e2.symm.trans x) mh_12
      · exact x
    · rintro o' ⟨i, v, hi, hv, e1, rfl⟩
      exact (hQ i v (pi_lt K ho hi hv e1).1 hv e1).1
  | succ g ih =>
    intro k q qu re hk hB hG hQ
    refine br_f (nI_ge (by omega) (by omega)) ?_
    rw [mh_ix, nI_clamp (by omega)]
    refine ⟨vp_in_nI (by omega) (by decide), ?_⟩
    rcases pm_lk K ho (k := k) (by omega) with ⟨a, b⟩ | ⟨v, hv, _, e⟩
    · refine nm_e (br_t a (nm_r (nI_1 k) (ih (k + 1) q qu re (by omega) hB hG ?_)))
      intro i x hi hx ex
      by_cases z : i = k
      · subst z; exact absurd ex (b x hx)
      · exact hQ i x (by omega) hx ex
    · rw [e]
      refine nm_e (br_f (nI_pos (by omega)) ?_)
      refine xl_ownerIndex (by omega) ?_
      refine xl_lacks hnm ho (by omega) (fun y => ?_) (fun y => ?_)
      · obtain ⟨j, hj, y1, y2⟩ := y
        exact br_f mh_10 (h1 ⟨k, v, j, by omega, by omega, by omega, e, y1, y2⟩ q qu re)
      · refine br_t rfl ?_
        refine xl_reach hB (by omega) (pm_RCs ho hr ⟨k, v, by omega, by omega, e, rfl⟩) (fun q' qu' re' hB' hG' hne => ?_)
        refine nm_r (nI_1 k) (ih (k + 1) q' qu' re' (by omega) hB' (pm_G_t hG hG') ?_)
        intro i x hi hx ex
        by_cases z : i = k
        · subst z
          have : x = v := (nI_eq (by omega) (by omega)).mp (ex.symm.trans e)
          subst this
          exact ⟨hne, y⟩
        · exact ⟨hG'.2.2 _ (hQ i x (by omega) hx ex).1, (hQ i x (by omega) hx ex).2⟩
theorem xl_expand {post : Int32 → SX → Prop} {o q : Nat} {qu re : Nat → Int32} (K : pi_K nm vs lock) (ho : o < 25) (hr : pm_RC lock o) (hB : pm_B lock q qu re) (h1 : pm_Lk lock o → ∀ q' qu' re', post 1 (nI nm, f_versions, f_rooms, nI q', f_live, f_liveCount, f_draft, f_draftCount, f_cursor, lock, a_planned, a_holder, a_nameOf, a_versionOf, a_depthOf, a_child, a_fixed, a_match, qu', re'))
    (h0 : ¬ pm_Lk lock o → ∀ q' qu' re', pm_B lock q' qu' re' → pm_G q qu re q' qu' re' → (∀ o', pm_E lock o o' → re' o' ≠ 0) → post 0 (nI nm, f_versions, f_rooms, nI q', f_live, f_liveCount, f_draft, f_draftCount, f_cursor, lock, a_planned, a_holder, a_nameOf, a_versionOf, a_depthOf, a_child, a_fixed, a_match, qu', re')) : wpX_expandMisses post (nI nm, f_versions, f_rooms, nI q, f_live, f_liveCount, f_draft, f_draftCount, f_cursor, lock, a_planned, a_holder, a_nameOf, a_versionOf, a_depthOf, a_child, a_fixed, a_match, qu, re) (nI o) :=
  Exists.intro (nm + 1) (xl_expand2 K ho hr h1 h0 nm 0 q qu re (by omega) hB (pm_G_r _ _ _) (fun i v hi => absurd hi (Nat.not_lt_zero i)))
theorem xl_peers33 {post : Int32 → SX → Prop} (K : pi_K nm vs lock) (h1 : pm_M lock → ∀ q' qu' re', post 1 (nI nm, f_versions, f_rooms, nI q', f_live, f_liveCount, f_draft, f_draftCount, f_cursor, lock, a_planned, a_holder, a_nameOf, a_versionOf, a_depthOf, a_child, a_fixed, a_match, qu', re')) (h0 : ¬ pm_M lock → ∀ q' qu' re', post 0 (nI nm, f_versions, f_rooms, nI q', f_live, f_liveCount, f_draft, f_draftCount, f_cursor, lock, a_planned, a_holder, a_nameOf, a_versionOf, a_depthOf, a_child, a_fixed, a_match, qu', re')) :
    ∀ g i q qu re, i + g = 25 → i ≤ q → pm_B lock q qu re → re 0 ≠ 0 → (∀ j o, j < i → o < 25 → qu j = nI o → ¬ pm_Lk lock o ∧ ∀ o', pm_E lock o o' → re o' ≠ 0) → wX_peerMissing_33 post (g + 1) (nI i) (nI nm) f_versions f_rooms (nI q) f_live f_liveCount f_draft f_draftCount f_cursor lock a_planned a_holder a_nameOf a_versionOf a_depthOf a_child a_fixed a_match qu re := by
  have hend : ∀ i q qu re, q ≤ i → pm_B lock q qu re → re 0 ≠ 0 → (∀ j o, j < i → o < 25 → qu j = nI o → ¬ pm_Lk lock o ∧ ∀ o', pm_E lock o o' → re o' ≠ 0) → ¬ pm_M lock := by
    rintro i q qu re hqi hB hz hQ ⟨o, ho, hr, hl⟩
    have h := hr (fun o => o < 25 ∧ re o ≠ 0) ⟨by omega, hz⟩ (by
      rintro x x' hx ⟨_, hre⟩ e
      obtain ⟨j, hj, hqj⟩ := hB.2.2 x hx hre
      exact ⟨pm_E_lt e, (hQ j x (by omega) hx hqj).2 x' e⟩)
    obtain ⟨j, hj, hqj⟩ := hB.2.2 o ho h.2
    exact (hQ j o (by omega) ho hqj).1 hl
  intro g
  induction g with
  | zero =>
    intro i q qu re hi hiq hB hz hQ
    have hc := pm_cn_le re 25
    have hq := hB.1
    exact br_t (nI_le (by omega) (by omega)) (h0 (hend i q qu re (by omega) hB hz hQ) q qu re)
  | succ g ih =>
    intro i q qu re hi hiq hB hz hQ
    have hc := pm_cn_le re 25
    have hq := hB.1
    by_cases e : q ≤ i
    · exact br_t (nI_le (by omega) (by omega)) (h0 (hend i q qu re e hB hz hQ) q qu re)
    · refine br_f (nI_ge (by omega) (by omega)) (br_f (nI_ge (b := 25) (by omega) (by omega)) ⟨vp_in_nI (by omega) (by decide), ?_⟩)
      obtain ⟨o, ho, hqo, hr⟩ := hB.2.1 i (by omega)
      rw [nI_clamp (by omega), hqo]
      refine xl_expand K ho hr hB (fun hl q' qu' re' => br_f mh_10 (h1 ⟨o, ho, hr, hl⟩ q' qu' re')) (fun hl q' qu' re' hB' hG' hcl => br_t rfl (nm_r (nI_1 i) ?_))
      refine ih (i + 1) q' qu' re' (by omega) (by have := hG'.1; omega) hB' (hG'.2.2 0 hz) ?_
      intro j x hj hx hqx
      rw [hG'.2.1 j (by omega)] at hqx
      by_cases z : j = i
      · subst z
        have : o = x := (nI_eq (by omega) (by omega)).mp (hqo.symm.trans hqx)
        subst this
        exact ⟨hl, hcl⟩
      · obtain ⟨a, b⟩ := hQ j x (by omega) hx hqx
        exact ⟨a, fun o' e => hG'.2.2 o' (b o' e)⟩
end
section
variable {f_versions f_rooms f_queued f_live f_liveCount f_draft f_draftCount f_cursor : Int32} {a_planned a_holder a_nameOf a_versionOf a_depthOf a_child a_fixed a_match a_queue a_reached : Nat → Int32}
variable {nm vs : Nat} {lock : Nat → Int32}
theorem pm_cn0 {re : Nat → Int32} (h : ∀ j, j < 25 → re j = 0) : ∀ k, k ≤ 25 → pm_cn re k = 0 := by
  intro k
  induction k with
  | zero => intro _; rfl
  | succ k ih =>
    intro hk
    show pm_cn re k + (if re k = 0 then 0 else 1) = 0
    rw [if_pos (h k (by omega)), ih (by omega)]
theorem xl_peers2 {post : Int32 → SX → Prop} (K : pi_K nm vs lock) (h1 : pm_M lock → ∀ q' qu' re', post 1 (nI nm, f_versions, f_rooms, nI q', f_live, f_liveCount, f_draft, f_draftCount, f_cursor, lock, a_planned, a_holder, a_nameOf, a_versionOf, a_depthOf, a_child, a_fixed, a_match, qu', re')) (h0 : ¬ pm_M lock → ∀ q' qu' re', post 0 (nI nm, f_versions, f_rooms, nI q', f_live, f_liveCount, f_draft, f_draftCount, f_cursor, lock, a_planned, a_holder, a_nameOf, a_versionOf, a_depthOf, a_child, a_fixed, a_match, qu', re')) :
    ∀ g i re, i + g = 25 → (∀ j, j < i → re j = 0) → wX_peerMissing_2 post (nI nm) f_versions f_rooms f_queued f_live f_liveCount f_draft f_draftCount f_cursor (g + 1) (nI i) lock a_planned a_holder a_nameOf a_versionOf a_depthOf a_child a_fixed a_match a_queue re := by
  intro g
  induction g with
  | zero =>
    intro i re hi hz
    obtain rfl : i = 25 := by omega
    refine br_t (nI_le (Nat.le_refl 25) (by omega)) ?_
    refine xl_reach (q := 0) (o := 0) ⟨Nat.zero_le _, fun i hi => absurd hi (Nat.not_lt_zero i), fun o ho hre => absurd (hz o ho) hre⟩ (by omega) (pm_RC0 lock) (fun q' qu' re' hB hG hne => ?_)
    exact ⟨26, xl_peers33 K h1 h0 25 0 q' qu' re' (by omega) (by omega) hB hne (fun j o hj => absurd hj (Nat.not_lt_zero j))⟩
  | succ g ih =>
    intro i re hi hz
    refine br_f (nI_ge (b := 25) (by omega) (by omega)) ⟨vp_in_nI (by omega) (by decide), nm_e (nm_r (nI_1 i) (ih (i + 1) _ (by omega) ?_))⟩
    rw [nI_clamp (by omega)]
    exact lt_s (fun j hj => by rw [pk_un (by omega)]; exact hz j hj) pk_us
theorem xl_peers {post : Int32 → SX → Prop} (K : pi_K nm vs lock) (h1 : pm_M lock → ∀ q' qu' re', post 1 (nI nm, f_versions, f_rooms, nI q', f_live, f_liveCount, f_draft, f_draftCount, f_cursor, lock, a_planned, a_holder, a_nameOf, a_versionOf, a_depthOf, a_child, a_fixed, a_match, qu', re')) (h0 : ¬ pm_M lock → ∀ q' qu' re', post 0 (nI nm, f_versions, f_rooms, nI q', f_live, f_liveCount, f_draft, f_draftCount, f_cursor, lock, a_planned, a_holder, a_nameOf, a_versionOf, a_depthOf, a_child, a_fixed, a_match, qu', re')) : wpX_peerMissing post (nI nm, f_versions, f_rooms, f_queued, f_live, f_liveCount, f_draft, f_draftCount, f_cursor, lock, a_planned, a_holder, a_nameOf, a_versionOf, a_depthOf, a_child, a_fixed, a_match, a_queue, a_reached) :=
  Exists.intro 26 (xl_peers2 K h1 h0 25 0 a_reached (by omega) lt_0)
end
end
section
/-! Y's passes -/
theorem pm_up1 {re : Nat → Int32} {o : Nat} : ∀ x, re x ≠ 0 → upd re o 1 x ≠ 0 := by
  intro x hx
  by_cases e : x = o
  · subst e; rw [pk_us]; exact mh_10
  · rw [pk_un e]; exact hx
def pm_P (lock : Nat → Int32) (p : Nat) (re : Nat → Int32) : Prop :=
  re 0 ≠ 0 ∧ (∀ o, o < 25 → re o ≠ 0 → pm_RC lock o) ∧ ((∀ o, o < 25 → pm_RC lock o → re o ≠ 0) ∨ p + 1 ≤ pm_cn re 25)
theorem pm_P_s {lock : Nat → Int32} {p : Nat} {re re' : Nat → Int32} (h : pm_P lock p re) (hm : ∀ o, re o ≠ 0 → re' o ≠ 0) (hs : ∀ o, o < 25 → re' o ≠ 0 → pm_RC lock o) (hc : ∀ o o', o < 25 → re o ≠ 0 → pm_E lock o o' → re' o' ≠ 0) : pm_P lock (p + 1) re' := by
  refine ⟨hm 0 h.1, hs, ?_⟩
  rcases h.2.2 with a | a
  · exact Or.inl (fun o ho hr => hm o (a o ho hr))
  · by_cases z : ∃ o o', o < 25 ∧ re o ≠ 0 ∧ pm_E lock o o' ∧ re o' = 0
    · obtain ⟨o, o', ho, hre, he, hz⟩ := z
      have := pm_cn_s hm hz (hc o o' ho hre he) 25 (pm_E_lt he)
      exact Or.inr (by omega)
    · refine Or.inl (fun o ho hr => hm o (hr (fun x => re x ≠ 0) h.1 (fun x x' hx hre he => ?_)))
      intro y
      exact z ⟨x, x', hx, hre, he, y⟩
section
variable {y_names y_versions y_rooms y_nodes y_made y_cursor : Int32} {z_planned z_nameOf z_verOf z_holder z_fixed : Nat → Int32}
variable {nm vs : Nat} {lock : Nat → Int32}
theorem yl_mp39 {post : Int32 → SY → Prop} {J : Int32 → (Nat → Int32) → (Nat → Int32) → (Nat → Int32) → (Nat → Int32) → (Nat → Int32) → (Nat → Int32) → (Nat → Int32) → Prop} {p : Nat} (K : pi_K nm vs lock) {re0 : Nat → Int32}
    (hJ : ∀ re', (∀ o, re0 o ≠ 0 → re' o ≠ 0) → (∀ o, o < 25 → re' o ≠ 0 → pm_RC lock o) → (∀ o o', o < 25 → re0 o ≠ 0 → pm_E lock o o' → re' o' ≠ 0) → J (nI (p + 1)) lock z_planned re' z_nameOf z_verOf z_holder z_fixed) :
    ∀ g e re, e + g = 200 → (∀ o, re0 o ≠ 0 → re o ≠ 0) → (∀ o, o < 25 → re o ≠ 0 → pm_RC lock o) → (∀ o k v, o < 25 → k < 8 → v < 3 → o * 8 + k < e → re0 o ≠ 0 → lock (o * 8 + k) = nI v → re (1 + k * 3 + v) ≠ 0) →
      wY_missingPeer_39 post J (nI p) y_names y_versions y_rooms y_nodes y_made y_cursor (g + 1) (nI e) lock z_planned re z_nameOf z_verOf z_holder z_fixed := by
  have hvs := K.1.2.2
  have hnm := K.1.1.2
  intro g
  induction g with
  | zero =>
    intro e re he hm hs hc
    refine br_t (nI_le (a := 200) (by omega) (by omega)) (nm_r (nI_1 p) (hJ re hm hs ?_))
    rintro o o' ho hre ⟨k, v, hk, hv, hl, rfl⟩
    exact hc o k v ho hk hv (by omega) hre hl
  | succ g ih =>
    intro e re he hm hs hc
    obtain ⟨o, k, ho, hk, ee⟩ : ∃ o k, o < 25 ∧ k < 8 ∧ e = o * 8 + k := ⟨e / 8, e % 8, by omega, by omega, by omega⟩
    have e1 : e / 8 = o := by omega
    have e2 : e % 8 = k := by omega
    refine br_f (nI_ge (b := 200) (by omega) (by omega)) ?_
    rw [mh_r8 (by omega), mh_d8 (by omega), e1, e2, nI_clamp (n := o) (by omega), nI_clamp (n := e) (by omega)]
    have hin : vp_in (nI e) 200 := vp_in_nI (by omega) (by decide)
    refine ⟨mh_8, vp_in_nI (by omega) (by decide), br_c (fun z => ?_) (fun z => ⟨hin, ?_⟩)⟩
    · refine nm_r (nI_1 e) (ih (e + 1) re (by omega) hm hs ?_)
      intro o' k' v ho' hk' hv hlt hre hl
      by_cases y : o' = o ∧ k' = k
      · rw [y.1] at hre; exact absurd z (hm o hre)
      · exact hc o' k' v ho' hk' hv (by omega) hre hl
    · rw [ee]
      rcases pm_lk K ho hk with ⟨a, b⟩ | ⟨v, hv, _, el⟩
      · refine br_t a (nm_r (nI_1 _) (ih (o * 8 + k + 1) re (by omega) hm hs ?_))
        intro o' k' v ho' hk' hv hlt hre hl
        by_cases y : o' = o ∧ k' = k
        · rw [y.1, y.2] at hl; exact absurd hl (b v hv)
        · exact hc o' k' v ho' hk' hv (by omega) hre hl
      · rw [el, mh_ow, nI_clamp (n := 1 + k * 3 + v) (by omega), mh_vb1]
        refine br_f (nI_pos (by omega)) ⟨mh_8, vp_in_nI (by omega) (by decide), vp_in_nI (by omega) (by decide), nm_e (nm_r (nI_1 _) (ih (o * 8 + k + 1) _ (by omega) (fun x hx => pm_up1 x (hm x hx)) ?_ ?_))⟩
        · intro x hx hre
          by_cases y : x = 1 + k * 3 + v
          · rw [y]; exact pm_RCs ho (hs o ho z) ⟨k, v, hk, by omega, el, rfl⟩
          · rw [pk_un y] at hre; exact hs x hx hre
        · intro o' k' v' ho' hk' hv' hlt hre hl
          by_cases y : o' = o ∧ k' = k
          · rw [y.1, y.2] at hl
            have : v' = v := (nI_eq (by omega) (by omega)).mp (hl.symm.trans el)
            rw [y.2, this, pk_us]; exact mh_10
          · exact pm_up1 _ (hc o' k' v' ho' hk' hv' (by omega) hre hl)
end
section
variable {y_names y_versions y_rooms y_nodes y_made y_cursor : Int32} {z_planned z_reach z_nameOf z_verOf z_holder z_fixed : Nat → Int32}
variable {nm vs : Nat} {lock : Nat → Int32}
theorem yl_mp151 {post : Int32 → SY → Prop} {J : Int32 → Prop} {o k v : Nat} (ho : o < 25) (hk : k < 8) (hv : v < 3)
    (h1 : (∃ j, j < 8 ∧ lock ((1 + k * 3 + v) * 8 + j) = -2 ∧ lock (o * 8 + j) = -1) → post 1 (y_names, y_versions, y_rooms, y_nodes, y_made, y_cursor, lock, z_planned, z_reach, z_nameOf, z_verOf, z_holder, z_fixed)) (hJ : (¬ ∃ j, j < 8 ∧ lock ((1 + k * 3 + v) * 8 + j) = -2 ∧ lock (o * 8 + j) = -1) → J (nI (o * 8 + k + 1))) :
    ∀ g j, j + g = 8 → (∀ i, i < j → ¬ (lock ((1 + k * 3 + v) * 8 + i) = -2 ∧ lock (o * 8 + i) = -1)) → wY_missingPeer_151 post J (nI (o * 8 + k)) (nI (1 + k * 3 + v)) y_names y_versions y_rooms y_nodes y_made y_cursor lock z_planned z_reach z_nameOf z_verOf z_holder z_fixed (g + 1) (nI j) := by
  intro g
  induction g with
  | zero =>
    intro j hj hQ
    obtain rfl : j = 8 := by omega
    refine br_t (nI_le (Nat.le_refl 8) (by omega)) (nm_r (nI_1 _) (hJ ?_))
    rintro ⟨i, hi, z⟩
    exact hQ i hi z
  | succ g ih =>
    intro j hj hQ
    have e1 : (o * 8 + k) / 8 = o := by omega
    refine br_f (nI_ge (b := 8) (by omega) (by omega)) ?_
    rw [mh_d8 (by omega), e1, mh_ix, mh_ix, nI_clamp (by omega), nI_clamp (by omega)]
    refine ⟨vp_in_nI (by omega) (by decide), br_c (fun z => ⟨mh_8, vp_in_nI (by omega) (by decide), br_c (fun y => ?_) (fun y => ?_)⟩) (fun z => ?_)⟩
    · exact h1 ⟨j, by omega, z, y⟩
    · exact nm_r (nI_1 j) (ih (j + 1) (by omega) (lt_s hQ (fun x => y x.2)))
    · exact nm_r (nI_1 j) (ih (j + 1) (by omega) (lt_s hQ (fun x => z x.1)))
theorem yl_mp102 {post : Int32 → SY → Prop} (K : pi_K nm vs lock) (hs : ∀ o, o < 25 → z_reach o ≠ 0 → pm_RC lock o) (hc : ∀ o, o < 25 → pm_RC lock o → z_reach o ≠ 0) (h1 : pm_M lock → post 1 (y_names, y_versions, y_rooms, y_nodes, y_made, y_cursor, lock, z_planned, z_reach, z_nameOf, z_verOf, z_holder, z_fixed)) (h0 : ¬ pm_M lock → post 0 (y_names, y_versions, y_rooms, y_nodes, y_made, y_cursor, lock, z_planned, z_reach, z_nameOf, z_verOf, z_holder, z_fixed)) :
    ∀ g e, e + g = 200 → (∀ o k v j, o < 25 → k < 8 → v < 3 → j < 8 → o * 8 + k < e → pm_RC lock o → lock (o * 8 + k) = nI v → ¬ (lock ((1 + k * 3 + v) * 8 + j) = -2 ∧ lock (o * 8 + j) = -1)) → wY_missingPeer_102 post y_names y_versions y_rooms y_nodes y_made y_cursor lock z_planned z_reach z_nameOf z_verOf z_holder z_fixed (g + 1) (nI e) := by
  have hvs := K.1.2.2
  have hnm := K.1.1.2
  intro g
  induction g with
  | zero =>
    intro e he hQ
    refine br_t (nI_le (a := 200) (by omega) (by omega)) (h0 ?_)
    rintro ⟨o, ho, hr, k, v, j, hk, hv, hj, x, y, z⟩
    exact hQ o k v j ho hk hv hj (by omega) hr x ⟨y, z⟩
  | succ g ih =>
    intro e he hQ
    obtain ⟨o, k, ho, hk, rfl⟩ : ∃ o k, o < 25 ∧ k < 8 ∧ e = o * 8 + k := ⟨e / 8, e % 8, by omega, by omega, by omega⟩
    have e1 : (o * 8 + k) / 8 = o := by omega
    have e2 : (o * 8 + k) % 8 = k := by omega
    refine br_f (nI_ge (b := 200) (by omega) (by omega)) ?_
    rw [mh_r8 (by omega), mh_d8 (by omega), e1, e2, nI_clamp (n := o) (by omega), nI_clamp (n := o * 8 + k) (by omega)]
    have hin : vp_in (nI (o * 8 + k)) 200 := vp_in_nI (by omega) (by decide)
    refine ⟨mh_8, vp_in_nI (by omega) (by decide), br_c (fun z => ?_) (fun z => ⟨hin, ?_⟩)⟩
    · refine nm_r (nI_1 _) (ih (o * 8 + k + 1) (by omega) ?_)
      intro o' k' v j ho' hk' hv hj hlt hr hl
      by_cases y : o' = o ∧ k' = k
      · rw [y.1] at hr; exact absurd z (hc o ho hr)
      · exact hQ o' k' v j ho' hk' hv hj (by omega) hr hl
    · have hr := hs o ho z
      rcases pm_lk K ho hk with ⟨a, b⟩ | ⟨v, hv, _, el⟩
      · refine br_f (Int32.not_le.mpr a) (nm_r (nI_1 _) (ih (o * 8 + k + 1) (by omega) ?_))
        intro o' k' v j ho' hk' hv hj hlt hr hl
        by_cases y : o' = o ∧ k' = k
        · rw [y.1, y.2] at hl; exact absurd hl (b v hv)
        · exact hQ o' k' v j ho' hk' hv hj (by omega) hr hl
      · rw [el, mh_ow]
        refine br_t (nI_pos' (by omega)) ⟨mh_8, hin, nm_e ⟨9, ?_⟩⟩
        refine yl_mp151 ho hk (by omega) (fun y => ?_) (fun y => ?_) 8 0 (by omega) lt_0
        · obtain ⟨j, hj, y1, y2⟩ := y
          exact h1 ⟨o, ho, hr, k, v, j, hk, by omega, hj, el, y1, y2⟩
        · refine ih (o * 8 + k + 1) (by omega) ?_
          intro o' k' v' j ho' hk' hv' hj hlt hr' hl
          by_cases x : o' = o ∧ k' = k
          · rw [x.1, x.2] at hl
            have : v' = v := (nI_eq (by omega) (by omega)).mp (hl.symm.trans el)
            rw [x.1, x.2, this]
            exact fun q => y ⟨j, hj, q⟩
          · exact hQ o' k' v' j ho' hk' hv' hj (by omega) hr' hl
end
section
variable {y_names y_versions y_rooms y_nodes y_made y_cursor : Int32} {z_planned z_nameOf z_verOf z_holder z_fixed : Nat → Int32}
variable {nm vs : Nat} {lock : Nat → Int32}
theorem yl_mp31 {post : Int32 → SY → Prop} (K : pi_K nm vs lock) (h1 : pm_M lock → ∀ re, post 1 (y_names, y_versions, y_rooms, y_nodes, y_made, y_cursor, lock, z_planned, re, z_nameOf, z_verOf, z_holder, z_fixed)) (h0 : ¬ pm_M lock → ∀ re, post 0 (y_names, y_versions, y_rooms, y_nodes, y_made, y_cursor, lock, z_planned, re, z_nameOf, z_verOf, z_holder, z_fixed)) :
    ∀ g p re, p + g = 25 → pm_P lock p re → wY_missingPeer_31 post y_names y_versions y_rooms y_nodes y_made y_cursor (g + 1) (nI p) lock z_planned re z_nameOf z_verOf z_holder z_fixed := by
  intro g
  induction g with
  | zero =>
    intro p re hp hP
    have hcl := pm_cn_le re 25
    have hc : ∀ o, o < 25 → pm_RC lock o → re o ≠ 0 := by
      rcases hP.2.2 with a | a
      · exact a
      · omega
    exact br_t (nI_le (a := 25) (by omega) (by omega)) ⟨201, yl_mp102 K hP.2.1 hc (fun z => h1 z re) (fun z => h0 z re) 200 0 (by omega) (fun o k v j _ _ _ _ hlt => absurd hlt (Nat.not_lt_zero _))⟩
  | succ g ih =>
    intro p re hp hP
    refine br_f (nI_ge (b := 25) (by omega) (by omega)) ⟨201, yl_mp39 K (re0 := re) (fun re' a b c => ?_) 200 0 re (by omega) (fun _ h => h) hP.2.1 (fun o k v _ _ _ hlt => absurd hlt (Nat.not_lt_zero _))⟩
    exact ih (p + 1) re' (by omega) (pm_P_s hP a b c)
theorem yl_mp2 {post : Int32 → SY → Prop} (K : pi_K nm vs lock) (h1 : pm_M lock → ∀ re, post 1 (y_names, y_versions, y_rooms, y_nodes, y_made, y_cursor, lock, z_planned, re, z_nameOf, z_verOf, z_holder, z_fixed)) (h0 : ¬ pm_M lock → ∀ re, post 0 (y_names, y_versions, y_rooms, y_nodes, y_made, y_cursor, lock, z_planned, re, z_nameOf, z_verOf, z_holder, z_fixed)) :
    ∀ g i re, i + g = 25 → (∀ j, j < i → re j ≠ 0 → j = 0) → (0 < i → re 0 = 1) → wY_missingPeer_2 post y_names y_versions y_rooms y_nodes y_made y_cursor (g + 1) (nI i) lock z_planned re z_nameOf z_verOf z_holder z_fixed := by
  intro g
  induction g with
  | zero =>
    intro i re hi hz ho
    have h00 : re 0 ≠ 0 := by rw [ho (by omega)]; exact mh_10
    refine br_t (nI_le (a := 25) (by omega) (by omega)) ⟨26, yl_mp31 K h1 h0 25 0 re (by omega) ⟨h00, ?_, Or.inr ?_⟩⟩
    · intro o ho hre
      rw [hz o (by omega) hre]; exact pm_RC0 lock
    · have := pm_cn_s (re := fun _ => 0) (re' := re) (fun o h => absurd rfl h) (o := 0) rfl h00 25 (by omega)
      omega
  | succ g ih =>
    intro i re hi hz ho
    refine br_f (nI_ge (b := 25) (by omega) (by omega)) ?_
    rw [nI_clamp (by omega), mh_vb1, mh_vb0]
    have hin : vp_in (nI i) 25 := vp_in_nI (by omega) (by decide)
    refine pk_eq i 0 (fun z => ⟨hin, nm_e (nm_r (nI_1 i) (ih (i + 1) _ (by omega) ?_ ?_))⟩) (fun z => ⟨hin, nm_e (nm_r (nI_1 i) (ih (i + 1) _ (by omega) ?_ ?_))⟩)
    · intro j hj _; omega
    · intro _; rw [z]; exact pk_us
    · intro j hj hre
      by_cases e : j = i
      · subst e; rw [pk_us] at hre; exact absurd rfl hre
      · rw [pk_un e] at hre; exact hz j (by omega) hre
    · intro _; rw [pk_un (by omega)]; exact ho (by omega)
theorem yl_mp {post : Int32 → SY → Prop} {re : Nat → Int32} (K : pi_K nm vs lock) (h1 : pm_M lock → ∀ re, post 1 (y_names, y_versions, y_rooms, y_nodes, y_made, y_cursor, lock, z_planned, re, z_nameOf, z_verOf, z_holder, z_fixed)) (h0 : ¬ pm_M lock → ∀ re, post 0 (y_names, y_versions, y_rooms, y_nodes, y_made, y_cursor, lock, z_planned, re, z_nameOf, z_verOf, z_holder, z_fixed)) : wpY_missingPeer post (y_names, y_versions, y_rooms, y_nodes, y_made, y_cursor, lock, z_planned, re, z_nameOf, z_verOf, z_holder, z_fixed) :=
  Exists.intro 26 (yl_mp2 K h1 h0 25 0 re (by omega) lt_0 (fun h => absurd h (Nat.lt_irrefl 0)))
end
end
section
/-! counts, and fresh copies -/
noncomputable def mh_ct (P : Nat → Prop) : Nat → Nat
  | 0 => 0
  | k + 1 => mh_ct P k + @ite Nat (P k) (Classical.propDecidable _) 1 0
theorem mh_ct_p {P : Nat → Prop} {k : Nat} (h : P k) : mh_ct P (k + 1) = mh_ct P k + 1 := by
  show mh_ct P k + @ite Nat (P k) (Classical.propDecidable _) 1 0 = _
  rw [if_pos h]
theorem mh_ct_n {P : Nat → Prop} {k : Nat} (h : ¬ P k) : mh_ct P (k + 1) = mh_ct P k := by
  show mh_ct P k + @ite Nat (P k) (Classical.propDecidable _) 1 0 = _
  rw [if_neg h]; rfl
theorem mh_ct_c {P Q : Nat → Prop} : ∀ k, (∀ i, i < k → (P i ↔ Q i)) → mh_ct P k = mh_ct Q k := by
  intro k
  induction k with
  | zero => intro _; rfl
  | succ k ih =>
    intro h
    have e := ih (fun i hi => h i (by omega))
    by_cases z : P k
    · rw [mh_ct_p z, mh_ct_p ((h k (by omega)).mp z), e]
    · rw [mh_ct_n z, mh_ct_n (fun y => z ((h k (by omega)).mpr y)), e]
/-- a match in the live layout, plus one (0: none) -/
def fr_st (CL : Nat → Nat → Nat) (x n : Nat) : Nat := if x = 0 then 0 else if CL (x - 1) n = 0 then 0 else CL (x - 1) n + 1
def fr_mF (H N : Nat → Nat) (CL : Nat → Nat → Nat) : Nat → Nat → Nat
  | 0, _ => 0
  | f + 1, i => if i = 0 then 1 else fr_st CL (fr_mF H N CL f (H i)) (N i)
def fr_m (H N : Nat → Nat) (CL : Nat → Nat → Nat) (i : Nat) : Nat := fr_mF H N CL (i + 1) i
theorem fr_mF_s {m : Nat} {H N : Nat → Nat} {CL : Nat → Nat → Nat} (hd : ly_HD m H) : ∀ f g i, i < m → i < f → i < g → fr_mF H N CL f i = fr_mF H N CL g i := by
  intro f
  induction f with
  | zero => intro g i _ h; exact absurd h (Nat.not_lt_zero _)
  | succ f ih =>
    intro g i hm hf hg
    cases g with
    | zero => exact absurd hg (Nat.not_lt_zero _)
    | succ g =>
      by_cases h0 : i = 0
      · simp only [fr_mF, if_pos h0]
      · have := hd i h0 hm
        simp only [fr_mF, if_neg h0]
        rw [ih g (H i) (by omega) (by omega) (by omega)]
theorem fr_m0 (H N : Nat → Nat) (CL : Nat → Nat → Nat) : fr_m H N CL 0 = 1 := rfl
theorem fr_ms {m : Nat} {H N : Nat → Nat} {CL : Nat → Nat → Nat} {i : Nat} (hd : ly_HD m H) (hi : i < m) (h0 : i ≠ 0) : fr_m H N CL i = fr_st CL (fr_m H N CL (H i)) (N i) := by
  have := hd i h0 hi
  show fr_mF H N CL (i + 1) i = fr_st CL (fr_mF H N CL (H i + 1) (H i)) (N i)
  rw [← fr_mF_s hd i (H i + 1) (H i) (by omega) (by omega) (by omega)]
  simp only [fr_mF, if_neg h0]
def fr_e (L x : Nat) : Int32 := if x = 0 then -1 else nI (L + (x - 1))
theorem fr_e0 (L : Nat) : fr_e L 0 = -1 := if_pos rfl
theorem fr_es {L x : Nat} (h : x ≠ 0) : fr_e L x = nI (L + (x - 1)) := if_neg h
theorem fr_st0 (CL : Nat → Nat → Nat) (n : Nat) : fr_st CL 0 n = 0 := if_pos rfl
theorem fr_est {CL : Nat → Nat → Nat} {L x n : Nat} (h : x ≠ 0) : mh_e L (CL (x - 1) n) = fr_e L (fr_st CL x n) := by
  show _ = fr_e L (if x = 0 then 0 else if CL (x - 1) n = 0 then 0 else CL (x - 1) n + 1)
  rw [if_neg h]
  by_cases z : CL (x - 1) n = 0
  · rw [if_pos z, z, mh_e0, fr_e0]
  · rw [if_neg z, mh_es z, fr_es (by omega)]; rfl
theorem fr_st_b {nm vs mL : Nat} {HL NL VL : Nat → Nat} {CL : Nat → Nat → Nat} (w : ly_W nm vs mL HL NL VL CL) (x n : Nat) : fr_st CL x n = 0 ∨ (2 ≤ fr_st CL x n ∧ fr_st CL x n ≤ mL) := by
  by_cases h : x = 0
  · subst h; exact Or.inl (fr_st0 CL n)
  · by_cases z : CL (x - 1) n = 0
    · exact Or.inl (by show (if x = 0 then 0 else if CL (x - 1) n = 0 then 0 else CL (x - 1) n + 1) = 0; rw [if_neg h, if_pos z])
    · have e : fr_st CL x n = CL (x - 1) n + 1 := by
        show (if x = 0 then 0 else if CL (x - 1) n = 0 then 0 else CL (x - 1) n + 1) = _
        rw [if_neg h, if_neg z]
      have := (w.2.2 _ _ z).1
      rw [e]; omega
theorem fr_m_b {nm vs mL m : Nat} {HL NL VL H N : Nat → Nat} {CL : Nat → Nat → Nat} (w : ly_W nm vs mL HL NL VL CL) (hd : ly_HD m H) {i : Nat} (hi : i < m) : fr_m H N CL i ≤ mL ∧ (i ≠ 0 → fr_m H N CL i = 0 ∨ 2 ≤ fr_m H N CL i) := by
  have := w.1.1
  by_cases h0 : i = 0
  · subst h0; rw [fr_m0]; exact ⟨by omega, fun z => absurd rfl z⟩
  · rw [fr_ms hd hi h0]
    have := fr_st_b w (fr_m H N CL (H i)) (N i)
    exact ⟨by omega, fun _ => by omega⟩
theorem fr_up {m : Nat} {H N : Nat → Nat} {CL : Nat → Nat → Nat} {d : Nat} (hd : ly_HD m H) (hm : d < m) : ∀ s, s ≤ ly_dp H d → fr_m H N CL (ly_up H s d) = 0 → fr_m H N CL d = 0 := by
  intro s
  induction s with
  | zero => intro _ h; exact h
  | succ s ih =>
    intro hs h
    refine ih (by omega) ?_
    have hn := ly_up_n hd hm (t := s) (by omega)
    have hl := (ly_up_f hd hm s (by omega)).1
    rw [fr_ms hd (by omega) hn]
    have h' : fr_m H N CL (H (ly_up H s d)) = 0 := h
    rw [h']; exact fr_st0 CL _
def fr_F (H N V : Nat → Nat) (VL : Nat → Nat) (CL : Nat → Nat → Nat) (i : Nat) : Prop := i ≠ 0 ∧ (fr_m H N CL i = 0 ∨ VL (fr_m H N CL i - 1) ≠ V i)
theorem fr_c1 (H N V : Nat → Nat) (VL : Nat → Nat) (CL : Nat → Nat → Nat) : mh_ct (fr_F H N V VL CL) 1 = 0 := by
  rw [mh_ct_n (k := 0) (fun z => z.1 rfl)]; rfl
section
variable {f_names f_versions f_rooms f_queued f_live f_liveCount f_cursor : Int32} {a_lock a_planned a_holder a_nameOf a_versionOf a_depthOf a_child a_fixed a_queue a_reached : Nat → Int32}
variable {nm vs L b mL c : Nat} {HL NL VL H N V : Nat → Nat} {CL C : Nat → Nat → Nat}
theorem xl_fresh71 {post : Int32 → SX → Prop} {J : Int32 → Int32 → (Nat → Int32) → (Nat → Int32) → (Nat → Int32) → (Nat → Int32) → (Nat → Int32) → (Nat → Int32) → (Nat → Int32) → (Nat → Int32) → (Nat → Int32) → (Nat → Int32) → (Nat → Int32) → Prop} {i : Nat} {ma : Nat → Int32}
    (hLb : xl_LB L b) (hvL : xl_N L mL VL a_versionOf) (hv : xl_N b (c + 1) V a_versionOf) (wL : ly_W nm vs mL HL NL VL CL) (w : ly_W nm vs (c + 1) H N V C) (hvs : vs ≤ 3) (h0 : i ≠ 0) (hi : i < c + 1)
    (hJ : J (nI (mh_ct (fr_F H N V VL CL) (i + 1))) (nI (i + 1)) a_lock a_planned a_holder a_nameOf a_versionOf a_depthOf a_child a_fixed (upd ma (b + i) (fr_e L (fr_m H N CL i))) a_queue a_reached) :
    wX_countFresh_71 post J (nI (mh_ct (fr_F H N V VL CL) i)) (nI i) (nI (b + i)) (fr_e L (fr_m H N CL i)) f_names f_versions f_rooms f_queued f_live f_liveCount (nI b) (nI c) f_cursor a_lock a_planned a_holder a_nameOf a_versionOf a_depthOf a_child a_fixed ma a_queue a_reached := by
  have hb : b ≤ 25 ∧ L ≤ 25 := by rcases hLb with ⟨_, e⟩ | ⟨_, e⟩ <;> omega
  have hm := w.1.2
  have hmL := wL.1.2
  obtain ⟨m1, m2⟩ := fr_m_b (N := N) wL (ly_W_hd w) hi
  have hin : vp_in (nI (b + i)) 50 := vp_in_nI (by omega) (by decide)
  unfold wX_countFresh_71
  rw [nI_clamp (n := b + i) (by omega)]
  by_cases z : fr_m H N CL i = 0
  · have hf : fr_F H N V VL CL i := ⟨h0, Or.inl z⟩
    rw [mh_ct_p hf] at hJ
    rw [z, fr_e0] at hJ ⊢
    exact ⟨hin, nm_e (br_t mh_m1 (nm_r (nI_1 _) (nm_r (nI_1 _) hJ)))⟩
  · have h2 := (m2 h0).resolve_left z
    have hVL := hvL (fr_m H N CL i - 1) (by omega) (by omega)
    have hV := hv i h0 hi
    have b1 := (wL.2.1 (fr_m H N CL i - 1) (by omega) (by omega)).2.2.1
    have b2 := (w.2.1 i h0 hi).2.2.1
    rw [fr_es z] at hJ ⊢
    rw [nI_clamp (n := L + (fr_m H N CL i - 1)) (by omega), hVL, hV]
    refine ⟨hin, nm_e (br_f (nI_pos (by omega)) ⟨vp_in_nI (by omega) (by decide), hin, pk_eq (VL (fr_m H N CL i - 1)) (V i) (fun e => ?_) (fun e => ?_)⟩)⟩
    · rw [mh_ct_n (fun y => y.2.elim z (fun x => x e))] at hJ
      exact nm_r (nI_1 _) hJ
    · rw [mh_ct_p (show fr_F H N V VL CL i from ⟨h0, Or.inr e⟩)] at hJ
      exact nm_r (nI_1 _) (nm_r (nI_1 _) hJ)
theorem xl_fresh17 {post : Int32 → SX → Prop} (hLb : xl_LB L b) (hL : xl_L L mL HL NL VL CL a_holder a_nameOf a_versionOf a_depthOf a_child) (hD : xl_L b (c + 1) H N V C a_holder a_nameOf a_versionOf a_depthOf a_child) (wL : ly_W nm vs mL HL NL VL CL) (w : ly_W nm vs (c + 1) H N V C) (hnm : nm ≤ 8) (hvs : vs ≤ 3)
    (hp : ∀ ma, post (nI (mh_ct (fr_F H N V VL CL) (c + 1))) (f_names, f_versions, f_rooms, f_queued, f_live, f_liveCount, nI b, nI c, f_cursor, a_lock, a_planned, a_holder, a_nameOf, a_versionOf, a_depthOf, a_child, a_fixed, ma, a_queue, a_reached)) :
    ∀ g i ma, i + g = c + 1 → 0 < i → (∀ j, j < i → ma (b + j) = fr_e L (fr_m H N CL j)) → wX_countFresh_17 post f_names f_versions f_rooms f_queued f_live f_liveCount (nI b) (nI c) f_cursor (g + 1) (nI (mh_ct (fr_F H N V VL CL) i)) (nI i) a_lock a_planned a_holder a_nameOf a_versionOf a_depthOf a_child a_fixed ma a_queue a_reached := by
  have hb : b ≤ 25 ∧ L ≤ 25 := by rcases hLb with ⟨_, e⟩ | ⟨_, e⟩ <;> omega
  have hm := w.1.2
  have hmL := wL.1.2
  intro g
  induction g with
  | zero =>
    intro i ma hi h0 hQ
    obtain rfl : i = c + 1 := by omega
    exact br_t (nI_lt (by omega) (by omega)) (hp ma)
  | succ g ih =>
    intro i ma hi h0 hQ
    have hHl := ly_W_hd w i (by omega) (by omega)
    obtain ⟨m1, m2⟩ := fr_m_b (N := N) wL (ly_W_hd w) (i := H i) (by omega)
    have hNi := (w.2.1 i (by omega) (by omega)).2.1
    have hin : vp_in (nI (b + i)) 50 := vp_in_nI (by omega) (by decide)
    have hms := fr_ms (N := N) (CL := CL) (ly_W_hd w) (i := i) (by omega) (by omega)
    refine br_f (nI_nlt (by omega) (by omega)) (nm_r (nI_add b i) ?_)
    rw [nI_clamp (n := b + i) (by omega), hD.1.2 i (by omega) (by omega), nI_clamp (n := b + H i) (by omega), hQ (H i) (by omega), hD.2.1 i (by omega) (by omega)]
    have hJ : wX_countFresh_17 post f_names f_versions f_rooms f_queued f_live f_liveCount (nI b) (nI c) f_cursor (g + 1) (nI (mh_ct (fr_F H N V VL CL) (i + 1))) (nI (i + 1)) a_lock a_planned a_holder a_nameOf a_versionOf a_depthOf a_child a_fixed (upd ma (b + i) (fr_e L (fr_m H N CL i))) a_queue a_reached :=
      ih (i + 1) _ (by omega) (by omega) (lt_s (fun j hj => by rw [pk_un (by omega)]; exact hQ j hj) pk_us)
    have h71 : wX_countFresh_71 post (wX_countFresh_17 post f_names f_versions f_rooms f_queued f_live f_liveCount (nI b) (nI c) f_cursor (g + 1)) (nI (mh_ct (fr_F H N V VL CL) i)) (nI i) (nI (b + i)) (fr_e L (fr_m H N CL i)) f_names f_versions f_rooms f_queued f_live f_liveCount (nI b) (nI c) f_cursor a_lock a_planned a_holder a_nameOf a_versionOf a_depthOf a_child a_fixed ma a_queue a_reached :=
      xl_fresh71 (C := C) hLb hL.2.2.1 hD.2.2.1 wL w hvs (by omega) (by omega) hJ
    refine ⟨hin, vp_in_nI (by omega) (by decide), nm_e ?_⟩
    by_cases z : fr_m H N CL (H i) = 0
    · rw [hms, z, fr_st0, fr_e0] at h71
      rw [z, fr_e0]
      exact br_f mh_m1' h71
    · rw [hms, ← fr_est z] at h71
      rw [fr_es z, mh_ix, nI_clamp (by omega), hL.2.2.2.2.2 (fr_m H N CL (H i) - 1) (N i) (by omega) (by omega)]
      exact br_t (nI_pos' (by omega)) ⟨hin, vp_in_nI (by omega) (by decide), h71⟩
end
section
variable {f_names f_versions f_rooms f_queued f_liveCount f_cursor : Int32} {a_lock a_planned a_holder a_nameOf a_versionOf a_depthOf a_child a_fixed a_match a_queue a_reached : Nat → Int32}
variable {nm vs L b mL c : Nat} {HL NL VL H N V : Nat → Nat} {CL C : Nat → Nat → Nat}
theorem xl_fresh {post : Int32 → SX → Prop} (hLb : xl_LB L b) (hL : xl_L L mL HL NL VL CL a_holder a_nameOf a_versionOf a_depthOf a_child) (hD : xl_L b (c + 1) H N V C a_holder a_nameOf a_versionOf a_depthOf a_child) (wL : ly_W nm vs mL HL NL VL CL) (w : ly_W nm vs (c + 1) H N V C) (hnm : nm ≤ 8) (hvs : vs ≤ 3)
    (hp : ∀ ma, post (nI (mh_ct (fr_F H N V VL CL) (c + 1))) (f_names, f_versions, f_rooms, f_queued, nI L, f_liveCount, nI b, nI c, f_cursor, a_lock, a_planned, a_holder, a_nameOf, a_versionOf, a_depthOf, a_child, a_fixed, ma, a_queue, a_reached)) : wpX_countFresh post (f_names, f_versions, f_rooms, f_queued, nI L, f_liveCount, nI b, nI c, f_cursor, a_lock, a_planned, a_holder, a_nameOf, a_versionOf, a_depthOf, a_child, a_fixed, a_match, a_queue, a_reached) := by
  have hb : b ≤ 25 ∧ L ≤ 25 := by rcases hLb with ⟨_, e⟩ | ⟨_, e⟩ <;> omega
  unfold wpX_countFresh
  dsimp only
  rw [nI_clamp (by omega)]
  refine ⟨vp_in_nI (by omega) (by decide), nm_e ⟨c + 1, ?_⟩⟩
  have h := xl_fresh17 (post := post) hLb hL hD wL w hnm hvs hp c 1 (upd a_match b (nI L)) (by omega) (by omega) (fun j hj => by
    obtain rfl : j = 0 := by omega
    rw [fr_m0, fr_es (by omega)]; exact pk_us)
  rw [fr_c1] at h
  exact h
end
end
section
/-! Y's fresh copies and the taking over of the draft -/
section
variable {y_names y_versions y_rooms y_nodes y_made y_cursor : Int32} {z_lock z_planned z_reach z_nameOf z_verOf z_holder z_fixed : Nat → Int32}
variable {nm vs mL c : Nat} {HL NL VL H N V : Nat → Nat} {CL C : Nat → Nat → Nat}
theorem yl_fresh49 {post : Int32 → Prop} {i : Nat} (hL : yl_L 0 mL HL NL VL z_holder z_nameOf z_verOf) (hD : yl_L 25 (c + 1) H N V z_holder z_nameOf z_verOf) (wL : ly_W nm vs mL HL NL VL CL) (w : ly_W nm vs (c + 1) H N V C) (hvs : vs ≤ 3) (h0 : i ≠ 0) (hi : i < c + 1)
    (h1 : fr_F H N V VL CL i → post 1) (h2 : ¬ fr_F H N V VL CL i → post 0) : wY_isFresh_49 post (nI (25 + i)) (fr_e 0 (fr_m H N CL i)) y_names y_versions y_rooms y_nodes y_made y_cursor z_lock z_planned z_reach z_nameOf z_verOf z_holder z_fixed := by
  have hm := w.1.2
  have hmL := wL.1.2
  obtain ⟨m1, m2⟩ := fr_m_b (N := N) wL (ly_W_hd w) hi
  unfold wY_isFresh_49
  by_cases z : fr_m H N CL i = 0
  · rw [z, fr_e0]
    exact br_t mh_m1 (h1 ⟨h0, Or.inl z⟩)
  · have h3 := (m2 h0).resolve_left z
    have hVL := hL.2.2.2 (fr_m H N CL i - 1) (by omega) (by omega)
    have hV := hD.2.2.2 i h0 hi
    have b1 := (wL.2.1 (fr_m H N CL i - 1) (by omega) (by omega)).2.2.1
    have b2 := (w.2.1 i h0 hi).2.2.1
    rw [fr_es z, nI_clamp (n := 0 + (fr_m H N CL i - 1)) (by omega), nI_clamp (n := 25 + i) (by omega), hVL, hV]
    refine br_f (nI_pos (by omega)) ⟨vp_in_nI (by omega) (by decide), vp_in_nI (by omega) (by decide), pk_eq (VL (fr_m H N CL i - 1)) (V i) (fun e => ?_) (fun e => ?_)⟩
    · exact h2 (fun y => y.2.elim z (fun x => x e))
    · exact h1 ⟨h0, Or.inr e⟩
theorem yl_fresh11 {post : Int32 → Prop} {i : Nat} (hL : yl_L 0 mL HL NL VL z_holder z_nameOf z_verOf) (hD : yl_L 25 (c + 1) H N V z_holder z_nameOf z_verOf) (wL : ly_W nm vs mL HL NL VL CL) (w : ly_W nm vs (c + 1) H N V C) (hnm : nm ≤ 8) (hvs : vs ≤ 3) (h0 : i ≠ 0) (hi : i < c + 1)
    (h1 : fr_F H N V VL CL i → post 1) (h2 : ¬ fr_F H N V VL CL i → post 0) :
    ∀ s, s ≤ ly_dp H i → wY_isFresh_11 post (nI (25 + i)) (nI (ly_dp H i)) y_names y_versions y_rooms y_nodes y_made y_cursor z_lock z_planned z_reach z_nameOf z_verOf z_holder z_fixed (s + 1) (fr_e 0 (fr_m H N CL (ly_up H s i))) (nI (ly_dp H i - s + 1)) := by
  have hm := w.1.2
  have hmL := wL.1.2
  have hd := ly_W_hd w
  have hdp := ly_dp_le hd i hi
  have h49 := yl_fresh49 (post := post) (y_names := y_names) (y_versions := y_versions) (y_rooms := y_rooms) (y_nodes := y_nodes) (y_made := y_made) (y_cursor := y_cursor) (z_lock := z_lock) (z_planned := z_planned) (z_reach := z_reach) (z_fixed := z_fixed) hL hD wL w hvs h0 hi h1 h2
  intro s
  induction s with
  | zero =>
    intro hs
    exact br_t (nI_lt (by omega) (by omega)) h49
  | succ s ih =>
    intro hs
    have hn := ly_up_n hd hi (t := s) (by omega)
    have hl := (ly_up_f hd hi s (by omega)).1
    have hl1 := (ly_up_f hd hi (s + 1) (by omega)).1
    obtain ⟨m1, m2⟩ := fr_m_b (N := N) wL hd (i := ly_up H (s + 1) i) (by omega)
    have hms := fr_ms (N := N) (CL := CL) hd (i := ly_up H s i) (by omega) hn
    have hms' : fr_m H N CL (ly_up H s i) = fr_st CL (fr_m H N CL (ly_up H (s + 1) i)) (N (ly_up H s i)) := hms
    have hNi := (w.2.1 (ly_up H s i) hn (by omega)).2.1
    refine br_f (nI_nlt (by omega) (by omega)) ?_
    by_cases z : fr_m H N CL (ly_up H (s + 1) i) = 0
    · have z0 := fr_up hd hi (s + 1) hs z
      rw [z0] at h49
      rw [z]
      exact br_t (by rw [fr_e0]; exact mh_m1) h49
    · have ih' := ih (by omega)
      rw [hms', ← fr_est z] at ih'
      rw [fr_es z]
      refine br_f (nI_pos (by omega)) ?_
      refine yl_ancestor hD.1.1 hd (by omega) hm hi (by omega) ?_
      have e : ly_dp H i - (ly_dp H i - (s + 1) + 1) = s := by omega
      rw [e, nI_clamp (by omega), hD.2.2.1 _ hn (by omega)]
      refine ⟨vp_in_nI (by omega) (by decide), ?_⟩
      refine yl_child (Or.inl rfl) hL.1 hL.2.2.1 wL hnm (by omega) (by omega) (nm_r (nI_1 _) ?_)
      have e2 : ly_dp H i - (s + 1) + 1 + 1 = ly_dp H i - s + 1 := by omega
      rw [e2]; exact ih'
theorem yl_fresh {post : Int32 → Prop} {i : Nat} (hL : yl_L 0 mL HL NL VL z_holder z_nameOf z_verOf) (hD : yl_L 25 (c + 1) H N V z_holder z_nameOf z_verOf) (wL : ly_W nm vs mL HL NL VL CL) (w : ly_W nm vs (c + 1) H N V C) (hnm : nm ≤ 8) (hvs : vs ≤ 3) (h0 : i ≠ 0) (hi : i < c + 1)
    (h1 : fr_F H N V VL CL i → post 1) (h2 : ¬ fr_F H N V VL CL i → post 0) : wpY_isFresh post (y_names, y_versions, y_rooms, y_nodes, y_made, y_cursor, z_lock, z_planned, z_reach, z_nameOf, z_verOf, z_holder, z_fixed) (nI (25 + i)) := by
  have hm := w.1.2
  have hd := ly_W_hd w
  unfold wpY_isFresh
  dsimp only
  refine yl_depth hD.1.1 hd (by omega) hm hi ⟨ly_dp H i + 1, ?_⟩
  have h := yl_fresh11 (post := post) (y_names := y_names) (y_versions := y_versions) (y_rooms := y_rooms) (y_nodes := y_nodes) (y_made := y_made) (y_cursor := y_cursor) (z_lock := z_lock) (z_planned := z_planned) (z_reach := z_reach) (z_fixed := z_fixed) hL hD wL w hnm hvs h0 hi h1 h2 (ly_dp H i) (Nat.le_refl _)
  rw [ly_up_z hd hi, fr_m0, fr_es (by omega), Nat.sub_self (ly_dp H i)] at h
  exact h
end
section
variable {y_names y_versions y_rooms y_nodes y_cursor : Int32} {z_lock z_planned z_reach z_nameOf z_verOf z_holder z_fixed : Nat → Int32}
variable {nm vs mL c : Nat} {HL NL VL H N V : Nat → Nat} {CL C : Nat → Nat → Nat}
theorem yl_plan158 {post : Int32 → SY → Prop} (hL : yl_L 0 mL HL NL VL z_holder z_nameOf z_verOf) (hD : yl_L 25 (c + 1) H N V z_holder z_nameOf z_verOf) (wL : ly_W nm vs mL HL NL VL CL) (w : ly_W nm vs (c + 1) H N V C) (hnm : nm ≤ 8) (hvs : vs ≤ 3)
    (hp : ∃ n194 : Nat, wY_plan_194 post (nI (mh_ct (fr_F H N V VL CL) (c + 1))) y_names y_versions y_rooms y_nodes (nI (c + 1)) y_cursor n194 0 z_lock z_planned z_reach z_nameOf z_verOf z_holder z_fixed) :
    ∀ g i, i + g = c + 1 → 0 < i → wY_plan_158 post y_names y_versions y_rooms y_nodes (nI (c + 1)) y_cursor z_lock z_planned z_reach z_nameOf z_verOf z_holder z_fixed (g + 1) (nI (mh_ct (fr_F H N V VL CL) i)) (nI (25 + i)) := by
  have hm := w.1.2
  have e25 : (25 : Int32) + nI (c + 1) = nI (25 + (c + 1)) := nI_add 25 (c + 1)
  intro g
  induction g with
  | zero =>
    intro i hi h0
    obtain rfl : i = c + 1 := by omega
    refine br_c (fun _ => hp) (fun _ => br_t ?_ hp)
    rw [e25]; exact nI_le (Nat.le_refl _) (by omega)
  | succ g ih =>
    intro i hi h0
    refine br_f (nI_ge (b := 50) (by omega) (by omega)) (br_f ?_ ?_)
    · rw [e25]; exact nI_ge (by omega) (by omega)
    · have hn := ih (i + 1) (by omega) (by omega)
      refine yl_fresh hL hD wL w hnm hvs (by omega) (by omega) (fun y => ?_) (fun y => ?_)
      · rw [mh_ct_p y] at hn
        exact br_f mh_10 (nm_r (nI_1 _) (nm_r (nI_1 _) hn))
      · rw [mh_ct_n y] at hn
        exact br_t rfl (nm_r (nI_1 _) hn)
end
theorem mh_s25 (a : Nat) : nI (25 + a) - 25 = nI a := by
  have h := pk_sub (a := 25 + a) (b := 25) (by omega)
  rw [Nat.add_sub_cancel_left] at h
  exact h
/-- the copying of the draft to the front -/
def yl_cp (m : Nat) (H N V : Nat → Nat) (i : Nat) (ho na ve : Nat → Int32) : Prop :=
  yl_L 25 m H N V ho na ve ∧ ∀ j, j < i → (j = 0 → ho 0 = -1 ∧ na 0 = -1) ∧ (j ≠ 0 → j < m → ho j = nI (H j) ∧ na j = nI (N j) ∧ ve j = nI (V j)) ∧ (m ≤ j → ho j = -1)
theorem yl_cp_e {m : Nat} {H N V : Nat → Nat} {ho na ve : Nat → Int32} (h : yl_cp m H N V 25 ho na ve) (hm0 : 1 ≤ m) (hm : m ≤ 25) : yl_L 0 m H N V ho na ve := by
  obtain ⟨_, h⟩ := h
  have h0 := (h 0 (by omega)).1 rfl
  refine ⟨⟨⟨h0.1, fun i hi0 hi => ?_⟩, fun i h1 h2 => ?_⟩, h0.2, fun i hi0 hi => ?_, fun i hi0 hi => ?_⟩
  · rw [Nat.zero_add, Nat.zero_add]; exact ((h i (by omega)).2.1 hi0 hi).1
  · rw [Nat.zero_add]; exact (h i h2).2.2 h1
  · rw [Nat.zero_add]; exact ((h i (by omega)).2.1 hi0 hi).2.1
  · rw [Nat.zero_add]; exact ((h i (by omega)).2.1 hi0 hi).2.2
theorem yl_cp_s {m i : Nat} {H N V : Nat → Nat} {ho na ve : Nat → Int32} {x : Int32} (h : yl_cp m H N V i ho na ve) (hm0 : 1 ≤ m) (hi : i < 25) (hm : m ≤ 25) (hx : (i = 0 → x = -1) ∧ (i ≠ 0 → i < m → x = nI (H i)) ∧ (m ≤ i → x = -1)) :
    yl_cp m H N V (i + 1) (upd ho i x) (upd na i (na (25 + i))) (upd ve i (ve (25 + i))) := by
  obtain ⟨⟨⟨⟨a1, a2⟩, a3⟩, b, c, d⟩, h⟩ := h
  refine ⟨⟨⟨⟨by rw [pk_un (by omega)]; exact a1, fun j h0 hj => ?_⟩, fun j h1 h2 => ?_⟩, by rw [pk_un (by omega)]; exact b, fun j h0 hj => ?_, fun j h0 hj => ?_⟩, ?_⟩
  · rw [pk_un (by omega)]; exact a2 j h0 hj
  · rw [pk_un (by omega)]; exact a3 j h1 h2
  · rw [pk_un (by omega)]; exact c j h0 hj
  · rw [pk_un (by omega)]; exact d j h0 hj
  · intro j hj
    by_cases e : j = i
    · subst e
      refine ⟨fun z => ?_, fun z y => ?_, fun z => ?_⟩
      · subst z
        rw [pk_us, pk_us]; exact ⟨hx.1 rfl, b⟩
      · rw [pk_us, pk_us, pk_us]; exact ⟨hx.2.1 z y, c j z y, d j z y⟩
      · rw [pk_us]; exact hx.2.2 z
    · obtain ⟨p, q, r⟩ := h j (by omega)
      refine ⟨fun z => ?_, fun z y => ?_, fun z => ?_⟩
      · rw [pk_un (by omega), pk_un (by omega)]; exact p z
      · rw [pk_un e, pk_un e, pk_un e]; exact q z y
      · rw [pk_un e]; exact r z
section
variable {y_names y_versions y_rooms y_nodes y_cursor : Int32} {z_lock z_planned z_reach z_nameOf z_verOf z_holder z_fixed : Nat → Int32}
variable {nm vs c : Nat} {H N V : Nat → Nat} {C : Nat → Nat → Nat}
theorem yl_plan272 {post : Int32 → SY → Prop} {r : Int32} {p0 : Nat → Int32} (hp : post r (y_names, y_versions, y_rooms, nI (c + 1), nI (c + 1), 0, z_lock, mh_cp p0 z_lock 200, z_reach, z_nameOf, z_verOf, z_holder, z_fixed)) :
    ∀ g i, i + g = 200 → wY_plan_272 post r y_names y_versions y_rooms y_nodes (nI (c + 1)) y_cursor (g + 1) (nI i) z_lock (mh_cp p0 z_lock i) z_reach z_nameOf z_verOf z_holder z_fixed := by
  intro g
  induction g with
  | zero =>
    intro i hi
    obtain rfl : i = 200 := by omega
    exact br_t (nI_le (Nat.le_refl 200) (by omega)) hp
  | succ g ih =>
    intro i hi
    have hin : vp_in (nI i) 200 := vp_in_nI (by omega) (by decide)
    refine br_f (nI_ge (b := 200) (by omega) (by omega)) ⟨hin, hin, ?_⟩
    rw [nI_clamp (by omega)]
    exact nm_r (mh_cps _ _ _) (nm_r (nI_1 i) (ih (i + 1) (by omega)))
theorem yl_plan194 {post : Int32 → SY → Prop} {r : Int32} (hm : c + 1 ≤ 25) (hHv : ly_HD (c + 1) H)
    (hp : ∀ hb nb vb, yl_L 0 (c + 1) H N V hb nb vb → post r (y_names, y_versions, y_rooms, nI (c + 1), nI (c + 1), 0, z_lock, mh_cp z_planned z_lock 200, z_reach, nb, vb, hb, z_fixed)) :
    ∀ g i hb nb vb, i + g = 25 → yl_cp (c + 1) H N V i hb nb vb → wY_plan_194 post r y_names y_versions y_rooms y_nodes (nI (c + 1)) y_cursor (g + 1) (nI i) z_lock z_planned z_reach nb vb hb z_fixed := by
  intro g
  induction g with
  | zero =>
    intro i hb nb vb hi hc
    obtain rfl : i = 25 := by omega
    exact br_t (nI_le (Nat.le_refl 25) (by omega)) ⟨201, yl_plan272 (p0 := z_planned) (hp hb nb vb (yl_cp_e hc (by omega) hm)) 200 0 (by omega)⟩
  | succ g ih =>
    intro i hb nb vb hi hc
    have hin : vp_in (nI i) 50 := vp_in_nI (by omega) (by decide)
    have hin2 : vp_in (nI (25 + i)) 50 := vp_in_nI (by omega) (by decide)
    have hnx := fun x hx => ih (i + 1) _ _ _ (by omega) (yl_cp_s (x := x) hc (by omega) (by omega) hm hx)
    refine br_f (nI_ge (b := 25) (by omega) (by omega)) ?_
    rw [show (25 : Int32) + nI i = nI (25 + i) from nI_add 25 i, nI_clamp (n := 25 + i) (by omega), nI_clamp (n := i) (by omega)]
    refine ⟨hin2, hin, nm_e ⟨hin2, hin, nm_e ⟨hin2, ?_⟩⟩⟩
    by_cases z : i ≠ 0 ∧ i < c + 1
    · have := hHv i z.1 z.2
      rw [hc.1.1.1.2 i z.1 z.2, mh_s25]
      refine br_t (nI_pos' (by omega)) ⟨hin2, hin, nm_e (nm_r (nI_1 i) (hnx _ ⟨fun y => absurd y z.1, fun _ _ => rfl, fun y => by omega⟩))⟩
    · have hv : hb (25 + i) = -1 := by
        by_cases y : i = 0
        · subst y; exact hc.1.1.1.1
        · exact hc.1.1.2 i (by omega) (by omega)
      rw [hv]
      refine br_f mh_m1' ⟨hin, nm_e (nm_r (nI_1 i) (hnx _ ⟨fun _ => rfl, fun y1 y2 => absurd ⟨y1, y2⟩ z, fun _ => rfl⟩))⟩
end
section
variable {y_names y_versions y_rooms y_nodes y_made y_cursor : Int32} {z_lock z_planned z_reach z_nameOf z_verOf z_holder z_fixed : Nat → Int32}
variable {nm vs mL : Nat} {HL NL VL : Nat → Nat}
theorem yl_plan48 {post : Int32 → SY → Prop} (hp : ∀ fi, yl_F (fun _ _ => 0) fi → ∃ n76 : Nat, wY_plan_76 post n76 25 y_names y_versions y_rooms y_nodes 1 y_cursor z_lock z_planned z_reach z_nameOf z_verOf z_holder fi) :
    ∀ g i fi, i + g = 400 → (∀ j, j < i → fi j = -1) → wY_plan_48 post y_names y_versions y_rooms y_nodes y_made y_cursor (g + 1) (nI i) z_lock z_planned z_reach z_nameOf z_verOf z_holder fi := by
  intro g
  induction g with
  | zero =>
    intro i fi hi hz
    obtain rfl : i = 400 := by omega
    refine br_t (nI_le (Nat.le_refl 400) (by omega)) (hp fi ⟨fun j hj => hz j (by omega), fun i n hi hn => ?_⟩)
    rw [mh_e0]; exact hz _ (by omega)
  | succ g ih =>
    intro i fi hi hz
    refine br_f (nI_ge (b := 400) (by omega) (by omega)) ⟨vp_in_nI (by omega) (by decide), nm_e (nm_r (nI_1 i) (ih (i + 1) _ (by omega) ?_))⟩
    rw [nI_clamp (by omega)]
    exact lt_s (fun j hj => by rw [pk_un (by omega)]; exact hz j hj) pk_us
theorem yl_plan13 {post : Int32 → SY → Prop} (hm : mL ≤ 25) (H N V : Nat → Nat)
    (hp : ∀ hb nb vb fi, yl_L 0 mL HL NL VL hb nb vb → yl_L 25 1 H N V hb nb vb → yl_F (fun _ _ => 0) fi → ∃ n76 : Nat, wY_plan_76 post n76 25 y_names y_versions y_rooms y_nodes 1 y_cursor z_lock z_planned z_reach nb vb hb fi) :
    ∀ g i hb nb vb, i + g = 25 → yl_L 0 mL HL NL VL hb nb vb → (∀ j, j < i → hb (25 + j) = -1 ∧ nb (25 + j) = -1) → wY_plan_13 post y_names y_versions y_rooms y_nodes y_made y_cursor (g + 1) (nI (25 + i)) z_lock z_planned z_reach nb vb hb z_fixed := by
  intro g
  induction g with
  | zero =>
    intro i hb nb vb hi hL hz
    obtain rfl : i = 25 := by omega
    refine br_t (nI_le (a := 50) (by omega) (by omega)) ⟨401, yl_plan48 (fun fi hfi => hp hb nb vb fi hL ?_ hfi) 400 0 z_fixed (by omega) lt_0⟩
    have h0 := hz 0 (by omega)
    exact ⟨⟨⟨h0.1, fun i h0 hi => by omega⟩, fun i h1 h2 => (hz i h2).1⟩, h0.2, fun i h0 hi => by omega, fun i h0 hi => by omega⟩
  | succ g ih =>
    intro i hb nb vb hi hL hz
    have hin : vp_in (nI (25 + i)) 50 := vp_in_nI (by omega) (by decide)
    refine br_f (nI_ge (b := 50) (by omega) (by omega)) ?_
    rw [nI_clamp (by omega)]
    refine ⟨hin, nm_e ⟨hin, nm_e ⟨hin, nm_e (nm_r (nI_1 (25 + i)) (ih (i + 1) _ _ _ (by omega) (yl_L_fr hL hm _ _ _) ?_))⟩⟩⟩
    exact lt_s (fun j hj => by rw [pk_un (by omega), pk_un (by omega)]; exact hz j hj) ⟨pk_us, pk_us⟩
end
end
section
/-! X's start and taking over of the draft; the relation -/
theorem xl_C_fr {L b j : Nat} {C : Nat → Nat → Nat} {ch : Nat → Int32} {x : Int32} (hLb : xl_LB L b) (h : xl_C L C ch) (hj : j < 200) : xl_C L C (upd ch (b * 8 + j) x) := by
  intro i k hi hk
  rw [pk_un]
  · exact h i k hi hk
  · rcases hLb with ⟨a, c⟩ | ⟨a, c⟩ <;> omega
section
variable {f_names f_versions f_rooms f_queued f_live f_liveCount f_draftCount f_cursor : Int32} {a_lock a_planned a_holder a_nameOf a_versionOf a_depthOf a_match a_queue a_reached : Nat → Int32}
variable {L b : Nat} {CL : Nat → Nat → Nat}
theorem xl_start7 {post : SX → Prop} (hLb : xl_LB L b) (hp : ∀ ch fi, xl_C L CL ch → xl_C b (fun _ _ => 0) ch → xl_C b (fun _ _ => 0) fi → post (f_names, f_versions, f_rooms, f_queued, f_live, f_liveCount, nI b, f_draftCount, f_cursor, a_lock, a_planned, a_holder, a_nameOf, a_versionOf, a_depthOf, ch, fi, a_match, a_queue, a_reached)) :
    ∀ g i ch fi, i + g = 200 → xl_C L CL ch → (∀ j, j < i → ch (b * 8 + j) = -1 ∧ fi (b * 8 + j) = -1) → wX_startDraft_7 post f_names f_versions f_rooms f_queued f_live f_liveCount (nI b) f_draftCount f_cursor (g + 1) (nI i) a_lock a_planned a_holder a_nameOf a_versionOf a_depthOf ch fi a_match a_queue a_reached := by
  have hb : b ≤ 25 ∧ L ≤ 25 := by rcases hLb with ⟨_, e⟩ | ⟨_, e⟩ <;> omega
  intro g
  induction g with
  | zero =>
    intro i ch fi hi hC hz
    obtain rfl : i = 200 := by omega
    refine br_t (nI_le (Nat.le_refl 200) (by omega)) (hp ch fi hC (fun i n hi hn => ?_) (fun i n hi hn => ?_))
    · rw [mh_e0, show (b + i) * 8 + n = b * 8 + (i * 8 + n) by omega]; exact (hz _ (by omega)).1
    · rw [mh_e0, show (b + i) * 8 + n = b * 8 + (i * 8 + n) by omega]; exact (hz _ (by omega)).2
  | succ g ih =>
    intro i ch fi hi hC hz
    have hin : vp_in (nI (b * 8 + i)) 400 := vp_in_nI (by omega) (by decide)
    refine br_f (nI_ge (b := 200) (by omega) (by omega)) ?_
    rw [mh_ix, nI_clamp (by omega)]
    refine ⟨hin, nm_e ⟨hin, nm_e (nm_r (nI_1 i) (ih (i + 1) _ _ (by omega) (xl_C_fr hLb hC (by omega)) ?_))⟩⟩
    exact lt_s (fun j hj => by rw [pk_un (by omega), pk_un (by omega)]; exact hz j hj) ⟨pk_us, pk_us⟩
end
section
variable {f_names f_versions f_rooms f_queued f_live f_liveCount f_draftCount f_cursor : Int32} {a_lock a_planned a_holder a_nameOf a_versionOf a_depthOf a_child a_fixed a_match a_queue a_reached : Nat → Int32}
variable {L b mL : Nat} {HL NL VL : Nat → Nat} {CL : Nat → Nat → Nat}
theorem xl_start {post : SX → Prop} (hLb : xl_LB L b) (hL : xl_L L mL HL NL VL CL a_holder a_nameOf a_versionOf a_depthOf a_child)
    (hp : ∀ ch fi, xl_L L mL HL NL VL CL a_holder a_nameOf a_versionOf a_depthOf ch → xl_C b (fun _ _ => 0) ch → xl_C b (fun _ _ => 0) fi → post (f_names, f_versions, f_rooms, f_queued, f_live, f_liveCount, nI b, nI 0, f_cursor, a_lock, a_planned, a_holder, a_nameOf, a_versionOf, a_depthOf, ch, fi, a_match, a_queue, a_reached)) : wpX_startDraft post (f_names, f_versions, f_rooms, f_queued, f_live, f_liveCount, nI b, f_draftCount, f_cursor, a_lock, a_planned, a_holder, a_nameOf, a_versionOf, a_depthOf, a_child, a_fixed, a_match, a_queue, a_reached) := by
  obtain ⟨a1, a2, a3, a4, a5, a6⟩ := hL
  exact Exists.intro 201 (xl_start7 (f_draftCount := nI 0) hLb (fun ch fi h1 h2 h3 => hp ch fi ⟨a1, a2, a3, a4, a5, h1⟩ h2 h3) 200 0 a_child a_fixed (by omega) a6 lt_0)
theorem xl_adopt36 {post : SX → Prop} {p0 : Nat → Int32} (hp : post (f_names, f_versions, f_rooms, f_queued, f_live, f_liveCount, nI b, f_draftCount, f_cursor, a_lock, mh_cp p0 a_lock 200, a_holder, a_nameOf, a_versionOf, a_depthOf, a_child, a_fixed, a_match, a_queue, a_reached)) :
    ∀ g i, i + g = 200 → wX_adoptDraft_36 post f_names f_versions f_rooms f_queued f_live f_liveCount (nI b) f_draftCount f_cursor (g + 1) (nI i) a_lock (mh_cp p0 a_lock i) a_holder a_nameOf a_versionOf a_depthOf a_child a_fixed a_match a_queue a_reached := by
  intro g
  induction g with
  | zero =>
    intro i hi
    obtain rfl : i = 200 := by omega
    exact br_t (nI_le (Nat.le_refl 200) (by omega)) hp
  | succ g ih =>
    intro i hi
    have hin : vp_in (nI i) 200 := vp_in_nI (by omega) (by decide)
    refine br_f (nI_ge (b := 200) (by omega) (by omega)) ⟨hin, hin, ?_⟩
    rw [nI_clamp (by omega)]
    exact nm_r (mh_cps _ _ _) (nm_r (nI_1 i) (ih (i + 1) (by omega)))
end
section
variable {f_names f_versions f_rooms f_queued f_liveCount f_cursor : Int32} {a_lock a_planned a_holder a_nameOf a_versionOf a_depthOf a_child a_fixed a_match a_queue a_reached : Nat → Int32}
variable {L b c : Nat}
theorem xl_adopt {post : SX → Prop} (hp : post (f_names, f_versions, f_rooms, f_queued, nI b, nI c, nI L, nI c, nI b, a_lock, mh_cp a_planned a_lock 200, a_holder, a_nameOf, a_versionOf, a_depthOf, a_child, a_fixed, a_match, a_queue, a_reached)) : wpX_adoptDraft post (f_names, f_versions, f_rooms, f_queued, nI L, f_liveCount, nI b, nI c, f_cursor, a_lock, a_planned, a_holder, a_nameOf, a_versionOf, a_depthOf, a_child, a_fixed, a_match, a_queue, a_reached) :=
  Exists.intro 201 (xl_adopt36 (p0 := a_planned) hp 200 0 (by omega))
end
/-- what the two states share -/
def rl_R (nm vs rm L b c cur : Nat) (H N V : Nat → Nat) (C : Nat → Nat → Nat) (lock planned ho na ve de ch nb vb hb : Nat → Int32) : Prop :=
  (pi_K nm vs lock ∧ pi_K nm vs planned ∧ rm ≤ 24) ∧ xl_LB L b ∧ (ly_W nm vs (c + 1) H N V C ∧ cur < c + 1) ∧ xl_L L (c + 1) H N V C ho na ve de ch ∧ (ho b = -1 ∧ de b = 0) ∧ yl_L 0 (c + 1) H N V hb nb vb
def i_Rel (k : Nat) (u : SX) (v : SY) : Prop := ∃ (nm vs rm L b c cur : Nat) (H N V : Nat → Nat) (C : Nat → Nat → Nat) (q dc ym : Int32) (lock planned ho na ve de ch fi ma qu re zr nb vb hb fb : Nat → Int32), u = (nI nm, nI vs, nI rm, q, nI L, nI c, nI b, dc, nI (L + cur), lock, planned, ho, na, ve, de, ch, fi, ma, qu, re) ∧ v = (nI nm, nI vs, nI rm, nI (c + 1), ym, nI cur, lock, planned, zr, nb, vb, hb, fb) ∧ rl_R nm vs rm L b c cur H N V C lock planned ho na ve de ch nb vb hb
theorem rl_in {k : Nat} {nm vs rm L b c cur : Nat} {H N V : Nat → Nat} {C : Nat → Nat → Nat} {q dc ym : Int32} {lock planned ho na ve de ch fi ma qu re zr nb vb hb fb : Nat → Int32} (h : rl_R nm vs rm L b c cur H N V C lock planned ho na ve de ch nb vb hb) : i_Rel k (nI nm, nI vs, nI rm, q, nI L, nI c, nI b, dc, nI (L + cur), lock, planned, ho, na, ve, de, ch, fi, ma, qu, re) (nI nm, nI vs, nI rm, nI (c + 1), ym, nI cur, lock, planned, zr, nb, vb, hb, fb) :=
  ⟨nm, vs, rm, L, b, c, cur, H, N, V, C, q, dc, ym, lock, planned, ho, na, ve, de, ch, fi, ma, qu, re, zr, nb, vb, hb, fb, rfl, rfl, h⟩
theorem rl_el {P : SX → SY → Prop} {k : Nat} {u : SX} {v : SY} (I : i_Rel k u v) (h : ∀ (nm vs rm L b c cur : Nat) (H N V : Nat → Nat) (C : Nat → Nat → Nat) (q dc ym : Int32) (lock planned ho na ve de ch fi ma qu re zr nb vb hb fb : Nat → Int32), rl_R nm vs rm L b c cur H N V C lock planned ho na ve de ch nb vb hb → P (nI nm, nI vs, nI rm, q, nI L, nI c, nI b, dc, nI (L + cur), lock, planned, ho, na, ve, de, ch, fi, ma, qu, re) (nI nm, nI vs, nI rm, nI (c + 1), ym, nI cur, lock, planned, zr, nb, vb, hb, fb)) : P u v :=
  Exists.elim I fun nm I => Exists.elim I fun vs I => Exists.elim I fun rm I => Exists.elim I fun L I => Exists.elim I fun b I => Exists.elim I fun c I => Exists.elim I fun cur I => Exists.elim I fun H I => Exists.elim I fun N I => Exists.elim I fun V I => Exists.elim I fun C I => Exists.elim I fun q I => Exists.elim I fun dc I => Exists.elim I fun ym I => Exists.elim I fun lock I => Exists.elim I fun planned I => Exists.elim I fun ho I => Exists.elim I fun na I => Exists.elim I fun ve I => Exists.elim I fun de I => Exists.elim I fun ch I => Exists.elim I fun fi I => Exists.elim I fun ma I => Exists.elim I fun qu I => Exists.elim I fun re I => Exists.elim I fun zr I => Exists.elim I fun nb I => Exists.elim I fun vb I => Exists.elim I fun hb I => Exists.elim I fun fb I => I.1 ▸ I.2.1 ▸ h nm vs rm L b c cur H N V C q dc ym lock planned ho na ve de ch fi ma qu re zr nb vb hb fb I.2.2
theorem i_up {k : Nat} {u : SX} {v : SY} (h : i_Rel k u v) : i_Rel (k + 5) u v := h
end
section
/-! plan -/
theorem mh_cp_lt {p l : Nat → Int32} {k j : Nat} (h : j < k) : mh_cp p l k j = l j := if_pos h
theorem pi_K_cp {nm vs : Nat} {lock : Nat → Int32} (K : pi_K nm vs lock) (p : Nat → Int32) : pi_K nm vs (mh_cp p lock 200) := by
  obtain ⟨a, b, c, d⟩ := K
  refine ⟨a, fun o k ho hk => ?_, fun n v k hn hv hk => ?_, fun k hk => ?_⟩
  · rw [mh_cp_lt (by omega)]; exact b o k ho hk
  · rw [mh_cp_lt (by omega)]; exact c n v k hn hv hk
  · rw [mh_cp_lt (by omega)]; exact d k hk
theorem xl_LB_s {L b : Nat} (h : xl_LB L b) : xl_LB b L := by rcases h with ⟨x, y⟩ | ⟨x, y⟩; exact Or.inr ⟨y, x⟩; exact Or.inl ⟨y, x⟩
section
variable {nm vs rm L b c cur : Nat} {H N V : Nat → Nat} {C : Nat → Nat → Nat} {q dc ym : Int32} {lock planned ho na ve de ch fi ma qu re zr nb vb hb fb : Nat → Int32}
/-- Y's plan, up to the draft -/
theorem yl_plan_go {post : Int32 → SY → Prop} (K : pi_K nm vs lock) (hM : ¬ pm_M lock) (hY : yl_L 0 (c + 1) H N V hb nb vb) (hm : c + 1 ≤ 25) (H0 N0 V0 : Nat → Nat)
    (hp : ∀ zr hb nb vb fb, yl_L 0 (c + 1) H N V hb nb vb → yl_L 25 1 H0 N0 V0 hb nb vb → yl_F (fun _ _ => 0) fb → wY_plan_76 post (25 + 1) (nI (25 + 0)) (nI nm) (nI vs) (nI rm) (nI (c + 1)) (nI (0 + 1)) (nI cur) lock planned zr nb vb hb fb) : wpY_plan post (nI nm, nI vs, nI rm, nI (c + 1), ym, nI cur, lock, planned, zr, nb, vb, hb, fb) := by
  unfold wpY_plan
  dsimp only
  refine yl_mp K (fun z => absurd z hM) (fun _ zr => br_t rfl ⟨26, ?_⟩)
  exact yl_plan13 hm H0 N0 V0 (fun hb nb vb fi h1 h2 h3 => ⟨26, hp zr hb nb vb fi h1 h2 h3⟩) 25 0 hb nb vb (by omega) hY lt_0
theorem rl_plan {k : Nat} (hR : rl_R nm vs rm L b c cur H N V C lock planned ho na ve de ch nb vb hb) : wpX_plan (fun r u' => wpY_plan (fun r' v' => r' = r ∧ i_Rel (k + 5) u' v') (nI nm, nI vs, nI rm, nI (c + 1), ym, nI cur, lock, planned, zr, nb, vb, hb, fb)) (nI nm, nI vs, nI rm, q, nI L, nI c, nI b, dc, nI (L + cur), lock, planned, ho, na, ve, de, ch, fi, ma, qu, re) := by
  obtain ⟨⟨K, Kp, hrm⟩, hLb, ⟨w, hcur⟩, hL, ⟨hb1, hb2⟩, hY⟩ := hR
  have hm := w.1.2
  have hnm := K.1.1.2
  have hvs := K.1.2.2
  unfold wpX_plan
  dsimp only
  by_cases hM : pm_M lock
  · refine xl_peers K (fun _ q' qu' re' => br_f mh_10 ?_) (fun z => absurd hM z)
    unfold wpY_plan
    dsimp only
    exact yl_mp K (fun _ re => br_f mh_10 ⟨rfl, rl_in ⟨⟨K, Kp, hrm⟩, hLb, ⟨w, hcur⟩, hL, ⟨hb1, hb2⟩, hY⟩⟩) (fun z => absurd hM z)
  · have hRR := pm_R hM
    refine xl_peers K (fun z => absurd z hM) (fun _ q' qu' re' => br_t rfl ?_)
    refine xl_start hLb hL (fun ch fi hL' hC0 hF0 => ?_)
    rcases ls_layout (f_versions := nI vs) (f_queued := nI q') (f_live := nI L) (f_liveCount := nI c) (f_cursor := nI (L + cur)) (a_planned := planned) (a_match := ma) (a_queue := qu') (a_reached := re') (y_versions := nI vs) (y_nodes := nI (c + 1)) (y_cursor := nI cur) (z_planned := planned) (HL := H) (NL := N) (VL := V) (CL := C) K hRR hLb hm hrm 25 0 0 H N V _ _ (by omega) (pi_start K hRR H N V) (by omega) with ⟨c', H', N', V', C', F', w', hX, hYY⟩ | ⟨c', H', N', V', C', F', hX, hYY⟩
    · refine Exists.intro 26 (hX _ _ _ _ _ _ _ ⟨hL', ⟨⟨hb1, fun i h0 hi => by omega⟩, fun i h0 hi => by omega, fun i h0 hi => by omega, fun i h0 hi => by omega, hb2, hC0⟩, hF0⟩ (fun ho' na' ve' de' ch' fi' hx => br_f mh_10 ?_))
      refine xl_fresh hLb hx.1 hx.2.1 w w' hnm hvs (fun ma' => ?_)
      refine xl_adopt ?_
      refine yl_plan_go K hM hY hm H N V (fun zr hb nb vb fb h1 h2 h3 => ?_)
      refine hYY _ zr hb nb vb fb ⟨h1, h2, h3⟩ (fun hb' nb' vb' fb' hy => ⟨c' + 1, ?_⟩)
      have h158 := fun hp => yl_plan158 (post := fun r' v' => r' = nI (mh_ct (fr_F H' N' V' V C) (c' + 1)) ∧ i_Rel (k + 5) (nI nm, nI vs, nI rm, nI q', nI b, nI c', nI L, nI c', nI b, lock, mh_cp planned lock 200, ho', na', ve', de', ch', fi', ma', qu', re') v') (y_names := nI nm) (y_versions := nI vs) (y_rooms := nI rm) (y_nodes := nI (c + 1)) (y_cursor := nI cur) (z_lock := lock) (z_planned := planned) (z_reach := zr) (z_fixed := fb') hy.1 hy.2.1 w w' hnm hvs hp c' 1 (by omega) (by omega)
      rw [fr_c1] at h158
      refine h158 ⟨26, ?_⟩
      refine yl_plan194 w'.1.2 (ly_W_hd w') (fun hb2 nb2 vb2 h => ⟨rfl, ?_⟩) 25 0 hb' nb' vb' (by omega) ⟨hy.2.1, lt_0⟩
      exact rl_in (cur := 0) ⟨⟨K, pi_K_cp K planned, hrm⟩, xl_LB_s hLb, ⟨w', by omega⟩, hx.2.1, ⟨hx.1.1.1, hx.1.2.2.2.2.1⟩, h⟩
    · refine Exists.intro 26 (hX _ _ _ _ _ _ _ ⟨hL', ⟨⟨hb1, fun i h0 hi => by omega⟩, fun i h0 hi => by omega, fun i h0 hi => by omega, fun i h0 hi => by omega, hb2, hC0⟩, hF0⟩ (fun ho' na' ve' de' ch' fi' hx => br_t rfl ?_))
      refine yl_plan_go K hM hY hm H N V (fun zr hb nb vb fb h1 h2 h3 => ?_)
      refine hYY _ zr hb nb vb fb ⟨h1, h2, h3⟩ (fun hb' nb' vb' fb' hy => ⟨rfl, ?_⟩)
      exact rl_in ⟨⟨K, Kp, hrm⟩, hLb, ⟨w, hcur⟩, hx.1, ⟨hx.2.1.1.1, hx.2.1.2.2.2.2.1⟩, hy.1⟩
end
theorem i_vc_plan {k : Nat} {u : SX} {v : SY} (I : i_Rel k u v) (hk : k + 5 ≤ 2563) : wpX_plan (fun r u' => wpY_plan (fun r' v' => r' = r ∧ i_Rel (k + 5) u' v') v) u :=
  rl_el (P := fun u v => wpX_plan (fun r u' => wpY_plan (fun r' v' => r' = r ∧ i_Rel (k + 5) u' v') v) u) I
    (fun nm vs rm L b c cur H N V C q dc ym lock planned ho na ve de ch fi ma qu re zr nb vb hb fb hR => rl_plan hR)
end
section
/-! arguments; link, relock, edgeOf, revert -/
def ar_bad (x : Int32) (n : Nat) : Prop := x < 0 ∨ nI n ≤ x
theorem ar_ix (x : Int32) {n : Nat} (hn : n < 2 ^ 31) : ar_bad x n ∨ ∃ j : Nat, j < n ∧ x = nI j := by
  rcases pk_ix x hn with h | h | h
  · exact Or.inl (Or.inl h)
  · exact Or.inl (Or.inr h)
  · exact Or.inr h
theorem ar_b {x : Int32} {n : Nat} {A B : Prop} (h : ar_bad x n) (a : A) : (x < 0 → A) ∧ (¬ x < 0 → ((nI n ≤ x → A) ∧ (¬ nI n ≤ x → B))) :=
  br_c (fun _ => a) (fun z => br_t (h.resolve_left z) a)
theorem ar_g {j n : Nat} {A B : Prop} (hj : j < n) (hn : n < 2 ^ 31) (b : B) : (nI j < 0 → A) ∧ (¬ nI j < 0 → ((nI n ≤ nI j → A) ∧ (¬ nI n ≤ nI j → B))) :=
  br_f (nI_pos (by omega)) (br_f (nI_ge hj hn) b)
section
variable {f_rooms f_queued f_live f_liveCount f_draft f_draftCount f_cursor : Int32} {a_lock a_planned a_holder a_nameOf a_versionOf a_depthOf a_child a_fixed a_match a_queue a_reached : Nat → Int32}
variable {y_rooms y_nodes y_made y_cursor : Int32} {z_lock z_planned z_reach z_nameOf z_verOf z_holder z_fixed : Nat → Int32}
variable {nm vs : Nat} {post : Int32 → Prop}
theorem xl_gn0 {x : Int32} (h : ar_bad x nm) (hp : post 0) : wpX_goodName post (nI nm, nI vs, f_rooms, f_queued, f_live, f_liveCount, f_draft, f_draftCount, f_cursor, a_lock, a_planned, a_holder, a_nameOf, a_versionOf, a_depthOf, a_child, a_fixed, a_match, a_queue, a_reached) x := ar_b h hp
theorem xl_gn1 {j : Nat} (hj : j < nm) (hn : nm ≤ 8) (hp : post 1) : wpX_goodName post (nI nm, nI vs, f_rooms, f_queued, f_live, f_liveCount, f_draft, f_draftCount, f_cursor, a_lock, a_planned, a_holder, a_nameOf, a_versionOf, a_depthOf, a_child, a_fixed, a_match, a_queue, a_reached) (nI j) := ar_g hj (by omega) hp
theorem xl_gv0 {x : Int32} (h : ar_bad x vs) (hp : post 0) : wpX_goodVersion post (nI nm, nI vs, f_rooms, f_queued, f_live, f_liveCount, f_draft, f_draftCount, f_cursor, a_lock, a_planned, a_holder, a_nameOf, a_versionOf, a_depthOf, a_child, a_fixed, a_match, a_queue, a_reached) x := ar_b h hp
theorem xl_gv1 {j : Nat} (hj : j < vs) (hn : vs ≤ 3) (hp : post 1) : wpX_goodVersion post (nI nm, nI vs, f_rooms, f_queued, f_live, f_liveCount, f_draft, f_draftCount, f_cursor, a_lock, a_planned, a_holder, a_nameOf, a_versionOf, a_depthOf, a_child, a_fixed, a_match, a_queue, a_reached) (nI j) := ar_g hj (by omega) hp
theorem yl_gn0 {x : Int32} (h : ar_bad x nm) (hp : post 0) : wpY_goodName post (nI nm, nI vs, y_rooms, y_nodes, y_made, y_cursor, z_lock, z_planned, z_reach, z_nameOf, z_verOf, z_holder, z_fixed) x := ar_b h hp
theorem yl_gn1 {j : Nat} (hj : j < nm) (hn : nm ≤ 8) (hp : post 1) : wpY_goodName post (nI nm, nI vs, y_rooms, y_nodes, y_made, y_cursor, z_lock, z_planned, z_reach, z_nameOf, z_verOf, z_holder, z_fixed) (nI j) := ar_g hj (by omega) hp
theorem yl_gv0 {x : Int32} (h : ar_bad x vs) (hp : post 0) : wpY_goodVersion post (nI nm, nI vs, y_rooms, y_nodes, y_made, y_cursor, z_lock, z_planned, z_reach, z_nameOf, z_verOf, z_holder, z_fixed) x := ar_b h hp
theorem yl_gv1 {j : Nat} (hj : j < vs) (hn : vs ≤ 3) (hp : post 1) : wpY_goodVersion post (nI nm, nI vs, y_rooms, y_nodes, y_made, y_cursor, z_lock, z_planned, z_reach, z_nameOf, z_verOf, z_holder, z_fixed) (nI j) := ar_g hj (by omega) hp
/-- the owner named by two arguments: number o, or none -/
def ar_ow (nm vs : Nat) (x1 x2 : Int32) (o : Nat) : Prop := (x1 = -1 ∧ o = 0) ∨ (∃ n v, n < nm ∧ v < vs ∧ x1 = nI n ∧ x2 = nI v ∧ o = 1 + n * 3 + v)
def ar_no (nm vs : Nat) (x1 x2 : Int32) : Prop := ¬ x1 = -1 ∧ (ar_bad x1 nm ∨ ((∃ n, n < nm ∧ x1 = nI n) ∧ ar_bad x2 vs))
theorem ar_oc (x1 x2 : Int32) (hn : nm ≤ 8) (hv : vs ≤ 3) : ar_no nm vs x1 x2 ∨ ∃ o, ar_ow nm vs x1 x2 o := by
  by_cases z : x1 = -1
  · exact Or.inr ⟨0, Or.inl ⟨z, rfl⟩⟩
  · rcases ar_ix x1 (n := nm) (by omega) with h | ⟨n, h, e⟩
    · exact Or.inl ⟨z, Or.inl h⟩
    · rcases ar_ix x2 (n := vs) (by omega) with h2 | ⟨v, h2, e2⟩
      · exact Or.inl ⟨z, Or.inr ⟨⟨n, h, e⟩, h2⟩⟩
      · exact Or.inr ⟨_, Or.inr ⟨n, v, h, h2, e, e2, rfl⟩⟩
theorem ar_lt {x1 x2 : Int32} {o : Nat} (h : ar_ow nm vs x1 x2 o) (hn : nm ≤ 8) (hv : vs ≤ 3) : o < 25 := by
  rcases h with ⟨_, rfl⟩ | ⟨n, v, h1, h2, _, _, rfl⟩ <;> omega
theorem xl_go0 {x1 x2 : Int32} (h : ar_no nm vs x1 x2) (hn : nm ≤ 8) (hp : post 0) : wpX_goodOwner post (nI nm, nI vs, f_rooms, f_queued, f_live, f_liveCount, f_draft, f_draftCount, f_cursor, a_lock, a_planned, a_holder, a_nameOf, a_versionOf, a_depthOf, a_child, a_fixed, a_match, a_queue, a_reached) x1 x2 := by
  refine br_f h.1 ?_
  rcases h.2 with h1 | ⟨⟨n, h1, e⟩, h2⟩
  · exact xl_gn0 h1 (br_t rfl hp)
  · rw [e]
    exact xl_gn1 h1 hn (br_f mh_10 (xl_gv0 h2 (br_t rfl hp)))
theorem xl_go1 {x1 x2 : Int32} {o : Nat} (h : ar_ow nm vs x1 x2 o) (hn : nm ≤ 8) (hv : vs ≤ 3) (hp : post 1) : wpX_goodOwner post (nI nm, nI vs, f_rooms, f_queued, f_live, f_liveCount, f_draft, f_draftCount, f_cursor, a_lock, a_planned, a_holder, a_nameOf, a_versionOf, a_depthOf, a_child, a_fixed, a_match, a_queue, a_reached) x1 x2 := by
  rcases h with ⟨e, _⟩ | ⟨n, v, h1, h2, e1, e2, _⟩
  · exact br_t e hp
  · rw [e1, e2]
    exact br_f (mh_n1 (by omega)) (xl_gn1 h1 hn (br_f mh_10 (xl_gv1 h2 hv (br_f mh_10 hp))))
theorem xl_oi {x1 x2 : Int32} {o : Nat} (h : ar_ow nm vs x1 x2 o) (hn : nm ≤ 8) (hp : post (nI o)) : wpX_ownerIndex post (nI nm, nI vs, f_rooms, f_queued, f_live, f_liveCount, f_draft, f_draftCount, f_cursor, a_lock, a_planned, a_holder, a_nameOf, a_versionOf, a_depthOf, a_child, a_fixed, a_match, a_queue, a_reached) x1 x2 := by
  rcases h with ⟨e, rfl⟩ | ⟨n, v, h1, h2, e1, e2, rfl⟩
  · exact br_t e hp
  · rw [e1, e2]
    refine br_f (mh_n1 (by omega)) ?_
    rw [mh_ow]; exact hp
theorem yl_ow0 {x1 x2 : Int32} (h : ar_no nm vs x1 x2) (hn : nm ≤ 8) (hp : post (-1)) : wpY_owner post (nI nm, nI vs, y_rooms, y_nodes, y_made, y_cursor, z_lock, z_planned, z_reach, z_nameOf, z_verOf, z_holder, z_fixed) x1 x2 := by
  refine br_f h.1 ?_
  rcases h.2 with h1 | ⟨⟨n, h1, e⟩, h2⟩
  · exact yl_gn0 h1 (br_t rfl hp)
  · rw [e]
    exact yl_gn1 h1 hn (br_f mh_10 (yl_gv0 h2 (br_t rfl hp)))
theorem yl_ow1 {x1 x2 : Int32} {o : Nat} (h : ar_ow nm vs x1 x2 o) (hn : nm ≤ 8) (hv : vs ≤ 3) (hp : post (nI o)) : wpY_owner post (nI nm, nI vs, y_rooms, y_nodes, y_made, y_cursor, z_lock, z_planned, z_reach, z_nameOf, z_verOf, z_holder, z_fixed) x1 x2 := by
  rcases h with ⟨e, rfl⟩ | ⟨n, v, h1, h2, e1, e2, rfl⟩
  · exact br_t e hp
  · rw [e1, e2]
    refine br_f (mh_n1 (by omega)) (yl_gn1 h1 hn (br_f mh_10 (yl_gv1 h2 hv (br_f mh_10 ?_))))
    rw [mh_ow]; exact hp
end
theorem pi_K_upd {nm vs o k : Nat} {lock : Nat → Int32} {x : Int32} (K : pi_K nm vs lock) (ho : o < 25) (hk : k < nm) (hx : x = -1 ∨ (x = -2 ∧ 1 ≤ o ∧ k < (o - 1) / 3) ∨ ∃ v, v < vs ∧ x = nI v) : pi_K nm vs (upd lock (o * 8 + k) x) := by
  obtain ⟨a, b, c, d⟩ := K
  have hnm := a.1.2
  have hvs := a.2.2
  have hx2 : x = -2 → 1 ≤ o ∧ k < (o - 1) / 3 := by
    intro z
    rcases hx with h | h | ⟨v, h1, h2⟩
    · exact absurd (h.symm.trans z) mh_21
    · exact h.2
    · exact absurd (h2.symm.trans z) (mh_n2 (by omega))
  refine ⟨a, fun o' k' ho' hk' => ?_, fun n v k' hn hv hk' => ?_, fun k' hk' => ?_⟩
  · by_cases z : o' * 8 + k' = o * 8 + k
    · have e : k' = k := by omega
      rw [z, pk_us, e]
      rcases hx with h | h | h
      · exact Or.inl h
      · exact Or.inr ⟨hk, Or.inl h.1⟩
      · exact Or.inr ⟨hk, Or.inr h⟩
    · rw [pk_un z]; exact b o' k' ho' hk'
  · by_cases z : (1 + n * 3 + v) * 8 + k' = o * 8 + k
    · have e : k' = k := by omega
      have e2 : o = 1 + n * 3 + v := by omega
      rw [z, pk_us]
      intro y
      have := hx2 y
      have e3 : (o - 1) / 3 = n := by omega
      omega
    · rw [pk_un z]; exact c n v k' hn hv hk'
  · by_cases z : k' = o * 8 + k
    · rw [z, pk_us]
      intro y
      have := hx2 y
      omega
    · rw [pk_un z]; exact d k' hk'
theorem rl_lock {nm vs rm L b c cur : Nat} {H N V : Nat → Nat} {C : Nat → Nat → Nat} {lock planned ho na ve de ch nb vb hb l' : Nat → Int32} (h : rl_R nm vs rm L b c cur H N V C lock planned ho na ve de ch nb vb hb) (K : pi_K nm vs l') : rl_R nm vs rm L b c cur H N V C l' planned ho na ve de ch nb vb hb :=
  ⟨⟨K, h.1.2.1, h.1.2.2⟩, h.2⟩
section
variable {nm vs rm L b c cur : Nat} {H N V : Nat → Nat} {C : Nat → Nat → Nat} {q dc ym : Int32} {lock planned ho na ve de ch fi ma qu re zr nb vb hb fb : Nat → Int32}
theorem xl_link60 {post : Int32 → SX → Prop} {x1 x2 w : Int32} {o n : Nat} (ha : ar_ow nm vs x1 x2 o) (hn : n < 8) (hnm : nm ≤ 8) (hvs : vs ≤ 3) (hp : post (lock (o * 8 + n)) (nI nm, nI vs, nI rm, q, nI L, nI c, nI b, dc, nI (L + cur), upd lock (o * 8 + n) w, planned, ho, na, ve, de, ch, fi, ma, qu, re)) : wX_link_60 post x1 x2 (nI n) w (nI nm) (nI vs) (nI rm) q (nI L) (nI c) (nI b) dc (nI (L + cur)) lock planned ho na ve de ch fi ma qu re := by
  have ho := ar_lt ha hnm hvs
  have hin : vp_in (nI (o * 8 + n)) 200 := vp_in_nI (by omega) (by decide)
  unfold wX_link_60
  refine xl_oi ha hnm ?_
  rw [mh_ix, nI_clamp (by omega)]
  exact ⟨hin, nm_e ⟨hin, nm_e hp⟩⟩
theorem yl_link69 {post : Int32 → SY → Prop} {w : Int32} {o n : Nat} (ho : o < 25) (hn : n < 8) (hp : post (lock (o * 8 + n)) (nI nm, nI vs, nI rm, nI (c + 1), ym, nI cur, upd lock (o * 8 + n) w, planned, zr, nb, vb, hb, fb)) : wY_link_69 post (nI n) w (nI o) (nI nm) (nI vs) (nI rm) (nI (c + 1)) ym (nI cur) lock planned zr nb vb hb fb := by
  have hin : vp_in (nI (o * 8 + n)) 200 := vp_in_nI (by omega) (by decide)
  unfold wY_link_69
  rw [mh_ix, nI_clamp (by omega)]
  exact ⟨hin, nm_e ⟨hin, nm_e hp⟩⟩
theorem rl_link {k : Nat} (hR : rl_R nm vs rm L b c cur H N V C lock planned ho na ve de ch nb vb hb) (v1 v2 v3 v4 : Int32) : wpX_link (fun r u' => wpY_link (fun r' v' => r' = r ∧ i_Rel (k + 5) u' v') (nI nm, nI vs, nI rm, nI (c + 1), ym, nI cur, lock, planned, zr, nb, vb, hb, fb) v1 v2 v3 v4) (nI nm, nI vs, nI rm, q, nI L, nI c, nI b, dc, nI (L + cur), lock, planned, ho, na, ve, de, ch, fi, ma, qu, re) v1 v2 v3 v4 := by
  have K := hR.1.1
  have hnm := K.1.1.2
  have hvs := K.1.2.2
  have same : i_Rel (k + 5) (nI nm, nI vs, nI rm, q, nI L, nI c, nI b, dc, nI (L + cur), lock, planned, ho, na, ve, de, ch, fi, ma, qu, re) (nI nm, nI vs, nI rm, nI (c + 1), ym, nI cur, lock, planned, zr, nb, vb, hb, fb) := rl_in hR
  unfold wpX_link
  dsimp only
  rcases ar_oc (nm := nm) (vs := vs) v1 v2 hnm hvs with h | ⟨o, ha⟩
  · refine xl_go0 h hnm (br_t rfl ?_)
    unfold wpY_link
    dsimp only
    exact yl_ow0 h hnm (br_t mh_m1 ⟨rfl, same⟩)
  · have hol := ar_lt ha hnm hvs
    refine xl_go1 ha hnm hvs (br_f mh_10 ?_)
    rcases ar_ix v3 (n := nm) (by omega) with h3 | ⟨n, h3, e3⟩
    · refine xl_gn0 h3 (br_t rfl ?_)
      unfold wpY_link
      dsimp only
      exact yl_ow1 ha hnm hvs (br_f (nI_pos (by omega)) (yl_gn0 h3 (br_t rfl ⟨rfl, same⟩)))
    · subst e3
      have wr : ∀ w, pi_K nm vs (upd lock (o * 8 + n) w) → (lock (o * 8 + n)) = lock (o * 8 + n) ∧ i_Rel (k + 5) (nI nm, nI vs, nI rm, q, nI L, nI c, nI b, dc, nI (L + cur), upd lock (o * 8 + n) w, planned, ho, na, ve, de, ch, fi, ma, qu, re) (nI nm, nI vs, nI rm, nI (c + 1), ym, nI cur, upd lock (o * 8 + n) w, planned, zr, nb, vb, hb, fb) := fun w hw => ⟨rfl, rl_in (rl_lock hR hw)⟩
      refine xl_gn1 h3 hnm (br_f mh_10 ?_)
      by_cases z1 : v4 = -1
      · subst z1
        have hK := pi_K_upd (x := -1) K hol h3 (Or.inl rfl)
        refine br_t rfl (br_f mh_21 (xl_link60 ha (by omega) hnm hvs ?_))
        unfold wpY_link
        dsimp only
        exact yl_ow1 ha hnm hvs (br_f (nI_pos (by omega)) (yl_gn1 h3 hnm (br_f mh_10 (br_t rfl (br_f mh_21 (yl_link69 hol (by omega) (wr _ hK)))))))
      · refine br_f z1 ?_
        by_cases z2 : v4 = -2
        · subst z2
          refine br_t rfl (br_t rfl ?_)
          rcases ha with ⟨e, eo⟩ | ⟨a, v, ha1, hv1, ea, ev, eo⟩
          · subst e
            have hlt : ¬ nI n < (-1 : Int32) := fun y => nI_pos (n := n) (by omega) (Int32.lt_trans y mh_m1)
            refine br_f hlt ?_
            unfold wpY_link
            dsimp only
            exact yl_ow1 (o := 0) (Or.inl ⟨rfl, rfl⟩) hnm hvs (br_f (nI_pos (n := 0) (by omega)) (yl_gn1 h3 hnm (br_f mh_10 (br_f mh_12 (br_t rfl (br_t rfl (br_t rfl ⟨rfl, same⟩)))))))
          · subst ea ev
            have ha' : ar_ow nm vs (nI a) (nI v) o := Or.inr ⟨a, v, ha1, hv1, rfl, rfl, eo⟩
            refine pk_lt n a (fun hl => ?_) (fun hl => ?_)
            · have hK := pi_K_upd (x := -2) K hol h3 (Or.inr (Or.inl ⟨rfl, by omega, by omega⟩))
              refine xl_link60 ha' (by omega) hnm hvs ?_
              unfold wpY_link
              dsimp only
              exact yl_ow1 ha' hnm hvs (br_f (nI_pos (by omega)) (yl_gn1 h3 hnm (br_f mh_10 (br_f mh_12 (br_t rfl (br_t rfl (br_f (nI_ne0 (by omega) (by omega)) (br_t (nI_lt hl (by omega)) (yl_link69 hol (by omega) (wr _ hK))))))))))
            · unfold wpY_link
              dsimp only
              exact yl_ow1 ha' hnm hvs (br_f (nI_pos (by omega)) (yl_gn1 h3 hnm (br_f mh_10 (br_f mh_12 (br_t rfl (br_t rfl (br_f (nI_ne0 (by omega) (by omega)) (br_f (nI_nlt hl (by omega)) ⟨rfl, same⟩))))))))
        · refine br_f z2 ?_
          rcases ar_ix v4 (n := vs) (by omega) with h4 | ⟨w, h4, e4⟩
          · refine xl_gv0 h4 (br_t rfl ?_)
            unfold wpY_link
            dsimp only
            exact yl_ow1 ha hnm hvs (br_f (nI_pos (by omega)) (yl_gn1 h3 hnm (br_f mh_10 (br_f z1 (br_f z2 (yl_gv0 h4 (br_t rfl ⟨rfl, same⟩)))))))
          · subst e4
            have hK := pi_K_upd (x := nI w) K hol h3 (Or.inr (Or.inr ⟨w, h4, rfl⟩))
            refine xl_gv1 h4 hvs (br_f mh_10 (br_f z2 (xl_link60 ha (by omega) hnm hvs ?_)))
            unfold wpY_link
            dsimp only
            exact yl_ow1 ha hnm hvs (br_f (nI_pos (by omega)) (yl_gn1 h3 hnm (br_f mh_10 (br_f z1 (br_f z2 (yl_gv1 h4 hvs (br_f mh_10 (br_f z2 (yl_link69 hol (by omega) (wr _ hK)))))))))) 
theorem rl_edgeOf {k : Nat} (hR : rl_R nm vs rm L b c cur H N V C lock planned ho na ve de ch nb vb hb) (p v2 v3 v4 : Int32) : wpX_edgeOf (fun r => wpY_edgeOf (fun r' => r' = r ∧ i_Rel (k + 5) (nI nm, nI vs, nI rm, q, nI L, nI c, nI b, dc, nI (L + cur), lock, planned, ho, na, ve, de, ch, fi, ma, qu, re) (nI nm, nI vs, nI rm, nI (c + 1), ym, nI cur, lock, planned, zr, nb, vb, hb, fb)) (nI nm, nI vs, nI rm, nI (c + 1), ym, nI cur, lock, planned, zr, nb, vb, hb, fb) p v2 v3 v4) (nI nm, nI vs, nI rm, q, nI L, nI c, nI b, dc, nI (L + cur), lock, planned, ho, na, ve, de, ch, fi, ma, qu, re) p v2 v3 v4 := by
  have K := hR.1.1
  have hnm := K.1.1.2
  have hvs := K.1.2.2
  have same : i_Rel (k + 5) (nI nm, nI vs, nI rm, q, nI L, nI c, nI b, dc, nI (L + cur), lock, planned, ho, na, ve, de, ch, fi, ma, qu, re) (nI nm, nI vs, nI rm, nI (c + 1), ym, nI cur, lock, planned, zr, nb, vb, hb, fb) := rl_in hR
  unfold wpX_edgeOf
  dsimp only
  rcases ar_oc (nm := nm) (vs := vs) v2 v3 hnm hvs with h | ⟨o, ha⟩
  · refine xl_go0 h hnm (br_t rfl ?_)
    unfold wpY_edgeOf
    dsimp only
    exact yl_ow0 h hnm (br_t mh_m1 ⟨rfl, same⟩)
  · have hol := ar_lt ha hnm hvs
    refine xl_go1 ha hnm hvs (br_f mh_10 ?_)
    rcases ar_ix v4 (n := nm) (by omega) with h3 | ⟨n, h3, e3⟩
    · refine xl_gn0 h3 (br_t rfl ?_)
      unfold wpY_edgeOf
      dsimp only
      exact yl_ow1 ha hnm hvs (br_f (nI_pos (by omega)) (yl_gn0 h3 (br_t rfl ⟨rfl, same⟩)))
    · subst e3
      have hin : vp_in (nI (o * 8 + n)) 200 := vp_in_nI (by omega) (by decide)
      refine xl_gn1 h3 hnm (br_f mh_10 (xl_oi ha hnm (nm_r (mh_ix o n) ?_)))
      rw [nI_clamp (by omega)]
      refine br_c (fun z => ⟨hin, ?_⟩) (fun z => ⟨hin, ?_⟩)
      · unfold wpY_edgeOf
        dsimp only
        refine yl_ow1 ha hnm hvs (br_f (nI_pos (by omega)) (yl_gn1 h3 hnm (br_f mh_10 (br_t z ?_))))
        rw [mh_ix, nI_clamp (by omega)]
        exact ⟨hin, rfl, same⟩
      · unfold wpY_edgeOf
        dsimp only
        refine yl_ow1 ha hnm hvs (br_f (nI_pos (by omega)) (yl_gn1 h3 hnm (br_f mh_10 (br_f z ?_))))
        rw [mh_ix, nI_clamp (by omega)]
        exact ⟨hin, rfl, same⟩
end
theorem i_vc_link {k : Nat} {u : SX} {v : SY} (I : i_Rel k u v) (hk : k + 5 ≤ 2563) (v1 : Int32) (v2 : Int32) (v3 : Int32) (v4 : Int32) : wpX_link (fun r u' => wpY_link (fun r' v' => r' = r ∧ i_Rel (k + 5) u' v') v v1 v2 v3 v4) u v1 v2 v3 v4 :=
  rl_el (P := fun u v => wpX_link (fun r u' => wpY_link (fun r' v' => r' = r ∧ i_Rel (k + 5) u' v') v v1 v2 v3 v4) u v1 v2 v3 v4) I (fun nm vs rm L b c cur H N V C q dc ym lock planned ho na ve de ch fi ma qu re zr nb vb hb fb hR => rl_link hR v1 v2 v3 v4)
theorem i_vc_edgeOf {k : Nat} {u : SX} {v : SY} (I : i_Rel k u v) (hk : k + 5 ≤ 2563) (v1 : Int32) (v2 : Int32) (v3 : Int32) (v4 : Int32) : wpX_edgeOf (fun r => wpY_edgeOf (fun r' => r' = r ∧ i_Rel (k + 5) u v) v (lw_bz v1) v2 v3 v4) u (lw_bz v1) v2 v3 v4 :=
  rl_el (P := fun u v => wpX_edgeOf (fun r => wpY_edgeOf (fun r' => r' = r ∧ i_Rel (k + 5) u v) v (lw_bz v1) v2 v3 v4) u (lw_bz v1) v2 v3 v4) I (fun nm vs rm L b c cur H N V C q dc ym lock planned ho na ve de ch fi ma qu re zr nb vb hb fb hR => rl_edgeOf hR (lw_bz v1) v2 v3 v4)
end
section
/-! relock and revert -/
def rk_f (lock : Nat → Int32) (n : Nat) (x y : Int32) (i : Nat) : Nat → Int32 := fun j => if j % 8 = n ∧ j / 8 < i ∧ lock j = x then y else lock j
theorem rk_p {lock : Nat → Int32} {n i j : Nat} {x y : Int32} (h : j % 8 = n ∧ j / 8 < i ∧ lock j = x) : rk_f lock n x y i j = y := if_pos h
theorem rk_n {lock : Nat → Int32} {n i j : Nat} {x y : Int32} (h : ¬ (j % 8 = n ∧ j / 8 < i ∧ lock j = x)) : rk_f lock n x y i j = lock j := if_neg h
theorem rk_0 (lock : Nat → Int32) (n : Nat) (x y : Int32) : rk_f lock n x y 0 = lock := by
  funext j; exact rk_n (fun z => absurd z.2.1 (Nat.not_lt_zero _))
theorem rk_at {lock : Nat → Int32} {n i : Nat} {x y : Int32} (hn : n < 8) : rk_f lock n x y i (i * 8 + n) = lock (i * 8 + n) := rk_n (fun z => by omega)
theorem rk_s {lock : Nat → Int32} {n i : Nat} {x y : Int32} (hn : n < 8) (h : lock (i * 8 + n) = x) : upd (rk_f lock n x y i) (i * 8 + n) y = rk_f lock n x y (i + 1) := by
  funext j
  by_cases e : j = i * 8 + n
  · subst e; rw [pk_us, rk_p ⟨by omega, by omega, h⟩]
  · rw [pk_un e]
    by_cases z : j % 8 = n ∧ j / 8 < i ∧ lock j = x
    · rw [rk_p z, rk_p ⟨z.1, by omega, z.2.2⟩]
    · rw [rk_n z, rk_n]
      rintro ⟨a, b, c⟩
      exact z ⟨a, by omega, c⟩
theorem rk_k {lock : Nat → Int32} {n i : Nat} {x y : Int32} (hn : n < 8) (h : ¬ lock (i * 8 + n) = x) : rk_f lock n x y i = rk_f lock n x y (i + 1) := by
  funext j
  by_cases z : j % 8 = n ∧ j / 8 < i ∧ lock j = x
  · rw [rk_p z, rk_p ⟨z.1, by omega, z.2.2⟩]
  · rw [rk_n z, rk_n]
    rintro ⟨a, b, c⟩
    by_cases e : j = i * 8 + n
    · subst e; exact h c
    · exact z ⟨a, by omega, c⟩
theorem pi_K_map {nm vs : Nat} {lock l' : Nat → Int32} (K : pi_K nm vs lock) (h : ∀ j, j < 200 → l' j = lock j ∨ ((∃ v, v < vs ∧ lock j = nI v) ∧ ∃ v, v < vs ∧ l' j = nI v)) : pi_K nm vs l' := by
  obtain ⟨a, b, c, d⟩ := K
  have hvs := a.2.2
  have no : ∀ j, j < 200 → l' j = -2 → lock j = -2 := by
    intro j hj z
    rcases h j hj with e | ⟨_, v, hv, e⟩
    · rw [← e]; exact z
    · exact absurd (e.symm.trans z) (mh_n2 (by omega))
  refine ⟨a, fun o k ho hk => ?_, fun n v k hn hv hk z => c n v k hn hv hk (no _ (by omega) z), fun k hk z => d k hk (no k (by omega) z)⟩
  rcases h (o * 8 + k) (by omega) with e | ⟨⟨v, hv, e⟩, e'⟩
  · rw [e]; exact b o k ho hk
  · rcases b o k ho hk with z | ⟨x, _⟩
    · exact absurd (e.symm.trans z) (mh_n1 (by omega))
    · exact Or.inr ⟨x, Or.inr e'⟩
section
variable {nm vs rm L b c cur : Nat} {H N V : Nat → Nat} {C : Nat → Nat → Nat} {q dc ym : Int32} {lock planned ho na ve de ch fi ma qu re zr nb vb hb fb : Nat → Int32}
theorem xl_relock33 {post : Int32 → SX → Prop} {n : Nat} {x y : Int32} (hn : n < 8) (hp : post (nI (mh_ct (fun i => lock (i * 8 + n) = x) 25)) (nI nm, nI vs, nI rm, q, nI L, nI c, nI b, dc, nI (L + cur), rk_f lock n x y 25, planned, ho, na, ve, de, ch, fi, ma, qu, re)) :
    ∀ g i, i + g = 25 → wX_relock_33 post (nI n) x y (nI nm) (nI vs) (nI rm) q (nI L) (nI c) (nI b) dc (nI (L + cur)) (g + 1) (nI (mh_ct (fun i => lock (i * 8 + n) = x) i)) (nI i) (rk_f lock n x y i) planned ho na ve de ch fi ma qu re := by
  intro g
  induction g with
  | zero =>
    intro i hi
    obtain rfl : i = 25 := by omega
    exact br_t (nI_le (Nat.le_refl 25) (by omega)) hp
  | succ g ih =>
    intro i hi
    have hin : vp_in (nI (i * 8 + n)) 200 := vp_in_nI (by omega) (by decide)
    have hnx := ih (i + 1) (by omega)
    refine br_f (nI_ge (b := 25) (by omega) (by omega)) ?_
    rw [mh_ix, nI_clamp (by omega), rk_at hn]
    refine ⟨hin, br_c (fun z => ?_) (fun z => ?_)⟩
    · rw [mh_ct_p (P := fun i => lock (i * 8 + n) = x) z] at hnx
      exact ⟨hin, nm_r (rk_s hn z) (nm_r (nI_1 _) (nm_r (nI_1 _) hnx))⟩
    · rw [mh_ct_n (P := fun i => lock (i * 8 + n) = x) z, ← rk_k hn z] at hnx
      exact nm_r (nI_1 _) hnx
theorem yl_relock33 {post : Int32 → SY → Prop} {n : Nat} {x y : Int32} (hn : n < 8) (hp : post (nI (mh_ct (fun i => lock (i * 8 + n) = x) 25)) (nI nm, nI vs, nI rm, nI (c + 1), ym, nI cur, rk_f lock n x y 25, planned, zr, nb, vb, hb, fb)) :
    ∀ g i, i + g = 25 → wY_relock_33 post (nI n) x y (nI nm) (nI vs) (nI rm) (nI (c + 1)) ym (nI cur) (g + 1) (nI (mh_ct (fun i => lock (i * 8 + n) = x) i)) (nI i) (rk_f lock n x y i) planned zr nb vb hb fb := by
  intro g
  induction g with
  | zero =>
    intro i hi
    obtain rfl : i = 25 := by omega
    exact br_t (nI_le (Nat.le_refl 25) (by omega)) hp
  | succ g ih =>
    intro i hi
    have hin : vp_in (nI (i * 8 + n)) 200 := vp_in_nI (by omega) (by decide)
    have hnx := ih (i + 1) (by omega)
    refine br_f (nI_ge (b := 25) (by omega) (by omega)) ?_
    rw [mh_ix, nI_clamp (by omega), rk_at hn]
    refine ⟨hin, br_c (fun z => ?_) (fun z => ?_)⟩
    · rw [mh_ct_p (P := fun i => lock (i * 8 + n) = x) z] at hnx
      exact ⟨hin, nm_r (rk_s hn z) (nm_r (nI_1 _) (nm_r (nI_1 _) hnx))⟩
    · rw [mh_ct_n (P := fun i => lock (i * 8 + n) = x) z, ← rk_k hn z] at hnx
      exact nm_r (nI_1 _) hnx
theorem rl_relock {k : Nat} (hR : rl_R nm vs rm L b c cur H N V C lock planned ho na ve de ch nb vb hb) (v1 v2 v3 : Int32) : wpX_relock (fun r u' => wpY_relock (fun r' v' => r' = r ∧ i_Rel (k + 5) u' v') (nI nm, nI vs, nI rm, nI (c + 1), ym, nI cur, lock, planned, zr, nb, vb, hb, fb) v1 v2 v3) (nI nm, nI vs, nI rm, q, nI L, nI c, nI b, dc, nI (L + cur), lock, planned, ho, na, ve, de, ch, fi, ma, qu, re) v1 v2 v3 := by
  have K := hR.1.1
  have hnm := K.1.1.2
  have hvs := K.1.2.2
  have same : i_Rel (k + 5) (nI nm, nI vs, nI rm, q, nI L, nI c, nI b, dc, nI (L + cur), lock, planned, ho, na, ve, de, ch, fi, ma, qu, re) (nI nm, nI vs, nI rm, nI (c + 1), ym, nI cur, lock, planned, zr, nb, vb, hb, fb) := rl_in hR
  unfold wpX_relock
  dsimp only
  rcases ar_ix v1 (n := nm) (by omega) with h1 | ⟨n, h1, e1⟩
  · refine xl_gn0 h1 (br_t rfl ?_)
    unfold wpY_relock
    dsimp only
    exact yl_gn0 h1 (br_t rfl ⟨rfl, same⟩)
  · subst e1
    refine xl_gn1 h1 hnm (br_f mh_10 ?_)
    rcases ar_ix v2 (n := vs) (by omega) with h2 | ⟨f, h2, e2⟩
    · refine xl_gv0 h2 (br_t rfl ?_)
      unfold wpY_relock
      dsimp only
      exact yl_gn1 h1 hnm (br_f mh_10 (yl_gv0 h2 (br_t rfl ⟨rfl, same⟩)))
    · subst e2
      refine xl_gv1 h2 hvs (br_f mh_10 ?_)
      rcases ar_ix v3 (n := vs) (by omega) with h3 | ⟨t, h3, e3⟩
      · refine xl_gv0 h3 (br_t rfl ?_)
        unfold wpY_relock
        dsimp only
        exact yl_gn1 h1 hnm (br_f mh_10 (yl_gv1 h2 hvs (br_f mh_10 (yl_gv0 h3 (br_t rfl ⟨rfl, same⟩)))))
      · subst e3
        have hK : pi_K nm vs (rk_f lock n (nI f) (nI t) 25) := by
          refine pi_K_map K (fun j hj => ?_)
          by_cases z : j % 8 = n ∧ j / 8 < 25 ∧ lock j = nI f
          · rw [rk_p z]; exact Or.inr ⟨⟨f, h2, z.2.2⟩, t, h3, rfl⟩
          · rw [rk_n z]; exact Or.inl rfl
        refine xl_gv1 h3 hvs (br_f mh_10 ⟨26, ?_⟩)
        have hx := fun post hp => xl_relock33 (post := post) (n := n) (x := nI f) (y := nI t) (nm := nm) (vs := vs) (rm := rm) (L := L) (b := b) (c := c) (cur := cur) (q := q) (dc := dc) (lock := lock) (planned := planned) (ho := ho) (na := na) (ve := ve) (de := de) (ch := ch) (fi := fi) (ma := ma) (qu := qu) (re := re) (by omega) hp 25 0 (by omega)
        have hy := fun post hp => yl_relock33 (post := post) (n := n) (x := nI f) (y := nI t) (nm := nm) (vs := vs) (rm := rm) (c := c) (cur := cur) (ym := ym) (lock := lock) (planned := planned) (zr := zr) (nb := nb) (vb := vb) (hb := hb) (fb := fb) (by omega) hp 25 0 (by omega)
        rw [rk_0] at hx hy
        refine hx _ ?_
        unfold wpY_relock
        dsimp only
        refine yl_gn1 h1 hnm (br_f mh_10 (yl_gv1 h2 hvs (br_f mh_10 (yl_gv1 h3 hvs (br_f mh_10 ⟨26, hy _ ⟨rfl, rl_in (rl_lock hR hK)⟩⟩)))))
theorem mh_cp_at (p l : Nat → Int32) (k : Nat) : mh_cp p l k k = p k := if_neg (Nat.lt_irrefl k)
theorem mh_cpk (p l : Nat → Int32) (k : Nat) (h : p k = l k) : mh_cp p l k = mh_cp p l (k + 1) := by
  rw [← mh_cps]
  have e : l k = mh_cp p l k k := by rw [mh_cp_at]; exact h.symm
  rw [e, mh_su]
theorem xl_revert4 {post : Int32 → SX → Prop} (hp : post (nI (mh_ct (fun i => ¬ lock i = planned i) 200)) (nI nm, nI vs, nI rm, q, nI L, nI c, nI b, dc, nI (L + cur), mh_cp lock planned 200, planned, ho, na, ve, de, ch, fi, ma, qu, re)) :
    ∀ g i, i + g = 200 → wX_revert_4 post (nI nm) (nI vs) (nI rm) q (nI L) (nI c) (nI b) dc (nI (L + cur)) (g + 1) (nI (mh_ct (fun i => ¬ lock i = planned i) i)) (nI i) (mh_cp lock planned i) planned ho na ve de ch fi ma qu re := by
  intro g
  induction g with
  | zero =>
    intro i hi
    obtain rfl : i = 200 := by omega
    exact br_t (nI_le (Nat.le_refl 200) (by omega)) hp
  | succ g ih =>
    intro i hi
    have hin : vp_in (nI i) 200 := vp_in_nI (by omega) (by decide)
    have hnx := ih (i + 1) (by omega)
    refine br_f (nI_ge (b := 200) (by omega) (by omega)) ?_
    rw [nI_clamp (by omega), mh_cp_at]
    refine ⟨hin, hin, br_c (fun z => ?_) (fun z => ?_)⟩
    · rw [mh_ct_n (P := fun i => ¬ lock i = planned i) (fun y => y z), ← mh_cpk _ _ _ z] at hnx
      exact nm_r (nI_1 _) hnx
    · rw [mh_ct_p (P := fun i => ¬ lock i = planned i) z] at hnx
      exact ⟨hin, hin, nm_r (mh_cps _ _ _) (nm_r (nI_1 _) (nm_r (nI_1 _) hnx))⟩
theorem yl_revert29 {post : Int32 → SY → Prop} {J : Int32 → Int32 → (Nat → Int32) → (Nat → Int32) → (Nat → Int32) → (Nat → Int32) → (Nat → Int32) → (Nat → Int32) → (Nat → Int32) → Prop} {x : Int32} {i : Nat} (hi : i < 200) (hJ : J x (nI (i + 1)) (mh_cp lock planned (i + 1)) planned zr nb vb hb fb) :
    wY_revert_29 post J x (nI i) (nI nm) (nI vs) (nI rm) (nI (c + 1)) ym (nI cur) (mh_cp lock planned i) planned zr nb vb hb fb := by
  have hin : vp_in (nI i) 200 := vp_in_nI (by omega) (by decide)
  unfold wY_revert_29
  rw [nI_clamp (by omega)]
  exact ⟨hin, hin, nm_r (mh_cps _ _ _) (nm_r (nI_1 _) hJ)⟩
theorem yl_revert4 {post : Int32 → SY → Prop} (hp : post (nI (mh_ct (fun i => ¬ lock i = planned i) 200)) (nI nm, nI vs, nI rm, nI (c + 1), ym, nI cur, mh_cp lock planned 200, planned, zr, nb, vb, hb, fb)) :
    ∀ g i, i + g = 200 → wY_revert_4 post (nI nm) (nI vs) (nI rm) (nI (c + 1)) ym (nI cur) (g + 1) (nI (mh_ct (fun i => ¬ lock i = planned i) i)) (nI i) (mh_cp lock planned i) planned zr nb vb hb fb := by
  intro g
  induction g with
  | zero =>
    intro i hi
    obtain rfl : i = 200 := by omega
    exact br_t (nI_le (Nat.le_refl 200) (by omega)) hp
  | succ g ih =>
    intro i hi
    have hin : vp_in (nI i) 200 := vp_in_nI (by omega) (by decide)
    have hnx := ih (i + 1) (by omega)
    refine br_f (nI_ge (b := 200) (by omega) (by omega)) ?_
    rw [nI_clamp (by omega), mh_cp_at]
    refine ⟨hin, hin, br_c (fun z => ?_) (fun z => ?_)⟩
    · rw [mh_ct_n (P := fun i => ¬ lock i = planned i) (fun y => y z)] at hnx
      exact yl_revert29 (by omega) hnx
    · rw [mh_ct_p (P := fun i => ¬ lock i = planned i) z] at hnx
      exact nm_r (nI_1 _) (yl_revert29 (by omega) hnx)
theorem rl_revert {k : Nat} (hR : rl_R nm vs rm L b c cur H N V C lock planned ho na ve de ch nb vb hb) : wpX_revert (fun r u' => wpY_revert (fun r' v' => r' = r ∧ i_Rel (k + 5) u' v') (nI nm, nI vs, nI rm, nI (c + 1), ym, nI cur, lock, planned, zr, nb, vb, hb, fb)) (nI nm, nI vs, nI rm, q, nI L, nI c, nI b, dc, nI (L + cur), lock, planned, ho, na, ve, de, ch, fi, ma, qu, re) := by
  refine Exists.intro 201 (xl_revert4 ?_ 200 0 (by omega))
  refine Exists.intro 201 (yl_revert4 ⟨rfl, ?_⟩ 200 0 (by omega))
  exact rl_in (rl_lock hR (pi_K_cp hR.1.2.1 lock))
end
theorem i_vc_relock {k : Nat} {u : SX} {v : SY} (I : i_Rel k u v) (hk : k + 5 ≤ 2563) (v1 : Int32) (v2 : Int32) (v3 : Int32) : wpX_relock (fun r u' => wpY_relock (fun r' v' => r' = r ∧ i_Rel (k + 5) u' v') v v1 v2 v3) u v1 v2 v3 :=
  rl_el (P := fun u v => wpX_relock (fun r u' => wpY_relock (fun r' v' => r' = r ∧ i_Rel (k + 5) u' v') v v1 v2 v3) u v1 v2 v3) I (fun nm vs rm L b c cur H N V C q dc ym lock planned ho na ve de ch fi ma qu re zr nb vb hb fb hR => rl_relock hR v1 v2 v3)
theorem i_vc_revert {k : Nat} {u : SX} {v : SY} (I : i_Rel k u v) (hk : k + 5 ≤ 2563) : wpX_revert (fun r u' => wpY_revert (fun r' v' => r' = r ∧ i_Rel (k + 5) u' v') v) u :=
  rl_el (P := fun u v => wpX_revert (fun r u' => wpY_revert (fun r' v' => r' = r ∧ i_Rel (k + 5) u' v') v) u) I (fun nm vs rm L b c cur H N V C q dc ym lock planned ho na ve de ch fi ma qu re zr nb vb hb fb hR => rl_revert hR)
end
section
/-! home, enter, up, here, look, follow, size -/
section
variable {y_names y_versions y_rooms y_nodes y_made y_cursor : Int32} {z_lock z_planned z_reach z_nameOf z_verOf z_holder z_fixed : Nat → Int32}
variable {post : Int32 → Prop} {nm vs m : Nat} {H N V : Nat → Nat} {C : Nat → Nat → Nat}
theorem yl_child0 {d n : Nat} (hY : yl_L 0 m H N V z_holder z_nameOf z_verOf) (w : ly_W nm vs m H N V C) (hnm : nm ≤ 8) (hd : d < 25) (hn : n < 8) (hp : post (mh_e 0 (C d n))) : wpY_child post (y_names, y_versions, y_rooms, y_nodes, y_made, y_cursor, z_lock, z_planned, z_reach, z_nameOf, z_verOf, z_holder, z_fixed) (nI d) (nI n) := by
  have h : wpY_child post (y_names, y_versions, y_rooms, y_nodes, y_made, y_cursor, z_lock, z_planned, z_reach, z_nameOf, z_verOf, z_holder, z_fixed) (nI (0 + d)) (nI n) := yl_child (Or.inl rfl) hY.1 hY.2.2.1 w hnm hd hn hp
  rw [Nat.zero_add] at h; exact h
theorem yl_lookup0 {i n : Nat} (hY : yl_L 0 m H N V z_holder z_nameOf z_verOf) (w : ly_W nm vs m H N V C) (hnm : nm ≤ 8) (hn : n < 8) (hi : i < m) (hp : post (mh_e 0 (ly_lk H C i n))) : wpY_lookup post (y_names, y_versions, y_rooms, y_nodes, y_made, y_cursor, z_lock, z_planned, z_reach, z_nameOf, z_verOf, z_holder, z_fixed) (nI i) (nI n) := by
  have h : wpY_lookup post (y_names, y_versions, y_rooms, y_nodes, y_made, y_cursor, z_lock, z_planned, z_reach, z_nameOf, z_verOf, z_holder, z_fixed) (nI (0 + i)) (nI n) := yl_lookup (Or.inl rfl) hY.1 hY.2.2.1 w hnm hn hi hp
  rw [Nat.zero_add] at h; exact h
theorem yl_within0 {a i : Nat} (hY : yl_L 0 m H N V z_holder z_nameOf z_verOf) (w : ly_W nm vs m H N V C) (ha : a < m) (hi : i < m) (h1 : ly_wi H a i → post 1) (h0 : ¬ ly_wi H a i → post 0) : wpY_within post (y_names, y_versions, y_rooms, y_nodes, y_made, y_cursor, z_lock, z_planned, z_reach, z_nameOf, z_verOf, z_holder, z_fixed) (nI i) (nI a) := by
  have h : wpY_within post (y_names, y_versions, y_rooms, y_nodes, y_made, y_cursor, z_lock, z_planned, z_reach, z_nameOf, z_verOf, z_holder, z_fixed) (nI (0 + i)) (nI (0 + a)) := yl_within hY.1.1 (ly_W_hd w) (by omega) w.1.2 ha hi h1 h0
  rw [Nat.zero_add, Nat.zero_add] at h; exact h
theorem yl_ownerOf0 {i : Nat} (hY : yl_L 0 m H N V z_holder z_nameOf z_verOf) (w : ly_W nm vs m H N V C) (hnm : nm ≤ 8) (hi : i < m) (hp : post (nI (ly_ow N V i))) : wpY_ownerOf post (y_names, y_versions, y_rooms, y_nodes, y_made, y_cursor, z_lock, z_planned, z_reach, z_nameOf, z_verOf, z_holder, z_fixed) (nI i) := by
  have h : wpY_ownerOf post (y_names, y_versions, y_rooms, y_nodes, y_made, y_cursor, z_lock, z_planned, z_reach, z_nameOf, z_verOf, z_holder, z_fixed) (nI (0 + i)) := yl_ownerOf hY.2.1 hY.2.2.1 hY.2.2.2 w hnm (by omega) w.1.2 hi hp
  rw [Nat.zero_add] at h; exact h
end
theorem ly_cd_b {nm vs m i : Nat} {H N V : Nat → Nat} {C : Nat → Nat → Nat} (w : ly_W nm vs m H N V C) (hnm : nm ≤ 8) (hvs : vs ≤ 3) (hi : i < m) : ly_cd H N V i < 2000 := by
  have hm := w.1.2
  by_cases h : i = 0
  · subst h; rw [ly_cd_0]; omega
  · rw [ly_cd_s h]
    have := ly_dp_le (ly_W_hd w) i hi
    obtain ⟨_, a, b, _⟩ := w.2.1 i h hi
    omega
theorem mh_e0n (j : Nat) : mh_e 0 j = if j = 0 then -1 else nI j := by
  show (if j = 0 then -1 else nI (0 + j)) = _
  rw [Nat.zero_add]
theorem mh_e0s {j : Nat} (h : j ≠ 0) : mh_e 0 j = nI j := by rw [mh_es h, Nat.zero_add]
section
variable {nm vs rm L b c cur : Nat} {H N V : Nat → Nat} {C : Nat → Nat → Nat} {q dc ym : Int32} {lock planned ho na ve de ch fi ma qu re zr nb vb hb fb : Nat → Int32}
theorem rl_cur {x : Nat} (h : rl_R nm vs rm L b c cur H N V C lock planned ho na ve de ch nb vb hb) (hx : x < c + 1) : rl_R nm vs rm L b c x H N V C lock planned ho na ve de ch nb vb hb := ⟨h.1, h.2.1, ⟨h.2.2.1.1, hx⟩, h.2.2.2⟩
theorem rl_L25 (h : rl_R nm vs rm L b c cur H N V C lock planned ho na ve de ch nb vb hb) : L ≤ 25 := by rcases h.2.1 with ⟨e, _⟩ | ⟨e, _⟩ <;> omega
theorem xl_code {post : Int32 → Prop} {i : Nat} {f9 : Int32} (h : rl_R nm vs rm L b c cur H N V C lock planned ho na ve de ch nb vb hb) (hi : i < c + 1) (hp : post (nI (ly_cd H N V i))) : wpX_codeOf post (nI nm, nI vs, nI rm, q, nI L, nI c, nI b, dc, f9, lock, planned, ho, na, ve, de, ch, fi, ma, qu, re) (nI (L + i)) := by
  have hL := h.2.2.2.1
  exact xl_codeOf hL.1 hL.2.1 hL.2.2.1 hL.2.2.2.1 (ly_W_hd h.2.2.1.1) (rl_L25 h) h.2.2.1.1.1.2 hi hp
theorem xl_look {post : Int32 → Prop} {i n : Nat} (h : rl_R nm vs rm L b c cur H N V C lock planned ho na ve de ch nb vb hb) (hi : i < c + 1) (hn : n < nm) (hp : post (mh_e L (ly_lk H C i n))) : wpX_lookup post (nI nm, nI vs, nI rm, q, nI L, nI c, nI b, dc, nI (L + cur), lock, planned, ho, na, ve, de, ch, fi, ma, qu, re) (nI (L + i)) (nI n) := by
  have hL := h.2.2.2.1
  have hnm := h.1.1.1.1.2
  exact xl_lookup hL.1 hL.2.2.2.2.2 (ly_W_hd h.2.2.1.1) (ly_W_b h.2.2.1.1) (rl_L25 h) h.2.2.1.1.1.2 (by omega) hi hp
theorem yl_code1 {post : Int32 → Prop} {i : Nat} {f6 : Int32} (h : rl_R nm vs rm L b c cur H N V C lock planned ho na ve de ch nb vb hb) (hi : i < c + 1) (hp : post (nI (ly_cd H N V i))) : wpY_code post (nI nm, nI vs, nI rm, nI (c + 1), ym, f6, lock, planned, zr, nb, vb, hb, fb) (nI i) := by
  have hY := h.2.2.2.2.2
  exact yl_code hY.1.1 hY.2.2.1 hY.2.2.2 (ly_W_hd h.2.2.1.1) h.2.2.1.1.1.2 hi hp
theorem rl_home {k : Nat} (hR : rl_R nm vs rm L b c cur H N V C lock planned ho na ve de ch nb vb hb) : wpX_home (fun u' => wpY_home (fun v' => i_Rel (k + 5) u' v') (nI nm, nI vs, nI rm, nI (c + 1), ym, nI cur, lock, planned, zr, nb, vb, hb, fb)) (nI nm, nI vs, nI rm, q, nI L, nI c, nI b, dc, nI (L + cur), lock, planned, ho, na, ve, de, ch, fi, ma, qu, re) := rl_in (k := k + 5) (rl_cur (x := 0) hR (by omega))
theorem rl_here {k : Nat} (hR : rl_R nm vs rm L b c cur H N V C lock planned ho na ve de ch nb vb hb) : wpX_here (fun r => wpY_here (fun r' => r' = r ∧ i_Rel (k + 5) (nI nm, nI vs, nI rm, q, nI L, nI c, nI b, dc, nI (L + cur), lock, planned, ho, na, ve, de, ch, fi, ma, qu, re) (nI nm, nI vs, nI rm, nI (c + 1), ym, nI cur, lock, planned, zr, nb, vb, hb, fb)) (nI nm, nI vs, nI rm, nI (c + 1), ym, nI cur, lock, planned, zr, nb, vb, hb, fb)) (nI nm, nI vs, nI rm, q, nI L, nI c, nI b, dc, nI (L + cur), lock, planned, ho, na, ve, de, ch, fi, ma, qu, re) := by
  have hc := hR.2.2.1.2
  unfold wpX_here
  dsimp only
  refine xl_code hR hc ?_
  unfold wpY_here
  dsimp only
  exact yl_code1 hR hc ⟨rfl, rl_in hR⟩
theorem rl_size {k : Nat} (hR : rl_R nm vs rm L b c cur H N V C lock planned ho na ve de ch nb vb hb) : wpX_size (fun r => wpY_size (fun r' => r' = r ∧ i_Rel (k + 5) (nI nm, nI vs, nI rm, q, nI L, nI c, nI b, dc, nI (L + cur), lock, planned, ho, na, ve, de, ch, fi, ma, qu, re) (nI nm, nI vs, nI rm, nI (c + 1), ym, nI cur, lock, planned, zr, nb, vb, hb, fb)) (nI nm, nI vs, nI rm, nI (c + 1), ym, nI cur, lock, planned, zr, nb, vb, hb, fb)) (nI nm, nI vs, nI rm, q, nI L, nI c, nI b, dc, nI (L + cur), lock, planned, ho, na, ve, de, ch, fi, ma, qu, re) := ⟨nI_pred c, rl_in hR⟩
theorem rl_up {k : Nat} (hR : rl_R nm vs rm L b c cur H N V C lock planned ho na ve de ch nb vb hb) : wpX_up (fun r u' => wpY_up (fun r' v' => r' = r ∧ i_Rel (k + 5) u' v') (nI nm, nI vs, nI rm, nI (c + 1), ym, nI cur, lock, planned, zr, nb, vb, hb, fb)) (nI nm, nI vs, nI rm, q, nI L, nI c, nI b, dc, nI (L + cur), lock, planned, ho, na, ve, de, ch, fi, ma, qu, re) := by
  have hc := hR.2.2.1.2
  have w := hR.2.2.1.1
  have hm := w.1.2
  have hL25 := rl_L25 hR
  by_cases z : cur = 0
  · subst z
    exact br_t rfl (br_t rfl ⟨rfl, rl_in hR⟩)
  · have hl := ly_W_hd w cur z hc
    have e1 := hR.2.2.2.1.1.2 cur z hc
    have e2 := hR.2.2.2.2.2.1.1.2 cur z hc
    rw [Nat.zero_add, Nat.zero_add] at e2
    refine br_f (fun y => z (by have := (nI_eq (by omega) (by omega)).mp y; omega)) ⟨vp_in_nI (by omega) (by decide), nm_r (e' := nI (L + H cur)) (by rw [nI_clamp (by omega)]; exact e1) ?_⟩
    refine br_f (nI_ne0 (by omega) (by omega)) ⟨vp_in_nI (by omega) (by decide), nm_r (e' := nI (H cur)) (by rw [nI_clamp (by omega)]; exact e2) ?_⟩
    exact ⟨rfl, rl_in (rl_cur hR (by omega))⟩
theorem rl_enter {k : Nat} (hR : rl_R nm vs rm L b c cur H N V C lock planned ho na ve de ch nb vb hb) (v1 : Int32) : wpX_enter (fun r u' => wpY_enter (fun r' v' => r' = r ∧ i_Rel (k + 5) u' v') (nI nm, nI vs, nI rm, nI (c + 1), ym, nI cur, lock, planned, zr, nb, vb, hb, fb) v1) (nI nm, nI vs, nI rm, q, nI L, nI c, nI b, dc, nI (L + cur), lock, planned, ho, na, ve, de, ch, fi, ma, qu, re) v1 := by
  have hc := hR.2.2.1.2
  have w := hR.2.2.1.1
  have hm := w.1.2
  have hL25 := rl_L25 hR
  have hnm := hR.1.1.1.1.2
  have same : i_Rel (k + 5) (nI nm, nI vs, nI rm, q, nI L, nI c, nI b, dc, nI (L + cur), lock, planned, ho, na, ve, de, ch, fi, ma, qu, re) (nI nm, nI vs, nI rm, nI (c + 1), ym, nI cur, lock, planned, zr, nb, vb, hb, fb) := rl_in hR
  unfold wpX_enter
  dsimp only
  rcases ar_ix v1 (n := nm) (by omega) with h1 | ⟨n, h1, e1⟩
  · refine xl_gn0 h1 (br_t rfl ?_)
    unfold wpY_enter
    dsimp only
    exact yl_gn0 h1 (br_t rfl ⟨rfl, same⟩)
  · subst e1
    have hCv := ly_W_b w cur n
    refine xl_gn1 h1 hnm (br_f mh_10 ?_)
    rw [mh_ix, nI_clamp (by omega), hR.2.2.2.1.2.2.2.2.2 cur n (by omega) (by omega)]
    refine ⟨vp_in_nI (by omega) (by decide), nm_e (mh_bp (by omega) (fun z => ?_) (fun z => ?_))⟩
    · have hlt := (w.2.2 cur n z).1
      rw [mh_es z]
      refine xl_code hR hlt ?_
      unfold wpY_enter
      dsimp only
      refine yl_gn1 h1 hnm (br_f mh_10 (yl_child0 hR.2.2.2.2.2 w hnm (by omega) (by omega) (mh_bp (by omega) (fun _ => ?_) (fun y => absurd y z))))
      rw [mh_e0s z]
      exact yl_code1 hR hlt ⟨rfl, rl_in (rl_cur hR hlt)⟩
    · unfold wpY_enter
      dsimp only
      exact yl_gn1 h1 hnm (br_f mh_10 (yl_child0 hR.2.2.2.2.2 w hnm (by omega) (by omega) (mh_bp (by omega) (fun y => absurd z y) (fun _ => ⟨rfl, same⟩))))
theorem yl_look1 {post : Int32 → Prop} {n : Nat} (hR : rl_R nm vs rm L b c cur H N V C lock planned ho na ve de ch nb vb hb) (hn : n < nm) (h1 : ly_lk H C cur n ≠ 0 → post (nI (ly_cd H N V (ly_lk H C cur n)))) (h0 : ly_lk H C cur n = 0 → post (-1)) : wpY_look post (nI nm, nI vs, nI rm, nI (c + 1), ym, nI cur, lock, planned, zr, nb, vb, hb, fb) (nI n) := by
  have hc := hR.2.2.1.2
  have w := hR.2.2.1.1
  have hm := w.1.2
  have hnm := hR.1.1.1.1.2
  have hl := ly_W_lk w cur n
  unfold wpY_look
  dsimp only
  refine yl_gn1 hn hnm (br_f mh_10 (yl_lookup0 hR.2.2.2.2.2 w hnm (by omega) hc (mh_bp (by omega) (fun z => ?_) h0)))
  rw [mh_e0s z]
  exact yl_code1 hR hl (h1 z)
theorem yl_look0 {post : Int32 → Prop} {x : Int32} (h : ar_bad x nm) (hp : post (-3)) : wpY_look post (nI nm, nI vs, nI rm, nI (c + 1), ym, nI cur, lock, planned, zr, nb, vb, hb, fb) x := by
  unfold wpY_look
  dsimp only
  exact yl_gn0 h (br_t rfl hp)
theorem rl_look {k : Nat} (hR : rl_R nm vs rm L b c cur H N V C lock planned ho na ve de ch nb vb hb) (v1 : Int32) : wpX_look (fun r => wpY_look (fun r' => r' = r ∧ i_Rel (k + 5) (nI nm, nI vs, nI rm, q, nI L, nI c, nI b, dc, nI (L + cur), lock, planned, ho, na, ve, de, ch, fi, ma, qu, re) (nI nm, nI vs, nI rm, nI (c + 1), ym, nI cur, lock, planned, zr, nb, vb, hb, fb)) (nI nm, nI vs, nI rm, nI (c + 1), ym, nI cur, lock, planned, zr, nb, vb, hb, fb) v1) (nI nm, nI vs, nI rm, q, nI L, nI c, nI b, dc, nI (L + cur), lock, planned, ho, na, ve, de, ch, fi, ma, qu, re) v1 := by
  have hc := hR.2.2.1.2
  have w := hR.2.2.1.1
  have hm := w.1.2
  have hL25 := rl_L25 hR
  have hnm := hR.1.1.1.1.2
  have same : i_Rel (k + 5) (nI nm, nI vs, nI rm, q, nI L, nI c, nI b, dc, nI (L + cur), lock, planned, ho, na, ve, de, ch, fi, ma, qu, re) (nI nm, nI vs, nI rm, nI (c + 1), ym, nI cur, lock, planned, zr, nb, vb, hb, fb) := rl_in hR
  unfold wpX_look
  dsimp only
  rcases ar_ix v1 (n := nm) (by omega) with h1 | ⟨n, h1, e1⟩
  · exact xl_gn0 h1 (br_t rfl (yl_look0 h1 ⟨rfl, same⟩))
  · subst e1
    have hl := ly_W_lk w cur n
    refine xl_gn1 h1 hnm (br_f mh_10 (xl_look hR hc h1 (mh_bp (by omega) (fun z => ?_) (fun z => ?_))))
    · rw [mh_es z]
      exact xl_code hR hl (yl_look1 hR h1 (fun _ => ⟨rfl, same⟩) (fun y => absurd y z))
    · exact yl_look1 hR h1 (fun y => absurd z y) (fun _ => ⟨rfl, same⟩)
theorem rl_follow {k : Nat} (hR : rl_R nm vs rm L b c cur H N V C lock planned ho na ve de ch nb vb hb) (v1 : Int32) : wpX_follow (fun r u' => wpY_follow (fun r' v' => r' = r ∧ i_Rel (k + 5) u' v') (nI nm, nI vs, nI rm, nI (c + 1), ym, nI cur, lock, planned, zr, nb, vb, hb, fb) v1) (nI nm, nI vs, nI rm, q, nI L, nI c, nI b, dc, nI (L + cur), lock, planned, ho, na, ve, de, ch, fi, ma, qu, re) v1 := by
  have hc := hR.2.2.1.2
  have w := hR.2.2.1.1
  have hm := w.1.2
  have hL25 := rl_L25 hR
  have hnm := hR.1.1.1.1.2
  have hvs := hR.1.1.1.2.2
  have same : i_Rel (k + 5) (nI nm, nI vs, nI rm, q, nI L, nI c, nI b, dc, nI (L + cur), lock, planned, ho, na, ve, de, ch, fi, ma, qu, re) (nI nm, nI vs, nI rm, nI (c + 1), ym, nI cur, lock, planned, zr, nb, vb, hb, fb) := rl_in hR
  unfold wpX_follow
  dsimp only
  rcases ar_ix v1 (n := nm) (by omega) with h1 | ⟨n, h1, e1⟩
  · refine xl_gn0 h1 (br_t rfl ?_)
    unfold wpY_follow
    dsimp only
    exact yl_look0 h1 (br_t (by decide) ⟨rfl, same⟩)
  · subst e1
    have hl := ly_W_lk w cur n
    refine xl_gn1 h1 hnm (br_f mh_10 (xl_look hR hc h1 (mh_bp (by omega) (fun z => ?_) (fun z => ?_))))
    · rw [mh_es z]
      refine xl_code hR hl ?_
      unfold wpY_follow
      dsimp only
      refine yl_look1 hR h1 (fun _ => ?_) (fun y => absurd y z)
      have hcd := ly_cd_b w hnm hvs hl
      refine br_f (nI_pos (by omega)) (yl_lookup0 hR.2.2.2.2.2 w hnm (by omega) hc ?_)
      rw [mh_e0s z]
      exact ⟨rfl, rl_in (rl_cur hR hl)⟩
    · unfold wpY_follow
      dsimp only
      exact yl_look1 hR h1 (fun y => absurd z y) (fun _ => br_t mh_m1 ⟨rfl, same⟩)
end
theorem i_vc_home {k : Nat} {u : SX} {v : SY} (I : i_Rel k u v) (hk : k + 5 ≤ 2563) : wpX_home (fun u' => wpY_home (fun v' => i_Rel (k + 5) u' v') v) u :=
  rl_el (P := fun u v => wpX_home (fun u' => wpY_home (fun v' => i_Rel (k + 5) u' v') v) u) I (fun nm vs rm L b c cur H N V C q dc ym lock planned ho na ve de ch fi ma qu re zr nb vb hb fb hR => rl_home hR)
theorem i_vc_enter {k : Nat} {u : SX} {v : SY} (I : i_Rel k u v) (hk : k + 5 ≤ 2563) (v1 : Int32) : wpX_enter (fun r u' => wpY_enter (fun r' v' => r' = r ∧ i_Rel (k + 5) u' v') v v1) u v1 :=
  rl_el (P := fun u v => wpX_enter (fun r u' => wpY_enter (fun r' v' => r' = r ∧ i_Rel (k + 5) u' v') v v1) u v1) I (fun nm vs rm L b c cur H N V C q dc ym lock planned ho na ve de ch fi ma qu re zr nb vb hb fb hR => rl_enter hR v1)
theorem i_vc_up {k : Nat} {u : SX} {v : SY} (I : i_Rel k u v) (hk : k + 5 ≤ 2563) : wpX_up (fun r u' => wpY_up (fun r' v' => r' = r ∧ i_Rel (k + 5) u' v') v) u :=
  rl_el (P := fun u v => wpX_up (fun r u' => wpY_up (fun r' v' => r' = r ∧ i_Rel (k + 5) u' v') v) u) I (fun nm vs rm L b c cur H N V C q dc ym lock planned ho na ve de ch fi ma qu re zr nb vb hb fb hR => rl_up hR)
theorem i_vc_here {k : Nat} {u : SX} {v : SY} (I : i_Rel k u v) (hk : k + 5 ≤ 2563) : wpX_here (fun r => wpY_here (fun r' => r' = r ∧ i_Rel (k + 5) u v) v) u :=
  rl_el (P := fun u v => wpX_here (fun r => wpY_here (fun r' => r' = r ∧ i_Rel (k + 5) u v) v) u) I (fun nm vs rm L b c cur H N V C q dc ym lock planned ho na ve de ch fi ma qu re zr nb vb hb fb hR => rl_here hR)
theorem i_vc_look {k : Nat} {u : SX} {v : SY} (I : i_Rel k u v) (hk : k + 5 ≤ 2563) (v1 : Int32) : wpX_look (fun r => wpY_look (fun r' => r' = r ∧ i_Rel (k + 5) u v) v v1) u v1 :=
  rl_el (P := fun u v => wpX_look (fun r => wpY_look (fun r' => r' = r ∧ i_Rel (k + 5) u v) v v1) u v1) I (fun nm vs rm L b c cur H N V C q dc ym lock planned ho na ve de ch fi ma qu re zr nb vb hb fb hR => rl_look hR v1)
theorem i_vc_follow {k : Nat} {u : SX} {v : SY} (I : i_Rel k u v) (hk : k + 5 ≤ 2563) (v1 : Int32) : wpX_follow (fun r u' => wpY_follow (fun r' v' => r' = r ∧ i_Rel (k + 5) u' v') v v1) u v1 :=
  rl_el (P := fun u v => wpX_follow (fun r u' => wpY_follow (fun r' v' => r' = r ∧ i_Rel (k + 5) u' v') v v1) u v1) I (fun nm vs rm L b c cur H N V C q dc ym lock planned ho na ve de ch fi ma qu re zr nb vb hb fb hR => rl_follow hR v1)
theorem i_vc_size {k : Nat} {u : SX} {v : SY} (I : i_Rel k u v) (hk : k + 5 ≤ 2563) : wpX_size (fun r => wpY_size (fun r' => r' = r ∧ i_Rel (k + 5) u v) v) u :=
  rl_el (P := fun u v => wpX_size (fun r => wpY_size (fun r' => r' = r ∧ i_Rel (k + 5) u v) v) u) I (fun nm vs rm L b c cur H N V C q dc ym lock planned ho na ve de ch fi ma qu re zr nb vb hb fb hR => rl_size hR)
end
section
/-! shadowed, dependents, copies -/
def sh_2 (planned : Nat → Int32) (H N V : Nat → Nat) (C : Nat → Nat → Nat) (cur n i : Nat) : Prop :=
  planned (ly_ow N V i * 8 + n) ≠ -1 ∧ ly_lk H C i n ≠ 0 ∧ ¬ (ly_lk H C i n ≠ 0 ∧ ly_wi H cur (H (ly_lk H C i n)))
def sh_P (planned : Nat → Int32) (H N V : Nat → Nat) (C : Nat → Nat → Nat) (cur n i : Nat) : Prop := ly_wi H cur i ∧ sh_2 planned H N V C cur n i
def dp_P (planned : Nat → Int32) (H N V : Nat → Nat) (C : Nat → Nat → Nat) (cur n i : Nat) : Prop := planned (ly_ow N V i * 8 + n) ≠ -1 ∧ ly_lk H C i n = cur
def co_P (N V : Nat → Nat) (n v i : Nat) : Prop := i ≠ 0 ∧ N i = n ∧ V i = v
section
variable {nm vs rm L b c cur : Nat} {H N V : Nat → Nat} {C : Nat → Nat → Nat} {q dc ym : Int32} {lock planned ho na ve de ch fi ma qu re zr nb vb hb fb : Nat → Int32}
theorem rl_ow (h : rl_R nm vs rm L b c cur H N V C lock planned ho na ve de ch nb vb hb) {i : Nat} (hi : i < c + 1) : ly_ow N V i < 25 := ly_ow_lt h.2.2.1.1 h.1.1.1.1.2 h.1.1.1.2.2 hi
theorem xl_hasP {post : Int32 → Prop} {i n : Nat} (h : rl_R nm vs rm L b c cur H N V C lock planned ho na ve de ch nb vb hb) (hi : i < c + 1) (hn : n < nm) (h1 : planned (ly_ow N V i * 8 + n) ≠ -1 → post 1) (h0 : planned (ly_ow N V i * 8 + n) = -1 → post 0) : wpX_hasPlannedEdge post (nI nm, nI vs, nI rm, q, nI L, nI c, nI b, dc, nI (L + cur), lock, planned, ho, na, ve, de, ch, fi, ma, qu, re) (nI (L + i)) (nI n) := by
  have hL := h.2.2.2.1
  have ow := rl_ow h hi
  have hnm := h.1.1.1.1.2
  unfold wpX_hasPlannedEdge
  dsimp only
  refine xl_ownerOf hL.1 hL.2.1 hL.2.2.1 (ly_W_hd h.2.2.1.1) (rl_L25 h) h.2.2.1.1.1.2 hi ?_
  rw [mh_ix, nI_clamp (by omega)]
  exact ⟨vp_in_nI (by omega) (by decide), br_c h0 h1⟩
theorem xl_below {post : Int32 → Prop} {i : Nat} (h : rl_R nm vs rm L b c cur H N V C lock planned ho na ve de ch nb vb hb) (hi : i < c + 1) (h1 : (i ≠ 0 ∧ ly_wi H cur (H i)) → post 1) (h0 : ¬ (i ≠ 0 ∧ ly_wi H cur (H i)) → post 0) : wpX_isBelow post (nI nm, nI vs, nI rm, q, nI L, nI c, nI b, dc, nI (L + cur), lock, planned, ho, na, ve, de, ch, fi, ma, qu, re) (nI (L + i)) (nI (L + cur)) := by
  have hL := h.2.2.2.1
  exact xl_isBelow hL.1 (ly_W_hd h.2.2.1.1) (rl_L25 h) h.2.2.1.1.1.2 h.2.2.1.2 hi h1 h0
theorem xl_past {post : Int32 → Prop} {i n : Nat} (h : rl_R nm vs rm L b c cur H N V C lock planned ho na ve de ch nb vb hb) (hi : i < c + 1) (hn : n < nm) (h1 : sh_2 planned H N V C cur n i → post 1) (h0 : ¬ sh_2 planned H N V C cur n i → post 0) : wpX_looksPastCursor post (nI nm, nI vs, nI rm, q, nI L, nI c, nI b, dc, nI (L + cur), lock, planned, ho, na, ve, de, ch, fi, ma, qu, re) (nI (L + i)) (nI n) := by
  have w := h.2.2.1.1
  have hm := w.1.2
  have hl := ly_W_lk w i n
  have hL25 := rl_L25 h
  unfold wpX_looksPastCursor
  dsimp only
  refine xl_hasP h hi hn (fun z => br_f mh_10 ?_) (fun z => br_t rfl (h0 (fun y => y.1 z)))
  refine xl_look h hi hn (mh_br (by omega) (fun y => h0 (fun x => x.2.1 y)) (fun y => ?_))
  rw [mh_es y]
  exact xl_below h hl (fun x => br_f mh_10 (h0 (fun t => t.2.2 x))) (fun x => br_t rfl (h1 ⟨z, y, x⟩))
theorem xl_shad15 {post : Int32 → Prop} {n : Nat} (h : rl_R nm vs rm L b c cur H N V C lock planned ho na ve de ch nb vb hb) (hn : n < nm) (hp : post (nI (mh_ct (sh_P planned H N V C cur n) (c + 1)))) :
    ∀ g i, i + g = c + 1 → wX_shadowed_15 post (nI n) (nI nm) (nI vs) (nI rm) q (nI L) (nI c) (nI b) dc (nI (L + cur)) lock planned ho na ve de ch fi ma qu re (g + 1) (nI (mh_ct (sh_P planned H N V C cur n) i)) (nI i) := by
  have w := h.2.2.1.1
  have hm := w.1.2
  have hL25 := rl_L25 h
  have hcur := h.2.2.1.2
  intro g
  induction g with
  | zero =>
    intro i hi
    obtain rfl : i = c + 1 := by omega
    exact br_t (nI_lt (by omega) (by omega)) hp
  | succ g ih =>
    intro i hi
    have hnx := ih (i + 1) (by omega)
    have hw := ly_wi_e (a := cur) (ly_W_hd w) (i := i) (by omega)
    have h58 : ly_wi H cur i → wX_shadowed_58 post (wX_shadowed_15 post (nI n) (nI nm) (nI vs) (nI rm) q (nI L) (nI c) (nI b) dc (nI (L + cur)) lock planned ho na ve de ch fi ma qu re (g + 1)) (nI n) (nI (mh_ct (sh_P planned H N V C cur n) i)) (nI i) (nI (L + i)) 1 (nI nm) (nI vs) (nI rm) q (nI L) (nI c) (nI b) dc (nI (L + cur)) lock planned ho na ve de ch fi ma qu re := by
      intro hwi
      refine br_f mh_10 (xl_past h (by omega) hn (fun z => br_f mh_10 ?_) (fun z => br_t rfl ?_))
      · rw [mh_ct_p (show sh_P planned H N V C cur n i from ⟨hwi, z⟩)] at hnx
        exact nm_r (nI_1 _) (nm_r (nI_1 _) hnx)
      · rw [mh_ct_n (show ¬ sh_P planned H N V C cur n i from fun y => z y.2)] at hnx
        exact nm_r (nI_1 _) hnx
    refine br_f (nI_nlt (by omega) (by omega)) (nm_r (nI_add L i) (pk_eq (L + i) (L + cur) (fun e => ?_) (fun e => ?_)))
    · exact h58 (hw.mpr (Or.inl (by omega)))
    · refine xl_below h (by omega) (fun y => br_f mh_10 (h58 (hw.mpr (Or.inr y)))) (fun y => br_t rfl (br_t rfl ?_))
      rw [mh_ct_n (show ¬ sh_P planned H N V C cur n i from fun x => (hw.mp x.1).elim (fun t => e (by omega)) y)] at hnx
      exact nm_r (nI_1 _) hnx
theorem yl_shad15 {post : Int32 → Prop} {n : Nat} (h : rl_R nm vs rm L b c cur H N V C lock planned ho na ve de ch nb vb hb) (hn : n < nm) (hp : post (nI (mh_ct (sh_P planned H N V C cur n) (c + 1)))) :
    ∀ g i, i + g = c + 1 → wY_shadowed_15 post (nI n) (nI nm) (nI vs) (nI rm) (nI (c + 1)) ym (nI cur) lock planned zr nb vb hb fb (g + 1) (nI (mh_ct (sh_P planned H N V C cur n) i)) (nI i) := by
  have w := h.2.2.1.1
  have hcur := h.2.2.1.2
  have hm := w.1.2
  have hnm := h.1.1.1.1.2
  have hY := h.2.2.2.2.2
  have hd := ly_W_hd w
  intro g
  induction g with
  | zero =>
    intro i hi
    obtain rfl : i = c + 1 := by omega
    exact br_c (fun _ => hp) (fun _ => br_t (nI_le (Nat.le_refl _) (by omega)) hp)
  | succ g ih =>
    intro i hi
    have hnx := ih (i + 1) (by omega)
    have ow := rl_ow h (i := i) (by omega)
    have hl := ly_W_lk w i n
    have yes : sh_P planned H N V C cur n i → wY_shadowed_15 post (nI n) (nI nm) (nI vs) (nI rm) (nI (c + 1)) ym (nI cur) lock planned zr nb vb hb fb (g + 1) (nI (mh_ct (sh_P planned H N V C cur n) i + 1)) (nI (i + 1)) := fun z => by
      rw [mh_ct_p z] at hnx; exact hnx
    have no : ¬ sh_P planned H N V C cur n i → wY_shadowed_15 post (nI n) (nI nm) (nI vs) (nI rm) (nI (c + 1)) ym (nI cur) lock planned zr nb vb hb fb (g + 1) (nI (mh_ct (sh_P planned H N V C cur n) i)) (nI (i + 1)) := fun z => by
      rw [mh_ct_n z] at hnx; exact hnx
    refine br_f (nI_ge (b := 25) (by omega) (by omega)) (br_f (nI_ge (by omega) (by omega)) ?_)
    refine yl_ownerOf0 hY w hnm (by omega) ?_
    rw [mh_ix, nI_clamp (by omega)]
    refine yl_lookup0 hY w hnm (by omega) (by omega) ?_
    refine yl_within0 hY w hcur (by omega) (fun z1 => br_f mh_10 ⟨vp_in_nI (by omega) (by decide), br_c (fun z2 => ?_) (fun z2 => ?_)⟩) (fun z1 => br_t rfl ?_)
    · exact nm_r (nI_1 _) (no (fun y => y.2.1 z2))
    · refine mh_bp (by omega) (fun z3 => ?_) (fun z3 => nm_r (nI_1 _) (no (fun y => y.2.2.1 z3)))
      have hwl := ly_wi_e (a := cur) hd hl
      rw [mh_e0s z3]
      refine pk_eq (ly_lk H C i n) cur (fun e => ?_) (fun e => ?_)
      · refine nm_r (nI_1 _) (nm_r (nI_1 _) (yes ⟨z1, z2, z3, fun y => ?_⟩))
        have a := hd _ z3 hl
        have bb := ly_wi_le hd (H (ly_lk H C i n)) (by omega) y.2
        omega
      · refine yl_within0 hY w hcur hl (fun y => br_f mh_10 (nm_r (nI_1 _) (no (fun x => x.2.2.2 ((hwl.mp y).resolve_left e))))) (fun y => br_t rfl (nm_r (nI_1 _) (nm_r (nI_1 _) (yes ⟨z1, z2, z3, fun x => y (hwl.mpr (Or.inr x))⟩))))
    · exact nm_r (nI_1 _) (no (fun y => z1 y.1))
theorem rl_shadowed {k : Nat} (hR : rl_R nm vs rm L b c cur H N V C lock planned ho na ve de ch nb vb hb) (v1 : Int32) : wpX_shadowed (fun r => wpY_shadowed (fun r' => r' = r ∧ i_Rel (k + 5) (nI nm, nI vs, nI rm, q, nI L, nI c, nI b, dc, nI (L + cur), lock, planned, ho, na, ve, de, ch, fi, ma, qu, re) (nI nm, nI vs, nI rm, nI (c + 1), ym, nI cur, lock, planned, zr, nb, vb, hb, fb)) (nI nm, nI vs, nI rm, nI (c + 1), ym, nI cur, lock, planned, zr, nb, vb, hb, fb) v1) (nI nm, nI vs, nI rm, q, nI L, nI c, nI b, dc, nI (L + cur), lock, planned, ho, na, ve, de, ch, fi, ma, qu, re) v1 := by
  have hnm := hR.1.1.1.1.2
  have same : i_Rel (k + 5) (nI nm, nI vs, nI rm, q, nI L, nI c, nI b, dc, nI (L + cur), lock, planned, ho, na, ve, de, ch, fi, ma, qu, re) (nI nm, nI vs, nI rm, nI (c + 1), ym, nI cur, lock, planned, zr, nb, vb, hb, fb) := rl_in hR
  unfold wpX_shadowed
  dsimp only
  rcases ar_ix v1 (n := nm) (by omega) with h1 | ⟨n, h1, e1⟩
  · refine xl_gn0 h1 (br_t rfl ?_)
    unfold wpY_shadowed
    dsimp only
    exact yl_gn0 h1 (br_t rfl ⟨rfl, same⟩)
  · subst e1
    refine xl_gn1 h1 hnm (br_f mh_10 ⟨c + 1 + 1, xl_shad15 hR h1 ?_ (c + 1) 0 (by omega)⟩)
    unfold wpY_shadowed
    dsimp only
    exact yl_gn1 h1 hnm (br_f mh_10 ⟨c + 1 + 1, yl_shad15 hR h1 ⟨rfl, same⟩ (c + 1) 0 (by omega)⟩)
theorem xl_dep27 {post : Int32 → Prop} {n : Nat} (h : rl_R nm vs rm L b c cur H N V C lock planned ho na ve de ch nb vb hb) (hn : n < nm) (h0 : cur ≠ 0) (hp : post (nI (mh_ct (dp_P planned H N V C cur n) (c + 1)))) :
    ∀ g i, i + g = c + 1 → wX_dependents_27 post (nI n) (nI nm) (nI vs) (nI rm) q (nI L) (nI c) (nI b) dc (nI (L + cur)) lock planned ho na ve de ch fi ma qu re (g + 1) (nI (mh_ct (dp_P planned H N V C cur n) i)) (nI i) := by
  have w := h.2.2.1.1
  have hcur := h.2.2.1.2
  have hm := w.1.2
  have hL25 := rl_L25 h
  intro g
  induction g with
  | zero =>
    intro i hi
    obtain rfl : i = c + 1 := by omega
    exact br_t (nI_lt (by omega) (by omega)) hp
  | succ g ih =>
    intro i hi
    have hnx := ih (i + 1) (by omega)
    have hl := ly_W_lk w i n
    refine br_f (nI_nlt (by omega) (by omega)) (nm_r (nI_add L i) (xl_hasP h (by omega) hn (fun z => br_f mh_10 (xl_look h (by omega) hn (mh_bj (by omega) (by omega) h0 (fun e => ?_) (fun e => ?_)))) (fun z => br_t rfl ?_)))
    · rw [mh_ct_p (show dp_P planned H N V C cur n i from ⟨z, e⟩)] at hnx
      exact nm_r (nI_1 _) (nm_r (nI_1 _) hnx)
    · rw [mh_ct_n (show ¬ dp_P planned H N V C cur n i from fun y => e y.2)] at hnx
      exact nm_r (nI_1 _) hnx
    · rw [mh_ct_n (show ¬ dp_P planned H N V C cur n i from fun y => y.1 z)] at hnx
      exact nm_r (nI_1 _) hnx
theorem yl_dep23 {post : Int32 → Prop} {n : Nat} (h : rl_R nm vs rm L b c cur H N V C lock planned ho na ve de ch nb vb hb) (hn : n < nm) (h0 : cur ≠ 0) (hp : post (nI (mh_ct (dp_P planned H N V C cur n) (c + 1)))) :
    ∀ g i, i + g = c + 1 → wY_dependents_23 post (nI n) (nI nm) (nI vs) (nI rm) (nI (c + 1)) ym (nI cur) lock planned zr nb vb hb fb (g + 1) (nI (mh_ct (dp_P planned H N V C cur n) i)) (nI i) := by
  have w := h.2.2.1.1
  have hcur := h.2.2.1.2
  have hm := w.1.2
  have hnm := h.1.1.1.1.2
  have hY := h.2.2.2.2.2
  have e0 : mh_e 0 cur = nI cur := mh_e0s h0
  intro g
  induction g with
  | zero =>
    intro i hi
    obtain rfl : i = c + 1 := by omega
    exact br_c (fun _ => hp) (fun _ => br_t (nI_le (Nat.le_refl _) (by omega)) hp)
  | succ g ih =>
    intro i hi
    have hnx := ih (i + 1) (by omega)
    have ow := rl_ow h (i := i) (by omega)
    have hl := ly_W_lk w i n
    refine br_f (nI_ge (b := 25) (by omega) (by omega)) (br_f (nI_ge (by omega) (by omega)) ?_)
    refine yl_ownerOf0 hY w hnm (by omega) ?_
    rw [mh_ix, nI_clamp (by omega)]
    refine ⟨vp_in_nI (by omega) (by decide), br_c (fun z => ?_) (fun z => ?_)⟩
    · rw [mh_ct_n (show ¬ dp_P planned H N V C cur n i from fun y => y.1 z)] at hnx
      exact nm_r (nI_1 _) hnx
    · refine yl_lookup0 hY w hnm (by omega) (by omega) ?_
      rw [← e0]
      refine mh_bi (by omega) (by omega) (fun e => ?_) (fun e => ?_)
      · rw [mh_ct_p (show dp_P planned H N V C cur n i from ⟨z, e⟩), ] at hnx
        rw [e0]
        exact nm_r (nI_1 _) (nm_r (nI_1 _) hnx)
      · rw [mh_ct_n (show ¬ dp_P planned H N V C cur n i from fun y => e y.2)] at hnx
        rw [e0]
        exact nm_r (nI_1 _) hnx
theorem rl_dependents {k : Nat} (hR : rl_R nm vs rm L b c cur H N V C lock planned ho na ve de ch nb vb hb) : wpX_dependents (fun r => wpY_dependents (fun r' => r' = r ∧ i_Rel (k + 5) (nI nm, nI vs, nI rm, q, nI L, nI c, nI b, dc, nI (L + cur), lock, planned, ho, na, ve, de, ch, fi, ma, qu, re) (nI nm, nI vs, nI rm, nI (c + 1), ym, nI cur, lock, planned, zr, nb, vb, hb, fb)) (nI nm, nI vs, nI rm, nI (c + 1), ym, nI cur, lock, planned, zr, nb, vb, hb, fb)) (nI nm, nI vs, nI rm, q, nI L, nI c, nI b, dc, nI (L + cur), lock, planned, ho, na, ve, de, ch, fi, ma, qu, re) := by
  have hnm := hR.1.1.1.1.2
  have w := hR.2.2.1.1
  have hcur := hR.2.2.1.2
  have hm := w.1.2
  have hL25 := rl_L25 hR
  have same : i_Rel (k + 5) (nI nm, nI vs, nI rm, q, nI L, nI c, nI b, dc, nI (L + cur), lock, planned, ho, na, ve, de, ch, fi, ma, qu, re) (nI nm, nI vs, nI rm, nI (c + 1), ym, nI cur, lock, planned, zr, nb, vb, hb, fb) := rl_in hR
  by_cases z : cur = 0
  · subst z
    exact br_t rfl (br_t rfl ⟨rfl, same⟩)
  · have hN := (w.2.1 cur z hcur).2.1
    have e1 := hR.2.2.2.1.2.1 cur z hcur
    have e2 := hR.2.2.2.2.2.2.2.1 cur z hcur
    rw [Nat.zero_add] at e2
    refine br_f (fun y => z (by have := (nI_eq (by omega) (by omega)).mp y; omega)) ⟨vp_in_nI (by omega) (by decide), nm_r (e' := nI (N cur)) (by rw [nI_clamp (by omega)]; exact e1) ⟨c + 1 + 1, xl_dep27 hR hN z ?_ (c + 1) 0 (by omega)⟩⟩
    exact br_f (nI_ne0 (by omega) (by omega)) ⟨vp_in_nI (by omega) (by decide), nm_r (e' := nI (N cur)) (by rw [nI_clamp (by omega)]; exact e2) ⟨c + 1 + 1, yl_dep23 hR hN z ⟨rfl, same⟩ (c + 1) 0 (by omega)⟩⟩
theorem xl_cop24 {post : Int32 → Prop} {n v : Nat} (h : rl_R nm vs rm L b c cur H N V C lock planned ho na ve de ch nb vb hb) (hn : n < nm) (hv : v < vs) (hp : post (nI (mh_ct (co_P N V n v) (c + 1)))) :
    ∀ g i, i + g = c + 1 → 0 < i → wX_copies_24 post (nI n) (nI v) (nI nm) (nI vs) (nI rm) q (nI L) (nI c) (nI b) dc (nI (L + cur)) lock planned ho na ve de ch fi ma qu re (g + 1) (nI (mh_ct (co_P N V n v) i)) (nI i) := by
  have w := h.2.2.1.1
  have hm := w.1.2
  have hnm := h.1.1.1.1.2
  have hvs := h.1.1.1.2.2
  have hL25 := rl_L25 h
  have hL := h.2.2.2.1
  intro g
  induction g with
  | zero =>
    intro i hi h0
    obtain rfl : i = c + 1 := by omega
    exact br_t (nI_lt (by omega) (by omega)) hp
  | succ g ih =>
    intro i hi h0
    have hnx := ih (i + 1) (by omega) (by omega)
    obtain ⟨_, wn, wv, _⟩ := w.2.1 i (by omega) (by omega)
    have hin : vp_in (nI (L + i)) 50 := vp_in_nI (by omega) (by decide)
    refine br_f (nI_nlt (by omega) (by omega)) ?_
    rw [nI_add, nI_clamp (by omega), hL.2.1 i (by omega) (by omega), hL.2.2.1 i (by omega) (by omega)]
    refine ⟨hin, pk_eq (N i) n (fun e => ⟨hin, pk_eq (V i) v (fun e2 => ?_) (fun e2 => ?_)⟩) (fun e => ?_)⟩
    · rw [mh_ct_p (show co_P N V n v i from ⟨by omega, e, e2⟩)] at hnx
      exact nm_r (nI_1 _) (nm_r (nI_1 _) hnx)
    · rw [mh_ct_n (show ¬ co_P N V n v i from fun y => e2 y.2.2)] at hnx
      exact nm_r (nI_1 _) hnx
    · rw [mh_ct_n (show ¬ co_P N V n v i from fun y => e y.2.1)] at hnx
      exact nm_r (nI_1 _) hnx
theorem yl_cop24 {post : Int32 → Prop} {n v : Nat} (h : rl_R nm vs rm L b c cur H N V C lock planned ho na ve de ch nb vb hb) (hn : n < nm) (hv : v < vs) (hp : post (nI (mh_ct (co_P N V n v) (c + 1)))) :
    ∀ g i, i + g = c + 1 → 0 < i → wY_copies_24 post (nI n) (nI v) (nI nm) (nI vs) (nI rm) (nI (c + 1)) ym (nI cur) lock planned zr nb vb hb fb (g + 1) (nI (mh_ct (co_P N V n v) i)) (nI i) := by
  have w := h.2.2.1.1
  have hm := w.1.2
  have hnm := h.1.1.1.1.2
  have hvs := h.1.1.1.2.2
  have hY := h.2.2.2.2.2
  intro g
  induction g with
  | zero =>
    intro i hi h0
    obtain rfl : i = c + 1 := by omega
    exact br_c (fun _ => hp) (fun _ => br_t (nI_le (Nat.le_refl _) (by omega)) hp)
  | succ g ih =>
    intro i hi h0
    have hnx := ih (i + 1) (by omega) (by omega)
    obtain ⟨_, wn, wv, _⟩ := w.2.1 i (by omega) (by omega)
    have hin : vp_in (nI i) 50 := vp_in_nI (by omega) (by decide)
    have e1 := hY.2.2.1 i (by omega) (by omega)
    have e2 := hY.2.2.2 i (by omega) (by omega)
    rw [Nat.zero_add] at e1 e2
    refine br_f (nI_ge (b := 25) (by omega) (by omega)) (br_f (nI_ge (by omega) (by omega)) ?_)
    rw [nI_clamp (by omega), e1, e2]
    refine ⟨hin, pk_eq (N i) n (fun e => ⟨hin, pk_eq (V i) v (fun e2 => ?_) (fun e2 => ?_)⟩) (fun e => ?_)⟩
    · rw [mh_ct_p (show co_P N V n v i from ⟨by omega, e, e2⟩)] at hnx
      exact nm_r (nI_1 _) (nm_r (nI_1 _) hnx)
    · rw [mh_ct_n (show ¬ co_P N V n v i from fun y => e2 y.2.2)] at hnx
      exact nm_r (nI_1 _) hnx
    · rw [mh_ct_n (show ¬ co_P N V n v i from fun y => e y.2.1)] at hnx
      exact nm_r (nI_1 _) hnx
theorem rl_copies {k : Nat} (hR : rl_R nm vs rm L b c cur H N V C lock planned ho na ve de ch nb vb hb) (v1 v2 : Int32) : wpX_copies (fun r => wpY_copies (fun r' => r' = r ∧ i_Rel (k + 5) (nI nm, nI vs, nI rm, q, nI L, nI c, nI b, dc, nI (L + cur), lock, planned, ho, na, ve, de, ch, fi, ma, qu, re) (nI nm, nI vs, nI rm, nI (c + 1), ym, nI cur, lock, planned, zr, nb, vb, hb, fb)) (nI nm, nI vs, nI rm, nI (c + 1), ym, nI cur, lock, planned, zr, nb, vb, hb, fb) v1 v2) (nI nm, nI vs, nI rm, q, nI L, nI c, nI b, dc, nI (L + cur), lock, planned, ho, na, ve, de, ch, fi, ma, qu, re) v1 v2 := by
  have hnm := hR.1.1.1.1.2
  have hvs := hR.1.1.1.2.2
  have same : i_Rel (k + 5) (nI nm, nI vs, nI rm, q, nI L, nI c, nI b, dc, nI (L + cur), lock, planned, ho, na, ve, de, ch, fi, ma, qu, re) (nI nm, nI vs, nI rm, nI (c + 1), ym, nI cur, lock, planned, zr, nb, vb, hb, fb) := rl_in hR
  unfold wpX_copies
  dsimp only
  rcases ar_ix v1 (n := nm) (by omega) with h1 | ⟨n, h1, e1⟩
  · refine xl_gn0 h1 (br_t rfl ?_)
    unfold wpY_copies
    dsimp only
    exact yl_gn0 h1 (br_t rfl ⟨rfl, same⟩)
  · subst e1
    refine xl_gn1 h1 hnm (br_f mh_10 ?_)
    rcases ar_ix v2 (n := vs) (by omega) with h2 | ⟨v, h2, e2⟩
    · refine xl_gv0 h2 (br_t rfl ?_)
      unfold wpY_copies
      dsimp only
      exact yl_gn1 h1 hnm (br_f mh_10 (yl_gv0 h2 (br_t rfl ⟨rfl, same⟩)))
    · subst e2
      have c1 : mh_ct (co_P N V n v) 1 = 0 := by rw [mh_ct_n (k := 0) (fun z => z.1 rfl)]; rfl
      have hx := fun post hp => xl_cop24 (post := post) (q := q) (dc := dc) (fi := fi) (ma := ma) (qu := qu) (re := re) hR h1 h2 hp c 1 (by omega) (by omega)
      have hy := fun post hp => yl_cop24 (post := post) (ym := ym) (zr := zr) (fb := fb) hR h1 h2 hp c 1 (by omega) (by omega)
      rw [c1] at hx hy
      refine xl_gv1 h2 hvs (br_f mh_10 ⟨c + 1, hx _ ?_⟩)
      unfold wpY_copies
      dsimp only
      exact yl_gn1 h1 hnm (br_f mh_10 (yl_gv1 h2 hvs (br_f mh_10 ⟨c + 1, hy _ ⟨rfl, same⟩⟩)))
end
theorem i_vc_shadowed {k : Nat} {u : SX} {v : SY} (I : i_Rel k u v) (hk : k + 5 ≤ 2563) (v1 : Int32) : wpX_shadowed (fun r => wpY_shadowed (fun r' => r' = r ∧ i_Rel (k + 5) u v) v v1) u v1 :=
  rl_el (P := fun u v => wpX_shadowed (fun r => wpY_shadowed (fun r' => r' = r ∧ i_Rel (k + 5) u v) v v1) u v1) I (fun nm vs rm L b c cur H N V C q dc ym lock planned ho na ve de ch fi ma qu re zr nb vb hb fb hR => rl_shadowed hR v1)
theorem i_vc_dependents {k : Nat} {u : SX} {v : SY} (I : i_Rel k u v) (hk : k + 5 ≤ 2563) : wpX_dependents (fun r => wpY_dependents (fun r' => r' = r ∧ i_Rel (k + 5) u v) v) u :=
  rl_el (P := fun u v => wpX_dependents (fun r => wpY_dependents (fun r' => r' = r ∧ i_Rel (k + 5) u v) v) u) I (fun nm vs rm L b c cur H N V C q dc ym lock planned ho na ve de ch fi ma qu re zr nb vb hb fb hR => rl_dependents hR)
theorem i_vc_copies {k : Nat} {u : SX} {v : SY} (I : i_Rel k u v) (hk : k + 5 ≤ 2563) (v1 : Int32) (v2 : Int32) : wpX_copies (fun r => wpY_copies (fun r' => r' = r ∧ i_Rel (k + 5) u v) v v1 v2) u v1 v2 :=
  rl_el (P := fun u v => wpX_copies (fun r => wpY_copies (fun r' => r' = r ∧ i_Rel (k + 5) u v) v v1 v2) u v1 v2) I (fun nm vs rm L b c cur H N V C q dc ym lock planned ho na ve de ch fi ma qu re zr nb vb hb fb hR => rl_copies hR v1 v2)
end
section
/-! the constructors -/
theorem in_cl (x : Int32) {lo hi : Nat} (hlh : lo ≤ hi) (hh : hi < 2 ^ 31) : ∃ j, (lo ≤ j ∧ j ≤ hi) ∧ ∀ A : Int32 → Prop, A (nI j) → ((nI lo ≤ x → ((x ≤ nI hi → A x) ∧ (¬ x ≤ nI hi → A (nI hi)))) ∧ (¬ nI lo ≤ x → A (nI lo))) := by
  by_cases h1 : nI lo ≤ x
  · by_cases h2 : x ≤ nI hi
    · have h0 : ¬ x < 0 := fun z => Int32.not_le.mpr (Int32.lt_of_lt_of_le z (nI_pos' (n := lo) (by omega))) h1
      obtain ⟨j, hj, rfl⟩ := nI_of h0
      rw [nI_leI (by omega) hj] at h1
      rw [nI_leI hj hh] at h2
      exact ⟨j, ⟨h1, h2⟩, fun A a => br_t (nI_le h1 hj) (br_t (nI_le h2 hh) a)⟩
    · exact ⟨hi, ⟨hlh, Nat.le_refl _⟩, fun A a => br_t h1 (br_f h2 a)⟩
  · exact ⟨lo, ⟨Nat.le_refl _, hlh⟩, fun A a => br_f h1 a⟩
def in_a (k : Nat) : Nat → Int32 := mh_cp (fun _ => 0) (fun _ => -1) k
theorem in_s (k : Nat) : upd (in_a k) k (-1) = in_a (k + 1) := mh_cps (fun _ => 0) (fun _ => -1) k
theorem in_at {k j : Nat} (h : j < k) : in_a k j = -1 := mh_cp_lt h
section
variable {f_names f_versions f_rooms f_queued f_live f_liveCount f_draft f_draftCount f_cursor : Int32} {a_lock a_planned a_holder a_nameOf a_versionOf a_depthOf a_child a_fixed a_match a_queue a_reached : Nat → Int32}
theorem xl_i200 {post : SX → Prop} (hp : post (f_names, f_versions, f_rooms, f_queued, 0, f_liveCount, 25, f_draftCount, 0, a_lock, a_planned, in_a 50, a_nameOf, a_versionOf, a_depthOf, a_child, a_fixed, a_match, a_queue, a_reached)) : ∀ g i, i + g = 50 → wX_init_200 post f_names f_versions f_rooms f_queued f_live f_liveCount f_draft f_draftCount f_cursor (g + 1) (nI i) a_lock a_planned (in_a i) a_nameOf a_versionOf a_depthOf a_child a_fixed a_match a_queue a_reached := by
  intro g
  induction g with
  | zero =>
    intro i hi
    obtain rfl : i = 50 := by omega
    exact br_t (nI_le (Nat.le_refl 50) (by omega)) hp
  | succ g ih =>
    intro i hi
    refine br_f (nI_ge (b := 50) (by omega) (by omega)) ⟨vp_in_nI (by omega) (by decide), ?_⟩
    rw [nI_clamp (by omega)]
    exact nm_r (in_s i) (nm_r (nI_1 i) (ih (i + 1) (by omega)))
theorem xl_i167 {post : SX → Prop} (hp : post (f_names, f_versions, f_rooms, f_queued, 0, f_liveCount, 25, f_draftCount, 0, a_lock, a_planned, in_a 50, a_nameOf, a_versionOf, a_depthOf, in_a 400, in_a 400, a_match, a_queue, a_reached)) : ∀ g i, i + g = 400 → wX_init_167 post f_names f_versions f_rooms f_queued f_live f_liveCount f_draft f_draftCount f_cursor (g + 1) (nI i) a_lock a_planned (in_a 0) a_nameOf a_versionOf a_depthOf (in_a i) (in_a i) a_match a_queue a_reached := by
  intro g
  induction g with
  | zero =>
    intro i hi
    obtain rfl : i = 400 := by omega
    exact br_t (nI_le (Nat.le_refl 400) (by omega)) ⟨51, xl_i200 hp 50 0 (by omega)⟩
  | succ g ih =>
    intro i hi
    have hin : vp_in (nI i) 400 := vp_in_nI (by omega) (by decide)
    refine br_f (nI_ge (b := 400) (by omega) (by omega)) ?_
    rw [nI_clamp (by omega)]
    exact ⟨hin, nm_r (in_s i) ⟨hin, nm_r (in_s i) (nm_r (nI_1 i) (ih (i + 1) (by omega)))⟩⟩
theorem xl_i134 {post : SX → Prop} (hp : post (f_names, f_versions, f_rooms, f_queued, 0, f_liveCount, 25, f_draftCount, 0, in_a 200, in_a 200, in_a 50, a_nameOf, a_versionOf, a_depthOf, in_a 400, in_a 400, a_match, a_queue, a_reached)) : ∀ g i, i + g = 200 → wX_init_134 post f_names f_versions f_rooms f_queued f_live f_liveCount f_draft f_draftCount f_cursor (g + 1) (nI i) (in_a i) (in_a i) (in_a 0) a_nameOf a_versionOf a_depthOf (in_a 0) (in_a 0) a_match a_queue a_reached := by
  intro g
  induction g with
  | zero =>
    intro i hi
    obtain rfl : i = 200 := by omega
    exact br_t (nI_le (Nat.le_refl 200) (by omega)) ⟨401, xl_i167 hp 400 0 (by omega)⟩
  | succ g ih =>
    intro i hi
    have hin : vp_in (nI i) 200 := vp_in_nI (by omega) (by decide)
    refine br_f (nI_ge (b := 200) (by omega) (by omega)) ?_
    rw [nI_clamp (by omega)]
    exact ⟨hin, nm_r (in_s i) ⟨hin, nm_r (in_s i) (nm_r (nI_1 i) (ih (i + 1) (by omega)))⟩⟩
end
section
variable {y_names y_versions y_rooms y_nodes y_made y_cursor : Int32} {z_lock z_planned z_reach z_nameOf z_verOf z_holder z_fixed : Nat → Int32}
theorem yl_i187 {post : SY → Prop} (hp : post (y_names, y_versions, y_rooms, y_nodes, y_made, y_cursor, z_lock, z_planned, z_reach, in_a 50, z_verOf, in_a 50, z_fixed)) : ∀ g i, i + g = 50 → wY_init_187 post y_names y_versions y_rooms y_nodes y_made y_cursor (g + 1) (nI i) z_lock z_planned z_reach (in_a i) z_verOf (in_a i) z_fixed := by
  intro g
  induction g with
  | zero =>
    intro i hi
    obtain rfl : i = 50 := by omega
    exact br_t (nI_le (Nat.le_refl 50) (by omega)) hp
  | succ g ih =>
    intro i hi
    have hin : vp_in (nI i) 50 := vp_in_nI (by omega) (by decide)
    refine br_f (nI_ge (b := 50) (by omega) (by omega)) ?_
    rw [nI_clamp (by omega)]
    exact ⟨hin, nm_r (in_s i) ⟨hin, nm_r (in_s i) (nm_r (nI_1 i) (ih (i + 1) (by omega)))⟩⟩
theorem yl_i154 {post : SY → Prop} (hp : post (y_names, y_versions, y_rooms, y_nodes, y_made, y_cursor, in_a 200, in_a 200, z_reach, in_a 50, z_verOf, in_a 50, z_fixed)) : ∀ g i, i + g = 200 → wY_init_154 post y_names y_versions y_rooms y_nodes y_made y_cursor (g + 1) (nI i) (in_a i) (in_a i) z_reach (in_a 0) z_verOf (in_a 0) z_fixed := by
  intro g
  induction g with
  | zero =>
    intro i hi
    obtain rfl : i = 200 := by omega
    exact br_t (nI_le (Nat.le_refl 200) (by omega)) ⟨51, yl_i187 hp 50 0 (by omega)⟩
  | succ g ih =>
    intro i hi
    have hin : vp_in (nI i) 200 := vp_in_nI (by omega) (by decide)
    refine br_f (nI_ge (b := 200) (by omega) (by omega)) ?_
    rw [nI_clamp (by omega)]
    exact ⟨hin, nm_r (in_s i) ⟨hin, nm_r (in_s i) (nm_r (nI_1 i) (ih (i + 1) (by omega)))⟩⟩
end
theorem in_K {nm vs : Nat} (h1 : 2 ≤ nm ∧ nm ≤ 8) (h2 : 1 ≤ vs ∧ vs ≤ 3) : pi_K nm vs (in_a 200) := by
  refine ⟨⟨h1, h2⟩, fun o k ho hk => Or.inl (in_at (by omega)), fun n v k hn hv hk z => ?_, fun k hk z => ?_⟩
  · rw [in_at (by omega)] at z; exact absurd z mh_21
  · rw [in_at (by omega)] at z; exact absurd z mh_21
theorem in_R {nm vs rm : Nat} (h1 : 2 ≤ nm ∧ nm ≤ 8) (h2 : 1 ≤ vs ∧ vs ≤ 3) (h3 : rm ≤ 24) :
    rl_R nm vs rm 0 25 0 0 (fun _ => 0) (fun _ => 0) (fun _ => 0) (fun _ _ => 0) (in_a 200) (in_a 200) (in_a 50) (fun _ => 0) (fun _ => 0) (fun _ => 0) (in_a 400) (in_a 50) (fun _ => 0) (in_a 50) := by
  refine ⟨⟨in_K h1 h2, in_K h1 h2, h3⟩, Or.inl ⟨rfl, rfl⟩, ⟨ly_W_1 nm vs _ _ _, by omega⟩, ⟨⟨in_at (by omega), fun i h0 hi => by omega⟩, fun i h0 hi => by omega, fun i h0 hi => by omega, fun i h0 hi => by omega, rfl, fun i n hi hn => ?_⟩, ⟨in_at (by omega), rfl⟩, ⟨⟨⟨in_at (by omega), fun i h0 hi => by omega⟩, fun i h0 hi => in_at (by omega)⟩, in_at (by omega), fun i h0 hi => by omega, fun i h0 hi => by omega⟩⟩
  rw [in_at (by omega), mh_e0]
section
variable {f_names f_versions f_rooms f_queued f_live f_liveCount f_draft f_draftCount f_cursor : Int32} {a_lock a_planned a_holder a_nameOf a_versionOf a_depthOf a_child a_fixed a_match a_queue a_reached : Nat → Int32}
def in_c (x : Int32) (lo hi : Nat) (j : Nat) : Prop := ∀ A : Int32 → Prop, A (nI j) → ((nI lo ≤ x → ((x ≤ nI hi → A x) ∧ (¬ x ≤ nI hi → A (nI hi)))) ∧ (¬ nI lo ≤ x → A (nI lo)))
theorem xl_cl {post : Int32 → Prop} {x : Int32} {lo hi j : Nat} (c : in_c x lo hi j) (hp : post (nI j)) : wpX_clamp post (f_names, f_versions, f_rooms, f_queued, f_live, f_liveCount, f_draft, f_draftCount, f_cursor, a_lock, a_planned, a_holder, a_nameOf, a_versionOf, a_depthOf, a_child, a_fixed, a_match, a_queue, a_reached) x (nI lo) (nI hi) := c post hp
end
theorem yl_ini {post : SY → Prop} {x0 x1 x2 : Int32} {nm vs rm : Nat} (c1 : in_c x0 2 8 nm) (c2 : in_c x1 1 3 vs) (c3 : in_c x2 4 24 rm)
    (h : ∃ n154 : Nat, wY_init_154 post (nI nm) (nI vs) (nI rm) 1 1 0 n154 0 (fun _ => 0) (fun _ => 0) (fun _ => 0) (fun _ => 0) (fun _ => 0) (fun _ => 0) (fun _ => 0)) : wpY_init post x0 x1 x2 :=
  c1 (fun z => wY_init_100 post x1 x2 z 0 0 0 1 1 0 (fun _ => 0) (fun _ => 0) (fun _ => 0) (fun _ => 0) (fun _ => 0) (fun _ => 0) (fun _ => 0)) (c2 (fun z => wY_init_123 post x2 z (nI nm) 0 0 1 1 0 (fun _ => 0) (fun _ => 0) (fun _ => 0) (fun _ => 0) (fun _ => 0) (fun _ => 0) (fun _ => 0)) (c3 (fun z => ∃ n154 : Nat, wY_init_154 post (nI nm) (nI vs) z 1 1 0 n154 0 (fun _ => 0) (fun _ => 0) (fun _ => 0) (fun _ => 0) (fun _ => 0) (fun _ => 0) (fun _ => 0)) h))
theorem i_vc0 (k0 : Int32) (k1 : Int32) (k2 : Int32) : wpX_init (fun u => wpY_init (fun v => i_Rel 3 u v) k0 k1 k2) k0 k1 k2 := by
  obtain ⟨nm, h1, c1⟩ := in_cl k0 (lo := 2) (hi := 8) (by omega) (by omega)
  obtain ⟨vs, h2, c2⟩ := in_cl k1 (lo := 1) (hi := 3) (by omega) (by omega)
  obtain ⟨rm, h3, c3⟩ := in_cl k2 (lo := 4) (hi := 24) (by omega) (by omega)
  have hR := in_R (rm := rm) h1 h2 h3.2
  unfold wpX_init
  refine xl_cl (lo := 2) (hi := 8) c1 ?_
  refine xl_cl (lo := 1) (hi := 3) c2 ?_
  refine xl_cl (lo := 4) (hi := 24) c3 ?_
  refine Exists.intro 201 (xl_i134 ?_ 200 0 (by omega))
  refine yl_ini c1 c2 c3 (Exists.intro 201 (yl_i154 ?_ 200 0 (by omega)))
  exact rl_in (L := 0) (b := 25) (c := 0) (cur := 0) hR
end
