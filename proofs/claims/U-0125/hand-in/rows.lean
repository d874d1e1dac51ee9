section
/-! base: stores, numbers, branches (some rows began as rows of the kit's pure rows) -/
theorem ob_us {f : Nat → Int32} {k : Nat} {x : Int32} : upd f k x k = x := if_pos rfl
theorem ob_un {f : Nat → Int32} {k j : Nat} {x : Int32} (h : j ≠ k) : upd f k x j = f j := if_neg h
theorem ob_sub {a b : Nat} (h : b ≤ a) : nI a - nI b = nI (a - b) := by
  obtain ⟨c, rfl⟩ : ∃ c, a = c + b := ⟨a - b, by omega⟩
  rw [← nI_add, Int32.add_sub_cancel, Nat.add_sub_cancel]
theorem ob_mul (a b : Nat) : nI a * nI b = nI (a * b) := (Int32.ofNat_mul a b).symm
theorem ob_le {x y : Int32} {A B : Prop} (a b : Nat) (f : a ≤ b → A) (g : b < a → B) (hx : x = nI a := by rfl) (hy : y = nI b := by rfl) (ha : a < 2 ^ 31 := by omega) (hb : b < 2 ^ 31 := by omega) : (x ≤ y → A) ∧ (¬ x ≤ y → B) := by
  subst hx hy
  rw [nI_leI ha hb]
  exact ⟨f, fun z => g (by omega)⟩
theorem ob_lt {x y : Int32} {A B : Prop} (a b : Nat) (f : a < b → A) (g : b ≤ a → B) (hx : x = nI a := by rfl) (hy : y = nI b := by rfl) (ha : a < 2 ^ 31 := by omega) (hb : b < 2 ^ 31 := by omega) : (x < y → A) ∧ (¬ x < y → B) := by
  subst hx hy
  rw [nI_ltI ha hb]
  exact ⟨f, fun z => g (by omega)⟩
theorem ob_eq {x y : Int32} {A B : Prop} (a b : Nat) (f : a = b → A) (g : a ≠ b → B) (hx : x = nI a := by rfl) (hy : y = nI b := by rfl) (ha : a < 2 ^ 31 := by omega) (hb : b < 2 ^ 31 := by omega) : (x = y → A) ∧ (¬ x = y → B) := by
  subst hx hy
  rw [nI_eq ha hb]
  exact ⟨f, g⟩
theorem ob_in {x : Int32} (n N : Nat) (h : n < N) (hx : x = nI n := by rfl) (hN : N < 2 ^ 31 := by omega) : vp_in x N := by
  subst hx
  exact vp_in_nI h hN
theorem ob_cl {x : Int32} (n : Nat) (hx : x = nI n := by rfl) (h : n < 2 ^ 31 := by omega) : x.toNatClampNeg = n := by
  subst hx
  exact nI_clamp h
theorem ob_ix (x : Int32) {n : Nat} (hn : n < 2 ^ 31) : (∃ j : Nat, j < n ∧ x = nI j) ∨ (∀ j : Nat, j < n → x ≠ nI j) ∧ (x < 0 ∨ (¬ x < 0 ∧ nI n ≤ x)) := by
  by_cases h : x < 0
  · exact Or.inr ⟨fun j hj e => nI_pos (n := j) (by omega) (e ▸ h), Or.inl h⟩
  · obtain ⟨j, hj, rfl⟩ := nI_of h
    by_cases h2 : j < n
    · exact Or.inl ⟨j, h2, rfl⟩
    · refine Or.inr ⟨fun k hk e => ?_, Or.inr ⟨h, nI_le (by omega) hj⟩⟩
      have := (nI_eq hj (by omega)).mp e
      omega
theorem ob_inj {a b : Nat} (h : nI a = nI b) (ha : a < 2 ^ 31) (hb : b < 2 ^ 31) : a = b := (nI_eq ha hb).mp h
theorem ob_24 (i : Nat) : (24 : Int32) + nI i = nI (24 + i) := nI_add 24 i
theorem ob_48 (i : Nat) : (48 : Int32) + nI i = nI (48 + i) := nI_add 48 i
theorem ob_192 (i : Nat) : (192 : Int32) + nI i = nI (192 + i) := nI_add 192 i
theorem ob_si (s i : Nat) : nI s * 24 + nI i = nI (24 * s + i) := by
  rw [show (24 : Int32) = nI 24 from rfl, ob_mul, nI_add, Nat.mul_comm]
theorem ob_s8 (p n : Nat) : nI p * 8 + nI n = nI (8 * p + n) := by
  rw [show (8 : Int32) = nI 8 from rfl, ob_mul, nI_add, Nat.mul_comm]
theorem ob_spn (s p n : Nat) : (nI s * 24 + nI p) * 8 + nI n = nI (8 * (24 * s + p) + n) := by
  rw [ob_si, ob_s8]
theorem ob_m1 : (-1 : Int32).toNatClampNeg = 0 := by decide
theorem ob_m1n {a : Nat} (h : a < 2 ^ 31) : ¬ (-1 : Int32) = nI a := by
  intro e
  have := nI_pos (n := a) h
  rw [← e] at this
  exact this (by decide)
theorem ob_nm1 {a : Nat} (h : a < 2 ^ 31) : ¬ nI a = (-1 : Int32) := fun e => ob_m1n h e.symm
theorem ob_n0 {a : Nat} (h : a < 2 ^ 31) : nI a = 0 ↔ a = 0 := by
  rw [← nI_0, nI_eq h (by omega)]
theorem ob_le0 {a : Nat} (h : a < 2 ^ 31) : nI a ≤ 0 ↔ a = 0 := by
  rw [← nI_0, nI_leI h (by omega)]; omega
theorem ob_10 : ¬ (1 : Int32) = 0 := by decide
theorem ob_nb0 : vp_nar .boolean 0 = 0 := by decide
theorem ob_nb1 : vp_nar .boolean 1 = 1 := by decide
/-! reads and stores at an index that is known -/
theorem rd_ {a : Nat → Int32} {x : Int32} {n : Nat} (h : x.toNatClampNeg = n) : a x.toNatClampNeg = a n := by rw [h]
theorem rc_ {a : Nat → Int32} {x v : Int32} {n : Nat} {A B : Prop} (h : x.toNatClampNeg = n) (f : a n = v → A) (g : ¬ a n = v → B) : (a x.toNatClampNeg = v → A) ∧ (¬ a x.toNatClampNeg = v → B) := by
  subst h; exact ⟨f, g⟩
theorem rm_ {a : Nat → Int32} {x v m : Int32} {n : Nat} {A B : Prop} (h : x.toNatClampNeg = n) (f : a n &&& m = v → A) (g : ¬ a n &&& m = v → B) : (a x.toNatClampNeg &&& m = v → A) ∧ (¬ a x.toNatClampNeg &&& m = v → B) := by
  subst h; exact ⟨f, g⟩
theorem nu_ {a : Nat → Int32} {x v : Int32} {n : Nat} {P : (Nat → Int32) → Prop} (h : x.toNatClampNeg = n) (k : P (upd a n v)) : ∀ y, y = upd a x.toNatClampNeg v → P y := by
  subst h; intro y e; subst e; exact k
theorem nr_ {a : Nat → Int32} {x : Int32} {n : Nat} {P : Int32 → Prop} (h : x.toNatClampNeg = n) (k : P (a n)) : ∀ y, y = a x.toNatClampNeg → P y := by
  subst h; intro y e; subst e; exact k
theorem ex_ {a : Nat → Int32} {x : Int32} {n : Nat} {P : Int32 → Prop} (h : x.toNatClampNeg = n) (k : P (a n)) : P (a x.toNatClampNeg) := by
  subst h; exact k

/-! counts and sums -/
def cn (p : Nat → Bool) : Nat → Nat
  | 0 => 0
  | n + 1 => cn p n + (if p n = true then 1 else 0)
theorem cn_s (p : Nat → Bool) (n : Nat) : cn p (n + 1) = cn p n + (if p n = true then 1 else 0) := rfl
theorem cn_congr {p q : Nat → Bool} : ∀ n, (∀ i, i < n → p i = q i) → cn p n = cn q n := by
  intro n
  induction n with
  | zero => intro _; rfl
  | succ n ih =>
    intro h
    rw [cn_s, cn_s, ih (fun i hi => h i (by omega)), h n (by omega)]
theorem cn_set {p q : Nat → Bool} {i : Nat} (hp : p i = false) (hq : q i = true) : ∀ n, i < n → (∀ j, j < n → j ≠ i → q j = p j) → cn q n = cn p n + 1 := by
  intro n
  induction n with
  | zero => intro h; omega
  | succ n ih =>
    intro hi h
    rw [cn_s, cn_s]
    by_cases e : i = n
    · subst e
      rw [hp, hq, cn_congr i (fun j hj => h j (by omega) (by omega))]
      simp
    · rw [ih (by omega) (fun j hj => h j (by omega)), h n (by omega) (by omega)]
      omega
theorem cn_le (p : Nat → Bool) : ∀ n, cn p n ≤ n := by
  intro n
  induction n with
  | zero => exact Nat.le_refl 0
  | succ n ih =>
    rw [cn_s]
    split <;> omega
theorem cn_lt {p : Nat → Bool} {i : Nat} (hp : p i = false) : ∀ n, i < n → cn p n < n := by
  intro n
  induction n with
  | zero => intro h; omega
  | succ n ih =>
    intro hi
    rw [cn_s]
    by_cases e : i = n
    · subst e
      rw [hp]
      have := cn_le p i
      simp; omega
    · have := ih (by omega)
      split <;> omega
theorem cn_lt2 {p : Nat → Bool} {i j : Nat} (hi : p i = false) (hj : p j = false) (e : i ≠ j) {n : Nat} (h1 : i < n) (h2 : j < n) : cn p n + 1 < n := by
  have h := cn_set (p := p) (q := fun k => if k = j then true else p k) hj (by simp) n h2 (fun k _ hk => by simp [hk])
  have := cn_lt (p := fun k => if k = j then true else p k) (i := i) (by simp [e, hi]) n h1
  omega
theorem cn_0 {p : Nat → Bool} : ∀ n, cn p n = 0 → ∀ i, i < n → p i = false := by
  intro n
  induction n with
  | zero => intro _ i hi; omega
  | succ n ih =>
    intro h i hi
    rw [cn_s] at h
    by_cases e : i = n
    · subst e
      cases hp : p i with
      | false => rfl
      | true => rw [hp] at h; simp at h
    · exact ih (by omega) i (by omega)
theorem cn_z {p : Nat → Bool} : ∀ n, (∀ i, i < n → p i = false) → cn p n = 0 := by
  intro n
  induction n with
  | zero => intro _; rfl
  | succ n ih =>
    intro h
    rw [cn_s, ih (fun i hi => h i (by omega)), h n (by omega)]
    rfl
def sm (f : Nat → Nat) : Nat → Nat
  | 0 => 0
  | n + 1 => sm f n + f n
theorem sm_s (f : Nat → Nat) (n : Nat) : sm f (n + 1) = sm f n + f n := rfl
theorem sm_congr {p q : Nat → Nat} : ∀ n, (∀ i, i < n → p i = q i) → sm p n = sm q n := by
  intro n
  induction n with
  | zero => intro _; rfl
  | succ n ih =>
    intro h
    rw [sm_s, sm_s, ih (fun i hi => h i (by omega)), h n (by omega)]
theorem sm_set {p q : Nat → Nat} {i : Nat} : ∀ n, i < n → (∀ j, j < n → j ≠ i → q j = p j) → sm q n + p i = sm p n + q i := by
  intro n
  induction n with
  | zero => intro h; omega
  | succ n ih =>
    intro hi h
    rw [sm_s, sm_s]
    by_cases e : i = n
    · subst e
      rw [sm_congr i (fun j hj => h j (by omega) (by omega))]
      omega
    · have := ih (by omega) (fun j hj => h j (by omega))
      have := h n (by omega) (by omega)
      omega
theorem sm_le {f : Nat → Nat} {c : Nat} (h : ∀ i, f i ≤ c) : ∀ n, sm f n ≤ n * c := by
  intro n
  induction n with
  | zero => exact Nat.zero_le _
  | succ n ih =>
    rw [sm_s, Nat.succ_mul]
    have := h n
    omega
theorem sm_ge {f : Nat → Nat} {i : Nat} : ∀ n, i < n → f i ≤ sm f n := by
  intro n
  induction n with
  | zero => intro h; omega
  | succ n ih =>
    intro hi
    rw [sm_s]
    by_cases e : i = n
    · subst e; omega
    · have := ih (by omega); omega

/-! iterates, pigeonhole -/
def it (f : Nat → Nat) : Nat → Nat → Nat
  | 0, x => x
  | k + 1, x => it f k (f x)
theorem it_s (f : Nat → Nat) (k x : Nat) : it f (k + 1) x = it f k (f x) := rfl
theorem it_add (f : Nat → Nat) (b : Nat) : ∀ a x, it f (a + b) x = it f b (it f a x) := by
  intro a
  induction a with
  | zero => intro x; rw [Nat.zero_add]; rfl
  | succ a ih => intro x; rw [Nat.succ_add, it_s, ih, it_s]
theorem it_s' (f : Nat → Nat) (k x : Nat) : it f (k + 1) x = f (it f k x) := by
  rw [it_add]; rfl
theorem it_z {f : Nat → Nat} (h : f 0 = 0) : ∀ k, it f k 0 = 0 := by
  intro k
  induction k with
  | zero => rfl
  | succ k ih => rw [it_s, h, ih]
theorem it_lt {f : Nat → Nat} (h : ∀ i, i < 24 → f i < 24) : ∀ k x, x < 24 → it f k x < 24 := by
  intro k
  induction k with
  | zero => intro x hx; exact hx
  | succ k ih => intro x hx; rw [it_s]; exact ih _ (h x hx)
theorem it_congr {f g : Nat → Nat} (S : Nat → Prop) (hS : ∀ i, S i → g i = f i ∧ S (f i)) : ∀ k x, S x → it g k x = it f k x ∧ S (it f k x) := by
  intro k
  induction k with
  | zero => intro x hx; exact ⟨rfl, hx⟩
  | succ k ih => intro x hx; rw [it_s, it_s, (hS x hx).1]; exact ih _ (hS x hx).2
theorem it_per {f : Nat → Nat} {k x : Nat} (h : it f k x = x) : ∀ m, it f (m * k) x = x := by
  intro m
  induction m with
  | zero => rw [Nat.zero_mul]; rfl
  | succ m ih => rw [Nat.succ_mul, it_add, ih, h]
theorem php : ∀ (n : Nat) (g : Nat → Nat), (∀ k, k ≤ n → g k < n) → ∃ a b, a < b ∧ b ≤ n ∧ g a = g b := by
  intro n
  induction n with
  | zero => intro g h; exact absurd (h 0 (Nat.le_refl 0)) (Nat.not_lt_zero _)
  | succ n ih =>
    intro g h
    by_cases hv : ∃ a, a ≤ n ∧ g a = g (n + 1)
    · obtain ⟨a, ha, e⟩ := hv
      exact ⟨a, n + 1, by omega, Nat.le_refl _, e⟩
    · have hv' : ∀ a, a ≤ n → g a ≠ g (n + 1) := fun a ha e => hv ⟨a, ha, e⟩
      obtain ⟨a, b, hab, hb, e⟩ := ih (fun k => if g k = n then g (n + 1) else g k) (by
        intro k hk
        have h1 := h k (by omega)
        have h2 := h (n + 1) (Nat.le_refl _)
        have h3 := hv' k hk
        show (if g k = n then g (n + 1) else g k) < n
        split <;> omega)
      refine ⟨a, b, hab, by omega, ?_⟩
      have ea := hv' a (by omega)
      have eb := hv' b hb
      have e' : (if g a = n then g (n + 1) else g a) = (if g b = n then g (n + 1) else g b) := e
      by_cases z1 : g a = n
      · by_cases z2 : g b = n
        · omega
        · rw [if_pos z1, if_neg z2] at e'; omega
      · by_cases z2 : g b = n
        · rw [if_neg z1, if_pos z2] at e'; omega
        · rw [if_neg z1, if_neg z2] at e'; omega
/-- twenty-four different numbers, none of them 0, below 24: no -/
theorem php24 {g : Nat → Nat} (h : ∀ k, k ≤ 23 → g k < 24 ∧ g k ≠ 0) : ∃ a b, a < b ∧ b ≤ 23 ∧ g a = g b := by
  obtain ⟨a, b, h1, h2, e⟩ := php 23 (fun k => g k - 1) (fun k hk => by have := h k hk; show g k - 1 < 23; omega)
  have e' : g a - 1 = g b - 1 := e
  have := h a (by omega)
  have := h b h2
  exact ⟨a, b, h1, h2, by omega⟩
theorem lst (P : Nat → Prop) (h : ∃ k, P k) : ∃ k, P k ∧ ∀ j, j < k → ¬ P j := by
  obtain ⟨k, hk⟩ := h
  induction k using Nat.strongRecOn with
  | _ k ih =>
    by_cases hj : ∃ j, j < k ∧ P j
    · obtain ⟨j, h1, h2⟩ := hj; exact ih j h1 h2
    · exact ⟨k, hk, fun j h1 h2 => hj ⟨j, h1, h2⟩⟩
/-- what is reached, is reached within 22 steps -/
theorem it_short {f : Nat → Nat} (hf : ∀ i, i < 24 → f i < 24) (h0 : f 0 = 0) {x y : Nat} (hx : x < 24) (hy : y ≠ 0) (h : ∃ k, it f k x = y) : ∃ k, k ≤ 22 ∧ it f k x = y := by
  obtain ⟨k, hk, hm⟩ := lst _ h
  by_cases hs : k ≤ 22
  · exact ⟨k, hs, hk⟩
  · exfalso
    obtain ⟨a, b, hab, hb, e⟩ := php24 (g := fun j => it f j x) (fun j hj => by
      refine ⟨it_lt hf j x hx, fun z => ?_⟩
      have : it f k x = 0 := by
        have e1 : k = j + (k - j) := by omega
        rw [e1, it_add]
        show it f (k - j) (it f j x) = 0
        rw [show it f j x = 0 from z, it_z h0]
      omega)
    have e2 : it f (k - (b - a)) x = y := by
      have e1 : k - (b - a) = a + (k - b) := by omega
      rw [e1, it_add, show it f a x = it f b x from e, ← it_add, show b + (k - b) = k by omega]
      exact hk
    exact hm _ (by omega) e2
/-- all reach 0 with one parent changed -/
theorem it_upd {f g : Nat → Nat} {i p : Nat} (hp : ∀ k, it f k p ≠ i) (hg : ∀ z, z ≠ i → g z = f z) (hi : g i = p) (hr : ∃ k, it f k p = 0) : ∀ k z, it f k z = 0 → ∃ k', it g k' z = 0 := by
  have e : ∀ k, it g k p = it f k p := by
    intro k
    exact (it_congr (f := f) (g := g) (fun z => ∃ j, it f j p = z) (by
      rintro z ⟨j, rfl⟩
      exact ⟨hg _ (hp j), j + 1, it_s' f j p⟩) k p ⟨0, rfl⟩).1
  obtain ⟨k0, h0⟩ := hr
  intro k
  induction k with
  | zero => intro z hz; exact ⟨0, hz⟩
  | succ k ih =>
    intro z hz
    by_cases hzi : z = i
    · subst hzi
      exact ⟨k0 + 1, by rw [it_s, hi, e, h0]⟩
    · obtain ⟨k', h'⟩ := ih (f z) (by rw [← it_s]; exact hz)
      exact ⟨k' + 1, by rw [it_s, hg z hzi, h']⟩
end
section
/-! the facts of a state -/
def vb (b : Int32) : Prop := b = 0 ∨ b = 1 ∨ b = 2 ∨ b = 4 ∨ b = 6 ∨ b = 8
def pf (o : Nat) (pa : Nat → Int32) : Nat → Nat := fun i => (pa (o + i)).toNatClampNeg
def Tr (o O N : Nat) (kd pa na : Nat → Int32) : Prop :=
  (kd o = 1 ∧ pa o = -1 ∧ na o = -1) ∧
  (∀ i, i ≠ 0 → i < 24 → kd (o + i) ≠ 0 → i < O ∧ ∃ p n, p < 24 ∧ n < N ∧ pa (o + i) = nI p ∧ na (o + i) = nI n ∧ kd (o + p) = 1) ∧
  (∀ i, i < 24 → kd (o + i) = 0 ∨ kd (o + i) = 1 ∨ kd (o + i) = 2) ∧
  (∀ i j, i ≠ 0 → i < 24 → j ≠ 0 → j < 24 → kd (o + i) ≠ 0 → kd (o + j) ≠ 0 → pa (o + i) = pa (o + j) → na (o + i) = na (o + j) → i = j) ∧
  (∀ i, i < 24 → ∃ k, it (pf o pa) k i = 0)
def Eb (kd pa na da : Nat → Int32) : Prop := ∀ m, m < 72 → (kd m = 0 → pa m = -1 ∧ na m = -1) ∧ (kd m ≠ 2 → da m = 0)
def SL (o : Nat) (pr : Nat → Bool) (pa na sl cc : Nat → Int32) : Prop :=
  (∀ i, i < 24 → pr i = true → ∃ p n, p < 24 ∧ n < 8 ∧ pa (o + i) = nI p ∧ na (o + i) = nI n ∧ sl (8 * (o + p) + n) = nI i) ∧
  (∀ p n, p < 24 → n < 8 → sl (8 * (o + p) + n) = 0 ∨ ∃ i, i < 24 ∧ pr i = true ∧ sl (8 * (o + p) + n) = nI i ∧ pa (o + i) = nI p ∧ na (o + i) = nI n) ∧
  (∀ p, p < 24 → cc (o + p) = nI (cn (fun i => pr i && decide (pa (o + i) = nI p)) 24)) ∧ pr 0 = false
def xs (o : Nat) (kd : Nat → Int32) : Nat → Bool := fun i => decide (i ≠ 0) && decide (kd (o + i) ≠ 0)
def Bt (kd bi : Nat → Int32) : Prop := (∀ i, i < 48 → vb (bi i)) ∧ bi 0 = 0 ∧ bi 24 = 0 ∧ ∀ i, i < 24 →
  (bi i = 1 → kd i ≠ 0 ∧ kd (24 + i) = 0 ∧ bi (24 + i) = 0) ∧
  (bi (24 + i) = 1 → kd (24 + i) ≠ 0 ∧ kd i = 0 ∧ bi i = 0) ∧
  (kd i ≠ 0 → bi i ≠ 8) ∧ (kd (24 + i) ≠ 0 → bi (24 + i) ≠ 8) ∧
  (bi i ≠ 0 → bi i ≠ 8 → kd i ≠ 0) ∧ (bi (24 + i) ≠ 0 → bi (24 + i) ≠ 8 → kd (24 + i) ≠ 0) ∧
  (kd i ≠ 0 → bi i ≠ 1 → kd (24 + i) = 0 → bi (24 + i) = 8) ∧
  (kd i ≠ 0 → kd (24 + i) ≠ 0 → kd i = kd (24 + i))
def Tk (kd bi tk : Nat → Int32) : Prop := ∀ i, i < 24 → tk i = 0 → kd i = 0 ∧ kd (24 + i) = 0 ∧ bi i = 0 ∧ bi (24 + i) = 0
def Lg (bi li la : Nat → Int32) (L : Nat) : Prop := L = cn (fun i => decide (bi i ≠ 0)) 24 ∧
  (∀ j, j < L → ∃ i, i ≠ 0 ∧ i < 24 ∧ li j = nI i ∧ bi i ≠ 0 ∧ la i = nI (j + 1)) ∧
  (∀ i, i < 24 → bi i ≠ 0 → ∃ j, j < L ∧ li j = nI i ∧ la i = nI (j + 1))
def pc (b : Int32) : Nat := if b = 0 then 0 else if b = 6 then 2 else 1
def Cx (O N : Nat) (kd pa na da bi : Nat → Int32) : Prop :=
  (8 ≤ O ∧ O ≤ 24 ∧ 2 ≤ N ∧ N ≤ 8) ∧ Tr 0 O N kd pa na ∧ Tr 24 O N kd pa na ∧ Eb kd pa na da ∧ Bt kd bi
def Inv (O N L : Nat) (kd pa na da sl cc bi tk li la : Nat → Int32) (pb : Int32) : Prop :=
  Cx O N kd pa na da bi ∧ SL 0 (xs 0 kd) pa na sl cc ∧ SL 24 (xs 24 kd) pa na sl cc ∧ Tk kd bi tk ∧ Lg bi li la L ∧
  pb = nI (sm (fun i => pc (bi i)) 24)

theorem vb_3 {b : Int32} (h : vb b) (h3 : b &&& 3 ≠ 0) : b = 1 ∨ b = 2 ∨ b = 6 := by
  rcases h with h | h | h | h | h | h
  · subst h; exact absurd (by decide) h3
  · exact Or.inl h
  · exact Or.inr (Or.inl h)
  · subst h; exact absurd (by decide) h3
  · exact Or.inr (Or.inr h)
  · subst h; exact absurd (by decide) h3
theorem an_0 (m : Int32) : (0 : Int32) &&& m = 0 := Int32.zero_and
section
variable {O N : Nat} {kd pa na da bi : Nat → Int32}
theorem cx_N (H : Cx O N kd pa na da bi) : 8 ≤ O ∧ O ≤ 24 ∧ 2 ≤ N ∧ N ≤ 8 := H.1
theorem cx_p0 (H : Cx O N kd pa na da bi) {x : Nat} (h0 : x ≠ 0) (hx : x < 24) (hk : kd x ≠ 0) : x < O ∧ ∃ p n, p < 24 ∧ n < N ∧ pa x = nI p ∧ na x = nI n ∧ kd p = 1 := by
  have h := H.2.1.2.1 x h0 hx (by rw [Nat.zero_add]; exact hk)
  simpa only [Nat.zero_add] using h
theorem cx_p1 (H : Cx O N kd pa na da bi) {x : Nat} (h0 : x ≠ 0) (hx : x < 24) (hk : kd (24 + x) ≠ 0) : x < O ∧ ∃ p n, p < 24 ∧ n < N ∧ pa (24 + x) = nI p ∧ na (24 + x) = nI n ∧ kd (24 + p) = 1 :=
  H.2.2.1.2.1 x h0 hx hk
theorem cx_u0 (H : Cx O N kd pa na da bi) {x y : Nat} (h0 : x ≠ 0) (hx : x < 24) (g0 : y ≠ 0) (hy : y < 24) (h1 : kd x ≠ 0) (h2 : kd y ≠ 0) (h3 : pa x = pa y) (h4 : na x = na y) : x = y := by
  have h := H.2.1.2.2.2.1 x y h0 hx g0 hy
  simp only [Nat.zero_add] at h
  exact h h1 h2 h3 h4
theorem cx_u1 (H : Cx O N kd pa na da bi) {x y : Nat} (h0 : x ≠ 0) (hx : x < 24) (g0 : y ≠ 0) (hy : y < 24) (h1 : kd (24 + x) ≠ 0) (h2 : kd (24 + y) ≠ 0) (h3 : pa (24 + x) = pa (24 + y)) (h4 : na (24 + x) = na (24 + y)) : x = y :=
  H.2.2.1.2.2.2.1 x y h0 hx g0 hy h1 h2 h3 h4
theorem cx_r0 (H : Cx O N kd pa na da bi) : kd 0 = 1 ∧ pa 0 = -1 ∧ na 0 = -1 := H.2.1.1
theorem cx_r1 (H : Cx O N kd pa na da bi) : kd 24 = 1 ∧ pa 24 = -1 ∧ na 24 = -1 := H.2.2.1.1
theorem cx_e (H : Cx O N kd pa na da bi) {m : Nat} (hm : m < 72) (h : kd m = 0) : pa m = -1 ∧ na m = -1 := (H.2.2.2.1 m hm).1 h
theorem cx_v (H : Cx O N kd pa na da bi) {m : Nat} (hm : m < 48) : vb (bi m) := H.2.2.2.2.1 m hm
theorem cx_b0 (H : Cx O N kd pa na da bi) : bi 0 = 0 := H.2.2.2.2.2.1
theorem cx_ne (H : Cx O N kd pa na da bi) {x : Nat} (h : bi x ≠ 0) : x ≠ 0 := fun e => h (e ▸ cx_b0 H)
theorem cx_cr (H : Cx O N kd pa na da bi) {x : Nat} (hx : x < 24) (h : bi x = 1) : kd x ≠ 0 ∧ kd (24 + x) = 0 ∧ bi (24 + x) = 0 := (H.2.2.2.2.2.2.2 x hx).1 h
theorem cx_k8 (H : Cx O N kd pa na da bi) {x : Nat} (hx : x < 24) (h : kd x ≠ 0) : bi x ≠ 8 := (H.2.2.2.2.2.2.2 x hx).2.2.1 h
theorem cx_kx (H : Cx O N kd pa na da bi) {x : Nat} (hx : x < 24) (h : bi x ≠ 0) (h8 : bi x ≠ 8) : kd x ≠ 0 := (H.2.2.2.2.2.2.2 x hx).2.2.2.2.1 h h8
theorem cx_s8 (H : Cx O N kd pa na da bi) {x : Nat} (hx : x < 24) (h : kd x ≠ 0) (h1 : bi x ≠ 1) (h2 : kd (24 + x) = 0) : bi (24 + x) = 8 := (H.2.2.2.2.2.2.2 x hx).2.2.2.2.2.2.1 h h1 h2
theorem cx_kk (H : Cx O N kd pa na da bi) {x : Nat} (hx : x < 24) (h : kd x ≠ 0) (h2 : kd (24 + x) ≠ 0) : kd x = kd (24 + x) := (H.2.2.2.2.2.2.2 x hx).2.2.2.2.2.2.2 h h2
theorem cx_pl (H : Cx O N kd pa na da bi) {x : Nat} (hx : x < 24) (h3 : bi x &&& 3 ≠ 0) : bi x ≠ 0 ∧ bi x ≠ 8 ∧ x ≠ 0 ∧ kd x ≠ 0 ∧ ∃ p n, p < 24 ∧ n < N ∧ pa x = nI p ∧ na x = nI n ∧ kd p = 1 ∧ bi p ≠ 8 := by
  have hb0 : bi x ≠ 0 := fun e => h3 (by rw [e]; exact an_0 3)
  have hb8 : bi x ≠ 8 := fun e => h3 (by rw [e]; decide)
  have hk := cx_kx H hx hb0 hb8
  obtain ⟨_, p, n, hp, hn, e1, e2, e3⟩ := cx_p0 H (cx_ne H hb0) hx hk
  exact ⟨hb0, hb8, cx_ne H hb0, hk, p, n, hp, hn, e1, e2, e3, cx_k8 H hp (by rw [e3]; decide)⟩
theorem cx_rg (H : Cx O N kd pa na da bi) {m : Nat} (hm : m < 48) : pa m = -1 ∨ ∃ z, z < 24 ∧ pa m = nI z := by
  by_cases h : m < 24
  · by_cases h0 : m = 0
    · subst h0; exact Or.inl (cx_r0 H).2.1
    · by_cases hk : kd m = 0
      · exact Or.inl (cx_e H (by omega) hk).1
      · obtain ⟨_, p, n, hp, _, e, _⟩ := cx_p0 H h0 h hk
        exact Or.inr ⟨p, hp, e⟩
  · obtain ⟨x, rfl⟩ : ∃ x, m = 24 + x := ⟨m - 24, by omega⟩
    by_cases h0 : x = 0
    · subst h0; exact Or.inl (cx_r1 H).2.1
    · by_cases hk : kd (24 + x) = 0
      · exact Or.inl (cx_e H (by omega) hk).1
      · obtain ⟨_, p, n, hp, _, e, _⟩ := cx_p1 H h0 (by omega) hk
        exact Or.inr ⟨p, hp, e⟩
theorem cx_rl (H : Cx O N kd pa na da bi) {m : Nat} (hm : m < 48) : (pa m).toNatClampNeg < 24 := by
  rcases cx_rg H hm with h | ⟨z, hz, h⟩
  · rw [h, ob_m1]; omega
  · rw [h, nI_clamp (by omega)]; exact hz
end

/-! blocked -/
def st (bi F : Nat → Int32) (y : Nat) : Prop := F y = 1 → bi y &&& 10 = 0
def em (kd bi F : Nat → Int32) (p : Nat) : Prop := (F p = 1 → bi p ≠ 8) ∧ (F p ≠ 1 → kd (24 + p) ≠ 0)
def Blk (kd pa na bi F : Nat → Int32) (x : Nat) : Prop := F x = 1 ∧ (
  (bi x = 8 ∧ ∃ y, y < 24 ∧ kd (24 + y) ≠ 0 ∧ pa (24 + y) = nI x ∧ st bi F y) ∨
  (bi x &&& 3 ≠ 0 ∧ (¬ em kd bi F (pa x).toNatClampNeg ∨ ∃ y, y < 24 ∧ y ≠ x ∧ kd (24 + y) ≠ 0 ∧ pa (24 + y) = pa x ∧ na (24 + y) = na x ∧ st bi F y)))
def Dep (kd pa na : Nat → Int32) (y x : Nat) : Prop :=
  (kd (24 + y) = 0 ∧ kd x ≠ 0 ∧ pa x = nI y) ∨ (kd (24 + y) ≠ 0 ∧ (nI x = pa (24 + y) ∨ (kd x ≠ 0 ∧ pa x = pa (24 + y) ∧ na x = na (24 + y))))
def lq (F G : Nat → Int32) : Prop := ∀ y, y < 24 → G y = F y ∨ (F y = 1 ∧ G y ≠ 1)
def l3 (F G : Nat → Int32) : Prop := ∀ y, y < 24 → G y = F y ∨ (F y = 1 ∧ G y = 3)
def Bel (kd pa na bi F G : Nat → Int32) : Prop := l3 F G ∧ ∀ E, l3 F E → (∀ x, x < 24 → ¬ Blk kd pa na bi E x) → ∀ x, x < 24 → F x = 1 → G x = 3 → E x = 3
def Clo (kd pa na bi F G : Nat → Int32) : Prop := Bel kd pa na bi F G ∧ ∀ x, x < 24 → ¬ Blk kd pa na bi G x
section
variable {O N : Nat} {kd pa na da bi : Nat → Int32}
theorem bl_mono (H : Cx O N kd pa na da bi) {F G : Nat → Int32} {x : Nat} (hx : x < 24) (hl : lq F G) (hg : G x = 1) (hb : Blk kd pa na bi F x) : Blk kd pa na bi G x := by
  obtain ⟨hf, hb⟩ := hb
  refine ⟨hg, ?_⟩
  have hs : ∀ y, y < 24 → st bi F y → st bi G y := fun y hy h e => by
    rcases hl y hy with h1 | ⟨_, h2⟩
    · exact h (h1.symm.trans e)
    · exact absurd e h2
  rcases hb with ⟨h8, y, hy, h1, h2, h3⟩ | ⟨hp, hb⟩
  · exact Or.inl ⟨h8, y, hy, h1, h2, hs y hy h3⟩
  · refine Or.inr ⟨hp, ?_⟩
    rcases hb with h | ⟨y, hy, h1, h2, h3, h4, h5⟩
    · left
      obtain ⟨_, _, _, _, p, n, hp', _, e1, _, _, hk⟩ := cx_pl H hx hp
      rw [e1, nI_clamp (by omega)] at h ⊢
      intro he
      apply h
      refine ⟨fun _ => hk, fun hn => ?_⟩
      rcases hl p hp' with h1 | ⟨h1, _⟩
      · exact he.2 (by rw [h1]; exact hn)
      · exact absurd h1 hn
    · exact Or.inr ⟨y, hy, h1, h2, h3, h4, hs y hy h5⟩
theorem bl_congr (H : Cx O N kd pa na da bi) {F G : Nat → Int32} {x : Nat} (hx : x < 24) (he : ∀ i, i < 24 → G i = F i) (hb : Blk kd pa na bi F x) : Blk kd pa na bi G x :=
  bl_mono H hx (fun y hy => Or.inl (he y hy)) ((he x hx).trans hb.1) hb
theorem bl_wake (H : Cx O N kd pa na da bi) {F : Nat → Int32} {x y : Nat} {v : Int32} (hx : x < 24) (hv : v ≠ 1) (hn : ¬ Blk kd pa na bi F x) (hb : Blk kd pa na bi (upd F y v) x) : Dep kd pa na y x := by
  have hxy : x ≠ y := by
    rintro rfl
    have := hb.1
    rw [ob_us] at this
    exact hv this
  have hfx : F x = 1 := by
    have := hb.1
    rw [ob_un hxy] at this
    exact this
  have hst : ∀ z, st bi (upd F y v) z → ¬ st bi F z → z = y := fun z h1 h2 => by
    by_cases e : z = y
    · exact e
    · exfalso
      apply h2
      intro h3
      exact h1 (by rw [ob_un e]; exact h3)
  obtain ⟨_, hb⟩ := hb
  rcases hb with ⟨h8, z, hz, h1, h2, h3⟩ | ⟨hp, hb⟩
  · have : z = y := hst z h3 (fun hs => hn ⟨hfx, Or.inl ⟨h8, z, hz, h1, h2, hs⟩⟩)
    subst this
    exact Or.inr ⟨h1, Or.inl h2.symm⟩
  · obtain ⟨_, _, _, hkx, p, n, hp', _, e1, _, _, hk⟩ := cx_pl H hx hp
    rcases hb with h | ⟨z, hz, h1, h2, h3, h4, h5⟩
    · have hem : em kd bi F (pa x).toNatClampNeg := Classical.byContradiction fun hc => hn ⟨hfx, Or.inr ⟨hp, Or.inl hc⟩⟩
      have epx : (pa x).toNatClampNeg = p := by rw [e1, nI_clamp (by omega)]
      rw [epx] at h hem
      have : p = y := Classical.byContradiction fun hc => h (by unfold em; rw [ob_un hc]; exact hem)
      subst this
      left
      refine ⟨?_, hkx, e1⟩
      exact Classical.byContradiction fun hk => h ⟨fun e => absurd (ob_us.symm.trans e) hv, fun _ => hk⟩
    · have : z = y := hst z h5 (fun hs => hn ⟨hfx, Or.inr ⟨hp, Or.inr ⟨z, hz, h1, h2, h3, h4, hs⟩⟩⟩)
      subst this
      exact Or.inr ⟨h2, Or.inr ⟨hkx, h3.symm, h4.symm⟩⟩
theorem bel_rfl {F : Nat → Int32} : Bel kd pa na bi F F :=
  ⟨fun y _ => Or.inl rfl, fun E hE hc x hx h1 h3 => absurd (h1.symm.trans h3) (by decide)⟩
theorem bel_step (H : Cx O N kd pa na da bi) {F G : Nat → Int32} {x : Nat} (hB : Bel kd pa na bi F G) (hx : x < 24) (hb : Blk kd pa na bi G x) : Bel kd pa na bi F (upd G x 3) := by
  constructor
  · intro y hy
    by_cases e : y = x
    · subst e
      right
      refine ⟨?_, ob_us⟩
      rcases hB.1 y hy with h | h
      · exact h.symm.trans hb.1
      · exact h.1
    · rw [ob_un e]; exact hB.1 y hy
  · intro E hE hc z hz hf h3
    by_cases e : z = x
    · subst e
      rcases hE z hz with h | h
      · exfalso
        refine hc z hz (bl_mono H hz (fun y hy => ?_) (h.trans hf) hb)
        rcases hB.1 y hy with g | g
        · rcases hE y hy with k | k
          · exact Or.inl (k.trans g.symm)
          · exact Or.inr ⟨g.trans k.1, fun e => absurd (k.2.symm.trans e) (by decide)⟩
        · exact Or.inl ((hB.2 E hE hc y hy g.1 g.2).trans g.2.symm)
      · exact h.2
    · rw [ob_un e] at h3
      exact hB.2 E hE hc z hz hf h3
theorem clo_uniq {F G F' G' : Nat → Int32} (h : Clo kd pa na bi F G) (h' : Clo kd pa na bi F' G') (e : ∀ i, i < 24 → F' i = F i) : ∀ i, i < 24 → G' i = G i := by
  intro i hi
  have l1 : l3 F G' := fun y hy => by rw [← e y hy]; exact h'.1.1 y hy
  have l2 : l3 F' G := fun y hy => by rw [e y hy]; exact h.1.1 y hy
  rcases h.1.1 i hi with g | g
  · rcases h'.1.1 i hi with k | k
    · rw [k, g, e i hi]
    · have := h'.1.2 G l2 h.2 i hi k.1 k.2
      rw [this, k.2]
  · rw [g.2]
    exact h.1.2 G' l1 h'.2 i hi g.1 g.2
end
end
section
/-! loops of the merge, rounds, the result -/
def mq (pa bi F : Nat → Int32) (i : Nat) : Int32 := if F i = 1 ∧ bi i &&& 3 ≠ 0 then pa i else pa (24 + i)
def nx (pa bi F : Nat → Int32) (i : Nat) : Nat := (mq pa bi F i).toNatClampNeg
def OL (pa bi F : Nat → Int32) (x : Nat) : Prop := ∃ k, it (nx pa bi F) (k + 1) x = x
def Lp (pa bi F : Nat → Int32) (x : Nat) : Prop := F x = 1 ∧ bi x &&& 2 ≠ 0 ∧ OL pa bi F x
def LpS (pa bi F G : Nat → Int32) : Prop := ∀ i, i < 24 → (Lp pa bi F i → G i = 4) ∧ (¬ Lp pa bi F i → G i = F i)
def Rnd (kd pa na bi : Nat → Int32) : Nat → (Nat → Int32) → (Nat → Int32) → Prop
  | 0, _, _ => False
  | n + 1, F, G => ∃ E, Clo kd pa na bi F E ∧ (((∀ i, i < 24 → ¬ Lp pa bi E i) ∧ ∀ i, i < 24 → G i = E i) ∨ ((∃ i, i < 24 ∧ Lp pa bi E i) ∧ ∃ F', LpS pa bi E F' ∧ Rnd kd pa na bi n F' G))
abbrev cf (b s : Int32) : Prop := (b = 8 ∧ s &&& 6 ≠ 0) ∨ (b &&& 6 ≠ 0 ∧ (s = 8 ∨ b &&& s ≠ 0))
def f0 (bi : Nat → Int32) (i : Nat) : Int32 := if bi i = 0 then 0 else if cf (bi i) (bi (24 + i)) then 2 else 1
def Res (kd pa na bi G : Nat → Int32) : Prop := ∃ F n, (∀ i, i < 24 → F i = f0 bi i) ∧ Rnd kd pa na bi n F G
/-- fates: 0 just where nothing is touched; what works and isn't created is there on the server -/
def okF (kd bi F : Nat → Int32) : Prop := ∀ i, i < 24 → (F i = 0 ↔ bi i = 0) ∧ (F i = 1 → bi i &&& 6 ≠ 0 → kd (24 + i) ≠ 0) ∧ (F i = 0 ∨ F i = 1 ∨ F i = 2 ∨ F i = 3 ∨ F i = 4)
section
variable {O N : Nat} {kd pa na da bi : Nat → Int32}
theorem mq_rg (H : Cx O N kd pa na da bi) (F : Nat → Int32) {i : Nat} (hi : i < 24) : mq pa bi F i = -1 ∨ ∃ z, z < 24 ∧ mq pa bi F i = nI z := by
  unfold mq
  split
  · exact cx_rg H (by omega)
  · exact cx_rg H (by omega)
theorem nx_lt (H : Cx O N kd pa na da bi) (F : Nat → Int32) : ∀ i, i < 24 → nx pa bi F i < 24 := by
  intro i hi
  unfold nx
  rcases mq_rg H F hi with h | ⟨z, hz, h⟩
  · rw [h, ob_m1]; omega
  · rw [h, nI_clamp (by omega)]; exact hz
theorem nx_0 (H : Cx O N kd pa na da bi) (F : Nat → Int32) : nx pa bi F 0 = 0 := by
  unfold nx mq
  split
  · rw [(cx_r0 H).2.1, ob_m1]
  · show (pa 24).toNatClampNeg = 0
    rw [(cx_r1 H).2.1, ob_m1]
theorem nx_le0 (H : Cx O N kd pa na da bi) (F : Nat → Int32) {i : Nat} (hi : i < 24) : (mq pa bi F i ≤ 0 ∧ nx pa bi F i = 0) ∨ (¬ mq pa bi F i ≤ 0 ∧ nx pa bi F i ≠ 0 ∧ mq pa bi F i = nI (nx pa bi F i)) := by
  rcases mq_rg H F hi with h | ⟨z, hz, h⟩
  · left
    unfold nx
    rw [h, ob_m1]
    exact ⟨by decide, rfl⟩
  · unfold nx
    rw [h, nI_clamp (by omega), ob_le0 (by omega)]
    by_cases e : z = 0
    · exact Or.inl ⟨e, e⟩
    · exact Or.inr ⟨e, e, rfl⟩
theorem it_eq (H : Cx O N kd pa na da bi) {F G : Nat → Int32} (he : ∀ i, i < 24 → G i = F i) (k : Nat) {x : Nat} (hx : x < 24) : it (nx pa bi G) k x = it (nx pa bi F) k x :=
  (it_congr (f := nx pa bi F) (g := nx pa bi G) (fun i => i < 24) (fun i hi => ⟨by unfold nx mq; rw [he i hi], nx_lt H F i hi⟩) k x hx).1
theorem lp_congr (H : Cx O N kd pa na da bi) {F G : Nat → Int32} (he : ∀ i, i < 24 → G i = F i) {x : Nat} (hx : x < 24) (h : Lp pa bi F x) : Lp pa bi G x := by
  obtain ⟨h1, h2, k, h3⟩ := h
  exact ⟨(he x hx).trans h1, h2, k, by rw [it_eq H he _ hx]; exact h3⟩
theorem rnd_uniq (H : Cx O N kd pa na da bi) : ∀ (n m : Nat) (F F' G G' : Nat → Int32), Rnd kd pa na bi n F G → Rnd kd pa na bi m F' G' → (∀ i, i < 24 → F' i = F i) → ∀ i, i < 24 → G' i = G i := by
  intro n
  induction n with
  | zero => intro m F F' G G' h; exact absurd h id
  | succ n ih =>
    intro m F F' G G' h h' e
    cases m with
    | zero => exact absurd h' id
    | succ m =>
      obtain ⟨E, hE, h⟩ := h
      obtain ⟨E', hE', h'⟩ := h'
      have ee := clo_uniq hE hE' e
      have ee' : ∀ i, i < 24 → E i = E' i := fun i hi => (ee i hi).symm
      rcases h with ⟨h1, h2⟩ | ⟨⟨z, hz, hl⟩, D, hD, hr⟩
      · rcases h' with ⟨k1, k2⟩ | ⟨⟨z, hz, hl⟩, _⟩
        · intro i hi; rw [k2 i hi, h2 i hi, ee i hi]
        · exact absurd (lp_congr H ee' hz hl) (h1 z hz)
      · rcases h' with ⟨k1, k2⟩ | ⟨_, D', hD', hr'⟩
        · exact absurd (lp_congr H ee hz hl) (k1 z hz)
        · refine ih m D D' G G' hr hr' (fun i hi => ?_)
          by_cases hp : Lp pa bi E i
          · rw [(hD i hi).1 hp, (hD' i hi).1 (lp_congr H ee hi hp)]
          · rw [(hD i hi).2 hp, (hD' i hi).2 (fun q => hp (lp_congr H ee' hi q)), ee i hi]
theorem res_uniq (H : Cx O N kd pa na da bi) {G G' : Nat → Int32} (h : Res kd pa na bi G) (h' : Res kd pa na bi G') : ∀ i, i < 24 → G' i = G i := by
  obtain ⟨F, n, hF, hr⟩ := h
  obtain ⟨F', m, hF', hr'⟩ := h'
  exact rnd_uniq H n m F F' G G' hr hr' (fun i hi => by rw [hF i hi, hF' i hi])
theorem ok_l3 {F G : Nat → Int32} (h : okF kd bi F) (hl : l3 F G) : okF kd bi G := by
  intro i hi
  obtain ⟨h1, h2, h3⟩ := h i hi
  rcases hl i hi with e | ⟨e, g⟩
  · rw [e]; exact ⟨h1, h2, h3⟩
  · refine ⟨⟨fun z => absurd (g.symm.trans z) (by decide), fun z => ?_⟩, fun z => absurd (g.symm.trans z) (by decide), Or.inr (Or.inr (Or.inr (Or.inl g)))⟩
    exact absurd (e.symm.trans (h1.mpr z)) (by decide)
theorem ok_lp {F G : Nat → Int32} (h : okF kd bi F) (hl : LpS pa bi F G) : okF kd bi G := by
  intro i hi
  obtain ⟨h1, h2, h3⟩ := h i hi
  by_cases hp : Lp pa bi F i
  · have g := (hl i hi).1 hp
    refine ⟨⟨fun z => absurd (g.symm.trans z) (by decide), fun z => ?_⟩, fun z => absurd (g.symm.trans z) (by decide), Or.inr (Or.inr (Or.inr (Or.inr g)))⟩
    exact absurd (hp.1.symm.trans (h1.mpr z)) (by decide)
  · rw [(hl i hi).2 hp]; exact ⟨h1, h2, h3⟩
theorem ok_f0 (H : Cx O N kd pa na da bi) {F : Nat → Int32} (h : ∀ i, i < 24 → F i = f0 bi i) : okF kd bi F := by
  intro i hi
  rw [h i hi]
  unfold f0
  by_cases h0 : bi i = 0
  · rw [if_pos h0]
    exact ⟨⟨fun _ => h0, fun _ => rfl⟩, fun z => absurd z (by decide), Or.inl rfl⟩
  · rw [if_neg h0]
    by_cases hc : cf (bi i) (bi (24 + i))
    · rw [if_pos hc]
      exact ⟨⟨fun z => absurd z (by decide), fun z => absurd z h0⟩, fun z => absurd z (by decide), Or.inr (Or.inr (Or.inl rfl))⟩
    · rw [if_neg hc]
      refine ⟨⟨fun z => absurd z (by decide), fun z => absurd z h0⟩, fun _ h6 hk => ?_, Or.inr (Or.inl rfl)⟩
      have h8 : bi i ≠ 8 := fun e => h6 (by rw [e]; decide)
      have h1 : bi i ≠ 1 := fun e => h6 (by rw [e]; decide)
      exact hc (Or.inr ⟨h6, Or.inl (cx_s8 H hi (cx_kx H hi h0 h8) h1 hk)⟩)
theorem rnd_fin (H : Cx O N kd pa na da bi) : ∀ (n : Nat) (F G : Nat → Int32), Rnd kd pa na bi n F G → okF kd bi F → (∀ x, x < 24 → ¬ Blk kd pa na bi G x) ∧ (∀ x, x < 24 → ¬ Lp pa bi G x) ∧ okF kd bi G := by
  intro n
  induction n with
  | zero => intro F G h; exact absurd h id
  | succ n ih =>
    intro F G h ho
    obtain ⟨E, hE, h⟩ := h
    have hoE := ok_l3 ho hE.1.1
    rcases h with ⟨h1, h2⟩ | ⟨_, D, hD, hr⟩
    · have e' : ∀ i, i < 24 → E i = G i := fun i hi => (h2 i hi).symm
      refine ⟨fun x hx hb => hE.2 x hx (bl_congr H hx e' hb), fun x hx hl => h1 x hx (lp_congr H e' hx hl), fun i hi => ?_⟩
      rw [h2 i hi]; exact hoE i hi
    · exact ih D G hr (ok_lp hoE hD)
theorem res_fin (H : Cx O N kd pa na da bi) {G : Nat → Int32} (h : Res kd pa na bi G) : (∀ x, x < 24 → ¬ Blk kd pa na bi G x) ∧ (∀ x, x < 24 → ¬ Lp pa bi G x) ∧ okF kd bi G := by
  obtain ⟨F, n, hF, hr⟩ := h
  exact rnd_fin H n F G hr (ok_f0 H hF)
end

/-! painting a walk: what X's two walking loops do -/
def Pt (f : Nat → Nat) (x : Nat) (v : Int32) (m m' : Nat → Int32) (k : Nat) : Prop :=
  (∀ j, j < k → m' (it f j x) = v ∧ m (it f j x) = 0 ∧ it f j x ≠ 0) ∧ (∀ i, (∀ j, j < k → it f j x ≠ i) → m' i = m i) ∧ (∀ a b, a < b → b < k → it f a x ≠ it f b x)
section
variable {f : Nat → Nat} {x : Nat} {v : Int32} {m m' : Nat → Int32} {k : Nat}
theorem pt_0 : Pt f x v m m 0 := ⟨fun j hj => absurd hj (Nat.not_lt_zero _), fun i _ => rfl, fun a b _ hb => absurd hb (Nat.not_lt_zero _)⟩
theorem pt_s (hv : v ≠ 0) (h : Pt f x v m m' k) (hz : it f k x ≠ 0) (h0 : m' (it f k x) = 0) : Pt f x v m (upd m' (it f k x) v) (k + 1) := by
  have hd : ∀ j, j < k → it f j x ≠ it f k x := fun j hj e => hv ((h.1 j hj).1.symm.trans (e ▸ h0))
  refine ⟨fun j hj => ?_, fun i hi => ?_, fun a b hab hb => ?_⟩
  · by_cases e : j = k
    · subst e
      exact ⟨ob_us, by rw [← h.2.1 _ hd]; exact h0, hz⟩
    · have hj' : j < k := by omega
      rw [ob_un (hd j hj')]
      exact h.1 j hj'
  · rw [ob_un (fun e => hi k (by omega) e.symm)]
    exact h.2.1 i (fun j hj => hi j (by omega))
  · by_cases e : b = k
    · subst e; exact hd a hab
    · exact h.2.2 a b hab (by omega)
theorem pt_lt (hf : ∀ i, i < 24 → f i < 24) (hx : x < 24) (h : Pt f x v m m' k) : k ≤ 23 := by
  by_cases hk : k ≤ 23
  · exact hk
  · exfalso
    obtain ⟨a, b, hab, hb, e⟩ := php24 (g := fun j => it f j x) (fun j hj => ⟨it_lt hf j x hx, (h.1 j (by omega)).2.2⟩)
    exact h.2.2 a b hab (by omega) e
end
/-- the invariant between walks: marks closed under f, exactly the loops among the marked are found -/
def Mk (f : Nat → Nat) (m l : Nat → Int32) : Prop :=
  (∀ i, i < 24 → i ≠ 0 → m i ≠ 0 → f i = 0 ∨ m (f i) ≠ 0) ∧
  (∀ i, i < 24 → i ≠ 0 → l i ≠ 0 → m i ≠ 0 ∧ ∃ k, it f (k + 1) i = i) ∧
  (∀ i, i < 24 → i ≠ 0 → m i ≠ 0 → (∃ k, it f (k + 1) i = i) → l i ≠ 0)
section
variable {f : Nat → Nat} {x : Nat} {m m' l l' : Nat → Int32} {k k2 : Nat}
theorem mk_it (h0 : f 0 = 0) (hf : ∀ i, i < 24 → f i < 24) (hM : ∀ i, i < 24 → i ≠ 0 → m i ≠ 0 → f i = 0 ∨ m (f i) ≠ 0) : ∀ j x, x < 24 → x ≠ 0 → m x ≠ 0 → it f j x = 0 ∨ m (it f j x) ≠ 0 := by
  intro j
  induction j with
  | zero => intro x _ _ h; exact Or.inr h
  | succ j ih =>
    intro x hx hx0 h
    rw [it_s]
    rcases hM x hx hx0 h with e | e
    · rw [e]; exact Or.inl (it_z h0 j)
    · by_cases e0 : f x = 0
      · rw [e0]; exact Or.inl (it_z h0 j)
      · exact ih (f x) (hf x hx) e0 e
/-- a walk that ends at the root or at an older mark -/
theorem mk_a (h0 : f 0 = 0) (hf : ∀ i, i < 24 → f i < 24) (hx : x < 24) {v : Int32} (hv : v ≠ 0) (hM : Mk f m l) (hP : Pt f x v m m' k) (hE : it f k x = 0 ∨ (m' (it f k x) ≠ 0 ∧ m' (it f k x) ≠ v)) : Mk f m' l := by
  have hold : ∀ i, m i ≠ 0 → m' i = m i := fun i hi => hP.2.1 i (fun j hj e => hi (e ▸ (hP.1 j hj).2.1))
  have hnew : ∀ i, m' i ≠ 0 → m i ≠ 0 ∨ ∃ j, j < k ∧ it f j x = i := fun i hi => by
    by_cases h : ∃ j, j < k ∧ it f j x = i
    · exact Or.inr h
    · left
      rw [← hP.2.1 i (fun j hj e => h ⟨j, hj, e⟩)]
      exact hi
  have hend : it f k x = 0 ∨ m (it f k x) ≠ 0 := by
    rcases hE with h | ⟨h1, h2⟩
    · exact Or.inl h
    · rcases hnew _ h1 with h | ⟨j, hj, e⟩
      · exact Or.inr h
      · exact absurd (e ▸ (hP.1 j hj).1) h2
  refine ⟨fun i hi hi0 hm => ?_, fun i hi hi0 hl => ?_, fun i hi hi0 hm hc => ?_⟩
  · rcases hnew i hm with h | ⟨j, hj, e⟩
    · rcases hM.1 i hi hi0 h with g | g
      · exact Or.inl g
      · right; rw [hold _ g]; exact g
    · subst e
      rw [← it_s' f]
      by_cases ej : j + 1 = k
      · rw [ej]
        rcases hend with g | g
        · exact Or.inl g
        · right; rw [hold _ g]; exact g
      · right
        rw [(hP.1 (j + 1) (by omega)).1]; exact hv
  · obtain ⟨h1, h2⟩ := hM.2.1 i hi hi0 hl
    exact ⟨by rw [hold i h1]; exact h1, h2⟩
  · rcases hnew i hm with h | ⟨j, hj, e⟩
    · exact hM.2.2 i hi hi0 h hc
    · exfalso
      subst e
      obtain ⟨c, hc⟩ := hc
      -- the node goes round; its walk passes the end of the painted walk
      have e1 : it f (k - j) (it f j x) = it f k x := by rw [← it_add]; congr 1; omega
      have e2 : it f ((k - j) * (c + 1)) (it f j x) = it f j x := it_per hc _
      have e3 : (k - j) * (c + 1) = (k - j) + ((k - j) * c) := by rw [Nat.mul_succ]; omega
      rw [e3, it_add, e1] at e2
      rcases hend with g | g
      · rw [g, it_z h0] at e2
        exact (hP.1 j hj).2.2 e2.symm
      · by_cases gz : it f k x = 0
        · rw [gz, it_z h0] at e2
          exact (hP.1 j hj).2.2 e2.symm
        · rcases mk_it h0 hf hM.1 ((k - j) * c) (it f k x) (it_lt hf k x hx) gz g with q | q
          · rw [e2] at q
            exact (hP.1 j hj).2.2 q
          · rw [e2] at q
            exact q (hP.1 j hj).2.1
/-- a walk that meets itself: the loop is painted too -/
theorem mk_b (h0 : f 0 = 0) (hf : ∀ i, i < 24 → f i < 24) (hx : x < 24) {v w : Int32} (hv : v ≠ 0) (hw : w ≠ 0) (hM : Mk f m l) (hP : Pt f x v m m' k) (hz : it f k x ≠ 0) (hE : m' (it f k x) = v) (hmv : ∀ i, i < 24 → m i ≠ v) (hQ : Pt f (it f k x) w l l' k2) (hE2 : it f k2 (it f k x) = 0 ∨ l' (it f k2 (it f k x)) ≠ 0) : Mk f m' l' := by
  have hold : ∀ i, m i ≠ 0 → m' i = m i := fun i hi => hP.2.1 i (fun j hj e => hi (e ▸ (hP.1 j hj).2.1))
  have hnew : ∀ i, m' i ≠ 0 → m i ≠ 0 ∨ ∃ j, j < k ∧ it f j x = i := fun i hi => by
    by_cases h : ∃ j, j < k ∧ it f j x = i
    · exact Or.inr h
    · left
      rw [← hP.2.1 i (fun j hj e => h ⟨j, hj, e⟩)]
      exact hi
  have holl : ∀ i, l i ≠ 0 → l' i ≠ 0 := fun i hi => by
    rw [hQ.2.1 i (fun j hj e => hi (e ▸ (hQ.1 j hj).2.1))]; exact hi
  -- the end is one of the painted
  obtain ⟨a, ha, ea⟩ : ∃ a, a < k ∧ it f a x = it f k x := by
    by_cases h : ∃ j, j < k ∧ it f j x = it f k x
    · exact h
    · exfalso
      have := hP.2.1 (it f k x) (fun j hj e => h ⟨j, hj, e⟩)
      exact hmv _ (it_lt hf k x hx) (this.symm.trans hE)
  generalize hy : it f k x = y at *
  have hyl : y < 24 := by rw [← hy]; exact it_lt hf k x hx
  have hper : it f (k - a) y = y := by
    rw [← ea, ← it_add, show a + (k - a) = k by omega, ea, ← hy]
  have hpk : k - a = (k - a - 1) + 1 := by omega
  -- all iterates of y go round
  have hround : ∀ j, ∃ c, it f (c + 1) (it f j y) = it f j y := fun j => ⟨k - a - 1, by
    rw [← hpk, ← it_add, Nat.add_comm, it_add, hper]⟩
  have hnz : ∀ j, it f j y ≠ 0 := fun j e => by
    have e2 : it f (j * (k - a)) y = y := it_per hper j
    have e3 : j * (k - a) = j + j * (k - a - 1) := by
      obtain ⟨q, hq⟩ : ∃ q, k - a = q + 1 := ⟨k - a - 1, by omega⟩
      rw [hq, Nat.mul_succ, Nat.add_sub_cancel]; omega
    rw [e3, it_add, e, it_z h0] at e2
    exact hz e2.symm
  -- iterates of y are painted by the walk
  have hin : ∀ j, m' (it f j y) = v ∧ m (it f j y) = 0 := by
    intro j
    have : ∃ b, b < k ∧ it f b x = it f j y := by
      induction j with
      | zero => exact ⟨a, ha, ea⟩
      | succ j ih =>
        obtain ⟨b, hb, eb⟩ := ih
        rw [it_s', ← eb, ← it_s' f]
        by_cases e : b + 1 = k
        · exact ⟨a, ha, by rw [e, hy, ea]⟩
        · exact ⟨b + 1, by omega, rfl⟩
    obtain ⟨b, hb, eb⟩ := this
    rw [← eb]
    exact ⟨(hP.1 b hb).1, (hP.1 b hb).2.1⟩
  -- no iterate of y was on a found loop before
  have hl0 : ∀ j, l (it f j y) = 0 := fun j => by
    by_cases h : l (it f j y) = 0
    · exact h
    · exact absurd (hin j).2 (hM.2.1 _ (it_lt hf j y hyl) (hnz j) h).1
  -- all iterates of y are painted by the second walk
  obtain ⟨b, hb, eb⟩ : ∃ b, b < k2 ∧ it f b y = it f k2 y := by
    rcases hE2 with h | h
    · exact absurd h (hnz k2)
    · by_cases g : ∃ j, j < k2 ∧ it f j y = it f k2 y
      · exact g
      · exfalso
        have := hQ.2.1 (it f k2 y) (fun j hj e => g ⟨j, hj, e⟩)
        exact h (this.trans (hl0 k2))
  have hall : ∀ j, l' (it f j y) ≠ 0 := by
    intro j
    have : ∃ b, b < k2 ∧ it f b y = it f j y := by
      induction j with
      | zero => exact ⟨0, by omega, rfl⟩
      | succ j ih =>
        obtain ⟨c, hc, ec⟩ := ih
        rw [it_s', ← ec, ← it_s' f]
        by_cases e : c + 1 = k2
        · exact ⟨b, hb, by rw [e, eb]⟩
        · exact ⟨c + 1, by omega, rfl⟩
    obtain ⟨c, hc, ec⟩ := this
    rw [← ec, (hQ.1 c hc).1]
    exact hw
  refine ⟨fun i hi hi0 hm => ?_, fun i hi hi0 hl => ?_, fun i hi hi0 hm hc => ?_⟩
  · rcases hnew i hm with h | ⟨j, hj, e⟩
    · rcases hM.1 i hi hi0 h with g | g
      · exact Or.inl g
      · right; rw [hold _ g]; exact g
    · subst e
      right
      rw [← it_s' f]
      by_cases ej : j + 1 = k
      · rw [ej, hy, hE]; exact hv
      · rw [(hP.1 (j + 1) (by omega)).1]; exact hv
  · by_cases h : ∃ j, j < k2 ∧ it f j y = i
    · obtain ⟨j, hj, e⟩ := h
      subst e
      exact ⟨by rw [(hin j).1]; exact hv, hround j⟩
    · have e := hQ.2.1 i (fun j hj e => h ⟨j, hj, e⟩)
      rw [e] at hl
      obtain ⟨h1, h2⟩ := hM.2.1 i hi hi0 hl
      exact ⟨by rw [hold i h1]; exact h1, h2⟩
  · rcases hnew i hm with h | ⟨j, hj, e⟩
    · exact holl i (hM.2.2 i hi hi0 h hc)
    · subst e
      obtain ⟨c, hc⟩ := hc
      have e1 : it f (k - j) (it f j x) = y := by rw [← it_add, ← hy]; congr 1; omega
      have e2 : it f ((k - j) * (c + 1)) (it f j x) = it f j x := it_per hc _
      have e3 : (k - j) * (c + 1) = (k - j) + ((k - j) * c) := by rw [Nat.mul_succ]; omega
      rw [e3, it_add, e1] at e2
      rw [← e2]
      exact hall _
end
end
section
/-! the log, the sum of bits, the indexes: pure steps -/
theorem cb_ {b : Int32} (h : vb b) : (((b &&& 1) + ((b >>> ((1 : Int32) &&& 31)) &&& 1)) + ((b >>> ((2 : Int32) &&& 31)) &&& 1)) + ((b >>> ((3 : Int32) &&& 31)) &&& 1) = nI (pc b) := by
  rcases h with h | h | h | h | h | h <;> subst h <;> decide
theorem ob_pb {S S' a b : Nat} (h : S' + b = S + a) : nI S + (nI a - nI b) = nI S' := by
  rw [Int32.sub_eq_add_neg, ← Int32.add_assoc, nI_add, ← h, ← nI_add, Int32.add_assoc, Int32.add_right_neg, Int32.add_zero]
theorem pc_le (b : Int32) : pc b ≤ 2 := by
  unfold pc
  split
  · omega
  · split <;> omega
theorem sm_pc (bi : Nat → Int32) : sm (fun i => pc (bi i)) 24 < 2 ^ 31 := by
  have := sm_le (f := fun i => pc (bi i)) (c := 2) (fun i => pc_le _) 24
  omega
section
variable {bi li la : Nat → Int32} {L : Nat}
theorem lg_L (h : Lg bi li la L) (h0 : bi 0 = 0) : L < 24 := by
  rw [h.1]
  exact cn_lt (i := 0) (by simp [h0]) 24 (by omega)
theorem lg_congr {bj : Nat → Int32} (h : Lg bi li la L) (e : ∀ i, i < 24 → (bj i = 0 ↔ bi i = 0)) : Lg bj li la L := by
  refine ⟨?_, fun j hj => ?_, fun i hi hb => ?_⟩
  · rw [h.1]
    exact cn_congr 24 (fun i hi => by
      by_cases z : bi i = 0
      · simp [z, (e i hi).mpr z]
      · have z' : ¬ bj i = 0 := fun q => z ((e i hi).mp q)
        simp [z, z'])
  · obtain ⟨i, h0, hi, h1, h2, h3⟩ := h.2.1 j hj
    exact ⟨i, h0, hi, h1, fun z => h2 ((e i hi).mp z), h3⟩
  · exact h.2.2 i hi (fun z => hb ((e i hi).mpr z))
theorem lg_enter {x : Nat} {v : Int32} (h : Lg bi li la L) (hx : x < 24) (hx0 : x ≠ 0) (h0 : bi x = 0) (hv : v ≠ 0) (hL : L < 24) : Lg (upd bi x v) (upd li L (nI x)) (upd la x (nI (L + 1))) (L + 1) := by
  refine ⟨?_, fun j hj => ?_, fun i hi hb => ?_⟩
  · rw [h.1]
    refine (cn_set (p := fun i => decide (bi i ≠ 0)) (q := fun i => decide (upd bi x v i ≠ 0)) (i := x) (by simp [h0]) (by simp [ob_us, hv]) 24 hx (fun j _ hj => ?_)).symm
    show decide (upd bi x v j ≠ 0) = _
    rw [ob_un hj]
  · by_cases e : j = L
    · subst e
      exact ⟨x, hx0, hx, ob_us, by rw [ob_us]; exact hv, ob_us⟩
    · obtain ⟨i, hi0, hi, h1, h2, h3⟩ := h.2.1 j (by omega)
      have hne : i ≠ x := fun e => h2 (e ▸ h0)
      exact ⟨i, hi0, hi, by rw [ob_un e]; exact h1, by rw [ob_un hne]; exact h2, by rw [ob_un hne]; exact h3⟩
  · by_cases e : i = x
    · subst e
      exact ⟨L, by omega, ob_us, ob_us⟩
    · rw [ob_un e] at hb
      obtain ⟨j, hj, h1, h2⟩ := h.2.2 i hi hb
      exact ⟨j, by omega, by rw [ob_un (by omega)]; exact h1, by rw [ob_un e]; exact h2⟩
theorem lg_leave {x g z : Nat} (h : Lg bi li la L) (hL : L < 24) (hx : x < 24) (hb : bi x ≠ 0) (hg : g < L) (eg : li g = nI x) (eg' : la x = nI (g + 1)) (hz : z < 24) (ez : li (L - 1) = nI z) : Lg (upd bi x 0) (upd li g (nI z)) (upd (upd la z (nI (g + 1))) x 0) (L - 1) := by
  have hzl : la z = nI (L - 1 + 1) := by
    obtain ⟨i, _, hi, h1, _, h3⟩ := h.2.1 (L - 1) (by omega)
    have := ob_inj (ez.symm.trans h1) (by omega) (by omega)
    subst this
    exact h3
  refine ⟨?_, fun j hj => ?_, fun i hi hb' => ?_⟩
  · have := cn_set (p := fun i => decide (upd bi x 0 i ≠ 0)) (q := fun i => decide (bi i ≠ 0)) (i := x) (by simp [ob_us]) (by simp [hb]) 24 hx (fun j _ hj => by
      show _ = decide (upd bi x 0 j ≠ 0)
      rw [ob_un hj])
    rw [← h.1] at this
    omega
  · by_cases e : j = g
    · subst e
      have hzx : z ≠ x := fun e => by
        subst e
        have := ob_inj (hzl.symm.trans eg') (by omega) (by omega)
        omega
      obtain ⟨i, hi0, hi, h1, h2, h3⟩ := h.2.1 (L - 1) (by omega)
      have := ob_inj (ez.symm.trans h1) (by omega) (by omega)
      subst this
      exact ⟨z, hi0, hz, ob_us, by rw [ob_un hzx]; exact h2, by rw [ob_un hzx, ob_us]⟩
    · obtain ⟨i, hi0, hi, h1, h2, h3⟩ := h.2.1 j (by omega)
      have hix : i ≠ x := fun e' => by
        subst e'
        have := ob_inj (h3.symm.trans eg') (by omega) (by omega)
        omega
      have hiz : i ≠ z := fun e' => by
        subst e'
        have := ob_inj (h3.symm.trans hzl) (by omega) (by omega)
        omega
      exact ⟨i, hi0, hi, by rw [ob_un e]; exact h1, by rw [ob_un hix]; exact h2, by rw [ob_un hix, ob_un hiz]; exact h3⟩
  · have hix : i ≠ x := fun e => hb' (by rw [e, ob_us])
    rw [ob_un hix] at hb'
    obtain ⟨j, hj, h1, h2⟩ := h.2.2 i hi hb'
    have hjg : j ≠ g := fun e => by
      subst e
      exact hix (ob_inj (h1.symm.trans eg) (by omega) (by omega))
    by_cases e : i = z
    · subst e
      have hj' := ob_inj (h2.symm.trans hzl) (by omega) (by omega)
      exact ⟨g, by omega, ob_us, by rw [ob_un hix, ob_us]⟩
    · have : j ≠ L - 1 := fun e' => by
        subst e'
        exact e (ob_inj (h1.symm.trans ez) (by omega) (by omega))
      exact ⟨j, by omega, by rw [ob_un hjg]; exact h1, by rw [ob_un hix, ob_un e]; exact h2⟩
end
section
variable {o : Nat} {pr qr : Nat → Bool} {pa na sl cc pa' na' sl' cc' : Nat → Int32}
/-- only what is there counts -/
theorem sl_congr (h : SL o pr pa na sl cc) (hp : ∀ i, i < 24 → qr i = pr i) (h1 : ∀ i, i < 24 → pr i = true → pa' (o + i) = pa (o + i) ∧ na' (o + i) = na (o + i)) (h2 : ∀ p n, p < 24 → n < 8 → sl' (8 * (o + p) + n) = sl (8 * (o + p) + n)) (h3 : ∀ p, p < 24 → cc' (o + p) = cc (o + p)) : SL o qr pa' na' sl' cc' := by
  refine ⟨fun i hi hq => ?_, fun p n hp' hn => ?_, fun p hp' => ?_, ?_⟩
  · rw [hp i hi] at hq
    obtain ⟨p, n, a, b, c, d, e⟩ := h.1 i hi hq
    exact ⟨p, n, a, b, by rw [(h1 i hi hq).1]; exact c, by rw [(h1 i hi hq).2]; exact d, by rw [h2 p n a b]; exact e⟩
  · rw [h2 p n hp' hn]
    rcases h.2.1 p n hp' hn with g | ⟨i, a, b, c, d, e⟩
    · exact Or.inl g
    · exact Or.inr ⟨i, a, by rw [hp i a]; exact b, c, by rw [(h1 i a b).1]; exact d, by rw [(h1 i a b).2]; exact e⟩
  · rw [h3 p hp', h.2.2.1 p hp']
    refine congrArg nI (cn_congr 24 (fun i hi => ?_))
    show (pr i && decide (pa (o + i) = nI p)) = (qr i && decide (pa' (o + i) = nI p))
    rw [hp i hi]
    cases hq : pr i with
    | false => rfl
    | true => rw [(h1 i hi hq).1]
  · rw [hp 0 (by omega)]; exact h.2.2.2
theorem sl_ix {p n p' n' : Nat} (hn : n < 8) (hn' : n' < 8) (h : 8 * (o + p') + n' = 8 * (o + p) + n) : p' = p ∧ n' = n := by omega
/-- one is taken out -/
theorem sl_out {i p n : Nat} (h : SL o pr pa na sl cc) (hi : i < 24) (hpr : pr i = true) (hp : p < 24) (hn : n < 8) (ep : pa (o + i) = nI p) (en : na (o + i) = nI n) (hq : ∀ j, j < 24 → qr j = (pr j && decide (j ≠ i))) : SL o qr pa na (upd sl (8 * (o + p) + n) 0) (upd cc (o + p) (cc (o + p) - 1)) := by
  have huniq : ∀ j, j < 24 → pr j = true → pa (o + j) = nI p → na (o + j) = nI n → j = i := fun j hj hpj a b => by
    obtain ⟨p1, n1, b1, b2, b3, b4, b5⟩ := h.1 i hi hpr
    obtain ⟨p2, n2, c1, c2, c3, c4, c5⟩ := h.1 j hj hpj
    have e1 := ob_inj (b3.symm.trans ep) (by omega) (by omega)
    have e2 := ob_inj (b4.symm.trans en) (by omega) (by omega)
    have e3 := ob_inj (c3.symm.trans a) (by omega) (by omega)
    have e4 := ob_inj (c4.symm.trans b) (by omega) (by omega)
    subst e1 e2 e3 e4
    exact ob_inj (c5.symm.trans b5) (by omega) (by omega)
  refine ⟨fun j hj hqj => ?_, fun p' n' hp' hn' => ?_, fun p' hp' => ?_, ?_⟩
  · rw [hq j hj, Bool.and_eq_true, decide_eq_true_eq] at hqj
    obtain ⟨p', n', a, b, c, d, e⟩ := h.1 j hj hqj.1
    refine ⟨p', n', a, b, c, d, ?_⟩
    rw [ob_un (fun z => ?_)]
    · exact e
    · obtain ⟨z1, z2⟩ := sl_ix hn b z
      subst z1 z2
      exact hqj.2 (huniq j hj hqj.1 c d)
  · by_cases z : 8 * (o + p') + n' = 8 * (o + p) + n
    · left; rw [z, ob_us]
    · rw [ob_un z]
      rcases h.2.1 p' n' hp' hn' with g | ⟨j, a, b, c, d, e⟩
      · exact Or.inl g
      · refine Or.inr ⟨j, a, ?_, c, d, e⟩
        rw [hq j a, Bool.and_eq_true, decide_eq_true_eq]
        refine ⟨b, fun ej => ?_⟩
        subst ej
        have e1 := ob_inj (d.symm.trans ep) (by omega) (by omega)
        have e2 := ob_inj (e.symm.trans en) (by omega) (by omega)
        subst e1 e2
        exact z rfl
  · by_cases z : p' = p
    · subst z
      rw [ob_us, h.2.2.1 p' hp']
      have := cn_set (p := fun j => qr j && decide (pa (o + j) = nI p')) (q := fun j => pr j && decide (pa (o + j) = nI p')) (i := i) (by simp [hq i hi]) (by simp [hpr, ep]) 24 hi (fun j hj hji => by
        show (pr j && decide (pa (o + j) = nI p')) = (qr j && decide (pa (o + j) = nI p'))
        rw [hq j hj]; simp [hji])
      rw [this, nI_pred]
    · rw [ob_un (by omega), h.2.2.1 p' hp']
      refine congrArg nI (cn_congr 24 (fun j hj => ?_))
      show (pr j && decide (pa (o + j) = nI p')) = (qr j && decide (pa (o + j) = nI p'))
      rw [hq j hj]
      by_cases ej : j = i
      · subst ej
        have : ¬ pa (o + j) = nI p' := fun e => z (ob_inj (e.symm.trans ep) (by omega) (by omega))
        simp [this]
      · simp [ej]
  · rw [hq 0 (by omega), h.2.2.2]; rfl
/-- one is put in, where nobody is -/
theorem sl_in {i p n : Nat} (h : SL o pr pa na sl cc) (hi : i < 24) (hi0 : i ≠ 0) (hpr : pr i = false) (hp : p < 24) (hn : n < 8) (hfree : ∀ j, j < 24 → pr j = true → pa (o + j) = nI p → na (o + j) = nI n → False) (hq : ∀ j, j < 24 → qr j = (pr j || decide (j = i))) : SL o qr (upd pa (o + i) (nI p)) (upd na (o + i) (nI n)) (upd sl (8 * (o + p) + n) (nI i)) (upd cc (o + p) (cc (o + p) + 1)) := by
  refine ⟨fun j hj hqj => ?_, fun p' n' hp' hn' => ?_, fun p' hp' => ?_, ?_⟩
  · by_cases ej : j = i
    · subst ej
      exact ⟨p, n, hp, hn, ob_us, ob_us, ob_us⟩
    · have hpj : pr j = true := by
        rw [hq j hj] at hqj
        simpa [ej] using hqj
      obtain ⟨p', n', a, b, c, d, e⟩ := h.1 j hj hpj
      refine ⟨p', n', a, b, by rw [ob_un (by omega)]; exact c, by rw [ob_un (by omega)]; exact d, ?_⟩
      rw [ob_un (fun z => ?_)]
      · exact e
      · obtain ⟨z1, z2⟩ := sl_ix hn b z
        subst z1 z2
        exact hfree j hj hpj c d
  · by_cases z : 8 * (o + p') + n' = 8 * (o + p) + n
    · right
      obtain ⟨z1, z2⟩ := sl_ix hn hn' z
      subst z1 z2
      exact ⟨i, hi, by rw [hq i hi]; simp, ob_us, ob_us, ob_us⟩
    · rw [ob_un z]
      rcases h.2.1 p' n' hp' hn' with g | ⟨j, a, b, c, d, e⟩
      · exact Or.inl g
      · have hji : j ≠ i := fun e => by subst e; rw [hpr] at b; exact absurd b (by decide)
        exact Or.inr ⟨j, a, by rw [hq j a, b]; rfl, c, by rw [ob_un (by omega)]; exact d, by rw [ob_un (by omega)]; exact e⟩
  · by_cases z : p' = p
    · subst z
      rw [ob_us, h.2.2.1 p' hp']
      have := cn_set (p := fun j => pr j && decide (pa (o + j) = nI p')) (q := fun j => qr j && decide (upd pa (o + i) (nI p') (o + j) = nI p')) (i := i) (by simp [hpr]) (by simp [hq i hi, ob_us]) 24 hi (fun j hj hji => by
        show (qr j && decide (upd pa (o + i) (nI p') (o + j) = nI p')) = (pr j && decide (pa (o + j) = nI p'))
        rw [hq j hj, ob_un (by omega)]; simp [hji])
      rw [this, nI_1]
    · rw [ob_un (by omega), h.2.2.1 p' hp']
      refine congrArg nI (cn_congr 24 (fun j hj => ?_))
      show (pr j && decide (pa (o + j) = nI p')) = (qr j && decide (upd pa (o + i) (nI p) (o + j) = nI p'))
      by_cases ej : j = i
      · subst ej
        have : ¬ nI p = nI p' := fun e => z (ob_inj e (by omega) (by omega)).symm
        rw [ob_us, hpr]
        simp [this]
      · rw [hq j hj, ob_un (by omega)]
        simp [ej]
  · rw [hq 0 (by omega), h.2.2.2]
    simp; omega
/-- the slot of a place -/
theorem sl_at (h : SL o pr pa na sl cc) {p n : Nat} (hp : p < 24) (hn : n < 8) : (sl (8 * (o + p) + n) = 0 ∧ ∀ i, i < 24 → pr i = true → pa (o + i) = nI p → na (o + i) = nI n → False) ∨ ∃ i, i < 24 ∧ i ≠ 0 ∧ pr i = true ∧ sl (8 * (o + p) + n) = nI i ∧ pa (o + i) = nI p ∧ na (o + i) = nI n ∧ ∀ j, j < 24 → pr j = true → pa (o + j) = nI p → na (o + j) = nI n → j = i := by
  have hall : ∀ j, j < 24 → pr j = true → pa (o + j) = nI p → na (o + j) = nI n → sl (8 * (o + p) + n) = nI j := fun j hj hpj a b => by
    obtain ⟨p2, n2, c1, c2, c3, c4, c5⟩ := h.1 j hj hpj
    have e3 := ob_inj (c3.symm.trans a) (by omega) (by omega)
    have e4 := ob_inj (c4.symm.trans b) (by omega) (by omega)
    subst e3 e4
    exact c5
  have hnz : ∀ j, pr j = true → j ≠ 0 := fun j hj e => by
    subst e
    rw [h.2.2.2] at hj
    exact absurd hj (by decide)
  rcases h.2.1 p n hp hn with g | ⟨i, a, b, c, d, e⟩
  · left
    refine ⟨g, fun i hi hpi a b => ?_⟩
    have := hall i hi hpi a b
    rw [g] at this
    exact hnz i hpi ((ob_n0 (by omega)).mp this.symm)
  · right
    exact ⟨i, a, hnz i b, b, c, d, e, fun j hj hpj a' b' => ob_inj ((hall j hj hpj a' b').symm.trans c) (by omega) (by omega)⟩
end
end
section
/-! X's small methods -/
section
variable {O N C L : Nat} {pb qh qt pl : Int32} {kd pa na da sl cc bi tk ve li la fa qu wm ol : Nat → Int32} {post : Int32 → Prop} {pst : SX → Prop}
theorem x_isTree {v : Int32} (f : ∀ s, s < 2 → v = nI s → post 1) (g : v ≠ 0 → v ≠ 1 → post 0) : wpX_isTree post (nI O, nI N, nI C, nI L, pb, qh, qt, pl, kd, pa, na, da, sl, cc, bi, tk, ve, li, la, fa, qu, wm, ol) v :=
  br_c (fun h => f 0 (by omega) h) (fun h => br_c (fun h1 => f 1 (by omega) h1) (fun h1 => g h h1))
theorem x_isId (hO : O ≤ 24) {v : Int32} (f : ∀ j, j < O → v = nI j → post 1) (g : (∀ j, j < O → v ≠ nI j) → post 0) : wpX_isId post (nI O, nI N, nI C, nI L, pb, qh, qt, pl, kd, pa, na, da, sl, cc, bi, tk, ve, li, la, fa, qu, wm, ol) v := by
  rcases ob_ix v (n := O) (by omega) with ⟨j, hj, rfl⟩ | ⟨hn, h⟩
  · exact br_f (nI_pos (by omega)) (br_f (nI_ge hj (by omega)) (f j hj rfl))
  · rcases h with h | ⟨h1, h2⟩
    · exact br_t h (g hn)
    · exact br_f h1 (br_t h2 (g hn))
theorem x_isName (hN : N ≤ 8) {v : Int32} (f : ∀ j, j < N → v = nI j → post 1) (g : (∀ j, j < N → v ≠ nI j) → post 0) : wpX_isName post (nI O, nI N, nI C, nI L, pb, qh, qt, pl, kd, pa, na, da, sl, cc, bi, tk, ve, li, la, fa, qu, wm, ol) v := by
  rcases ob_ix v (n := N) (by omega) with ⟨j, hj, rfl⟩ | ⟨hn, h⟩
  · exact br_f (nI_pos (by omega)) (br_f (nI_ge hj (by omega)) (f j hj rfl))
  · rcases h with h | ⟨h1, h2⟩
    · exact br_t h (g hn)
    · exact br_f h1 (br_t h2 (g hn))
theorem x_exists (hO : O ≤ 24) {s : Nat} (hs : s < 3) {v : Int32} (f : ∀ j, j < O → v = nI j → kd (24 * s + j) ≠ 0 → post 1) (g : (∀ j, j < O → v = nI j → kd (24 * s + j) = 0) → post 0) : wpX_exists post (nI O, nI N, nI C, nI L, pb, qh, qt, pl, kd, pa, na, da, sl, cc, bi, tk, ve, li, la, fa, qu, wm, ol) (nI s) v := by
  unfold wpX_exists
  refine x_isId hO (fun j hj e => ?_) (fun hn => br_t rfl (g (fun j hj e => absurd e (hn j hj))))
  subst e
  refine br_f ob_10 (And.intro (ob_in (24 * s + j) 72 (by omega) (ob_si s j)) (rc_ (ob_cl (24 * s + j) (ob_si s j)) (fun h0 => g (fun j' hj' e' => ?_)) (fun h0 => f j hj rfl h0)))
  have := ob_inj e' (by omega) (by omega)
  subst this
  exact h0
theorem x_checkParent (hO : O ≤ 24) {s : Nat} (hs : s < 3) {v : Int32} (f : ∀ j, j < O → v = nI j → kd (24 * s + j) ≠ 0 → kd (24 * s + j) ≠ 2 → post 0) (f2 : ∀ j, j < O → v = nI j → kd (24 * s + j) = 2 → post 3) (g : (∀ j, j < O → v = nI j → kd (24 * s + j) = 0) → post 2) : wpX_checkParent post (nI O, nI N, nI C, nI L, pb, qh, qt, pl, kd, pa, na, da, sl, cc, bi, tk, ve, li, la, fa, qu, wm, ol) (nI s) v := by
  unfold wpX_checkParent
  refine x_exists hO hs (fun j hj e h0 => ?_) (fun hn => br_t rfl (g hn))
  subst e
  exact br_f ob_10 (And.intro (ob_in (24 * s + j) 72 (by omega) (ob_si s j)) (rc_ (ob_cl (24 * s + j) (ob_si s j)) (fun h2 => f2 j hj rfl h2) (fun h2 => f j hj rfl h0 h2)))
theorem x_occupant {s p n : Nat} (hs : s < 2) (hp : p < 24) (hn : n < 8) (k : post (sl (8 * (24 * s + p) + n))) : wpX_occupant post (nI O, nI N, nI C, nI L, pb, qh, qt, pl, kd, pa, na, da, sl, cc, bi, tk, ve, li, la, fa, qu, wm, ol) (nI s) (nI p) (nI n) :=
  And.intro (ob_in (8 * (24 * s + p) + n) 384 (by omega) (ob_spn s p n)) (ex_ (ob_cl (8 * (24 * s + p) + n) (ob_spn s p n)) k)
theorem x_lacksRoom {s i : Nat} (hs : s < 2) (hi : i < 24) {m : Int32} (f : s = 0 → pb = nI C → bi (24 * s + i) &&& m = 0 → post 1) (g : (s = 0 → pb = nI C → bi (24 * s + i) &&& m = 0 → False) → post 0) : wpX_lacksRoom post (nI O, nI N, nI C, nI L, pb, qh, qt, pl, kd, pa, na, da, sl, cc, bi, tk, ve, li, la, fa, qu, wm, ol) (nI s) (nI i) m := by
  by_cases h : s = 0
  · subst h
    rw [Nat.mul_zero, Nat.zero_add] at f g
    refine br_t rfl (br_c (fun hp => And.intro (ob_in i 48 (by omega)) (rm_ (nI_clamp (by omega)) (fun hm => f rfl hp hm) (fun hm => g (fun _ _ z => hm z)))) (fun hp => g (fun _ z _ => hp z)))
  · exact br_f (fun e => h ((ob_n0 (by omega)).mp e)) (g (fun z _ _ => h z))
theorem x_place {s i p n : Nat} (hs : s < 2) (hi : i < 24) (hp : p < 24) (hn : n < 8) (k : pst (nI O, nI N, nI C, nI L, pb, qh, qt, pl, kd, upd pa (24 * s + i) (nI p), upd na (24 * s + i) (nI n), da, upd sl (8 * (24 * s + p) + n) (nI i), upd cc (24 * s + p) (cc (24 * s + p) + 1), bi, tk, ve, li, la, fa, qu, wm, ol)) : wpX_place pst (nI O, nI N, nI C, nI L, pb, qh, qt, pl, kd, pa, na, da, sl, cc, bi, tk, ve, li, la, fa, qu, wm, ol) (nI s) (nI i) (nI p) (nI n) := by
  refine nm_r (ob_si s p) ?_
  have c1 := ob_cl (24 * s + i) (ob_si s i)
  have c2 := ob_cl (8 * (24 * s + p) + n) (ob_s8 (24 * s + p) n)
  have c3 := nI_clamp (n := 24 * s + p) (by omega)
  refine And.intro (ob_in (24 * s + i) 72 (by omega) (ob_si s i)) (nu_ c1 (And.intro (ob_in (24 * s + i) 72 (by omega) (ob_si s i)) (nu_ c1 (And.intro (ob_in (8 * (24 * s + p) + n) 384 (by omega) (ob_s8 (24 * s + p) n)) (nu_ c2 (And.intro (ob_in (24 * s + p) 48 (by omega)) (And.intro (ob_in (24 * s + p) 48 (by omega)) ?_)))))))
  rw [c3]
  exact nm_e k
theorem x_unlink {s i p n : Nat} (hs : s < 2) (hi : i < 24) (hp : p < 24) (hn : n < 8) (ep : pa (24 * s + i) = nI p) (en : na (24 * s + i) = nI n) (k : pst (nI O, nI N, nI C, nI L, pb, qh, qt, pl, kd, pa, na, da, upd sl (8 * (24 * s + p) + n) 0, upd cc (24 * s + p) (cc (24 * s + p) - 1), bi, tk, ve, li, la, fa, qu, wm, ol)) : wpX_unlink pst (nI O, nI N, nI C, nI L, pb, qh, qt, pl, kd, pa, na, da, sl, cc, bi, tk, ve, li, la, fa, qu, wm, ol) (nI s) (nI i) := by
  refine nm_r (ob_si s i) ?_
  have c1 := nI_clamp (n := 24 * s + i) (by omega)
  rw [c1, ep, en]
  refine And.intro (ob_in (24 * s + i) 72 (by omega)) (br_t (nI_pos' (by omega)) (And.intro (ob_in (24 * s + i) 72 (by omega)) (nm_r (ob_si s p) ?_)))
  have c2 := ob_cl (8 * (24 * s + p) + n) (ob_s8 (24 * s + p) n)
  have c3 := nI_clamp (n := 24 * s + p) (by omega)
  refine And.intro (ob_in (24 * s + i) 72 (by omega)) (And.intro (ob_in (8 * (24 * s + p) + n) 384 (by omega) (ob_s8 (24 * s + p) n)) (nu_ c2 (And.intro (ob_in (24 * s + p) 48 (by omega)) (And.intro (ob_in (24 * s + p) 48 (by omega)) ?_))))
  rw [c3]
  exact nm_e k
theorem x_unlink0 {s i : Nat} (hs : s < 2) (hi : i < 24) (ep : pa (24 * s + i) = -1) (k : pst (nI O, nI N, nI C, nI L, pb, qh, qt, pl, kd, pa, na, da, sl, cc, bi, tk, ve, li, la, fa, qu, wm, ol)) : wpX_unlink pst (nI O, nI N, nI C, nI L, pb, qh, qt, pl, kd, pa, na, da, sl, cc, bi, tk, ve, li, la, fa, qu, wm, ol) (nI s) (nI i) := by
  refine nm_r (ob_si s i) ?_
  have c1 := nI_clamp (n := 24 * s + i) (by omega)
  rw [c1, ep]
  exact And.intro (ob_in (24 * s + i) 72 (by omega)) (br_f (by decide) k)
theorem x_clearEntry {m : Nat} (hm : m < 72) (k : pst (nI O, nI N, nI C, nI L, pb, qh, qt, pl, upd kd m 0, upd pa m (-1), upd na m (-1), upd da m 0, sl, cc, bi, tk, ve, li, la, fa, qu, wm, ol)) : wpX_clearEntry pst (nI O, nI N, nI C, nI L, pb, qh, qt, pl, kd, pa, na, da, sl, cc, bi, tk, ve, li, la, fa, qu, wm, ol) (nI m) := by
  have c := nI_clamp (n := m) (by omega)
  have i := ob_in (x := nI m) m 72 hm
  exact And.intro i (nu_ c (And.intro i (nu_ c (And.intro i (nu_ c (And.intro i (nu_ c k)))))))
theorem x_copyEntry {a b : Nat} (ha : a < 72) (hb : b < 72) (k : pst (nI O, nI N, nI C, nI L, pb, qh, qt, pl, upd kd b (kd a), upd pa b (pa a), upd na b (na a), upd da b (da a), sl, cc, bi, tk, ve, li, la, fa, qu, wm, ol)) : wpX_copyEntry pst (nI O, nI N, nI C, nI L, pb, qh, qt, pl, kd, pa, na, da, sl, cc, bi, tk, ve, li, la, fa, qu, wm, ol) (nI a) (nI b) := by
  have c := nI_clamp (n := b) (by omega)
  have c' := nI_clamp (n := a) (by omega)
  have i := ob_in (x := nI a) a 72 ha
  have j := ob_in (x := nI b) b 72 hb
  unfold wpX_copyEntry
  rw [c, c']
  exact And.intro i (And.intro j (nm_e (And.intro i (And.intro j (nm_e (And.intro i (And.intro j (nm_e (And.intro i (And.intro j (nm_e k)))))))))))
theorem x_enterLog {i : Nat} (hL : L < 24) (hi : i < 24) (k : pst (nI O, nI N, nI C, nI (L + 1), pb, qh, qt, pl, kd, pa, na, da, sl, cc, bi, tk, ve, upd li L (nI i), upd la i (nI (L + 1)), fa, qu, wm, ol)) : wpX_enterLog pst (nI O, nI N, nI C, nI L, pb, qh, qt, pl, kd, pa, na, da, sl, cc, bi, tk, ve, li, la, fa, qu, wm, ol) (nI i) := by
  refine And.intro (ob_in L 24 hL) (nu_ (nI_clamp (by omega)) (nm_r (nI_1 L) (And.intro (ob_in i 24 hi) (nu_ (nI_clamp (by omega)) k))))
theorem x_leaveLog {i g z : Nat} (hL : L < 24) (hL0 : 0 < L) (hi : i < 24) (hg : g < L) (hz : z < 24) (eg : la i = nI (g + 1)) (ez : li (L - 1) = nI z) (k : pst (nI O, nI N, nI C, nI (L - 1), pb, qh, qt, pl, kd, pa, na, da, sl, cc, bi, tk, ve, upd li g (nI z), upd (upd la z (nI (g + 1))) i 0, fa, qu, wm, ol)) : wpX_leaveLog pst (nI O, nI N, nI C, nI L, pb, qh, qt, pl, kd, pa, na, da, sl, cc, bi, tk, ve, li, la, fa, qu, wm, ol) (nI i) := by
  have e1 : nI L - 1 = nI (L - 1) := ob_sub (a := L) (b := 1) (by omega)
  have e2 : nI (g + 1) - 1 = nI g := nI_pred g
  have c1 := nI_clamp (n := i) (by omega)
  have c2 := nI_clamp (n := L - 1) (by omega)
  refine And.intro (ob_in i 24 hi) (nr_ c1 ?_)
  rw [eg, e1, e2]
  refine And.intro (ob_in (L - 1) 24 (by omega)) (nr_ c2 ?_)
  rw [ez]
  exact And.intro (ob_in g 24 (by omega)) (nu_ (nI_clamp (by omega)) (And.intro (ob_in z 24 hz) (nu_ (nI_clamp (by omega)) (And.intro (ob_in i 24 hi) (nu_ c1 (nm_e k))))))
theorem x_setBits {s i : Nat} (hs : s < 2) (hi : i < 24) (hi0 : i ≠ 0) {v : Int32} (hb0 : bi 0 = 0) (hvo : vb (bi (24 * s + i))) (hv : vb v) (hL : Lg bi li la L) (hpb : pb = nI (sm (fun i => pc (bi i)) 24)) (k : ∀ (L' : Nat) (li' la' : Nat → Int32) (pb' : Int32), Lg (upd bi (24 * s + i) v) li' la' L' → pb' = nI (sm (fun j => pc (upd bi (24 * s + i) v j)) 24) → pst (nI O, nI N, nI C, nI L', pb', qh, qt, 0, kd, pa, na, da, sl, cc, upd bi (24 * s + i) v, tk, ve, li', la', fa, qu, wm, ol)) : wpX_setBits pst (nI O, nI N, nI C, nI L, pb, qh, qt, pl, kd, pa, na, da, sl, cc, bi, tk, ve, li, la, fa, qu, wm, ol) (nI s) (nI i) v := by
  have hLL := lg_L hL hb0
  have c1 := ob_cl (24 * s + i) (ob_si s i)
  have i1 := ob_in (24 * s + i) 48 (by omega) (ob_si s i)
  refine And.intro i1 (nr_ c1 (And.intro i1 (nu_ c1 ?_)))
  by_cases h : s = 1
  · subst h
    refine br_t rfl (k L li la pb (lg_congr hL (fun j hj => ?_)) ?_)
    · rw [ob_un (by omega)]
    · rw [hpb]
      refine congrArg nI (sm_congr 24 (fun j hj => ?_))
      show _ = pc (upd bi (24 * 1 + i) v j)
      rw [ob_un (by omega)]
  · have h0 : s = 0 := by omega
    subst h0
    rw [Nat.mul_zero, Nat.zero_add] at k hvo ⊢
    refine br_f (by decide) ?_
    refine nm_r (e' := nI (sm (fun j => pc (upd bi i v j)) 24)) ?_ ?_
    · rw [cb_ hv, cb_ hvo, hpb]
      refine ob_pb ?_
      have := sm_set (p := fun j => pc (bi j)) (q := fun j => pc (upd bi i v j)) (i := i) 24 hi (fun j _ hj => by
        show pc (upd bi i v j) = _
        rw [ob_un hj])
      rw [show pc (upd bi i v i) = pc v by rw [ob_us]] at this
      exact this
    · by_cases ho : bi i = 0
      · refine br_t ho ?_
        by_cases hn : v = 0
        · refine br_t hn (br_t ho (k L li la _ (lg_congr hL (fun j hj => ?_)) rfl))
          by_cases e : j = i
          · subst e; rw [ob_us, hn, ho]
          · rw [ob_un e]
        · exact br_f hn (x_enterLog hLL hi (k _ _ _ _ (lg_enter hL hi hi0 ho hn hLL) rfl))
      · refine br_f ho ?_
        refine br_f ho ?_
        by_cases hn : v = 0
        · subst hn
          obtain ⟨g, hg, g1, g2⟩ := hL.2.2 i hi ho
          obtain ⟨z, hz0, hz, z1, z2, z3⟩ := hL.2.1 (L - 1) (by omega)
          exact br_t rfl (x_leaveLog hLL (by omega) hi hg hz g2 z1 (k _ _ _ _ (lg_leave hL hLL hi ho hg g1 g2 hz z1) rfl))
        · refine br_f hn (k L li la _ (lg_congr hL (fun j hj => ?_)) rfl)
          by_cases e : j = i
          · subst e; rw [ob_us]; exact ⟨fun z => absurd z hn, fun z => absurd z ho⟩
          · rw [ob_un e]
theorem x_addBit {s i : Nat} (hs : s < 2) (hi : i < 24) (hi0 : i ≠ 0) {v : Int32} (hb0 : bi 0 = 0) (hvo : vb (bi (24 * s + i))) (hv : bi (24 * s + i) ≠ 1 → vb (bi (24 * s + i) ||| v)) (hL : Lg bi li la L) (hpb : pb = nI (sm (fun i => pc (bi i)) 24)) (k : ∀ (L' : Nat) (li' la' : Nat → Int32) (pb' w : Int32), w = (if bi (24 * s + i) = 1 then 1 else bi (24 * s + i) ||| v) → Lg (upd bi (24 * s + i) w) li' la' L' → pb' = nI (sm (fun j => pc (upd bi (24 * s + i) w j)) 24) → pst (nI O, nI N, nI C, nI L', pb', qh, qt, 0, kd, pa, na, da, sl, cc, upd bi (24 * s + i) w, tk, ve, li', la', fa, qu, wm, ol)) : wpX_addBit pst (nI O, nI N, nI C, nI L, pb, qh, qt, pl, kd, pa, na, da, sl, cc, bi, tk, ve, li, la, fa, qu, wm, ol) (nI s) (nI i) v := by
  have c1 := ob_cl (24 * s + i) (ob_si s i)
  have i1 := ob_in (24 * s + i) 48 (by omega) (ob_si s i)
  refine And.intro i1 (nr_ c1 ?_)
  by_cases h1 : bi (24 * s + i) = 1
  · refine br_t h1 ?_
    unfold wX_addBit_27
    exact x_setBits hs hi hi0 hb0 hvo (Or.inr (Or.inl rfl)) hL hpb (fun L' li' la' pb' a b => k L' li' la' pb' 1 (by rw [if_pos h1]) a b)
  · refine br_f h1 ?_
    unfold wX_addBit_27
    exact x_setBits hs hi hi0 hb0 hvo (hv h1) hL hpb (fun L' li' la' pb' a b => k L' li' la' pb' _ (by rw [if_neg h1]) a b)
end
end
section
/-! X's plan: the queue and what it covers -/
def io (F : Nat → Int32) : Nat → Bool := fun i => decide (F i ≠ 0) && decide (F i ≠ 1)
def PQ (kd pa na bi F qu : Nat → Int32) (h t : Nat) (S : Nat → Prop) : Prop :=
  t = cn (io F) 24 ∧ h ≤ t ∧ (∀ i, i < 24 → (F i = 0 ↔ bi i = 0)) ∧ (∀ j, h ≤ j → j < t → ∃ q, q < 24 ∧ q ≠ 0 ∧ qu j = nI q) ∧
  (∀ x, x < 24 → Blk kd pa na bi F x → S x ∨ ∃ j q, h ≤ j ∧ j < t ∧ q < 24 ∧ qu j = nI q ∧ Dep kd pa na q x)
theorem cn_mono {p q : Nat → Bool} : ∀ n, (∀ i, i < n → p i = true → q i = true) → cn p n ≤ cn q n := by
  intro n
  induction n with
  | zero => intro _; exact Nat.le_refl 0
  | succ n ih =>
    intro h
    have h1 := ih (fun i hi => h i (by omega))
    rw [cn_s, cn_s]
    by_cases e : p n = true
    · rw [if_pos e, if_pos (h n (by omega) e)]; omega
    · rw [if_neg e]; omega
section
variable {O N : Nat} {kd pa na da bi F qu : Nat → Int32} {h t : Nat} {S S' : Nat → Prop}
theorem pq_t (H : Cx O N kd pa na da bi) (P : PQ kd pa na bi F qu h t S) : t < 24 := by
  rw [P.1]
  refine cn_lt (i := 0) ?_ 24 (by omega)
  have : F 0 = 0 := (P.2.2.1 0 (by omega)).mpr (cx_b0 H)
  simp [io, this]
theorem pq_t1 (H : Cx O N kd pa na da bi) (P : PQ kd pa na bi F qu h t S) {x : Nat} (hx : x < 24) (h1 : F x = 1) : t + 1 < 24 := by
  rw [P.1]
  have h0 : F 0 = 0 := (P.2.2.1 0 (by omega)).mpr (cx_b0 H)
  refine cn_lt2 (i := 0) (j := x) ?_ ?_ ?_ (by omega) hx
  · simp [io, h0]
  · simp [io, h1]
  · intro e
    rw [← e, h0] at h1
    exact absurd h1 (by decide)
theorem pq_mono (P : PQ kd pa na bi F qu h t S) (hS : ∀ z, z < 24 → S z → S' z) : PQ kd pa na bi F qu h t S' :=
  ⟨P.1, P.2.1, P.2.2.1, P.2.2.2.1, fun x hx hb => (P.2.2.2.2 x hx hb).imp (hS x hx) id⟩
theorem pq_skip {x : Nat} (P : PQ kd pa na bi F qu h t (fun z => z = x ∨ S z)) (hn : ¬ Blk kd pa na bi F x) : PQ kd pa na bi F qu h t S := by
  refine ⟨P.1, P.2.1, P.2.2.1, P.2.2.2.1, fun z hz hb => ?_⟩
  rcases P.2.2.2.2 z hz hb with (e | e) | e
  · subst e; exact absurd hb hn
  · exact Or.inl e
  · exact Or.inr e
theorem pq_iso (H : Cx O N kd pa na da bi) {x : Nat} {v : Int32} (P : PQ kd pa na bi F qu h t (fun z => z = x ∨ S z)) (hx : x < 24) (h1 : F x = 1) (hv0 : v ≠ 0) (hv1 : v ≠ 1) : PQ kd pa na bi (upd F x v) (upd qu t (nI x)) h (t + 1) S := by
  have hb0 : bi x ≠ 0 := fun e => absurd (h1.symm.trans ((P.2.2.1 x hx).mpr e)) (by decide)
  have hx0 : x ≠ 0 := cx_ne H hb0
  refine ⟨?_, by have := P.2.1; omega, fun i hi => ?_, fun j hj hjt => ?_, fun z hz hb => ?_⟩
  · rw [P.1]
    refine (cn_set (p := io F) (q := io (upd F x v)) (i := x) ?_ ?_ 24 hx (fun j _ hj => ?_)).symm
    · simp [io, h1]
    · simp [io, ob_us, hv0, hv1]
    · simp [io, ob_un hj]
  · by_cases e : i = x
    · subst e
      rw [ob_us]
      exact ⟨fun z => absurd z hv0, fun z => absurd z hb0⟩
    · rw [ob_un e]; exact P.2.2.1 i hi
  · by_cases e : j = t
    · subst e; exact ⟨x, hx, hx0, ob_us⟩
    · rw [ob_un e]; exact P.2.2.2.1 j hj (by omega)
  · have hzx : z ≠ x := fun e => by
      subst e
      have := hb.1
      rw [ob_us] at this
      exact hv1 this
    by_cases hbz : Blk kd pa na bi F z
    · rcases P.2.2.2.2 z hz hbz with (e | e) | ⟨j, q, a, b, c, d, e⟩
      · exact absurd e hzx
      · exact Or.inl e
      · exact Or.inr ⟨j, q, a, by omega, c, by rw [ob_un (by omega)]; exact d, e⟩
    · exact Or.inr ⟨t, x, P.2.1, by omega, hx, ob_us, bl_wake H hz hv1 hbz hb⟩
end
/-! X's plan: reads -/
section
variable {O N C L : Nat} {pb qh qt pl : Int32} {kd pa na da sl cc bi tk ve li la fa qu wm ol : Nat → Int32} {post : Int32 → Prop} {pst : SX → Prop}
theorem x_works {i : Nat} (hi : i < 24) (f : fa i = 1 → post 1) (g : fa i ≠ 1 → post 0) : wpX_works post (nI O, nI N, nI C, nI L, pb, qh, qt, pl, kd, pa, na, da, sl, cc, bi, tk, ve, li, la, fa, qu, wm, ol) (nI i) :=
  And.intro (ob_in i 24 hi) (rc_ (nI_clamp (by omega)) f g)
theorem x_stays {i : Nat} (hi : i < 24) (f : st bi fa i → post 1) (g : ¬ st bi fa i → post 0) : wpX_stays post (nI O, nI N, nI C, nI L, pb, qh, qt, pl, kd, pa, na, da, sl, cc, bi, tk, ve, li, la, fa, qu, wm, ol) (nI i) := by
  unfold wpX_stays
  exact x_works hi (fun h1 => br_f ob_10 (And.intro (ob_in i 48 (by omega)) (rm_ (nI_clamp (by omega)) (fun h => f (fun _ => h)) (fun h => g (fun s => h (s h1)))))) (fun h0 => br_t rfl (f (fun e => absurd e h0)))
theorem x_existsMerged {i : Nat} (hi : i < 24) (f : em kd bi fa i → post 1) (g : ¬ em kd bi fa i → post 0) : wpX_existsMerged post (nI O, nI N, nI C, nI L, pb, qh, qt, pl, kd, pa, na, da, sl, cc, bi, tk, ve, li, la, fa, qu, wm, ol) (nI i) := by
  unfold wpX_existsMerged
  exact x_works hi (fun h1 => br_f ob_10 (And.intro (ob_in i 48 (by omega)) (rc_ (nI_clamp (by omega)) (fun h => g (fun s => s.1 h1 h)) (fun h => f ⟨fun _ => h, fun z => absurd h1 z⟩)))) (fun h0 => br_t rfl (And.intro (ob_in (24 + i) 72 (by omega) (ob_24 i)) (rc_ (ob_cl (24 + i) (ob_24 i)) (fun h => g (fun s => s.2 h0 h)) (fun h => f ⟨fun z => absurd z h0, fun _ => h⟩))))
theorem x_mergedParent {i : Nat} (hi : i < 24) (k : post (mq pa bi fa i)) : wpX_mergedParent post (nI O, nI N, nI C, nI L, pb, qh, qt, pl, kd, pa, na, da, sl, cc, bi, tk, ve, li, la, fa, qu, wm, ol) (nI i) := by
  have i1 := ob_in (x := nI i) i 72 (by omega)
  have i2 := ob_in (24 + i) 72 (by omega) (ob_24 i)
  have c1 := nI_clamp (n := i) (by omega)
  have c2 := ob_cl (24 + i) (ob_24 i)
  unfold wpX_mergedParent
  refine x_works hi (fun h1 => br_f ob_10 (And.intro (ob_in i 48 (by omega)) (rm_ c1 (fun h => ?_) (fun h => ?_)))) (fun h0 => br_t rfl ?_)
  · unfold wX_mergedParent_23 wX_mergedParent_24
    refine br_t rfl (And.intro i2 (ex_ c2 ?_))
    rw [mq, if_neg (fun z => z.2 h)] at k
    exact k
  · unfold wX_mergedParent_24
    refine br_f ob_10 (And.intro i1 (ex_ c1 ?_))
    rw [mq, if_pos ⟨h1, h⟩] at k
    exact k
  · unfold wX_mergedParent_23 wX_mergedParent_24
    refine br_t rfl (And.intro i2 (ex_ c2 ?_))
    rw [mq, if_neg (fun z => h0 z.1)] at k
    exact k
theorem xs_t {o i : Nat} (h0 : i ≠ 0) (h : kd (o + i) ≠ 0) : xs o kd i = true := by
  simp [xs, h0, h]
theorem xs_f {o i : Nat} (h : xs o kd i = true) : i ≠ 0 ∧ kd (o + i) ≠ 0 := by
  simpa [xs] using h
theorem x_staying_l (H : Cx O N kd pa na da bi) (hS : SL 24 (xs 24 kd) pa na sl cc) {i : Nat} (hi : i < 24) (f : (∃ y, y < 24 ∧ kd (24 + y) ≠ 0 ∧ pa (24 + y) = nI i ∧ st bi fa y) → post 1) (g : (¬ ∃ y, y < 24 ∧ kd (24 + y) ≠ 0 ∧ pa (24 + y) = nI i ∧ st bi fa y) → post 0) : ∀ d n, n + d = N → (∀ y m, y < 24 → kd (24 + y) ≠ 0 → pa (24 + y) = nI i → na (24 + y) = nI m → m < n → ¬ st bi fa y) → wX_hasStayingChild_2 post (nI i) (nI O) (nI N) (nI C) (nI L) pb qh qt pl kd pa na da sl cc bi tk ve li la fa qu wm ol (d + 1) (nI n) := by
  have hN := (cx_N H).2.2.2
  have hy0 : ∀ y, pa (24 + y) = nI i → y ≠ 0 := fun y hy e => by
    subst e
    have := (cx_r1 H).2.1
    exact ob_m1n (by omega) (this.symm.trans hy)
  intro d
  induction d with
  | zero =>
    intro n hn hno
    refine br_t (nI_le (by omega) (by omega)) (g ?_)
    rintro ⟨y, hy, h1, h2, h3⟩
    obtain ⟨_, p, m, _, hm, _, e2, _⟩ := cx_p1 H (hy0 y h2) hy h1
    exact hno y m hy h1 h2 e2 (by omega) h3
  | succ d ih =>
    intro n hn hno
    refine br_f (nI_ge (by omega) (by omega)) ?_
    refine x_occupant (s := 1) (by omega) hi (by omega) ?_
    rcases sl_at hS hi (n := n) (by omega) with ⟨e0, hno'⟩ | ⟨c, hc, hc0, hcx, ec, ep, en, hu⟩
    · refine br_t e0 (nm_r (nI_1 n) (ih (n + 1) (by omega) (fun y m hy h1 h2 h3 hm => ?_)))
      by_cases em : m = n
      · subst em
        exact absurd h3 (fun h3 => hno' y hy (xs_t (hy0 y h2) h1) h2 h3)
      · exact hno y m hy h1 h2 h3 (by omega)
    · have hck := (xs_f hcx).2
      refine br_f (fun z => hc0 ((ob_n0 (by omega)).mp (ec.symm.trans z))) ?_
      have e1 : sl (8 * (24 * 1 + i) + n) = nI c := ec
      rw [e1]
      refine x_stays hc (fun hs => br_f ob_10 (f ⟨c, hc, hck, ep, hs⟩)) (fun hs => br_t rfl (nm_r (nI_1 n) (ih (n + 1) (by omega) (fun y m hy h1 h2 h3 hm => ?_))))
      by_cases em : m = n
      · subst em
        have := hu y hy (xs_t (hy0 y h2) h1) h2 h3
        subst this
        exact hs
      · exact hno y m hy h1 h2 h3 (by omega)
theorem x_isBlocked (H : Cx O N kd pa na da bi) (hS : SL 24 (xs 24 kd) pa na sl cc) {i : Nat} (hi : i < 24) (h1 : fa i = 1) (f : Blk kd pa na bi fa i → post 1) (g : ¬ Blk kd pa na bi fa i → post 0) : wpX_isBlocked post (nI O, nI N, nI C, nI L, pb, qh, qt, pl, kd, pa, na, da, sl, cc, bi, tk, ve, li, la, fa, qu, wm, ol) (nI i) := by
  have hN := (cx_N H).2.2.2
  have c1 := nI_clamp (n := i) (by omega)
  refine And.intro (ob_in i 48 (by omega)) (rc_ c1 (fun h8 => ?_) (fun h8 => And.intro (ob_in i 48 (by omega)) (rm_ c1 (fun h3 => g ?_) (fun h3 => And.intro (ob_in i 72 (by omega)) (nr_ c1 ?_)))))
  · refine Exists.intro (N + 1) (x_staying_l H hS hi (fun he => And.intro narrow_b1 (f ⟨h1, Or.inl ⟨h8, he⟩⟩)) (fun he => And.intro narrow_b0 (g ?_)) N 0 (by omega) (fun y m _ _ _ _ hm => absurd hm (Nat.not_lt_zero _)))
    rintro ⟨_, ⟨_, hb⟩ | ⟨h3, _⟩⟩
    · exact he hb
    · rw [h8] at h3; exact h3 (by decide)
  · rintro ⟨_, ⟨hb, _⟩ | ⟨hb, _⟩⟩
    · exact h8 hb
    · exact hb h3
  · obtain ⟨_, _, hi0, hki, p, n, hp, hn, e1, e2, _, _⟩ := cx_pl H hi h3
    rw [c1, e1, e2]
    refine x_existsMerged hp (fun he => br_f ob_10 (And.intro (ob_in i 72 (by omega)) ?_)) (fun he => br_t rfl (f ⟨h1, Or.inr ⟨h3, Or.inl ?_⟩⟩))
    · refine x_occupant (s := 1) (by omega) hp (by omega) ?_
      have hy0 : ∀ y, pa (24 + y) = nI p → y ≠ 0 := fun y hy e => by
        subst e
        exact ob_m1n (by omega) ((cx_r1 H).2.1.symm.trans hy)
      rcases sl_at hS hp (n := n) (by omega) with ⟨e0, hno⟩ | ⟨c, hc, hc0, hcx, ec, ep, en, hu⟩
      · refine br_t e0 (g ?_)
        rintro ⟨_, ⟨hb, _⟩ | ⟨_, hb | ⟨y, hy, _, k1, k2, k3, _⟩⟩⟩
        · exact h8 hb
        · rw [e1, nI_clamp (by omega)] at hb; exact hb he
        · rw [e1] at k2; rw [e2] at k3
          exact hno y hy (xs_t (hy0 y k2) k1) k2 k3
      · have e3 : sl (8 * (24 * 1 + p) + n) = nI c := ec
        rw [e3]
        refine br_f (fun z => hc0 ((ob_n0 (by omega)).mp z)) ?_
        have hck := (xs_f hcx).2
        have hgo : c = i ∨ ¬ st bi fa c → ¬ Blk kd pa na bi fa i := by
          rintro hci ⟨_, ⟨hb, _⟩ | ⟨_, hb | ⟨y, hy, yi, k1, k2, k3, k4⟩⟩⟩
          · exact h8 hb
          · rw [e1, nI_clamp (by omega)] at hb; exact hb he
          · rw [e1] at k2; rw [e2] at k3
            have := hu y hy (xs_t (hy0 y k2) k1) k2 k3
            subst this
            rcases hci with q | q
            · exact yi q
            · exact q k4
        refine ob_eq c i (fun e => g (hgo (Or.inl e))) (fun e => ?_)
        refine x_stays hc (fun hs => br_f ob_10 (f ⟨h1, Or.inr ⟨h3, Or.inr ⟨c, hc, e, hck, ?_, ?_, hs⟩⟩⟩)) (fun hs => br_t rfl (g (hgo (Or.inr hs))))
        · rw [ep, e1]
        · rw [en, e2]
    · rw [e1, nI_clamp (by omega)]; exact he
end
/-! X's plan: reviews, the queue -/
section
variable {O N C L h t : Nat} {pb qh qt pl : Int32} {kd pa na da sl cc bi tk ve li la fa qu wm ol F0 : Nat → Int32} {post : Int32 → Prop} {pst : SX → Prop} {S : Nat → Prop}
theorem x_isolate {i : Nat} {v : Int32} (hi : i < 24) (ht : t < 24) (k : pst (nI O, nI N, nI C, nI L, pb, nI h, nI (t + 1), pl, kd, pa, na, da, sl, cc, bi, tk, ve, li, la, upd fa i v, upd qu t (nI i), wm, ol)) : wpX_isolate pst (nI O, nI N, nI C, nI L, pb, nI h, nI t, pl, kd, pa, na, da, sl, cc, bi, tk, ve, li, la, fa, qu, wm, ol) (nI i) v :=
  And.intro (ob_in i 24 hi) (nu_ (nI_clamp (by omega)) (And.intro (ob_in t 24 ht) (nu_ (nI_clamp (by omega)) (nm_r (nI_1 t) k))))
theorem x_review (H : Cx O N kd pa na da bi) (hS : SL 24 (xs 24 kd) pa na sl cc) {x : Nat} (hx : x < 24) (P : PQ kd pa na bi fa qu h t (fun z => z = x ∨ S z)) (hB : Bel kd pa na bi F0 fa) (k : ∀ (fa' qu' : Nat → Int32) (t' : Nat), PQ kd pa na bi fa' qu' h t' S → Bel kd pa na bi F0 fa' → pst (nI O, nI N, nI C, nI L, pb, nI h, nI t', pl, kd, pa, na, da, sl, cc, bi, tk, ve, li, la, fa', qu', wm, ol)) : wpX_review pst (nI O, nI N, nI C, nI L, pb, nI h, nI t, pl, kd, pa, na, da, sl, cc, bi, tk, ve, li, la, fa, qu, wm, ol) (nI x) := by
  unfold wpX_review
  refine x_works hx (fun h1 => br_f ob_10 ?_) (fun h0 => br_t rfl (k fa qu t (pq_skip P (fun hb => h0 hb.1)) hB))
  refine x_isBlocked H hS hx h1 (fun hb => br_f ob_10 ?_) (fun hb => br_t rfl (k fa qu t (pq_skip P hb) hB))
  have := pq_t H P
  exact x_isolate hx this (k _ _ _ (pq_iso H P hx h1 (by decide) (by decide)) (bel_step H hB hx hb))
theorem x_wakeChildren_l (H : Cx O N kd pa na da bi) (hS : SL 24 (xs 24 kd) pa na sl cc) (hS0 : SL 0 (xs 0 kd) pa na sl cc) {q : Nat} (hq : q < 24) (k : ∀ (fa' qu' : Nat → Int32) (t' : Nat), PQ kd pa na bi fa' qu' h t' (fun _ => False) → Bel kd pa na bi F0 fa' → pst (nI O, nI N, nI C, nI L, pb, nI h, nI t', pl, kd, pa, na, da, sl, cc, bi, tk, ve, li, la, fa', qu', wm, ol)) : ∀ d n fa qu t, n + d = N → PQ kd pa na bi fa qu h t (fun z => ∃ m, n ≤ m ∧ m < N ∧ sl (8 * (0 + q) + m) = nI z) → Bel kd pa na bi F0 fa → wX_wakeChildren_2 pst (nI q) (d + 1) (nI n) (nI O) (nI N) (nI C) (nI L) pb (nI h) (nI t) pl kd pa na da sl cc bi tk ve li la fa qu wm ol := by
  have hN := (cx_N H).2.2.2
  intro d
  induction d with
  | zero =>
    intro n fa qu t hn P hB
    refine br_t (nI_le (by omega) (by omega)) (k fa qu t (pq_mono P (fun z _ hz => ?_)) hB)
    obtain ⟨m, a, b, _⟩ := hz
    omega
  | succ d ih =>
    intro n fa qu t hn P hB
    refine br_f (nI_ge (by omega) (by omega)) ?_
    refine x_occupant (s := 0) (by omega) hq (by omega) ?_
    obtain ⟨c, hc, ec⟩ : ∃ c, c < 24 ∧ sl (8 * (0 + q) + n) = nI c := by
      rcases hS0.2.1 q n hq (by omega) with e | ⟨c, hc, _, e, _⟩
      · exact ⟨0, by omega, e⟩
      · exact ⟨c, hc, e⟩
    have e1 : sl (8 * (24 * 0 + q) + n) = nI c := by rw [Nat.mul_zero]; exact ec
    rw [e1]
    refine x_review (S := fun z => ∃ m, n + 1 ≤ m ∧ m < N ∧ sl (8 * (0 + q) + m) = nI z) H hS hc (pq_mono P (fun z hz hm => ?_)) hB (fun fa' qu' t' P' hB' => nm_r (nI_1 n) (ih (n + 1) fa' qu' t' (by omega) P' hB'))
    obtain ⟨m, a, b, e⟩ := hm
    by_cases em : m = n
    · subst em
      exact Or.inl (ob_inj (e.symm.trans ec) (by omega) (by omega))
    · exact Or.inr ⟨m, by omega, b, e⟩
theorem x_wakeDependents (H : Cx O N kd pa na da bi) (hS : SL 24 (xs 24 kd) pa na sl cc) (hS0 : SL 0 (xs 0 kd) pa na sl cc) {q : Nat} (hq : q < 24) (hq0 : q ≠ 0) (P : PQ kd pa na bi fa qu h t (Dep kd pa na q)) (hB : Bel kd pa na bi F0 fa) (k : ∀ (fa' qu' : Nat → Int32) (t' : Nat), PQ kd pa na bi fa' qu' h t' (fun _ => False) → Bel kd pa na bi F0 fa' → pst (nI O, nI N, nI C, nI L, pb, nI h, nI t', pl, kd, pa, na, da, sl, cc, bi, tk, ve, li, la, fa', qu', wm, ol)) : wpX_wakeDependents pst (nI O, nI N, nI C, nI L, pb, nI h, nI t, pl, kd, pa, na, da, sl, cc, bi, tk, ve, li, la, fa, qu, wm, ol) (nI q) := by
  have hN := (cx_N H).2.2.2
  have c2 := ob_cl (24 + q) (ob_24 q)
  have i2 := ob_in (24 + q) 72 (by omega) (ob_24 q)
  have hz0 : ∀ z p, p < 24 → pa z = nI p → z ≠ 0 := fun z p hp hz e => by
    subst e
    exact ob_m1n (by omega) ((cx_r0 H).2.1.symm.trans hz)
  have hsl : ∀ z p n, z < 24 → p < 24 → n < 8 → kd z ≠ 0 → pa z = nI p → na z = nI n → sl (8 * (0 + p) + n) = nI z := fun z p n hz hp hn hk e1 e2 => by
    obtain ⟨p', n', a, b, c, d, e⟩ := hS0.1 z hz (xs_t (hz0 z p hp e1) (by rw [Nat.zero_add]; exact hk))
    rw [Nat.zero_add] at c d
    have q1 := ob_inj (c.symm.trans e1) (by omega) (by omega)
    have q2 := ob_inj (d.symm.trans e2) (by omega) (by omega)
    subst q1 q2
    exact e
  refine And.intro i2 (rc_ c2 (fun hk => ?_) (fun hk => And.intro i2 (nr_ c2 ?_)))
  · refine Exists.intro (N + 1) (x_wakeChildren_l H hS hS0 hq k N 0 fa qu t (by omega) (pq_mono P (fun z hz hd => ?_)) hB)
    rcases hd with ⟨_, d1, d2⟩ | ⟨d0, _⟩
    · obtain ⟨_, p, n, hp, hn, e1, e2, _⟩ := cx_p0 H (hz0 z q hq d2) hz d1
      exact ⟨n, by omega, hn, hsl z q n hz hq (by omega) d1 d2 e2⟩
    · exact absurd hk d0
  · obtain ⟨_, p, n, hp, hn, e1, e2, _⟩ := cx_p1 H hq0 hq hk
    rw [c2, e1, e2]
    refine br_t (nI_pos' (by omega)) (And.intro i2 (x_occupant (s := 0) (by omega) hp (by omega) ?_))
    obtain ⟨c, hc, ec⟩ : ∃ c, c < 24 ∧ sl (8 * (0 + p) + n) = nI c := by
      rcases hS0.2.1 p n hp (by omega) with e | ⟨c, hc, _, e, _⟩
      · exact ⟨0, by omega, e⟩
      · exact ⟨c, hc, e⟩
    have e3 : sl (8 * (24 * 0 + p) + n) = nI c := by rw [Nat.mul_zero]; exact ec
    rw [e3]
    refine x_review (S := fun z => z = p) H hS hc (pq_mono P (fun z hz hd => ?_)) hB (fun fa' qu' t' P' hB' => x_review (S := fun _ => False) H hS hp (pq_mono P' (fun z hz hd => Or.inl hd)) hB' k)
    rcases hd with ⟨d0, _⟩ | ⟨_, d1 | ⟨d1, d2, d3⟩⟩
    · exact absurd d0 hk
    · rw [e1] at d1
      exact Or.inr (ob_inj d1 (by omega) (by omega))
    · rw [e1] at d2
      rw [e2] at d3
      exact Or.inl (ob_inj ((hsl z p n hz hp (by omega) d1 d2 d3).symm.trans ec) (by omega) (by omega))
theorem x_drain_l (H : Cx O N kd pa na da bi) (hS : SL 24 (xs 24 kd) pa na sl cc) (hS0 : SL 0 (xs 0 kd) pa na sl cc) (k : ∀ (fa' qu' : Nat → Int32) (t' : Nat), PQ kd pa na bi fa' qu' t' t' (fun _ => False) → Bel kd pa na bi F0 fa' → pst (nI O, nI N, nI C, nI L, pb, nI t', nI t', pl, kd, pa, na, da, sl, cc, bi, tk, ve, li, la, fa', qu', wm, ol)) : ∀ d r h fa qu t, r + d = 24 → r ≤ h → PQ kd pa na bi fa qu h t (fun _ => False) → Bel kd pa na bi F0 fa → wX_drainQueue_2 pst (d + 1) (nI r) (nI O) (nI N) (nI C) (nI L) pb (nI h) (nI t) pl kd pa na da sl cc bi tk ve li la fa qu wm ol := by
  intro d
  induction d with
  | zero =>
    intro r h fa qu t hr hh P hB
    have := pq_t H P
    have := P.2.1
    omega
  | succ d ih =>
    intro r h fa qu t hr hh P hB
    have ht := pq_t H P
    have hht := P.2.1
    refine br_f (nI_ge (b := 24) (by omega) (by omega)) (ob_le t h (fun e => ?_) (fun e => ?_))
    · have : h = t := by omega
      subst this
      exact k fa qu h P hB
    · obtain ⟨q, hq, hq0, eq⟩ := P.2.2.2.1 h (by omega) e
      refine And.intro (ob_in h 24 (by omega)) (nr_ (nI_clamp (by omega)) (nm_r (nI_1 h) ?_))
      rw [eq]
      refine x_wakeDependents H hS hS0 hq hq0 ⟨P.1, by omega, P.2.2.1, fun j hj => P.2.2.2.1 j (by omega), fun x hx hb => ?_⟩ hB (fun fa' qu' t' P' hB' => nm_r (nI_1 r) (ih (r + 1) (h + 1) fa' qu' t' (by omega) (by omega) P' hB'))
      rcases P.2.2.2.2 x hx hb with f | ⟨j, z, a, b, c, d', e'⟩
      · exact f.elim
      · by_cases ej : j = h
        · subst ej
          have := ob_inj (d'.symm.trans eq) (by omega) (by omega)
          subst this
          exact Or.inl e'
        · exact Or.inr ⟨j, z, by omega, b, c, d', e'⟩
end
end
section
/-! X's plan: the loops of the merge -/
def av (a : Int32) (z : Nat) : Prop := (a ≤ 0 ∧ z = 0) ∨ (¬ a ≤ 0 ∧ z ≠ 0 ∧ a = nI z)
theorem vn1 : vp_nar .boolean 1 ≠ 0 := by decide
section
variable {O N C L h t : Nat} {pb qh qt pl : Int32} {kd pa na da sl cc bi tk ve li la fa qu wm ol F0 : Nat → Int32} {post : Int32 → Prop} {pst : SX → Prop} {S : Nat → Prop}
theorem x_walk2_l (H : Cx O N kd pa na da bi) {y : Nat} (hy : y < 24) (k : ∀ (ol' : Nat → Int32) (k2 : Nat), Pt (nx pa bi fa) y (vp_nar .boolean 1) ol ol' k2 → (it (nx pa bi fa) k2 y = 0 ∨ ol' (it (nx pa bi fa) k2 y) ≠ 0) → pst (nI O, nI N, nI C, nI L, pb, nI h, nI t, pl, kd, pa, na, da, sl, cc, bi, tk, ve, li, la, fa, qu, wm, ol')) : ∀ d r a ol', r + d = 24 → Pt (nx pa bi fa) y (vp_nar .boolean 1) ol ol' r → av a (it (nx pa bi fa) r y) → wX_walkFrom_59 pst (nI O) (nI N) (nI C) (nI L) pb (nI h) (nI t) pl (d + 1) a (nI r) kd pa na da sl cc bi tk ve li la fa qu wm ol' := by
  intro d
  induction d with
  | zero =>
    intro r a ol' hr hP ha
    have := pt_lt (nx_lt H fa) hy hP
    omega
  | succ d ih =>
    intro r a ol' hr hP ha
    refine br_f (nI_ge (b := 24) (by omega) (by omega)) ?_
    rcases ha with ⟨h1, h2⟩ | ⟨h1, h2, h3⟩
    · exact br_t h1 (k ol' r hP (Or.inl h2))
    · have hl := it_lt (nx_lt H fa) r y hy
      subst h3
      refine br_f h1 (And.intro (ob_in _ 24 hl) (rc_ (nI_clamp (by omega)) (fun e0 => And.intro (ob_in _ 24 hl) (nu_ (nI_clamp (by omega)) ?_)) (fun e0 => k ol' r hP (Or.inr e0))))
      refine x_mergedParent hl (nm_r (nI_1 r) (ih (r + 1) _ _ (by omega) (pt_s vn1 hP h2 e0) ?_))
      rw [it_s']
      exact nx_le0 H fa hl
theorem x_walk1_l (H : Cx O N kd pa na da bi) {s : Nat} (hs : s < 24) (hs0 : s ≠ 0) (hmv : ∀ i, i < 24 → wm i ≠ nI s) (hM : Mk (nx pa bi fa) wm ol) (k : ∀ (wm' ol' : Nat → Int32), Mk (nx pa bi fa) wm' ol' → (∀ i, i < 24 → wm' i = wm i ∨ wm' i = nI s) → wm' s ≠ 0 → (∀ i, i < 24 → wm i ≠ 0 → wm' i ≠ 0) → pst (nI O, nI N, nI C, nI L, pb, nI h, nI t, pl, kd, pa, na, da, sl, cc, bi, tk, ve, li, la, fa, qu, wm', ol')) : ∀ d r a wm', r + d = 24 → Pt (nx pa bi fa) s (nI s) wm wm' r → av a (it (nx pa bi fa) r s) → wX_walkFrom_4 pst (nI s) (nI O) (nI N) (nI C) (nI L) pb (nI h) (nI t) pl (d + 1) a (nI r) kd pa na da sl cc bi tk ve li la fa qu wm' ol := by
  have hv : nI s ≠ 0 := fun e => hs0 ((ob_n0 (by omega)).mp e)
  have z0 := nx_0 H fa
  have zf := nx_lt H fa
  have fin : ∀ r a wm', Pt (nx pa bi fa) s (nI s) wm wm' r → av a (it (nx pa bi fa) r s) → (it (nx pa bi fa) r s = 0 ∨ wm' (it (nx pa bi fa) r s) ≠ 0) → wX_walkFrom_42 pst (nI s) a (nI O) (nI N) (nI C) (nI L) pb (nI h) (nI t) pl kd pa na da sl cc bi tk ve li la fa qu wm' ol := by
    intro r a wm' hP ha hE
    have h1 : ∀ i, i < 24 → wm' i = wm i ∨ wm' i = nI s := fun i hi => by
      by_cases e : ∃ j, j < r ∧ it (nx pa bi fa) j s = i
      · obtain ⟨j, hj, e⟩ := e
        subst e
        exact Or.inr (hP.1 j hj).1
      · exact Or.inl (hP.2.1 i (fun j hj q => e ⟨j, hj, q⟩))
    have h2 : ∀ i, i < 24 → wm i ≠ 0 → wm' i ≠ 0 := fun i hi q => by
      rcases h1 i hi with e | e
      · rw [e]; exact q
      · rw [e]; exact hv
    have h3 : wm' s ≠ 0 := by
      by_cases e : r = 0
      · subst e
        rcases hE with q | q
        · exact absurd q hs0
        · exact q
      · have := (hP.1 0 (by omega)).1
        have e2 : wm' s = nI s := this
        rw [e2]; exact hv
    rcases ha with ⟨g1, g2⟩ | ⟨g1, g2, g3⟩
    · exact br_t g1 (k wm' ol (mk_a z0 zf hs hv hM hP (Or.inl g2)) h1 h3 h2)
    · have hl := it_lt zf r s hs
      subst g3
      refine br_f g1 (And.intro (ob_in _ 24 hl) (rc_ (nI_clamp (by omega)) (fun e => ?_) (fun e => ?_)))
      · refine Exists.intro 25 (x_walk2_l (wm := wm') H hl (fun ol' k2 hQ hE2 => k wm' ol' (mk_b z0 zf hs hv vn1 hM hP g2 e hmv hQ hE2) h1 h3 h2) 24 0 _ ol (by omega) pt_0 (Or.inr ⟨g1, g2, rfl⟩))
      · refine k wm' ol (mk_a z0 zf hs hv hM hP (Or.inr ⟨?_, e⟩)) h1 h3 h2
        rcases hE with q | q
        · exact absurd q g2
        · exact q
  intro d
  induction d with
  | zero =>
    intro r a wm' hr hP ha
    have := pt_lt zf hs hP
    omega
  | succ d ih =>
    intro r a wm' hr hP ha
    have hfin := fin r a wm' hP ha
    refine br_f (nI_ge (b := 24) (by omega) (by omega)) ?_
    rcases ha with ⟨h1, h2⟩ | ⟨h1, h2, h3⟩
    · exact br_t h1 (hfin (Or.inl h2))
    · have hl := it_lt zf r s hs
      subst h3
      refine br_f h1 (And.intro (ob_in _ 24 hl) (rc_ (nI_clamp (by omega)) (fun e0 => And.intro (ob_in _ 24 hl) (nu_ (nI_clamp (by omega)) ?_)) (fun e0 => hfin (Or.inr e0))))
      refine x_mergedParent hl (nm_r (nI_1 r) (ih (r + 1) _ _ (by omega) (pt_s hv hP h2 e0) ?_))
      rw [it_s']
      exact nx_le0 H fa hl
theorem x_walkFrom (H : Cx O N kd pa na da bi) {s : Nat} (hs : s < 24) (hs0 : s ≠ 0) (hmv : ∀ i, i < 24 → wm i ≠ nI s) (hM : Mk (nx pa bi fa) wm ol) (k : ∀ (wm' ol' : Nat → Int32), Mk (nx pa bi fa) wm' ol' → (∀ i, i < 24 → wm' i = wm i ∨ wm' i = nI s) → wm' s ≠ 0 → (∀ i, i < 24 → wm i ≠ 0 → wm' i ≠ 0) → pst (nI O, nI N, nI C, nI L, pb, nI h, nI t, pl, kd, pa, na, da, sl, cc, bi, tk, ve, li, la, fa, qu, wm', ol')) : wpX_walkFrom pst (nI O, nI N, nI C, nI L, pb, nI h, nI t, pl, kd, pa, na, da, sl, cc, bi, tk, ve, li, la, fa, qu, wm, ol) (nI s) := by
  refine Exists.intro 25 (x_walk1_l H hs hs0 hmv hM k 24 0 (nI s) wm (by omega) pt_0 (Or.inr ⟨?_, hs0, rfl⟩))
  rw [ob_le0 (by omega)]
  exact hs0
theorem x_mark_l (H : Cx O N kd pa na da bi) (hL : Lg bi li la L) (k : ∀ (wm' ol' : Nat → Int32), (∀ i, i < 24 → fa i = 1 → bi i &&& 2 ≠ 0 → (ol' i ≠ 0 ↔ OL pa bi fa i)) → pst (nI O, nI N, nI C, nI L, pb, nI h, nI t, pl, kd, pa, na, da, sl, cc, bi, tk, ve, li, la, fa, qu, wm', ol')) : ∀ d j wm ol, j + d = L → Mk (nx pa bi fa) wm ol → (∀ i, i < 24 → wm i ≠ 0 → ∃ j', j' < j ∧ li j' = wm i) → (∀ j' i, j' < j → i < 24 → li j' = nI i → fa i = 1 → bi i &&& 2 ≠ 0 → wm i ≠ 0) → wX_markLoops_30 pst (d + 1) (nI j) (nI O) (nI N) (nI C) (nI L) pb (nI h) (nI t) pl kd pa na da sl cc bi tk ve li la fa qu wm ol := by
  have hLL := lg_L hL (cx_b0 H)
  intro d
  induction d with
  | zero =>
    intro j wm ol hj hM hw hs
    refine br_t (nI_le (by omega) (by omega)) (k wm ol (fun i hi h1 h2 => ?_))
    have hb : bi i ≠ 0 := fun e => h2 (by rw [e]; exact an_0 2)
    have hi0 := cx_ne H hb
    obtain ⟨j', hj', e1, _⟩ := hL.2.2 i hi hb
    have hm := hs j' i (by omega) hi e1 h1 h2
    exact ⟨fun q => (hM.2.1 i hi hi0 q).2, fun q => hM.2.2 i hi hi0 hm q⟩
  | succ d ih =>
    intro j wm ol hj hM hw hs
    obtain ⟨s, hs0, hs24, e1, hb, e2⟩ := hL.2.1 j (by omega)
    refine br_f (nI_ge (by omega) (by omega)) (And.intro (ob_in j 24 (by omega)) (nr_ (nI_clamp (by omega)) ?_))
    rw [e1]
    have next : (fa s = 1 → bi s &&& 2 ≠ 0 → False) → wX_markLoops_30 pst (d + 1) (nI (j + 1)) (nI O) (nI N) (nI C) (nI L) pb (nI h) (nI t) pl kd pa na da sl cc bi tk ve li la fa qu wm ol := fun hq => ih (j + 1) wm ol (by omega) hM (fun i hi hm => by
      obtain ⟨j', a, b⟩ := hw i hi hm
      exact ⟨j', by omega, b⟩) (fun j' i hj' hi e h1 h2 => by
      by_cases ej : j' = j
      · subst ej
        have := ob_inj (e1.symm.trans e) (by omega) (by omega)
        subst this
        exact (hq h1 h2).elim
      · exact hs j' i (by omega) hi e h1 h2)
    refine x_works hs24 (fun h1 => br_f ob_10 (And.intro (ob_in s 48 (by omega)) (rm_ (nI_clamp (by omega)) (fun h2 => nm_r (nI_1 j) (next (fun _ q => q h2))) (fun h2 => ?_)))) (fun h1 => br_t rfl (nm_r (nI_1 j) (next (fun q _ => h1 q))))
    refine x_walkFrom H hs24 hs0 (fun i hi e => ?_) hM (fun wm' ol' hM' k1 k2 k3 => nm_r (nI_1 j) (ih (j + 1) wm' ol' (by omega) hM' (fun i hi hm => ?_) (fun j' i hj' hi e g1 g2 => ?_)))
    · obtain ⟨j', a, b⟩ := hw i hi (by rw [e]; exact fun z => hs0 ((ob_n0 (by omega)).mp z))
      rw [e] at b
      obtain ⟨i', _, hi', b1, _, b2⟩ := hL.2.1 j' (by omega)
      have q := ob_inj (b1.symm.trans b) (by omega) (by omega)
      subst q
      have := ob_inj (b2.symm.trans e2) (by omega) (by omega)
      omega
    · rcases k1 i hi with q | q
      · rw [q] at hm
        obtain ⟨j', a, b⟩ := hw i hi hm
        exact ⟨j', by omega, by rw [q]; exact b⟩
      · exact ⟨j, by omega, by rw [q]; exact e1⟩
    · by_cases ej : j' = j
      · subst ej
        have := ob_inj (e1.symm.trans e) (by omega) (by omega)
        subst this
        exact k2
      · exact k3 i hi (hs j' i (by omega) hi e g1 g2)
theorem x_mark0_l (H : Cx O N kd pa na da bi) (hL : Lg bi li la L) (k : ∀ (wm' ol' : Nat → Int32), (∀ i, i < 24 → fa i = 1 → bi i &&& 2 ≠ 0 → (ol' i ≠ 0 ↔ OL pa bi fa i)) → pst (nI O, nI N, nI C, nI L, pb, nI h, nI t, pl, kd, pa, na, da, sl, cc, bi, tk, ve, li, la, fa, qu, wm', ol')) : ∀ d j wm ol, j + d = 24 → (∀ i, i < j → wm i = 0 ∧ ol i = 0) → wX_markLoops_2 pst (nI O) (nI N) (nI C) (nI L) pb (nI h) (nI t) pl (d + 1) (nI j) kd pa na da sl cc bi tk ve li la fa qu wm ol := by
  intro d
  induction d with
  | zero =>
    intro j wm ol hj hz
    have e : j = 24 := by omega
    subst e
    refine br_t (nI_le (a := 24) (by omega) (by omega)) (Exists.intro (L + 1) (x_mark_l H hL k L 0 wm ol (by omega) ⟨fun i hi _ q => ?_, fun i hi _ q => ?_, fun i hi _ q => ?_⟩ (fun i hi q => ?_) (fun j' i hj' => absurd hj' (Nat.not_lt_zero _))))
    · exact absurd (hz i hi).1 q
    · exact absurd (hz i hi).2 q
    · exact absurd (hz i hi).1 q
    · exact absurd (hz i hi).1 q
  | succ d ih =>
    intro j wm ol hj hz
    refine br_f (nI_ge (b := 24) (by omega) (by omega)) (And.intro (ob_in j 24 (by omega)) (nu_ (nI_clamp (by omega)) (And.intro (ob_in j 24 (by omega)) (nu_ (nI_clamp (by omega)) (nm_r (nI_1 j) (ih (j + 1) _ _ (by omega) (fun i hi => ?_)))))))
    by_cases e : i = j
    · subst e
      exact ⟨ob_us, by rw [ob_us]; exact ob_nb0⟩
    · rw [ob_un e, ob_un e]; exact hz i (by omega)
theorem x_isoLoops_l (H : Cx O N kd pa na da bi) (hL : Lg bi li la L) {G : Nat → Int32} {t0 : Nat} (hol : ∀ i, i < 24 → G i = 1 → bi i &&& 2 ≠ 0 → (ol i ≠ 0 ↔ OL pa bi G i)) {psr : Int32 → SX → Prop} (k : ∀ (fa' qu' : Nat → Int32) (t' : Nat) (r : Int32), LpS pa bi G fa' → PQ kd pa na bi fa' qu' h t' (fun _ => False) → ((r = 0 ∧ ∀ i, i < 24 → ¬ Lp pa bi G i) ∨ (r = 1 ∧ (∃ i, i < 24 ∧ Lp pa bi G i) ∧ t0 < t')) → psr r (nI O, nI N, nI C, nI L, pb, nI h, nI t', pl, kd, pa, na, da, sl, cc, bi, tk, ve, li, la, fa', qu', wm, ol)) : ∀ d j r fa qu t, j + d = L → PQ kd pa na bi fa qu h t (fun _ => False) → (∀ i, i < 24 → fa i = G i ∨ (Lp pa bi G i ∧ fa i = 4)) → (∀ j' i, j' < j → i < 24 → li j' = nI i → Lp pa bi G i → fa i = 4) → (∀ j' i, j ≤ j' → j' < L → i < 24 → li j' = nI i → fa i = G i) → ((r = 0 ∧ t0 ≤ t ∧ ∀ j' i, j' < j → i < 24 → li j' = nI i → ¬ Lp pa bi G i) ∨ (r = 1 ∧ (∃ i, i < 24 ∧ Lp pa bi G i) ∧ t0 < t)) → wX_isolateLoops_4 psr (d + 1) r (nI j) (nI O) (nI N) (nI C) (nI L) pb (nI h) (nI t) pl kd pa na da sl cc bi tk ve li la fa qu wm ol := by
  have hLL := lg_L hL (cx_b0 H)
  intro d
  induction d with
  | zero =>
    intro j r fa qu t hj P ha hb hc hr
    have hin : ∀ i, i < 24 → Lp pa bi G i → ∃ j', j' < L ∧ li j' = nI i := fun i hi hl => by
      have : bi i ≠ 0 := fun e => hl.2.1 (by rw [e]; exact an_0 2)
      obtain ⟨j', a, b, _⟩ := hL.2.2 i hi this
      exact ⟨j', a, b⟩
    have hlps : LpS pa bi G fa := fun i hi => ⟨fun hl => by
      obtain ⟨j', a, b⟩ := hin i hi hl
      exact hb j' i (by omega) hi b hl, fun hl => by
      rcases ha i hi with q | q
      · exact q
      · exact absurd q.1 hl⟩
    refine br_t (nI_le (by omega) (by omega)) (And.intro ?_ (k fa qu t r hlps P ?_))
    · rcases hr with ⟨e, _⟩ | ⟨e, _⟩
      · rw [e]; exact narrow_b0
      · rw [e]; exact narrow_b1
    · rcases hr with ⟨e, _, q⟩ | ⟨e, q⟩
      · refine Or.inl ⟨e, fun i hi hl => ?_⟩
        obtain ⟨j', a, b⟩ := hin i hi hl
        exact q j' i (by omega) hi b hl
      · exact Or.inr ⟨e, q⟩
  | succ d ih =>
    intro j r fa qu t hj P ha hb hc hr
    obtain ⟨s, hs0, hs, e1, hbs, e2⟩ := hL.2.1 j (by omega)
    have hsj : ∀ j' i, j' < L → i < 24 → li j' = nI i → j' ≠ j → i ≠ s := fun j' i hj' hi e hne q => by
      subst q
      obtain ⟨i', _, hi', b1, _, b2⟩ := hL.2.1 j' hj'
      have q := ob_inj (b1.symm.trans e) (by omega) (by omega)
      subst q
      have := ob_inj (b2.symm.trans e2) (by omega) (by omega)
      omega
    have hfs : fa s = G s := hc j s (Nat.le_refl _) (by omega) hs e1
    refine br_f (nI_ge (by omega) (by omega)) (And.intro (ob_in j 24 (by omega)) (nr_ (nI_clamp (by omega)) ?_))
    rw [e1]
    have next : ¬ Lp pa bi G s → wX_isolateLoops_4 psr (d + 1) r (nI (j + 1)) (nI O) (nI N) (nI C) (nI L) pb (nI h) (nI t) pl kd pa na da sl cc bi tk ve li la fa qu wm ol := fun hq => ih (j + 1) r fa qu t (by omega) P ha (fun j' i hj' hi e hl => by
      by_cases ej : j' = j
      · subst ej
        have := ob_inj (e1.symm.trans e) (by omega) (by omega)
        subst this
        exact absurd hl hq
      · exact hb j' i (by omega) hi e hl) (fun j' i hj' => hc j' i (by omega)) (by
      rcases hr with ⟨e, g, q⟩ | q
      · refine Or.inl ⟨e, g, fun j' i hj' hi e => ?_⟩
        by_cases ej : j' = j
        · subst ej
          have := ob_inj (e1.symm.trans e) (by omega) (by omega)
          subst this
          exact hq
        · exact q j' i (by omega) hi e
      · exact Or.inr q)
    refine And.intro (ob_in s 24 hs) (rc_ (nI_clamp (by omega)) (fun h0 => nm_r (nI_1 j) (next (fun hl => (hol s hs hl.1 hl.2.1).mpr hl.2.2 h0))) (fun h0 => ?_))
    refine x_works hs (fun h1 => br_f ob_10 (And.intro (ob_in s 48 (by omega)) (rm_ (nI_clamp (by omega)) (fun h2 => nm_r (nI_1 j) (next (fun hl => hl.2.1 h2))) (fun h2 => ?_)))) (fun h1 => br_t rfl (nm_r (nI_1 j) (next (fun hl => h1 (hfs.trans hl.1)))))
    have hG1 : G s = 1 := hfs.symm.trans h1
    have hl : Lp pa bi G s := ⟨hG1, h2, (hol s hs hG1 h2).mp h0⟩
    refine x_isolate hs (pq_t H P) (nm_r (nI_1 j) (ih (j + 1) 1 _ _ (t + 1) (by omega) (pq_iso H (pq_mono P (fun z _ hz => Or.inr hz)) hs h1 (by decide) (by decide)) (fun i hi => ?_) (fun j' i hj' hi e hli => ?_) (fun j' i hj' hjL hi e => ?_) (Or.inr ⟨rfl, ⟨s, hs, hl⟩, ?_⟩)))
    · by_cases e : i = s
      · subst e; exact Or.inr ⟨hl, ob_us⟩
      · rw [ob_un e]; exact ha i hi
    · by_cases ej : j' = j
      · subst ej
        have := ob_inj (e1.symm.trans e) (by omega) (by omega)
        subst this
        exact ob_us
      · rw [ob_un (hsj j' i (by omega) hi e ej)]
        exact hb j' i (by omega) hi e hli
    · rw [ob_un (hsj j' i hjL hi e (by omega))]
      exact hc j' i (by omega) hjL hi e
    · rcases hr with ⟨_, q, _⟩ | ⟨_, _, q⟩ <;> omega
/-! X's plan: the rounds -/
theorem io_l3 {F G : Nat → Int32} (hl : l3 F G) : cn (io F) 24 ≤ cn (io G) 24 := by
  refine cn_mono 24 (fun i hi h => ?_)
  rcases hl i hi with e | ⟨e, _⟩
  · show (decide (G i ≠ 0) && decide (G i ≠ 1)) = true
    rw [e]; exact h
  · simp [io, e] at h
theorem x_rounds (H : Cx O N kd pa na da bi) (hL : Lg bi li la L) (hS : SL 24 (xs 24 kd) pa na sl cc) (hS0 : SL 0 (xs 0 kd) pa na sl cc) : ∀ d r F0 fa qu h t wm ol, r + d = 24 → PQ kd pa na bi fa qu h t (fun _ => False) → Bel kd pa na bi F0 fa → r ≤ cn (io F0) 24 → (∀ (fa' qu' wm' ol' : Nat → Int32) (h' t' n : Nat), Rnd kd pa na bi n F0 fa' → t' = cn (io fa') 24 → pst (nI O, nI N, nI C, nI L, pb, nI h', nI t', 1, kd, pa, na, da, sl, cc, bi, tk, ve, li, la, fa', qu', wm', ol')) → wX_plan_46 pst (d + 2) 1 (nI r) (nI O) (nI N) (nI C) (nI L) pb (nI h) (nI t) pl kd pa na da sl cc bi tk ve li la fa qu wm ol := by
  intro d
  induction d with
  | zero =>
    intro r F0 fa qu h t wm ol hr P hB hc k
    have := io_l3 hB.1
    have := pq_t H P
    have := P.1
    omega
  | succ d ih =>
    intro r F0 fa qu h t wm ol hr P hB hc k
    refine br_f (nI_nlt (a := 24) (b := r) (by omega) (by omega)) (br_f ob_10 ?_)
    refine Exists.intro 25 (x_drain_l (F0 := F0) H hS hS0 (fun fa1 qu1 t1 P1 hB1 => ?_) 24 0 h fa qu t (by omega) (by omega) P hB)
    refine Exists.intro 25 (x_mark0_l (fa := fa1) H hL (fun wm1 ol1 hol => ?_) 24 0 wm ol (by omega) (fun i hi => absurd hi (Nat.not_lt_zero _)))
    refine Exists.intro (L + 1) (x_isoLoops_l (G := fa1) (t0 := t1) H hL hol (fun fa2 qu2 t2 r2 hl P2 h2 => ?_) L 0 0 fa1 qu1 t1 (by omega) P1 (fun i _ => Or.inl rfl) (fun j' i hj' => absurd hj' (Nat.not_lt_zero _)) (fun j' i _ _ _ _ => rfl) (Or.inl ⟨rfl, Nat.le_refl _, fun j' i hj' => absurd hj' (Nat.not_lt_zero _)⟩))
    refine nm_r (nI_1 r) ?_
    have hclo : Clo kd pa na bi F0 fa1 := ⟨hB1, fun x hx hb => by
      rcases P1.2.2.2.2 x hx hb with f | ⟨j, q, a, b, _⟩
      · exact f
      · omega⟩
    rcases h2 with ⟨e, hno⟩ | ⟨e, hex, ht⟩
    · subst e
      exact br_f (nI_nlt (a := 24) (b := r + 1) (by omega) (by omega)) (br_t rfl (k fa2 qu2 wm1 ol1 t1 t2 1 ⟨fa1, hclo, Or.inl ⟨hno, fun i hi => (hl i hi).2 (hno i hi)⟩⟩ P2.1))
    · subst e
      refine ih (r + 1) fa2 fa2 qu2 t1 t2 wm1 ol1 (by omega) P2 bel_rfl ?_ (fun fa' qu' wm' ol' h' t' n hr' ht' => k fa' qu' wm' ol' h' t' (n + 1) ⟨fa1, hclo, Or.inr ⟨hex, fa2, hl, hr'⟩⟩ ht')
      have := io_l3 hB1.1
      have := P1.1
      have := P2.1
      omega
/-! X's plan: the beginning, the whole -/
theorem x_isConflict {b s : Int32} (hb : vb b) (h0 : b ≠ 0) (f : cf b s → post 1) (g : ¬ cf b s → post 0) : wpX_isConflict post (nI O, nI N, nI C, nI L, pb, qh, qt, pl, kd, pa, na, da, sl, cc, bi, tk, ve, li, la, fa, qu, wm, ol) b s := by
  have h6' : b ≠ 1 → b ≠ 8 → b &&& 6 ≠ 0 := fun h1 h8 => by
    rcases hb with h | h | h | h | h | h
    · exact absurd h h0
    · exact absurd h h1
    · rw [h]; decide
    · rw [h]; decide
    · rw [h]; decide
    · exact absurd h h8
  refine br_c (fun h1 => g ?_) (fun h1 => br_c (fun h8 => br_c (fun h6 => g ?_) (fun h6 => f (Or.inl ⟨h8, h6⟩))) (fun h8 => br_c (fun hs => f (Or.inr ⟨h6' h1 h8, Or.inl hs⟩)) (fun hs => br_c (fun hz => g ?_) (fun hz => f (Or.inr ⟨h6' h1 h8, Or.inr hz⟩)))))
  · subst h1
    rintro (⟨e, _⟩ | ⟨e, _⟩)
    · exact absurd e (by decide)
    · exact e (by decide)
  · subst h8
    rintro (⟨_, e⟩ | ⟨e, _⟩)
    · exact e h6
    · exact e (by decide)
  · rintro (⟨e, _⟩ | ⟨_, e | e⟩)
    · exact h8 e
    · exact hs e
    · exact e hz
theorem x_start_l (k : ∀ fa' : Nat → Int32, (∀ i, i < 24 → fa' i = if bi i = 0 then 0 else 1) → pst (nI O, nI N, nI C, nI L, pb, qh, qt, pl, kd, pa, na, da, sl, cc, bi, tk, ve, li, la, fa', qu, wm, ol)) : ∀ d i fa, i + d = 24 → (∀ z, z < i → fa z = if bi z = 0 then 0 else 1) → wX_startPlan_12 pst (nI O) (nI N) (nI C) (nI L) pb qh qt pl (d + 1) (nI i) kd pa na da sl cc bi tk ve li la fa qu wm ol := by
  intro d
  induction d with
  | zero =>
    intro i fa hi hz
    have e : i = 24 := by omega
    subst e
    exact br_t (nI_le (a := 24) (by omega) (by omega)) (k fa hz)
  | succ d ih =>
    intro i fa hi hz
    have c := nI_clamp (n := i) (by omega)
    refine br_f (nI_ge (b := 24) (by omega) (by omega)) (And.intro (ob_in i 48 (by omega)) (rc_ c (fun e => And.intro (ob_in i 24 (by omega)) (nu_ c (nm_r (nI_1 i) (ih (i + 1) _ (by omega) (fun z hz' => ?_))))) (fun e => And.intro (ob_in i 24 (by omega)) (nu_ c (nm_r (nI_1 i) (ih (i + 1) _ (by omega) (fun z hz' => ?_)))))))
    · by_cases q : z = i
      · subst q; rw [ob_us, if_pos e]
      · rw [ob_un q]; exact hz z (by omega)
    · by_cases q : z = i
      · subst q; rw [ob_us, if_neg e]
      · rw [ob_un q]; exact hz z (by omega)
theorem x_conf_l (H : Cx O N kd pa na da bi) (hL : Lg bi li la L) (k : ∀ (fa' qu' : Nat → Int32) (t' : Nat), (∀ i, i < 24 → fa' i = f0 bi i) → PQ kd pa na bi fa' qu' 0 t' (fun z => bi z ≠ 0) → pst (nI O, nI N, nI C, nI L, pb, nI 0, nI t', pl, kd, pa, na, da, sl, cc, bi, tk, ve, li, la, fa', qu', wm, ol)) : ∀ d j fa qu t, j + d = L → PQ kd pa na bi fa qu 0 t (fun z => bi z ≠ 0) → (∀ j' i, j ≤ j' → j' < L → i < 24 → li j' = nI i → fa i = 1) → (∀ i, i < 24 → (∀ j', j ≤ j' → j' < L → li j' ≠ nI i) → fa i = f0 bi i) → wX_isolateConflicts_2 pst (d + 1) (nI j) (nI O) (nI N) (nI C) (nI L) pb (nI 0) (nI t) pl kd pa na da sl cc bi tk ve li la fa qu wm ol := by
  have hLL := lg_L hL (cx_b0 H)
  intro d
  induction d with
  | zero =>
    intro j fa qu t hj P hc ha
    exact br_t (nI_le (by omega) (by omega)) (k fa qu t (fun i hi => ha i hi (fun j' h1 h2 => by omega)) P)
  | succ d ih =>
    intro j fa qu t hj P hc ha
    obtain ⟨s, hs0, hs, e1, hbs, e2⟩ := hL.2.1 j (by omega)
    have hsj : ∀ j' i, j' < L → i < 24 → li j' = nI i → j' ≠ j → i ≠ s := fun j' i hj' hi e hne q => by
      subst q
      obtain ⟨i', _, hi', b1, _, b2⟩ := hL.2.1 j' hj'
      have q := ob_inj (b1.symm.trans e) (by omega) (by omega)
      subst q
      have := ob_inj (b2.symm.trans e2) (by omega) (by omega)
      omega
    have hfs : fa s = 1 := hc j s (Nat.le_refl _) (by omega) hs e1
    have c1 := nI_clamp (n := s) (by omega)
    have c2 := ob_cl (24 + s) (ob_24 s)
    refine br_f (nI_ge (by omega) (by omega)) (And.intro (ob_in j 24 (by omega)) (nr_ (nI_clamp (by omega)) ?_))
    rw [e1]
    refine And.intro (ob_in s 48 (by omega)) (And.intro (ob_in (24 + s) 48 (by omega) (ob_24 s)) ?_)
    rw [c1, c2]
    refine x_isConflict (cx_v H (by omega)) hbs (fun hcf => br_f ob_10 ?_) (fun hcf => br_t rfl (nm_r (nI_1 j) (ih (j + 1) fa qu t (by omega) P (fun j' i h1 => hc j' i (by omega)) (fun i hi hq => ?_))))
    · refine x_isolate hs (pq_t H P) (nm_r (nI_1 j) (ih (j + 1) _ _ (t + 1) (by omega) (pq_iso H (pq_mono P (fun z _ hz => Or.inr hz)) hs hfs (by decide) (by decide)) (fun j' i h1 h2 hi e => ?_) (fun i hi hq => ?_)))
      · rw [ob_un (hsj j' i h2 hi e (by omega))]
        exact hc j' i (by omega) h2 hi e
      · by_cases e : i = s
        · subst e
          rw [ob_us, f0, if_neg hbs, if_pos hcf]
        · rw [ob_un e]
          refine ha i hi (fun j' h1 h2 q => ?_)
          by_cases ej : j' = j
          · subst ej
            exact e (ob_inj (q.symm.trans e1) (by omega) (by omega))
          · exact hq j' (by omega) h2 q
    · by_cases e : i = s
      · subst e
        rw [hfs, f0, if_neg hbs, if_neg hcf]
      · refine ha i hi (fun j' h1 h2 q => ?_)
        by_cases ej : j' = j
        · subst ej
          exact e (ob_inj (q.symm.trans e1) (by omega) (by omega))
        · exact hq j' (by omega) h2 q
theorem x_rev_l (H : Cx O N kd pa na da bi) (hL : Lg bi li la L) (hS : SL 24 (xs 24 kd) pa na sl cc) (hS0 : SL 0 (xs 0 kd) pa na sl cc) (k : ∀ (fa' qu' wm' ol' : Nat → Int32) (h' t' n : Nat), Rnd kd pa na bi n F0 fa' → t' = cn (io fa') 24 → pst (nI O, nI N, nI C, nI L, pb, nI h', nI t', 1, kd, pa, na, da, sl, cc, bi, tk, ve, li, la, fa', qu', wm', ol')) : ∀ d j fa qu t, j + d = L → PQ kd pa na bi fa qu 0 t (fun z => ∃ j', j ≤ j' ∧ j' < L ∧ li j' = nI z) → Bel kd pa na bi F0 fa → wX_plan_18 pst (d + 1) (nI j) (nI O) (nI N) (nI C) (nI L) pb (nI 0) (nI t) pl kd pa na da sl cc bi tk ve li la fa qu wm ol := by
  have hLL := lg_L hL (cx_b0 H)
  intro d
  induction d with
  | zero =>
    intro j fa qu t hj P hB
    refine br_t (nI_le (by omega) (by omega)) (Exists.intro 26 (x_rounds H hL hS hS0 24 0 F0 fa qu 0 t wm ol (by omega) (pq_mono P (fun z _ hz => ?_)) hB (Nat.zero_le _) k))
    obtain ⟨j', a, b, _⟩ := hz
    omega
  | succ d ih =>
    intro j fa qu t hj P hB
    obtain ⟨s, hs0, hs, e1, hbs, e2⟩ := hL.2.1 j (by omega)
    refine br_f (nI_ge (by omega) (by omega)) (And.intro (ob_in j 24 (by omega)) ?_)
    rw [nI_clamp (n := j) (by omega), e1]
    refine x_review (S := fun z => ∃ j', j + 1 ≤ j' ∧ j' < L ∧ li j' = nI z) (F0 := F0) H hS hs (pq_mono P (fun z hz hq => ?_)) hB (fun fa' qu' t' P' hB' => nm_r (nI_1 j) (ih (j + 1) fa' qu' t' (by omega) P' hB'))
    obtain ⟨j', a, b, e⟩ := hq
    by_cases ej : j' = j
    · subst ej
      exact Or.inl (ob_inj (e.symm.trans e1) (by omega) (by omega))
    · exact Or.inr ⟨j', by omega, b, e⟩
theorem x_plan (H : Cx O N kd pa na da bi) (hL : Lg bi li la L) (hS : SL 24 (xs 24 kd) pa na sl cc) (hS0 : SL 0 (xs 0 kd) pa na sl cc) (hc : pl = 0 ∨ (Res kd pa na bi fa ∧ qt = nI (cn (io fa) 24))) (k : ∀ (fa' qu' wm' ol' : Nat → Int32) (qh' qt' pl' : Int32), Res kd pa na bi fa' → qt' = nI (cn (io fa') 24) → pst (nI O, nI N, nI C, nI L, pb, qh', qt', pl', kd, pa, na, da, sl, cc, bi, tk, ve, li, la, fa', qu', wm', ol')) : wpX_plan pst (nI O, nI N, nI C, nI L, pb, qh, qt, pl, kd, pa, na, da, sl, cc, bi, tk, ve, li, la, fa, qu, wm, ol) := by
  by_cases hp : pl = 0
  · refine br_t hp ?_
    refine Exists.intro 25 (x_start_l (qh := 0) (qt := 0) (fun fa1 hfa1 => ?_) 24 0 fa (by omega) (fun i hi => absurd hi (Nat.not_lt_zero _)))
    have h01 : ∀ i, i < 24 → (fa1 i = 0 ↔ bi i = 0) := fun i hi => by
      rw [hfa1 i hi]
      by_cases e : bi i = 0
      · rw [if_pos e]; exact ⟨fun _ => e, fun _ => rfl⟩
      · rw [if_neg e]; exact ⟨fun z => absurd z ob_10, fun z => absurd z e⟩
    have hP : PQ kd pa na bi fa1 qu 0 0 (fun z => bi z ≠ 0) := by
      refine ⟨(cn_z 24 (fun i hi => ?_)).symm, Nat.le_refl _, h01, fun j _ hj => absurd hj (Nat.not_lt_zero _), fun x hx hb => Or.inl (fun e => ?_)⟩
      · rw [io, hfa1 i hi]
        by_cases e : bi i = 0
        · rw [if_pos e]; rfl
        · rw [if_neg e]; rfl
      · exact absurd (hb.1.symm.trans ((h01 x hx).mpr e)) ob_10
    refine Exists.intro (L + 1) (x_conf_l H hL (fun fa2 qu2 t2 hf P2 => ?_) L 0 fa1 qu 0 (by omega) hP (fun j' i _ hj' hi e => ?_) (fun i hi hq => ?_))
    · refine Exists.intro (L + 1) (x_rev_l (F0 := fa2) H hL hS hS0 (fun fa' qu' wm' ol' h' t' n hr ht => k fa' qu' wm' ol' _ _ _ ⟨fa2, n, hf, hr⟩ (by rw [ht])) L 0 fa2 qu2 t2 (by omega) (pq_mono P2 (fun z hz hb => ?_)) bel_rfl)
      obtain ⟨j', a, b, _⟩ := hL.2.2 z hz hb
      exact ⟨j', by omega, a, b⟩
    · obtain ⟨i', _, hi', b1, b2, _⟩ := hL.2.1 j' hj'
      have q := ob_inj (b1.symm.trans e) (by omega) (by omega)
      subst q
      rw [hfa1 _ hi, if_neg b2]
    · have hb : bi i = 0 := Classical.byContradiction fun hb => by
        obtain ⟨j', a, b, _⟩ := hL.2.2 i hi hb
        exact hq j' (by omega) a b
      rw [hfa1 i hi, if_pos hb, f0, if_pos hb]
  · refine br_f hp ?_
    rcases hc with q | ⟨q1, q2⟩
    · exact absurd q hp
    · exact k fa qu wm ol qh qt pl q1 q2
end
end
section
/-! the merge, pure -/
def mV (c m : Int32) (a bi F : Nat → Int32) (i : Nat) : Int32 := if F i = 1 ∧ bi i = 8 then c else if F i = 1 ∧ bi i &&& m ≠ 0 then a i else a (24 + i)
def MG (kd pa na da bi F mk mp mn md : Nat → Int32) : Prop := ∀ i, i < 24 → mk i = mV 0 1 kd bi F i ∧ mp i = mV (-1) 3 pa bi F i ∧ mn i = mV (-1) 3 na bi F i ∧ md i = mV 0 5 da bi F i
theorem mv_8 {c m : Int32} {a bi F : Nat → Int32} {i : Nat} (h1 : F i = 1) (h2 : bi i = 8) : mV c m a bi F i = c := if_pos ⟨h1, h2⟩
theorem mv_c {c m : Int32} {a bi F : Nat → Int32} {i : Nat} (h1 : F i = 1) (h2 : bi i ≠ 8) (h3 : bi i &&& m ≠ 0) : mV c m a bi F i = a i := by
  unfold mV
  rw [if_neg (fun z => h2 z.2), if_pos ⟨h1, h3⟩]
theorem mv_s {c m : Int32} {a bi F : Nat → Int32} {i : Nat} (h1 : F i = 1) (h2 : bi i ≠ 8) (h3 : bi i &&& m = 0) : mV c m a bi F i = a (24 + i) := by
  unfold mV
  rw [if_neg (fun z => h2 z.2), if_neg (fun z => z.2 h3)]
theorem mv_n {c m : Int32} {a bi F : Nat → Int32} {i : Nat} (h1 : F i ≠ 1) : mV c m a bi F i = a (24 + i) := by
  unfold mV
  rw [if_neg (fun z => h1 z.1), if_neg (fun z => h1 z.1)]
theorem mv_congr {c m : Int32} {a bi F G : Nat → Int32} {i : Nat} (h : G i = F i) : mV c m a bi G i = mV c m a bi F i := by
  unfold mV; rw [h]
section
variable {O N : Nat} {kd pa na da bi F mk mp mn md : Nat → Int32}
/-- what exists in the merge stands at its place on the client or at its place on the server -/
theorem mg_ex (H : Cx O N kd pa na da bi) (ho : okF kd bi F) {y : Nat} (hy : y < 24) (hk : mV 0 1 kd bi F y ≠ 0) : (F y = 1 ∧ bi y &&& 3 ≠ 0 ∧ kd y ≠ 0 ∧ mV (-1) 3 pa bi F y = pa y ∧ mV (-1) 3 na bi F y = na y) ∨ (kd (24 + y) ≠ 0 ∧ st bi F y ∧ ¬ (F y = 1 ∧ bi y &&& 3 ≠ 0) ∧ mV 0 1 kd bi F y = kd (24 + y) ∧ mV (-1) 3 pa bi F y = pa (24 + y) ∧ mV (-1) 3 na bi F y = na (24 + y)) := by
  by_cases h1 : F y = 1
  · by_cases h8 : bi y = 8
    · exact absurd (mv_8 h1 h8) hk
    · by_cases h3 : bi y &&& 3 = 0
      · right
        have hb0 : bi y ≠ 0 := fun e => absurd (h1.symm.trans ((ho y hy).1.mpr e)) (by decide)
        have h4 : bi y = 4 := by
          rcases cx_v H (m := y) (by omega) with h | h | h | h | h | h
          · exact absurd h hb0
          · rw [h] at h3; exact absurd h3 (by decide)
          · rw [h] at h3; exact absurd h3 (by decide)
          · exact h
          · rw [h] at h3; exact absurd h3 (by decide)
          · exact absurd h h8
        have e1 : mV 0 1 kd bi F y = kd (24 + y) := mv_s h1 h8 (by rw [h4]; decide)
        exact ⟨by rw [← e1]; exact hk, fun _ => by rw [h4]; decide, fun z => z.2 h3, e1, mv_s h1 h8 h3, mv_s h1 h8 h3⟩
      · left
        obtain ⟨_, _, _, hky, _⟩ := cx_pl H hy h3
        exact ⟨h1, h3, hky, mv_c h1 h8 h3, mv_c h1 h8 h3⟩
  · right
    have e1 : mV 0 1 kd bi F y = kd (24 + y) := mv_n h1
    exact ⟨by rw [← e1]; exact hk, fun z => absurd z h1, fun z => h1 z.1, e1, mv_n h1, mv_n h1⟩
/-- what stays on the server exists in the merge, at its place there -/
theorem mg_st (H : Cx O N kd pa na da bi) (ho : okF kd bi F) {y : Nat} (hy : y < 24) (hk : kd (24 + y) ≠ 0) (hs : st bi F y) : mV 0 1 kd bi F y = kd (24 + y) ∧ mV (-1) 3 pa bi F y = pa (24 + y) ∧ mV (-1) 3 na bi F y = na (24 + y) := by
  by_cases h1 : F y = 1
  · have hb0 : bi y ≠ 0 := fun e => absurd (h1.symm.trans ((ho y hy).1.mpr e)) (by decide)
    have h10 := hs h1
    have h4 : bi y = 4 := by
      rcases cx_v H (m := y) (by omega) with h | h | h | h | h | h
      · exact absurd h hb0
      · exact absurd (cx_cr H hy h).2.1 hk
      · rw [h] at h10; exact absurd h10 (by decide)
      · exact h
      · rw [h] at h10; exact absurd h10 (by decide)
      · rw [h] at h10; exact absurd h10 (by decide)
    have h8 : bi y ≠ 8 := by rw [h4]; decide
    exact ⟨mv_s h1 h8 (by rw [h4]; decide), mv_s h1 h8 (by rw [h4]; decide), mv_s h1 h8 (by rw [h4]; decide)⟩
  · exact ⟨mv_n h1, mv_n h1, mv_n h1⟩
theorem mg_em (H : Cx O N kd pa na da bi) (ho : okF kd bi F) {p : Nat} (hp : p < 24) : mV 0 1 kd bi F p = 0 ↔ ¬ em kd bi F p := by
  by_cases h1 : F p = 1
  · have hb0 : bi p ≠ 0 := fun e => absurd (h1.symm.trans ((ho p hp).1.mpr e)) (by decide)
    by_cases h8 : bi p = 8
    · rw [mv_8 h1 h8]
      exact ⟨fun _ z => z.1 h1 h8, fun _ => rfl⟩
    · have he : em kd bi F p := ⟨fun _ => h8, fun z => absurd h1 z⟩
      by_cases h11 : bi p = 1
      · rw [mv_c h1 h8 (by rw [h11]; decide)]
        exact ⟨fun z => absurd z (cx_cr H hp h11).1, fun z => absurd he z⟩
      · have h6 : bi p &&& 6 ≠ 0 ∧ bi p &&& 1 = 0 := by
          rcases cx_v H (m := p) (by omega) with h | h | h | h | h | h
          · exact absurd h hb0
          · exact absurd h h11
          · rw [h]; decide
          · rw [h]; decide
          · rw [h]; decide
          · exact absurd h h8
        rw [mv_s h1 h8 h6.2]
        exact ⟨fun z => absurd z ((ho p hp).2.1 h1 h6.1), fun z => absurd he z⟩
  · rw [mv_n h1]
    exact ⟨fun z w => w.2 h1 z, fun z => Classical.byContradiction fun q => z ⟨fun w => absurd w h1, fun _ => q⟩⟩
/-- Y's scan -/
def Bd (bi mk mp mn : Nat → Int32) (x y : Nat) : Prop := mk y ≠ 0 ∧ ((bi x &&& 3 ≠ 0 ∧ y ≠ x ∧ mp y = mp x ∧ mn y = mn x) ∨ (bi x = 8 ∧ mp y = nI x))
theorem bd_iff (H : Cx O N kd pa na da bi) (ho : okF kd bi F) (hm : MG kd pa na da bi F mk mp mn md) {x : Nat} (hx : x < 24) (h1 : F x = 1) : Blk kd pa na bi F x ↔ (bi x &&& 3 ≠ 0 ∧ mk (pa x).toNatClampNeg = 0) ∨ ∃ y, y < 24 ∧ Bd bi mk mp mn x y := by
  constructor
  · rintro ⟨_, ⟨h8, y, hy, k1, k2, k3⟩ | ⟨h3, hb⟩⟩
    · right
      obtain ⟨a, b, c⟩ := mg_st H ho hy k1 k3
      refine ⟨y, hy, ?_, Or.inr ⟨h8, ?_⟩⟩
      · rw [(hm y hy).1, a]; exact k1
      · rw [(hm y hy).2.1, b]; exact k2
    · obtain ⟨_, h8, hx0, hkx, p, n, hp, _, e1, e2, _, _⟩ := cx_pl H hx h3
      rcases hb with hb | ⟨y, hy, k0, k1, k2, k3, k4⟩
      · left
        refine ⟨h3, ?_⟩
        rw [e1, nI_clamp (by omega)] at hb ⊢
        rw [(hm p hp).1]
        exact (mg_em H ho hp).mpr hb
      · right
        obtain ⟨a, b, c⟩ := mg_st H ho hy k1 k4
        refine ⟨y, hy, ?_, Or.inl ⟨h3, k0, ?_, ?_⟩⟩
        · rw [(hm y hy).1, a]; exact k1
        · rw [(hm y hy).2.1, b, (hm x hx).2.1, mv_c h1 h8 h3]; exact k2
        · rw [(hm y hy).2.2.1, c, (hm x hx).2.2.1, mv_c h1 h8 h3]; exact k3
  · rintro (⟨h3, h0⟩ | ⟨y, hy, hk, ⟨h3, k0, k1, k2⟩ | ⟨h8, k1⟩⟩)
    · refine ⟨h1, Or.inr ⟨h3, Or.inl ?_⟩⟩
      obtain ⟨_, _, _, _, p, n, hp, _, e1, _, _, _⟩ := cx_pl H hx h3
      rw [e1, nI_clamp (by omega)] at h0 ⊢
      rw [(hm p hp).1] at h0
      exact (mg_em H ho hp).mp h0
    · obtain ⟨_, h8, hx0, hkx, p, n, hp, _, e1, e2, _, _⟩ := cx_pl H hx h3
      rw [(hm y hy).1] at hk
      rw [(hm y hy).2.1, (hm x hx).2.1, mv_c h1 h8 h3] at k1
      rw [(hm y hy).2.2.1, (hm x hx).2.2.1, mv_c h1 h8 h3] at k2
      rcases mg_ex H ho hy hk with ⟨a, b, c, d, e⟩ | ⟨a, b, _, _, d, e⟩
      · exfalso
        rw [d] at k1
        rw [e] at k2
        obtain ⟨_, _, hy0, _⟩ := cx_pl H hy b
        exact k0 (cx_u0 H hy0 hy hx0 hx c hkx k1 k2)
      · rw [d] at k1
        rw [e] at k2
        exact ⟨h1, Or.inr ⟨h3, Or.inr ⟨y, hy, k0, a, k1, k2, b⟩⟩⟩
    · rw [(hm y hy).1] at hk
      rw [(hm y hy).2.1] at k1
      rcases mg_ex H ho hy hk with ⟨a, b, c, d, e⟩ | ⟨a, b, _, _, d, e⟩
      · exfalso
        rw [d] at k1
        obtain ⟨_, _, hy0, _, p, n, hp, _, e1, _, hkp, _⟩ := cx_pl H hy b
        have := ob_inj (e1.symm.trans k1) (by omega) (by omega)
        subst this
        exact cx_k8 H hp (by rw [hkp]; decide) h8
      · rw [d] at k1
        exact ⟨h1, Or.inl ⟨h8, y, hy, a, k1, b⟩⟩
/-- in a closed merge parents of what exists exist, and both sides' parents agree there -/
def yx (pa bi F : Nat → Int32) (i : Nat) : Nat := (mV (-1) 3 pa bi F i).toNatClampNeg
theorem mg_cl (H : Cx O N kd pa na da bi) (ho : okF kd bi F) (hc : ∀ x, x < 24 → ¬ Blk kd pa na bi F x) {i : Nat} (hi : i < 24) (hk : i = 0 ∨ mV 0 1 kd bi F i ≠ 0) : yx pa bi F i = nx pa bi F i ∧ nx pa bi F i < 24 ∧ (nx pa bi F i = 0 ∨ mV 0 1 kd bi F (nx pa bi F i) ≠ 0) := by
  by_cases h0 : i = 0
  · subst h0
    have hF0 : F 0 ≠ 1 := fun e => absurd (e.symm.trans ((ho 0 hi).1.mpr (cx_b0 H))) (by decide)
    refine ⟨?_, nx_lt H F 0 hi, Or.inl (nx_0 H F)⟩
    rw [nx_0 H F]
    unfold yx
    rw [mv_n hF0]
    show (pa 24).toNatClampNeg = 0
    rw [(cx_r1 H).2.1, ob_m1]
  · have hk : mV 0 1 kd bi F i ≠ 0 := hk.resolve_left h0
    refine ⟨?_, nx_lt H F i hi, ?_⟩
    · rcases mg_ex H ho hi hk with ⟨a, b, c, d, e⟩ | ⟨a, b, b', _, d, e⟩
      · unfold yx nx mq
        rw [d, if_pos ⟨a, b⟩]
      · unfold yx nx mq
        rw [d, if_neg b']
    · right
      rcases mg_ex H ho hi hk with ⟨a, b, c, d, e⟩ | ⟨a, b, b', _, d, e⟩
      · obtain ⟨_, _, _, _, p, n, hp, _, e1, _, _, _⟩ := cx_pl H hi b
        have ep : nx pa bi F i = p := by
          unfold nx mq
          rw [if_pos ⟨a, b⟩, e1, nI_clamp (by omega)]
        rw [ep]
        intro hz
        have := (mg_em H ho hp).mp hz
        refine hc i hi ⟨a, Or.inr ⟨b, Or.inl ?_⟩⟩
        rw [e1, nI_clamp (by omega)]
        exact this
      · obtain ⟨_, p, n, hp, _, e1, _, hkp⟩ := cx_p1 H h0 hi a
        have ep : nx pa bi F i = p := by
          unfold nx mq
          rw [if_neg b', e1, nI_clamp (by omega)]
        rw [ep]
        intro hz
        have hem := (mg_em H ho hp).mp hz
        have hkp' : kd (24 + p) ≠ 0 := by rw [hkp]; decide
        by_cases q1 : F p = 1
        · by_cases q8 : bi p = 8
          · exact hc p hp ⟨q1, Or.inl ⟨q8, i, hi, a, e1, b⟩⟩
          · exact hem ⟨fun _ => q8, fun z => absurd q1 z⟩
        · exact hem ⟨fun z => absurd z q1, fun _ => hkp'⟩
theorem mg_it (H : Cx O N kd pa na da bi) (ho : okF kd bi F) (hc : ∀ x, x < 24 → ¬ Blk kd pa na bi F x) {i : Nat} (hi : i < 24) (hk : i = 0 ∨ mV 0 1 kd bi F i ≠ 0) (k : Nat) : it (yx pa bi F) k i = it (nx pa bi F) k i ∧ it (nx pa bi F) k i < 24 ∧ (it (nx pa bi F) k i = 0 ∨ mV 0 1 kd bi F (it (nx pa bi F) k i) ≠ 0) :=
  it_congr (f := nx pa bi F) (g := yx pa bi F) (fun i => i < 24 ∧ (i = 0 ∨ mV 0 1 kd bi F i ≠ 0)) (fun i hi => mg_cl H ho hc hi.1 hi.2) k i ⟨hi, hk⟩
theorem mg_mv (H : Cx O N kd pa na da bi) (ho : okF kd bi F) {x : Nat} (hx : x < 24) (h1 : F x = 1) (h2 : bi x &&& 2 ≠ 0) : mV 0 1 kd bi F x ≠ 0 ∧ x ≠ 0 := by
  have h : bi x &&& 6 ≠ 0 ∧ bi x &&& 1 = 0 ∧ bi x ≠ 8 ∧ bi x ≠ 0 := by
    rcases cx_v H (m := x) (by omega) with h | h | h | h | h | h
    · rw [h] at h2; exact absurd (by decide) h2
    · rw [h] at h2; exact absurd (by decide) h2
    · rw [h]; decide
    · rw [h] at h2; exact absurd (by decide) h2
    · rw [h]; decide
    · rw [h] at h2; exact absurd (by decide) h2
  exact ⟨by rw [mv_s h1 h.2.2.1 h.2.1]; exact (ho x hx).2.1 h1 h.1, cx_ne H h.2.2.2⟩
theorem mv_rg (H : Cx O N kd pa na da bi) {i : Nat} (hi : i < 24) : mV (-1) 3 pa bi F i = -1 ∨ ∃ z, z < 24 ∧ mV (-1) 3 pa bi F i = nI z := by
  unfold mV
  split
  · exact Or.inl rfl
  · split
    · exact cx_rg H (by omega)
    · exact cx_rg H (by omega)
theorem yx_lt (H : Cx O N kd pa na da bi) (F : Nat → Int32) : ∀ i, i < 24 → yx pa bi F i < 24 := by
  intro i hi
  unfold yx
  rcases mv_rg (F := F) H hi with h | ⟨z, hz, h⟩
  · rw [h, ob_m1]; omega
  · rw [h, nI_clamp (by omega)]; exact hz
theorem yx_0 (H : Cx O N kd pa na da bi) (ho : okF kd bi F) : yx pa bi F 0 = 0 := by
  have hF0 : F 0 ≠ 1 := fun e => absurd (e.symm.trans ((ho 0 (by omega)).1.mpr (cx_b0 H))) (by decide)
  unfold yx
  rw [mv_n hF0]
  show (pa 24).toNatClampNeg = 0
  rw [(cx_r1 H).2.1, ob_m1]
end
end
section
/-! Y's judge -/
def xf (bi fy : Nat → Int32) : Nat → Int32 := fun i => if bi i ≠ 0 ∧ fy i = 0 then 1 else fy i
theorem xf_w {bi fy : Nat → Int32} {i : Nat} (h1 : bi i ≠ 0) (h2 : fy i = 0) : xf bi fy i = 1 := if_pos ⟨h1, h2⟩
theorem xf_0 {bi fy : Nat → Int32} {i : Nat} (h1 : bi i = 0) : xf bi fy i = fy i := if_neg (fun z => z.1 h1)
theorem xf_n {bi fy : Nat → Int32} {i : Nat} (h1 : fy i ≠ 0) : xf bi fy i = fy i := if_neg (fun z => h1 z.2)
theorem xf_upd {bi fy : Nat → Int32} {x : Nat} {v : Int32} (hv : v ≠ 0) : xf bi (upd fy x v) = upd (xf bi fy) x v := by
  funext i
  by_cases e : i = x
  · subst e
    rw [ob_us, xf_n (by rw [ob_us]; exact hv), ob_us]
  · rw [ob_un e]
    unfold xf
    rw [ob_un e]
theorem cn_smono {p q : Nat → Bool} {i n : Nat} (hi : i < n) (h : ∀ j, j < n → p j = true → q j = true) (h1 : p i = false) (h2 : q i = true) : cn p n < cn q n := by
  have e := cn_set (p := p) (q := fun j => if j = i then true else p j) (i := i) h1 (by simp) n hi (fun j _ hj => by simp [hj])
  have m := cn_mono (p := fun j => if j = i then true else p j) (q := q) n (fun j hj hq => by
    by_cases ej : j = i
    · subst ej; exact h2
    · simp [ej] at hq; exact h j hj hq)
  omega
theorem rnd_congr {kd pa na bi : Nat → Int32} : ∀ (n : Nat) (F G G' : Nat → Int32), Rnd kd pa na bi n F G → (∀ i, i < 24 → G' i = G i) → Rnd kd pa na bi n F G' := by
  intro n
  induction n with
  | zero => intro F G G' h _; exact absurd h id
  | succ n ih =>
    intro F G G' h e
    obtain ⟨E, hE, h⟩ := h
    rcases h with ⟨h1, h2⟩ | ⟨h1, D, hD, hr⟩
    · exact ⟨E, hE, Or.inl ⟨h1, fun i hi => (e i hi).trans (h2 i hi)⟩⟩
    · exact ⟨E, hE, Or.inr ⟨h1, D, hD, ih D G G' hr e⟩⟩
section
variable {O N C : Nat} {kd pa na da bi tk ve fy mk mp mn md F : Nat → Int32} {post : Int32 → Prop} {pst : SY → Prop} {psr : Int32 → SY → Prop}
theorem y_works {i : Nat} (hi : i < 24) (hn : fy i ≠ 1) (f : xf bi fy i = 1 → post 1) (g : xf bi fy i ≠ 1 → post 0) : wpY_works post (nI O, nI N, nI C, kd, pa, na, da, bi, tk, ve, fy, mk, mp, mn, md) (nI i) := by
  have c := nI_clamp (n := i) (by omega)
  exact And.intro (ob_in i 48 (by omega)) (rc_ c (fun h0 => g (by rw [xf_0 h0]; exact hn)) (fun h0 => And.intro (ob_in i 24 hi) (rc_ c (fun h1 => f (xf_w h0 h1)) (fun h1 => g (by rw [xf_n h1]; exact hn)))))
theorem y_m84 {J : Int32 → (Nat → Int32) → (Nat → Int32) → (Nat → Int32) → (Nat → Int32) → (Nat → Int32) → (Nat → Int32) → (Nat → Int32) → (Nat → Int32) → (Nat → Int32) → (Nat → Int32) → (Nat → Int32) → (Nat → Int32) → Prop} {i kf pf df : Nat} (hi : i < 24) (h1 : kf < 72) (h2 : pf < 72) (h3 : df < 72) (k : J (nI (i + 1)) kd pa na da bi tk ve fy (upd mk i (kd kf)) (upd mp i (pa pf)) (upd mn i (na pf)) (upd md i (da df))) : wY_merge_84 pst J (nI i) (nI kf) (nI pf) (nI df) 0 (nI O) (nI N) (nI C) kd pa na da bi tk ve fy mk mp mn md := by
  have c := nI_clamp (n := i) (by omega)
  have c1 := nI_clamp (n := kf) (by omega)
  have c2 := nI_clamp (n := pf) (by omega)
  have c3 := nI_clamp (n := df) (by omega)
  unfold wY_merge_84 wY_merge_106 wY_merge_128 wY_merge_150
  rw [c, c1, c2, c3]
  exact br_t rfl (And.intro (ob_in kf 72 h1) (And.intro (ob_in i 24 hi) (nm_e (br_t rfl (And.intro (ob_in pf 72 h2) (And.intro (ob_in i 24 hi) (nm_e (br_t rfl (And.intro (ob_in pf 72 h2) (And.intro (ob_in i 24 hi) (nm_e (br_t rfl (And.intro (ob_in df 72 h3) (And.intro (ob_in i 24 hi) (nm_e (nm_r (nI_1 i) k))))))))))))))))
theorem y_m84g {J : Int32 → (Nat → Int32) → (Nat → Int32) → (Nat → Int32) → (Nat → Int32) → (Nat → Int32) → (Nat → Int32) → (Nat → Int32) → (Nat → Int32) → (Nat → Int32) → (Nat → Int32) → (Nat → Int32) → (Nat → Int32) → Prop} {i kf pf df : Nat} (hi : i < 24) (k : J (nI (i + 1)) kd pa na da bi tk ve fy (upd mk i 0) (upd mp i (-1)) (upd mn i (-1)) (upd md i 0)) : wY_merge_84 pst J (nI i) (nI kf) (nI pf) (nI df) 1 (nI O) (nI N) (nI C) kd pa na da bi tk ve fy mk mp mn md := by
  have c := nI_clamp (n := i) (by omega)
  unfold wY_merge_84 wY_merge_106 wY_merge_128 wY_merge_150
  rw [c]
  exact br_f ob_10 (And.intro (ob_in i 24 hi) (nm_e (br_f ob_10 (And.intro (ob_in i 24 hi) (nm_e (br_f ob_10 (And.intro (ob_in i 24 hi) (nm_e (br_f ob_10 (And.intro (ob_in i 24 hi) (nm_e (nm_r (nI_1 i) k)))))))))))) 
theorem y_m26 {J : Int32 → (Nat → Int32) → (Nat → Int32) → (Nat → Int32) → (Nat → Int32) → (Nat → Int32) → (Nat → Int32) → (Nat → Int32) → (Nat → Int32) → (Nat → Int32) → (Nat → Int32) → (Nat → Int32) → (Nat → Int32) → Prop} {i : Nat} {c : Int32} (hi : i < 24) (hc : vb c) (k : J (nI (i + 1)) kd pa na da bi tk ve fy (upd mk i (if c = 8 then 0 else if c &&& 1 ≠ 0 then kd i else kd (24 + i))) (upd mp i (if c = 8 then -1 else if c &&& 3 ≠ 0 then pa i else pa (24 + i))) (upd mn i (if c = 8 then -1 else if c &&& 3 ≠ 0 then na i else na (24 + i))) (upd md i (if c = 8 then 0 else if c &&& 5 ≠ 0 then da i else da (24 + i)))) : wY_merge_26 pst J (nI i) c (nI O) (nI N) (nI C) kd pa na da bi tk ve fy mk mp mn md := by
  unfold wY_merge_26 wY_merge_40 wY_merge_55 wY_merge_71
  rw [ob_24]
  rcases hc with h | h | h | h | h | h <;> subst h
  · exact br_f (by decide) (br_t (by decide) (br_t (by decide) (br_f (by decide) (y_m84 hi (by omega) (by omega) (by omega) k))))
  · exact br_t (by decide) (br_f (by decide) (br_f (by decide) (br_f (by decide) (y_m84 hi (by omega) (by omega) (by omega) k))))
  · exact br_f (by decide) (br_f (by decide) (br_t (by decide) (br_f (by decide) (y_m84 hi (by omega) (by omega) (by omega) k))))
  · exact br_f (by decide) (br_t (by decide) (br_f (by decide) (br_f (by decide) (y_m84 hi (by omega) (by omega) (by omega) k))))
  · exact br_f (by decide) (br_f (by decide) (br_f (by decide) (br_f (by decide) (y_m84 hi (by omega) (by omega) (by omega) k))))
  · exact br_f (by decide) (br_t (by decide) (br_t (by decide) (br_t (by decide) (y_m84g hi k))))
end
end
section
/-! Y's judge: merge, blocked, onLoop -/
section
variable {O N C : Nat} {kd pa na da bi tk ve fy mk mp mn md F F0 : Nat → Int32} {post : Int32 → Prop} {pst : SY → Prop} {psr : Int32 → SY → Prop}
theorem y_merge_l (H : Cx O N kd pa na da bi) (hn : ∀ i, i < 24 → fy i ≠ 1) (k : ∀ mk mp mn md : Nat → Int32, MG kd pa na da bi (xf bi fy) mk mp mn md → pst (nI O, nI N, nI C, kd, pa, na, da, bi, tk, ve, fy, mk, mp, mn, md)) : ∀ d i mk mp mn md, i + d = 24 → (∀ z, z < i → mk z = mV 0 1 kd bi (xf bi fy) z ∧ mp z = mV (-1) 3 pa bi (xf bi fy) z ∧ mn z = mV (-1) 3 na bi (xf bi fy) z ∧ md z = mV 0 5 da bi (xf bi fy) z) → wY_merge_2 pst (nI O) (nI N) (nI C) (d + 1) (nI i) kd pa na da bi tk ve fy mk mp mn md := by
  intro d
  induction d with
  | zero =>
    intro i mk mp mn md hi hz
    have e : i = 24 := by omega
    subst e
    exact br_t (nI_le (a := 24) (by omega) (by omega)) (k mk mp mn md hz)
  | succ d ih =>
    intro i mk mp mn md hi hz
    have step : ∀ v0 v1 v2 v3 : Int32, v0 = mV 0 1 kd bi (xf bi fy) i → v1 = mV (-1) 3 pa bi (xf bi fy) i → v2 = mV (-1) 3 na bi (xf bi fy) i → v3 = mV 0 5 da bi (xf bi fy) i → wY_merge_2 pst (nI O) (nI N) (nI C) (d + 1) (nI (i + 1)) kd pa na da bi tk ve fy (upd mk i v0) (upd mp i v1) (upd mn i v2) (upd md i v3) := by
      intro v0 v1 v2 v3 e0 e1 e2 e3
      refine ih (i + 1) _ _ _ _ (by omega) (fun z hz' => ?_)
      by_cases q : z = i
      · subst q
        rw [ob_us, ob_us, ob_us, ob_us]
        exact ⟨e0, e1, e2, e3⟩
      · rw [ob_un q, ob_un q, ob_un q, ob_un q]
        exact hz z (by omega)
    refine br_f (nI_ge (b := 24) (by omega) (by omega)) ?_
    refine y_works (by omega) (hn i (by omega)) (fun h1 => br_f ob_10 (And.intro (ob_in i 48 (by omega)) ?_)) (fun h1 => br_t rfl ?_)
    · rw [nI_clamp (n := i) (by omega)]
      refine y_m26 (by omega) (cx_v H (by omega)) (step _ _ _ _ ?_ ?_ ?_ ?_)
      · simp only [mV, h1, true_and]
      · simp only [mV, h1, true_and]
      · simp only [mV, h1, true_and]
      · simp only [mV, h1, true_and]
    · refine y_m26 (by omega) (Or.inl rfl) (step _ _ _ _ ?_ ?_ ?_ ?_)
      · rw [mv_n h1]; rfl
      · rw [mv_n h1]; rfl
      · rw [mv_n h1]; rfl
      · rw [mv_n h1]; rfl
theorem y_merge (H : Cx O N kd pa na da bi) (hn : ∀ i, i < 24 → fy i ≠ 1) (k : ∀ mk mp mn md : Nat → Int32, MG kd pa na da bi (xf bi fy) mk mp mn md → pst (nI O, nI N, nI C, kd, pa, na, da, bi, tk, ve, fy, mk, mp, mn, md)) : wpY_merge pst (nI O, nI N, nI C, kd, pa, na, da, bi, tk, ve, fy, mk, mp, mn, md) :=
  Exists.intro 25 (y_merge_l H hn k 24 0 mk mp mn md (by omega) (fun z hz => absurd hz (Nat.not_lt_zero _)))
theorem y_b110 {J : Int32 → Prop} {x y : Nat} {z : Int32} (hx : x < 24) (hy : y < 24) (f : bi x = 8 → mp y = nI x → post 1) (g : (bi x = 8 → mp y = nI x → False) → J (nI (y + 1))) : wY_blocked_110 post J (nI x) z (nI y) (nI O) (nI N) (nI C) kd pa na da bi tk ve fy mk mp mn md := by
  have c := nI_clamp (n := x) (by omega)
  have c' := nI_clamp (n := y) (by omega)
  exact And.intro (ob_in x 48 (by omega)) (rc_ c (fun h8 => And.intro (ob_in y 24 hy) (rc_ c' (fun e => f h8 e) (fun e => nm_r (nI_1 y) (g (fun _ z => e z))))) (fun h8 => nm_r (nI_1 y) (g (fun z _ => h8 z))))
theorem y_b46 {x : Nat} {z : Int32} (hx : x < 24) (hz : (z = 0 ∧ bi x &&& 3 = 0) ∨ (z = 1 ∧ bi x &&& 3 ≠ 0)) (f : (∃ y, y < 24 ∧ Bd bi mk mp mn x y) → post 1) (g : (∀ y, y < 24 → ¬ Bd bi mk mp mn x y) → post 0) : ∀ d y, y + d = 24 → (∀ y', y' < y → ¬ Bd bi mk mp mn x y') → wY_blocked_46 post (nI x) z (nI O) (nI N) (nI C) kd pa na da bi tk ve fy mk mp mn md (d + 1) (nI y) := by
  have c := nI_clamp (n := x) (by omega)
  intro d
  induction d with
  | zero =>
    intro y hy hno
    have e : y = 24 := by omega
    subst e
    exact br_t (nI_le (a := 24) (by omega) (by omega)) (g hno)
  | succ d ih =>
    intro y hy hno
    have c' := nI_clamp (n := y) (by omega)
    have hy24 : y < 24 := by omega
    have next : ¬ Bd bi mk mp mn x y → wY_blocked_46 post (nI x) z (nI O) (nI N) (nI C) kd pa na da bi tk ve fy mk mp mn md (d + 1) (nI (y + 1)) := fun hb => ih (y + 1) (by omega) (fun y' h' => by
      by_cases e : y' = y
      · subst e; exact hb
      · exact hno y' (by omega))
    refine br_f (nI_ge (b := 24) (by omega) (by omega)) (And.intro (ob_in y 24 hy24) (rc_ c' (fun h0 => nm_r (nI_1 y) (next (fun hb => hb.1 h0))) (fun h0 => ?_)))
    have last : ¬ (bi x &&& 3 ≠ 0 ∧ y ≠ x ∧ mp y = mp x ∧ mn y = mn x) → wY_blocked_110 post (wY_blocked_46 post (nI x) z (nI O) (nI N) (nI C) kd pa na da bi tk ve fy mk mp mn md (d + 1)) (nI x) z (nI y) (nI O) (nI N) (nI C) kd pa na da bi tk ve fy mk mp mn md := fun hq =>
      y_b110 hx hy24 (fun h8 e => f ⟨y, hy24, h0, Or.inr ⟨h8, e⟩⟩) (fun hn => next (fun hb => by
        rcases hb.2 with q | q
        · exact hq q
        · exact hn q.1 q.2))
    rcases hz with ⟨e, h3⟩ | ⟨e, h3⟩
    · subst e
      exact br_t rfl (last (fun q => q.1 h3))
    · subst e
      refine br_f ob_10 (ob_eq y x (fun e => last (fun q => q.2.1 e)) (fun e => And.intro (ob_in y 24 hy24) (And.intro (ob_in x 24 hx) ?_)))
      rw [c, c']
      exact br_c (fun e1 => And.intro (ob_in y 24 hy24) (And.intro (ob_in x 24 hx) (br_c (fun e2 => f ⟨y, hy24, h0, Or.inl ⟨h3, e, e1, e2⟩⟩) (fun e2 => last (fun q => e2 q.2.2.2))))) (fun e1 => last (fun q => e1 q.2.2.1))
theorem y_blocked (H : Cx O N kd pa na da bi) (ho : okF kd bi F) (hm : MG kd pa na da bi F mk mp mn md) {x : Nat} (hx : x < 24) (h1 : F x = 1) (f : Blk kd pa na bi F x → post 1) (g : ¬ Blk kd pa na bi F x → post 0) : wpY_blocked post (nI O, nI N, nI C, kd, pa, na, da, bi, tk, ve, fy, mk, mp, mn, md) (nI x) := by
  have hi := bd_iff H ho hm hx h1
  have c := nI_clamp (n := x) (by omega)
  refine And.intro (ob_in x 48 (by omega)) (rm_ c (fun h3 => ?_) (fun h3 => ?_))
  · refine And.intro (ob_in x 72 (by omega)) (nr_ c (br_t rfl (Exists.intro 25 (y_b46 hx (Or.inl ⟨rfl, h3⟩) (fun hb => f (hi.mpr (Or.inr hb))) (fun hb => g (fun q => ?_)) 24 0 (by omega) (fun y' h => absurd h (Nat.not_lt_zero _))))))
    rcases hi.mp q with ⟨z, _⟩ | ⟨y, hy, hb'⟩
    · exact z h3
    · exact hb y hy hb'
  · obtain ⟨_, _, _, _, p, n, hp, _, e1, _, _, _⟩ := cx_pl H hx h3
    refine And.intro (ob_in x 72 (by omega)) (nr_ c (br_f ob_10 ?_))
    rw [e1] at hi
    rw [e1]
    have c' := nI_clamp (n := p) (by omega)
    rw [c'] at hi
    refine br_f (nI_pos (by omega)) (And.intro (ob_in p 24 hp) (rc_ c' (fun h0 => f (hi.mpr (Or.inl ⟨h3, h0⟩))) (fun h0 => Exists.intro 25 (y_b46 hx (Or.inr ⟨rfl, h3⟩) (fun hb => f (hi.mpr (Or.inr hb))) (fun hb => g (fun q => ?_)) 24 0 (by omega) (fun y' h => absurd h (Nat.not_lt_zero _))))))
    rcases hi.mp q with ⟨_, z⟩ | ⟨y, hy, hb'⟩
    · exact h0 z
    · exact hb y hy hb'
theorem y_loop_l (H : Cx O N kd pa na da bi) (ho : okF kd bi F) (hm : MG kd pa na da bi F mk mp mn md) {x : Nat} (hx : x < 24) (hx0 : x ≠ 0) (f : (∃ k, it (yx pa bi F) (k + 1) x = x) → post 1) (g : (¬ ∃ k, it (yx pa bi F) (k + 1) x = x) → post 0) : ∀ d r a, r + d = 24 → ((a = -1 ∧ it (yx pa bi F) (r + 1) x = 0) ∨ a = nI (it (yx pa bi F) (r + 1) x)) → (∀ j, j < r → it (yx pa bi F) (j + 1) x ≠ x) → wY_onLoop_9 post (nI x) (nI O) (nI N) (nI C) kd pa na da bi tk ve fy mk mp mn md (d + 1) a (nI r) := by
  have zf := yx_lt H F
  have z0 := yx_0 H ho
  intro d
  induction d with
  | zero =>
    intro r a hr ha hno
    have e : r = 24 := by omega
    subst e
    refine br_t (nI_le (a := 24) (by omega) (by omega)) (g ?_)
    rintro ⟨k, hk⟩
    obtain ⟨k', h1, h2⟩ := it_short zf z0 (zf x hx) hx0 ⟨k, by rw [← it_s]; exact hk⟩
    exact hno k' (by omega) (by rw [it_s]; exact h2)
  | succ d ih =>
    intro r a hr ha hno
    refine br_f (nI_ge (b := 24) (by omega) (by omega)) ?_
    rcases ha with ⟨e, h0⟩ | e
    · subst e
      refine br_t (by decide) (g ?_)
      rintro ⟨k, hk⟩
      by_cases hkr : k < r
      · exact hno k hkr hk
      · have : k + 1 = (r + 1) + (k - r) := by omega
        rw [this, it_add, h0, it_z z0] at hk
        exact hx0 hk.symm
    · subst e
      have hl := it_lt zf (r + 1) x hx
      refine br_f (nI_pos (by omega)) (ob_eq _ x (fun e => f ⟨r, e⟩) (fun e => And.intro (ob_in _ 24 hl) (nr_ (nI_clamp (by omega)) (nm_r (nI_1 r) (ih (r + 1) _ (by omega) ?_ (fun j hj => ?_))))))
      · rw [(hm _ hl).2.1, it_s' _ (r + 1)]
        generalize it (yx pa bi F) (r + 1) x = z at *
        unfold yx
        rcases mv_rg (F := F) H hl with q | ⟨w, hw, q⟩
        · left; rw [q, ob_m1]; exact ⟨rfl, rfl⟩
        · right; rw [q, nI_clamp (by omega)]
      · by_cases ej : j = r
        · subst ej; exact e
        · exact hno j (by omega)
theorem y_onLoop (H : Cx O N kd pa na da bi) (ho : okF kd bi F) (hc : ∀ x, x < 24 → ¬ Blk kd pa na bi F x) (hm : MG kd pa na da bi F mk mp mn md) {x : Nat} (hx : x < 24) (h1 : F x = 1) (h2 : bi x &&& 2 ≠ 0) (f : OL pa bi F x → post 1) (g : ¬ OL pa bi F x → post 0) : wpY_onLoop post (nI O, nI N, nI C, kd, pa, na, da, bi, tk, ve, fy, mk, mp, mn, md) (nI x) := by
  obtain ⟨hk, hx0⟩ := mg_mv H ho hx h1 h2
  have he : ∀ k, it (yx pa bi F) (k + 1) x = it (nx pa bi F) (k + 1) x := fun k => (mg_it H ho hc hx (Or.inr hk) (k + 1)).1
  refine And.intro (ob_in x 24 hx) (nr_ (nI_clamp (by omega)) (Exists.intro 25 (y_loop_l H ho hm hx hx0 (fun q => f ?_) (fun q => g ?_) 24 0 _ (by omega) ?_ (fun j hj => absurd hj (Nat.not_lt_zero _)))))
  · obtain ⟨k, hk⟩ := q
    exact ⟨k, by rw [← he]; exact hk⟩
  · rintro ⟨k, hk⟩
    exact q ⟨k, by rw [he]; exact hk⟩
  · rw [(hm x hx).2.1]
    show (_ ∧ yx pa bi F x = 0) ∨ _ = nI (yx pa bi F x)
    unfold yx
    rcases mv_rg (F := F) H hx with q | ⟨w, hw, q⟩
    · left; rw [q, ob_m1]; exact ⟨rfl, rfl⟩
    · right; rw [q, nI_clamp (by omega)]
/-! Y's judge: isolateBlocked -/
def YI (kd pa na da bi F0 fy mk mp mn md : Nat → Int32) : Prop := (∀ i, i < 24 → fy i ≠ 1) ∧ Bel kd pa na bi F0 (xf bi fy) ∧ MG kd pa na da bi (xf bi fy) mk mp mn md
theorem io_lt (H : Cx O N kd pa na da bi) (ho : okF kd bi F) : cn (io F) 24 < 24 := by
  refine cn_lt (i := 0) ?_ 24 (by omega)
  have : F 0 = 0 := (ho 0 (by omega)).1.mpr (cx_b0 H)
  simp [io, this]
theorem y_pass_l (H : Cx O N kd pa na da bi) (h0 : okF kd bi F0) {J : Int32 → Int32 → Int32 → Int32 → Int32 → (Nat → Int32) → (Nat → Int32) → (Nat → Int32) → (Nat → Int32) → (Nat → Int32) → (Nat → Int32) → (Nat → Int32) → (Nat → Int32) → (Nat → Int32) → (Nat → Int32) → (Nat → Int32) → (Nat → Int32) → Prop} {p c0 : Nat} (k : ∀ (a : Int32) (fy mk mp mn md : Nat → Int32), YI kd pa na da bi F0 fy mk mp mn md → ((a = 0 ∧ ∀ z, z < 24 → ¬ Blk kd pa na bi (xf bi fy) z) ∨ (a = 1 ∧ c0 < cn (io (xf bi fy)) 24)) → J a (nI (p + 1)) (nI O) (nI N) (nI C) kd pa na da bi tk ve fy mk mp mn md) : ∀ d x a fy mk mp mn md, x + d = 24 → YI kd pa na da bi F0 fy mk mp mn md → ((a = 0 ∧ c0 ≤ cn (io (xf bi fy)) 24 ∧ ∀ z, z < x → ¬ Blk kd pa na bi (xf bi fy) z) ∨ (a = 1 ∧ c0 < cn (io (xf bi fy)) 24)) → wY_isolateBlocked_22 pst J (nI p) (d + 1) a (nI x) (nI O) (nI N) (nI C) kd pa na da bi tk ve fy mk mp mn md := by
  intro d
  induction d with
  | zero =>
    intro x a fy mk mp mn md hx hY ha
    have e : x = 24 := by omega
    subst e
    refine br_t (nI_le (a := 24) (by omega) (by omega)) (nm_r (nI_1 p) (k a fy mk mp mn md hY ?_))
    rcases ha with ⟨e, _, q⟩ | q
    · exact Or.inl ⟨e, q⟩
    · exact Or.inr q
  | succ d ih =>
    intro x a fy mk mp mn md hx hY ha
    have hx24 : x < 24 := by omega
    have ho := ok_l3 h0 hY.2.1.1
    have next : ¬ Blk kd pa na bi (xf bi fy) x → wY_isolateBlocked_22 pst J (nI p) (d + 1) a (nI (x + 1)) (nI O) (nI N) (nI C) kd pa na da bi tk ve fy mk mp mn md := fun hb => ih (x + 1) a fy mk mp mn md (by omega) hY (by
      rcases ha with ⟨e, q1, q2⟩ | q
      · refine Or.inl ⟨e, q1, fun z hz => ?_⟩
        by_cases ez : z = x
        · subst ez; exact hb
        · exact q2 z (by omega)
      · exact Or.inr q)
    refine br_f (nI_ge (b := 24) (by omega) (by omega)) ?_
    refine y_works hx24 (hY.1 x hx24) (fun h1 => br_f ob_10 ?_) (fun h1 => br_t rfl (nm_r (nI_1 x) (next (fun hb => h1 hb.1))))
    refine y_blocked H ho hY.2.2 hx24 h1 (fun hb => br_f ob_10 (And.intro (ob_in x 24 hx24) (nu_ (nI_clamp (by omega)) ?_))) (fun hb => br_t rfl (nm_r (nI_1 x) (next hb)))
    have hn : ∀ i, i < 24 → upd fy x 3 i ≠ 1 := fun i hi => by
      by_cases e : i = x
      · subst e; rw [ob_us]; decide
      · rw [ob_un e]; exact hY.1 i hi
    have hcn : cn (io (upd (xf bi fy) x 3)) 24 = cn (io (xf bi fy)) 24 + 1 := by
      refine cn_set (p := io (xf bi fy)) (q := io (upd (xf bi fy) x 3)) (i := x) ?_ ?_ 24 hx24 (fun j _ hj => ?_)
      · simp [io, h1]
      · simp [io, ob_us]
      · simp [io, ob_un hj]
    refine y_merge H hn (fun mk' mp' mn' md' hm => nm_r (nI_1 x) (ih (x + 1) 1 (upd fy x 3) mk' mp' mn' md' (by omega) ⟨hn, ?_, hm⟩ (Or.inr ⟨rfl, ?_⟩)))
    · rw [xf_upd (by decide)]
      exact bel_step H hY.2.1 hx24 hb
    · rw [xf_upd (by decide), hcn]
      rcases ha with ⟨_, q, _⟩ | ⟨_, q⟩ <;> omega
theorem y_isoB_l (H : Cx O N kd pa na da bi) (h0 : okF kd bi F0) (k : ∀ fy mk mp mn md : Nat → Int32, (∀ i, i < 24 → fy i ≠ 1) → Clo kd pa na bi F0 (xf bi fy) → MG kd pa na da bi (xf bi fy) mk mp mn md → pst (nI O, nI N, nI C, kd, pa, na, da, bi, tk, ve, fy, mk, mp, mn, md)) : ∀ d p fy mk mp mn md, p + d = 24 → YI kd pa na da bi F0 fy mk mp mn md → p ≤ cn (io (xf bi fy)) 24 → wY_isolateBlocked_8 pst (d + 1) 1 (nI p) (nI O) (nI N) (nI C) kd pa na da bi tk ve fy mk mp mn md := by
  intro d
  induction d with
  | zero =>
    intro p fy mk mp mn md hp hY hc
    have := io_lt H (ok_l3 h0 hY.2.1.1)
    omega
  | succ d ih =>
    intro p fy mk mp mn md hp hY hc
    refine br_f (nI_ge (b := 24) (by omega) (by omega)) (br_f ob_10 (Exists.intro 25 (y_pass_l (c0 := cn (io (xf bi fy)) 24) H h0 (fun a fy' mk' mp' mn' md' hY' ha => ?_) 24 0 0 fy mk mp mn md (by omega) hY (Or.inl ⟨rfl, Nat.le_refl _, fun z hz => absurd hz (Nat.not_lt_zero _)⟩))))
    rcases ha with ⟨e, q⟩ | ⟨e, q⟩
    · subst e
      have kk := k fy' mk' mp' mn' md' hY'.1 ⟨hY'.2.1, q⟩ hY'.2.2
      exact br_c (fun _ => kk) (fun _ => br_t rfl kk)
    · subst e
      exact ih (p + 1) fy' mk' mp' mn' md' (by omega) hY' (by omega)
theorem y_isoB (H : Cx O N kd pa na da bi) (hn : ∀ i, i < 24 → fy i ≠ 1) (h0 : okF kd bi (xf bi fy)) (k : ∀ fy' mk mp mn md : Nat → Int32, (∀ i, i < 24 → fy' i ≠ 1) → Clo kd pa na bi (xf bi fy) (xf bi fy') → MG kd pa na da bi (xf bi fy') mk mp mn md → pst (nI O, nI N, nI C, kd, pa, na, da, bi, tk, ve, fy', mk, mp, mn, md)) : wpY_isolateBlocked pst (nI O, nI N, nI C, kd, pa, na, da, bi, tk, ve, fy, mk, mp, mn, md) := by
  unfold wpY_isolateBlocked
  exact y_merge H hn (fun mk' mp' mn' md' hm => Exists.intro 25 (y_isoB_l (F0 := xf bi fy) H h0 k 24 0 fy mk' mp' mn' md' (by omega) ⟨hn, bel_rfl, hm⟩ (Nat.zero_le _)))
end
end
section
/-! Y's judge: isolateLooped, the rounds, the whole -/
section
variable {O N C : Nat} {kd pa na da bi tk ve fy mk mp mn md F F0 : Nat → Int32} {post : Int32 → Prop} {pst : SY → Prop} {psr : Int32 → SY → Prop}
theorem y_looped_l (H : Cx O N kd pa na da bi) {f1 : Nat → Int32} (ho : okF kd bi (xf bi f1)) (hn1 : ∀ i, i < 24 → f1 i ≠ 1) (hc : ∀ x, x < 24 → ¬ Blk kd pa na bi (xf bi f1) x) (hm : MG kd pa na da bi (xf bi f1) mk mp mn md) (k : ∀ (fy' : Nat → Int32) (r : Int32), (∀ i, i < 24 → fy' i ≠ 1) → LpS pa bi (xf bi f1) (xf bi fy') → ((r = 0 ∧ ∀ i, i < 24 → ¬ Lp pa bi (xf bi f1) i) ∨ (r = 1 ∧ ∃ i, i < 24 ∧ Lp pa bi (xf bi f1) i)) → psr r (nI O, nI N, nI C, kd, pa, na, da, bi, tk, ve, fy', mk, mp, mn, md)) : ∀ d x r fy, x + d = 24 → (∀ i, i < x → (Lp pa bi (xf bi f1) i → fy i = 4) ∧ (¬ Lp pa bi (xf bi f1) i → fy i = f1 i)) → (∀ i, x ≤ i → fy i = f1 i) → ((r = 0 ∧ ∀ i, i < x → ¬ Lp pa bi (xf bi f1) i) ∨ (r = 1 ∧ ∃ i, i < 24 ∧ Lp pa bi (xf bi f1) i)) → wY_isolateLooped_4 psr (nI O) (nI N) (nI C) (d + 1) r (nI x) kd pa na da bi tk ve fy mk mp mn md := by
  intro d
  induction d with
  | zero =>
    intro x r fy hx h1 h2 hr
    have e : x = 24 := by omega
    subst e
    refine br_t (nI_le (a := 24) (by omega) (by omega)) (And.intro ?_ (k fy r (fun i hi => ?_) (fun i hi => ⟨fun hl => ?_, fun hl => ?_⟩) hr))
    · rcases hr with ⟨e, _⟩ | ⟨e, _⟩
      · rw [e]; exact narrow_b0
      · rw [e]; exact narrow_b1
    · by_cases hl : Lp pa bi (xf bi f1) i
      · rw [(h1 i hi).1 hl]; decide
      · rw [(h1 i hi).2 hl]; exact hn1 i hi
    · rw [xf_n (by rw [(h1 i hi).1 hl]; decide)]; exact (h1 i hi).1 hl
    · unfold xf; rw [(h1 i hi).2 hl]
  | succ d ih =>
    intro x r fy hx h1 h2 hr
    have hx24 : x < 24 := by omega
    have c := nI_clamp (n := x) (by omega)
    have hfx : fy x = f1 x := h2 x (Nat.le_refl _)
    have hxx : xf bi fy x = xf bi f1 x := by unfold xf; rw [hfx]
    have next : ¬ Lp pa bi (xf bi f1) x → wY_isolateLooped_4 psr (nI O) (nI N) (nI C) (d + 1) r (nI (x + 1)) kd pa na da bi tk ve fy mk mp mn md := fun hq => ih (x + 1) r fy (by omega) (fun i hi => by
      by_cases e : i = x
      · subst e; exact ⟨fun z => absurd z hq, fun _ => hfx⟩
      · exact h1 i (by omega)) (fun i hi => h2 i (by omega)) (by
      rcases hr with ⟨e, q⟩ | q
      · refine Or.inl ⟨e, fun i hi => ?_⟩
        by_cases e : i = x
        · subst e; exact hq
        · exact q i (by omega)
      · exact Or.inr q)
    refine br_f (nI_ge (b := 24) (by omega) (by omega)) ?_
    refine y_works hx24 (by rw [hfx]; exact hn1 x hx24) (fun w1 => br_f ob_10 (And.intro (ob_in x 48 (by omega)) (rm_ c (fun w2 => nm_r (nI_1 x) (next (fun hl => hl.2.1 w2))) (fun w2 => ?_)))) (fun w1 => br_t rfl (nm_r (nI_1 x) (next (fun hl => w1 (hxx.trans hl.1)))))
    rw [hxx] at w1
    refine y_onLoop H ho hc hm hx24 w1 w2 (fun hl => br_f ob_10 (And.intro (ob_in x 24 hx24) (nu_ c (nm_r (nI_1 x) (ih (x + 1) 1 _ (by omega) (fun i hi => ?_) (fun i hi => ?_) (Or.inr ⟨rfl, x, hx24, w1, w2, hl⟩)))))) (fun hl => br_t rfl (nm_r (nI_1 x) (next (fun q => hl q.2.2))))
    · by_cases e : i = x
      · subst e
        exact ⟨fun _ => ob_us, fun z => absurd ⟨w1, w2, hl⟩ z⟩
      · rw [ob_un e]; exact h1 i (by omega)
    · rw [ob_un (by omega)]; exact h2 i (by omega)
theorem y_land_l (hn1 : ∀ i, i < 24 → F i ≠ 1) (k : ∀ fy' : Nat → Int32, (∀ i, i < 24 → fy' i = xf bi F i) → pst (nI O, nI N, nI C, kd, pa, na, da, bi, tk, ve, fy', mk, mp, mn, md)) : ∀ d x fy, x + d = 24 → (∀ i, i < x → fy i = xf bi F i) → (∀ i, x ≤ i → fy i = F i) → wY_judge_115 pst (nI O) (nI N) (nI C) (d + 1) (nI x) kd pa na da bi tk ve fy mk mp mn md := by
  intro d
  induction d with
  | zero =>
    intro x fy hx h1 h2
    have e : x = 24 := by omega
    subst e
    exact br_t (nI_le (a := 24) (by omega) (by omega)) (k fy h1)
  | succ d ih =>
    intro x fy hx h1 h2
    have hx24 : x < 24 := by omega
    have c := nI_clamp (n := x) (by omega)
    have hfx : fy x = F x := h2 x (Nat.le_refl _)
    have hxx : xf bi fy x = xf bi F x := by unfold xf; rw [hfx]
    refine br_f (nI_ge (b := 24) (by omega) (by omega)) ?_
    refine y_works hx24 (by rw [hfx]; exact hn1 x hx24) (fun w1 => br_f ob_10 (And.intro (ob_in x 24 hx24) (nu_ c (nm_r (nI_1 x) (ih (x + 1) _ (by omega) (fun i hi => ?_) (fun i hi => ?_)))))) (fun w1 => br_t rfl (nm_r (nI_1 x) (ih (x + 1) fy (by omega) (fun i hi => ?_) (fun i hi => h2 i (by omega)))))
    · by_cases e : i = x
      · subst e; rw [ob_us, ← hxx, w1]
      · rw [ob_un e]; exact h1 i (by omega)
    · rw [ob_un (by omega)]; exact h2 i (by omega)
    · by_cases e : i = x
      · subst e
        rw [← hxx]
        unfold xf
        by_cases q : bi i ≠ 0 ∧ fy i = 0
        · exact absurd (if_pos q) w1
        · rw [if_neg q]
      · exact h1 i (by omega)
theorem y_rounds (H : Cx O N kd pa na da bi) : ∀ d r fy mk mp mn md, r + d = 24 → (∀ i, i < 24 → fy i ≠ 1) → okF kd bi (xf bi fy) → r ≤ cn (io (xf bi fy)) 24 → (∀ (fy' mk mp mn md : Nat → Int32) (n : Nat), (∀ i, i < 24 → fy' i ≠ 1) → Rnd kd pa na bi n (xf bi fy) (xf bi fy') → MG kd pa na da bi (xf bi fy') mk mp mn md → ∃ n, wY_judge_115 pst (nI O) (nI N) (nI C) n 0 kd pa na da bi tk ve fy' mk mp mn md) → wY_judge_88 pst (d + 1) 1 (nI r) (nI O) (nI N) (nI C) kd pa na da bi tk ve fy mk mp mn md := by
  intro d
  induction d with
  | zero =>
    intro r fy mk mp mn md hr hn ho hc k
    have := io_lt H ho
    omega
  | succ d ih =>
    intro r fy mk mp mn md hr hn ho hc k
    refine br_f (nI_ge (b := 24) (by omega) (by omega)) (br_f ob_10 ?_)
    refine y_isoB H hn ho (fun f1 mk1 mp1 mn1 md1 hn1 hclo hm1 => ?_)
    have ho1 := ok_l3 ho hclo.1.1
    refine Exists.intro 25 (y_looped_l H ho1 hn1 hclo.2 hm1 (fun f2 r2 hn2 hl h2 => nm_r (nI_1 r) ?_) 24 0 0 f1 (by omega) (fun i hi => absurd hi (Nat.not_lt_zero _)) (fun i _ => rfl) (Or.inl ⟨rfl, fun i hi => absurd hi (Nat.not_lt_zero _)⟩))
    rcases h2 with ⟨e, hno⟩ | ⟨e, z, hz, hlz⟩
    · subst e
      have hm2 : MG kd pa na da bi (xf bi f2) mk1 mp1 mn1 md1 := fun i hi => by
        have e := (hl i hi).2 (hno i hi)
        rw [mv_congr e, mv_congr e, mv_congr e, mv_congr e]
        exact hm1 i hi
      have kk := k f2 mk1 mp1 mn1 md1 1 hn2 ⟨xf bi f1, hclo, Or.inl ⟨hno, fun i hi => (hl i hi).2 (hno i hi)⟩⟩ hm2
      exact br_c (fun _ => kk) (fun _ => br_t rfl kk)
    · subst e
      refine ih (r + 1) f2 mk1 mp1 mn1 md1 (by omega) hn2 (ok_lp ho1 hl) ?_ (fun fy' mk mp mn md n a b c => k fy' mk mp mn md (n + 1) a ⟨xf bi f1, hclo, Or.inr ⟨⟨z, hz, hlz⟩, xf bi f2, hl, b⟩⟩ c)
      have h1 := io_l3 hclo.1.1
      have h2 : cn (io (xf bi f1)) 24 < cn (io (xf bi f2)) 24 := by
        refine cn_smono hz (fun j hj hq => ?_) ?_ ?_
        · by_cases hlj : Lp pa bi (xf bi f1) j
          · simp [io, hlj.1] at hq
          · show (decide (xf bi f2 j ≠ 0) && decide (xf bi f2 j ≠ 1)) = true
            rw [(hl j hj).2 hlj]; exact hq
        · simp [io, hlz.1]
        · simp [io, (hl z hz).1 hlz]
      omega
theorem y_j52 {J : Int32 → (Nat → Int32) → (Nat → Int32) → (Nat → Int32) → (Nat → Int32) → (Nat → Int32) → (Nat → Int32) → (Nat → Int32) → (Nat → Int32) → (Nat → Int32) → (Nat → Int32) → (Nat → Int32) → (Nat → Int32) → Prop} {i : Nat} {b s : Int32} (hi : i < 24) (k : ∀ fy' : Nat → Int32, (∀ z, z ≠ i → fy' z = fy z) → (fy' i = if b &&& 6 ≠ 0 ∧ (s = 8 ∨ b &&& s ≠ 0) then 2 else fy i) → J (nI (i + 1)) kd pa na da bi tk ve fy' mk mp mn md) : wY_judge_52 pst J (nI i) b s (nI O) (nI N) (nI C) kd pa na da bi tk ve fy mk mp mn md := by
  have c := nI_clamp (n := i) (by omega)
  refine br_c (fun h6 => nm_r (nI_1 i) (k fy (fun _ _ => rfl) ?_)) (fun h6 => br_c (fun h8 => And.intro (ob_in i 24 hi) (nu_ c (nm_r (nI_1 i) (k _ (fun z hz => ob_un hz) ?_)))) (fun h8 => br_c (fun hz => nm_r (nI_1 i) (k fy (fun _ _ => rfl) ?_)) (fun hz => And.intro (ob_in i 24 hi) (nu_ c (nm_r (nI_1 i) (k _ (fun z hz => ob_un hz) ?_))))))
  · rw [if_neg (fun z => z.1 h6)]
  · rw [ob_us, if_pos ⟨h6, Or.inl h8⟩]
  · rw [if_neg (fun z => z.2.elim h8 (fun w => w hz))]
  · rw [ob_us, if_pos ⟨h6, Or.inr hz⟩]
theorem y_first_l (k : ∀ fy' : Nat → Int32, (∀ i, i < 24 → fy' i = if cf (bi i) (bi (24 + i)) then 2 else 0) → ∃ n, wY_judge_88 pst n 1 0 (nI O) (nI N) (nI C) kd pa na da bi tk ve fy' mk mp mn md) : ∀ d i fy, i + d = 24 → (∀ z, z < i → fy z = if cf (bi z) (bi (24 + z)) then 2 else 0) → wY_judge_2 pst (nI O) (nI N) (nI C) (d + 1) (nI i) kd pa na da bi tk ve fy mk mp mn md := by
  intro d
  induction d with
  | zero =>
    intro i fy hi hz
    have e : i = 24 := by omega
    subst e
    exact br_t (nI_le (a := 24) (by omega) (by omega)) (k fy hz)
  | succ d ih =>
    intro i fy hi hz
    have hi24 : i < 24 := by omega
    have c := nI_clamp (n := i) (by omega)
    have c2 := ob_cl (24 + i) (ob_24 i)
    refine br_f (nI_ge (b := 24) (by omega) (by omega)) (And.intro (ob_in i 48 (by omega)) (nr_ c (And.intro (ob_in (24 + i) 48 (by omega) (ob_24 i)) (nr_ c2 (And.intro (ob_in i 24 hi24) (nu_ c ?_))))))
    have step : ∀ g : Nat → Int32, (∀ z, z ≠ i → g z = fy z) → (g i = if bi i = 8 ∧ bi (24 + i) &&& 6 ≠ 0 then 2 else 0) → wY_judge_52 pst (wY_judge_2 pst (nI O) (nI N) (nI C) (d + 1)) (nI i) (bi i) (bi (24 + i)) (nI O) (nI N) (nI C) kd pa na da bi tk ve g mk mp mn md := by
      intro g g1 g2
      refine y_j52 hi24 (fun fy' h1 h2 => ih (i + 1) fy' (by omega) (fun z hz' => ?_))
      by_cases q : z = i
      · subst q
        rw [h2, g2]
        by_cases w : bi z &&& 6 ≠ 0 ∧ (bi (24 + z) = 8 ∨ bi z &&& bi (24 + z) ≠ 0)
        · rw [if_pos w, if_pos (Or.inr w)]
        · rw [if_neg w]
          by_cases w2 : bi z = 8 ∧ bi (24 + z) &&& 6 ≠ 0
          · rw [if_pos w2, if_pos (Or.inl w2)]
          · rw [if_neg w2, if_neg (fun q => q.elim w2 w)]
      · rw [h1 z q, g1 z q]; exact hz z (by omega)
    refine br_c (fun h8 => br_c (fun h6 => step _ (fun z hz => ob_un hz) ?_) (fun h6 => And.intro (ob_in i 24 hi24) (nu_ c (step _ (fun z hz => ?_) ?_)))) (fun h8 => step _ (fun z hz => ob_un hz) ?_)
    · rw [ob_us, if_neg (fun z => z.2 h6)]
    · rw [ob_un hz, ob_un hz]
    · rw [ob_us, if_pos ⟨h8, h6⟩]
    · rw [ob_us, if_neg (fun z => h8 z.1)]
theorem y_judge (H : Cx O N kd pa na da bi) (k : ∀ fy' mk mp mn md : Nat → Int32, Res kd pa na bi fy' → MG kd pa na da bi fy' mk mp mn md → pst (nI O, nI N, nI C, kd, pa, na, da, bi, tk, ve, fy', mk, mp, mn, md)) : wpY_judge pst (nI O, nI N, nI C, kd, pa, na, da, bi, tk, ve, fy, mk, mp, mn, md) := by
  refine Exists.intro 25 (y_first_l (fun f0' hf => Exists.intro 25 ?_) 24 0 fy (by omega) (fun z hz => absurd hz (Nat.not_lt_zero _)))
  have hn : ∀ i, i < 24 → f0' i ≠ 1 := fun i hi => by
    rw [hf i hi]
    split <;> decide
  have hx : ∀ i, i < 24 → xf bi f0' i = f0 bi i := fun i hi => by
    have hfi := hf i hi
    unfold f0
    by_cases e0 : bi i = 0
    · rw [xf_0 e0, if_pos e0, hfi, if_neg]
      rw [e0]
      rintro (⟨q, _⟩ | ⟨q, _⟩)
      · exact absurd q (by decide)
      · exact q (an_0 6)
    · rw [if_neg e0]
      by_cases hc : cf (bi i) (bi (24 + i))
      · rw [if_pos hc] at hfi
        rw [if_pos hc, xf_n (by rw [hfi]; decide), hfi]
      · rw [if_neg hc] at hfi
        rw [if_neg hc, xf_w e0 hfi]
  refine y_rounds H 24 0 f0' mk mp mn md (by omega) hn (ok_f0 H hx) (Nat.zero_le _) (fun fy1 mk1 mp1 mn1 md1 n hn1 hr hm => Exists.intro 25 (y_land_l hn1 (fun fy2 h2 => k fy2 mk1 mp1 mn1 md1 ⟨xf bi f0', n, hx, rnd_congr n _ _ _ hr h2⟩ (fun i hi => ?_)) 24 0 fy1 (by omega) (fun i hi => absurd hi (Nat.not_lt_zero _)) (fun i _ => rfl)))
  have e := h2 i hi
  rw [mv_congr e, mv_congr e, mv_congr e, mv_congr e]
  exact hm i hi
end
end
section
/-! the merged tree is a tree -/
section
variable {O N : Nat} {kd pa na da bi G : Nat → Int32}
theorem mg_no (H : Cx O N kd pa na da bi) (ho : okF kd bi G) {i : Nat} (hi : i < 24) (hk : mV 0 1 kd bi G i = 0) : mV (-1) 3 pa bi G i = -1 ∧ mV (-1) 3 na bi G i = -1 := by
  by_cases h1 : G i = 1
  · by_cases h8 : bi i = 8
    · exact ⟨mv_8 h1 h8, mv_8 h1 h8⟩
    · have hb0 : bi i ≠ 0 := fun e => absurd (h1.symm.trans ((ho i hi).1.mpr e)) (by decide)
      have hki := cx_kx H hi hb0 h8
      by_cases h11 : bi i = 1
      · rw [mv_c h1 h8 (by rw [h11]; decide)] at hk
        exact absurd hk hki
      · have h6 : bi i &&& 6 ≠ 0 ∧ bi i &&& 1 = 0 := by
          rcases cx_v H (m := i) (by omega) with h | h | h | h | h | h
          · exact absurd h hb0
          · exact absurd h h11
          · rw [h]; decide
          · rw [h]; decide
          · rw [h]; decide
          · exact absurd h h8
        rw [mv_s h1 h8 h6.2] at hk
        exact absurd hk ((ho i hi).2.1 h1 h6.1)
  · rw [mv_n h1] at hk
    rw [mv_n h1, mv_n h1]
    exact cx_e H (by omega) hk
theorem mg_k1 (H : Cx O N kd pa na da bi) {p : Nat} (hp : p < 24) (hk : mV 0 1 kd bi G p ≠ 0) (h1 : kd p = 1 ∨ kd (24 + p) = 1) : mV 0 1 kd bi G p = 1 := by
  by_cases g1 : G p = 1
  · by_cases h8 : bi p = 8
    · exact absurd (mv_8 g1 h8) hk
    · by_cases h11 : bi p &&& 1 = 0
      · rw [mv_s g1 h8 h11] at hk ⊢
        rcases h1 with q | q
        · rw [← cx_kk H hp (by rw [q]; decide) hk]; exact q
        · exact q
      · rw [mv_c g1 h8 h11] at hk ⊢
        rcases h1 with q | q
        · exact q
        · rw [cx_kk H hp hk (by rw [q]; decide)]; exact q
  · rw [mv_n g1] at hk ⊢
    rcases h1 with q | q
    · rw [← cx_kk H hp (by rw [q]; decide) hk]; exact q
    · exact q
theorem mg_par (H : Cx O N kd pa na da bi) (ho : okF kd bi G) (hc : ∀ x, x < 24 → ¬ Blk kd pa na bi G x) {i : Nat} (hi : i < 24) (h0 : i ≠ 0) (hk : mV 0 1 kd bi G i ≠ 0) : i < O ∧ ∃ p n, p < 24 ∧ n < N ∧ mV (-1) 3 pa bi G i = nI p ∧ mV (-1) 3 na bi G i = nI n ∧ mV 0 1 kd bi G p = 1 := by
  have hcl := mg_cl H ho hc hi (Or.inr hk)
  have hr : mV 0 1 kd bi G 0 ≠ 0 := by
    have hF0 : G 0 ≠ 1 := fun e => absurd (e.symm.trans ((ho 0 (by omega)).1.mpr (cx_b0 H))) (by decide)
    rw [mv_n hF0]
    show kd 24 ≠ 0
    rw [(cx_r1 H).1]; decide
  have hkn : mV 0 1 kd bi G (yx pa bi G i) ≠ 0 := by
    rw [hcl.1]
    rcases hcl.2.2 with q | q
    · rw [q]; exact hr
    · exact q
  rcases mg_ex H ho hi hk with ⟨a, b, c, d, e⟩ | ⟨a, b, b', _, d, e⟩
  · obtain ⟨hO, p, n, hp, hn, e1, e2, e3⟩ := cx_p0 H h0 hi c
    have ep : yx pa bi G i = p := by
      unfold yx
      rw [d, e1, nI_clamp (by omega)]
    rw [ep] at hkn
    exact ⟨hO, p, n, hp, hn, by rw [d]; exact e1, by rw [e]; exact e2, mg_k1 H hp hkn (Or.inl e3)⟩
  · obtain ⟨hO, p, n, hp, hn, e1, e2, e3⟩ := cx_p1 H h0 hi a
    have ep : yx pa bi G i = p := by
      unfold yx
      rw [d, e1, nI_clamp (by omega)]
    rw [ep] at hkn
    exact ⟨hO, p, n, hp, hn, by rw [d]; exact e1, by rw [e]; exact e2, mg_k1 H hp hkn (Or.inr e3)⟩
theorem mg_u (H : Cx O N kd pa na da bi) (ho : okF kd bi G) (hc : ∀ x, x < 24 → ¬ Blk kd pa na bi G x) {i j : Nat} (hi : i < 24) (i0 : i ≠ 0) (hj : j < 24) (j0 : j ≠ 0) (ki : mV 0 1 kd bi G i ≠ 0) (kj : mV 0 1 kd bi G j ≠ 0) (e1 : mV (-1) 3 pa bi G i = mV (-1) 3 pa bi G j) (e2 : mV (-1) 3 na bi G i = mV (-1) 3 na bi G j) : i = j := by
  rcases mg_ex H ho hi ki with ⟨a, b, c, d, e⟩ | ⟨a, b, b', _, d, e⟩
  · rcases mg_ex H ho hj kj with ⟨a2, b2, c2, d2, e'⟩ | ⟨a2, b2, _, _, d2, e'⟩
    · rw [d, d2] at e1
      rw [e, e'] at e2
      exact cx_u0 H i0 hi j0 hj c c2 e1 e2
    · rw [d, d2] at e1
      rw [e, e'] at e2
      exact Classical.byContradiction fun q => hc i hi ⟨a, Or.inr ⟨b, Or.inr ⟨j, hj, fun z => q z.symm, a2, e1.symm, e2.symm, b2⟩⟩⟩
  · rcases mg_ex H ho hj kj with ⟨a2, b2, c2, d2, e'⟩ | ⟨a2, b2, _, _, d2, e'⟩
    · rw [d, d2] at e1
      rw [e, e'] at e2
      exact Classical.byContradiction fun q => hc j hj ⟨a2, Or.inr ⟨b2, Or.inr ⟨i, hi, q, a, e1, e2, b⟩⟩⟩
    · rw [d, d2] at e1
      rw [e, e'] at e2
      exact cx_u1 H i0 hi j0 hj a a2 e1 e2
/-- no loop is left -/
theorem mg_cyc (H : Cx O N kd pa na da bi) (ho : okF kd bi G) (hc : ∀ x, x < 24 → ¬ Blk kd pa na bi G x) (hl : ∀ x, x < 24 → ¬ Lp pa bi G x) {y c : Nat} (hy : y < 24) (y0 : y ≠ 0) (hk : mV 0 1 kd bi G y ≠ 0) (hr : it (nx pa bi G) (c + 1) y = y) : False := by
  have z0 := nx_0 H G
  have hnz : ∀ j, it (nx pa bi G) j y ≠ 0 := fun j e => by
    have e2 : it (nx pa bi G) (j * (c + 1)) y = y := it_per hr j
    have e3 : j * (c + 1) = j + j * c := by rw [Nat.mul_succ]; omega
    rw [e3, it_add, e, it_z z0] at e2
    exact y0 e2.symm
  have hex : ∀ j, it (nx pa bi G) j y < 24 ∧ mV 0 1 kd bi G (it (nx pa bi G) j y) ≠ 0 := fun j => by
    obtain ⟨_, a, b⟩ := mg_it H ho hc hy (Or.inr hk) j
    exact ⟨a, b.resolve_left (hnz j)⟩
  have hnm : ∀ j, ¬ (G (it (nx pa bi G) j y) = 1 ∧ bi (it (nx pa bi G) j y) &&& 2 ≠ 0) := fun j q =>
    hl _ (hex j).1 ⟨q.1, q.2, c, by rw [← it_add, Nat.add_comm, it_add, hr]⟩
  -- each of them stands where the server has it, or is created here
  have hcase : ∀ j, (kd (24 + it (nx pa bi G) j y) ≠ 0 ∧ nx pa bi G (it (nx pa bi G) j y) = pf 24 pa (it (nx pa bi G) j y)) ∨ (kd (24 + it (nx pa bi G) j y) = 0 ∧ nx pa bi G (it (nx pa bi G) j y) = pf 0 pa (it (nx pa bi G) j y)) := fun j => by
    obtain ⟨h24, hkj⟩ := hex j
    have hm := hnm j
    generalize it (nx pa bi G) j y = z at *
    rcases mg_ex H ho h24 hkj with ⟨a, b, c, d, e⟩ | ⟨a, b, b', _, d, e⟩
    · right
      have hb1 : bi z = 1 := by
        rcases vb_3 (cx_v H (by omega)) b with q | q | q
        · exact q
        · exact absurd ⟨a, by rw [q]; decide⟩ hm
        · exact absurd ⟨a, by rw [q]; decide⟩ hm
      refine ⟨(cx_cr H h24 hb1).2.1, ?_⟩
      unfold nx mq pf
      rw [if_pos ⟨a, b⟩, Nat.zero_add]
    · left
      refine ⟨a, ?_⟩
      unfold nx mq pf
      rw [if_neg b']
  by_cases hA : ∃ j, kd (24 + it (nx pa bi G) j y) ≠ 0
  · obtain ⟨j, hj⟩ := hA
    obtain ⟨k, hkk⟩ := H.2.2.1.2.2.2.2 _ (hex j).1
    have hall : ∀ i, kd (24 + it (nx pa bi G) (j + i) y) ≠ 0 := by
      intro i
      induction i with
      | zero => exact hj
      | succ i ih =>
        rcases hcase (j + i) with ⟨q1, q2⟩ | ⟨q1, _⟩
        · rw [← Nat.add_assoc, it_s', q2]
          obtain ⟨_, p, n, hp, _, e1, _, e3⟩ := cx_p1 H (hnz (j + i)) (hex (j + i)).1 q1
          unfold pf
          rw [e1, nI_clamp (by omega), e3]
          decide
        · exact absurd q1 ih
    have e := (it_congr (f := nx pa bi G) (g := pf 24 pa) (fun z => ∃ i, it (nx pa bi G) (j + i) y = z) (by
      rintro z ⟨i, rfl⟩
      rcases hcase (j + i) with ⟨_, q2⟩ | ⟨q1, _⟩
      · exact ⟨q2.symm, i + 1, by rw [← Nat.add_assoc, it_s']⟩
      · exact absurd q1 (hall i)) k _ ⟨0, rfl⟩).1
    rw [Nat.add_zero, hkk, ← it_add] at e
    exact hnz _ e.symm
  · obtain ⟨k, hkk⟩ := H.2.1.2.2.2.2 y hy
    have e := (it_congr (f := nx pa bi G) (g := pf 0 pa) (fun z => ∃ i, it (nx pa bi G) i y = z) (by
      rintro z ⟨i, rfl⟩
      rcases hcase i with ⟨q1, _⟩ | ⟨_, q2⟩
      · exact absurd ⟨i, q1⟩ hA
      · exact ⟨q2.symm, i + 1, it_s' _ i y⟩) k y ⟨0, rfl⟩).1
    rw [hkk] at e
    exact hnz k e.symm
theorem mg_reach (H : Cx O N kd pa na da bi) (ho : okF kd bi G) (hc : ∀ x, x < 24 → ¬ Blk kd pa na bi G x) (hl : ∀ x, x < 24 → ¬ Lp pa bi G x) {i : Nat} (hi : i < 24) : ∃ k, it (yx pa bi G) k i = 0 := by
  by_cases hk : mV 0 1 kd bi G i = 0
  · refine ⟨1, ?_⟩
    show yx pa bi G i = 0
    unfold yx
    rw [(mg_no H ho hi hk).1, ob_m1]
  · refine Classical.byContradiction fun hno => ?_
    have hno' : ∀ k, it (nx pa bi G) k i ≠ 0 := fun k e => hno ⟨k, by rw [(mg_it H ho hc hi (Or.inr hk) k).1]; exact e⟩
    obtain ⟨a, b, hab, hb, e⟩ := php24 (g := fun j => it (nx pa bi G) j i) (fun j _ => ⟨(mg_it H ho hc hi (Or.inr hk) j).2.1, hno' j⟩)
    have e' : it (nx pa bi G) a i = it (nx pa bi G) b i := e
    obtain ⟨_, q1, q2⟩ := mg_it H ho hc hi (Or.inr hk) a
    refine mg_cyc (c := b - a - 1) H ho hc hl q1 (hno' a) (q2.resolve_left (hno' a)) ?_
    rw [← it_add, show a + (b - a - 1 + 1) = b by omega]
    exact e'.symm
theorem mg_tr (H : Cx O N kd pa na da bi) (ho : okF kd bi G) (hc : ∀ x, x < 24 → ¬ Blk kd pa na bi G x) (hl : ∀ x, x < 24 → ¬ Lp pa bi G x) {o : Nat} {kd' pa' na' : Nat → Int32} (e : ∀ i, i < 24 → kd' (o + i) = mV 0 1 kd bi G i ∧ pa' (o + i) = mV (-1) 3 pa bi G i ∧ na' (o + i) = mV (-1) 3 na bi G i) : Tr o O N kd' pa' na' := by
  have hF0 : G 0 ≠ 1 := fun e => absurd (e.symm.trans ((ho 0 (by omega)).1.mpr (cx_b0 H))) (by decide)
  refine ⟨?_, fun i h0 hi hk => ?_, fun i hi => ?_, fun i j i0 hi j0 hj ki kj e1 e2 => ?_, fun i hi => ?_⟩
  · obtain ⟨a, b, c⟩ := e 0 (by omega)
    rw [Nat.add_zero] at a b c
    rw [a, b, c, mv_n hF0, mv_n hF0, mv_n hF0]
    exact cx_r1 H
  · rw [(e i hi).1] at hk
    obtain ⟨q, p, n, hp, hn, e1, e2, e3⟩ := mg_par H ho hc hi h0 hk
    exact ⟨q, p, n, hp, hn, by rw [(e i hi).2.1]; exact e1, by rw [(e i hi).2.2]; exact e2, by rw [(e p hp).1]; exact e3⟩
  · rw [(e i hi).1]
    unfold mV
    split
    · exact Or.inl rfl
    · split
      · have := H.2.1.2.2.1 i hi
        rwa [Nat.zero_add] at this
      · exact H.2.2.1.2.2.1 i hi
  · rw [(e i hi).1] at ki
    rw [(e j hj).1] at kj
    rw [(e i hi).2.1, (e j hj).2.1] at e1
    rw [(e i hi).2.2, (e j hj).2.2] at e2
    exact mg_u H ho hc hi i0 hj j0 ki kj e1 e2
  · obtain ⟨k, hk⟩ := mg_reach H ho hc hl hi
    refine ⟨k, ?_⟩
    rw [(it_congr (f := yx pa bi G) (g := pf o pa') (fun z => z < 24) (fun z hz => ⟨by unfold pf yx; rw [(e z hz).2.1], yx_lt H G z hz⟩) k i hi).1]
    exact hk
theorem mg_da (H : Cx O N kd pa na da bi) (ho : okF kd bi G) {i : Nat} (hi : i < 24) (hk : mV 0 1 kd bi G i ≠ 2) : mV 0 5 da bi G i = 0 := by
  by_cases h1 : G i = 1
  · by_cases h8 : bi i = 8
    · exact mv_8 h1 h8
    · have hb0 : bi i ≠ 0 := fun e => absurd (h1.symm.trans ((ho i hi).1.mpr e)) (by decide)
      have hki := cx_kx H hi hb0 h8
      by_cases h11 : bi i = 1
      · rw [mv_c h1 h8 (by rw [h11]; decide)] at hk
        rw [mv_c h1 h8 (by rw [h11]; decide)]
        exact (H.2.2.2.1 i (by omega)).2 hk
      · have h6 : bi i &&& 6 ≠ 0 ∧ bi i &&& 1 = 0 := by
          rcases cx_v H (m := i) (by omega) with h | h | h | h | h | h
          · exact absurd h hb0
          · exact absurd h h11
          · rw [h]; decide
          · rw [h]; decide
          · rw [h]; decide
          · exact absurd h h8
        rw [mv_s h1 h8 h6.2] at hk
        by_cases h5 : bi i &&& 5 = 0
        · rw [mv_s h1 h8 h5]
          exact (H.2.2.2.1 (24 + i) (by omega)).2 hk
        · rw [mv_c h1 h8 h5]
          refine (H.2.2.2.1 i (by omega)).2 ?_
          rw [cx_kk H hi hki ((ho i hi).2.1 h1 h6.1)]
          exact hk
  · rw [mv_n h1] at hk
    rw [mv_n h1]
    exact (H.2.2.2.1 (24 + i) (by omega)).2 hk
/-- what lands: present on the server after the landing is what the merge has -/
theorem mg_pr (H : Cx O N kd pa na da bi) (ho : okF kd bi G) {i : Nat} (hi : i < 24) : ((i ≠ 0 ∧ kd (24 + i) ≠ 0 ∧ st bi G i) ∨ (G i = 1 ∧ bi i &&& 3 ≠ 0)) ↔ (i ≠ 0 ∧ mV 0 1 kd bi G i ≠ 0) := by
  constructor
  · rintro (⟨a, b, c⟩ | ⟨a, b⟩)
    · refine ⟨a, ?_⟩
      rw [(mg_st H ho hi b c).1]; exact b
    · obtain ⟨b0, b8, i0, hki, _⟩ := cx_pl H hi b
      refine ⟨i0, ?_⟩
      rcases vb_3 (cx_v H (by omega)) b with q | q | q
      · rw [mv_c a b8 (by rw [q]; decide)]; exact hki
      · rw [mv_s a b8 (by rw [q]; decide)]; exact (ho i hi).2.1 a (by rw [q]; decide)
      · rw [mv_s a b8 (by rw [q]; decide)]; exact (ho i hi).2.1 a (by rw [q]; decide)
  · rintro ⟨a, b⟩
    rcases mg_ex H ho hi b with ⟨c1, c2, _⟩ | ⟨c1, c2, _⟩
    · exact Or.inr ⟨c1, c2⟩
    · exact Or.inl ⟨a, c1, c2⟩
end
end
section
/-! X's reintegrate: closed forms of its loops -/
def kp (G : Nat → Int32) (c : Int32) (a : Nat → Int32) (i : Nat) : Nat → Int32 := fun j => if 48 ≤ j ∧ j < 48 + i then (if G (j - 48) ≤ 1 then c else a (j - 48)) else a j
def vk (G a : Nat → Int32) (i : Nat) : Nat → Int32 := fun j => if j < i then G j else a j
def dn (bi la : Nat → Int32) (j i : Nat) : Bool := decide (bi i ≠ 0) && decide ((la i).toNatClampNeg ≤ j)
def lf (bi la G : Nat → Int32) (c : Int32) (a : Nat → Int32) (j : Nat) : Nat → Int32 := fun m => if 24 ≤ m ∧ m < 48 ∧ dn bi la j (m - 24) = true ∧ G (m - 24) = 1 ∧ bi (m - 24) = 8 then c else a m
def ld (bi la G : Nat → Int32) (c : Int32) (a a1 : Nat → Int32) (j : Nat) : Nat → Int32 := fun m => if 24 ≤ m ∧ m < 48 ∧ dn bi la j (m - 24) = true ∧ G (m - 24) = 1 ∧ bi (m - 24) &&& c ≠ 0 then a (m - 24) else a1 m
def prl (kd bi la G : Nat → Int32) (j i : Nat) : Bool := xs 24 kd i && !(dn bi la j i && decide (G i = 1) && decide (bi i &&& 10 ≠ 0))
def prd (kd bi la G : Nat → Int32) (L j i : Nat) : Bool := prl kd bi la G L i || (dn bi la j i && decide (G i = 1) && decide (bi i &&& 3 ≠ 0))
def cs (a : Nat → Int32) (i : Nat) : Nat → Int32 := fun j => if j < i then a (24 + j) else a j
def cz (a : Nat → Int32) (i : Nat) : Nat → Int32 := fun j => if j < i ∨ (24 ≤ j ∧ j < 24 + i) then 0 else a j
def ct (kd tk : Nat → Int32) (i : Nat) : Nat → Int32 := fun j => if j < i then (if kd (24 + j) = 0 then 0 else 1) else tk j
def cl0 (a : Nat → Int32) (i : Nat) : Nat → Int32 := fun j => if j < i then 0 else a j
def c8 (a : Nat → Int32) (i : Nat) : Nat → Int32 := fun j => if j < i then a (192 + j) else a j
theorem ud_ {f g : Nat → Int32} {k : Nat} {v : Int32} (h1 : g k = v) (h2 : ∀ j, j ≠ k → g j = f j) : upd f k v = g := by
  funext j
  by_cases e : j = k
  · subst e; rw [ob_us, h1]
  · rw [ob_un e, h2 j e]
section
variable {G bi la li a a1 kd tk : Nat → Int32} {c : Int32} {i j s L : Nat}
theorem kp_c (h : G i ≤ 1) : upd (kp G c a i) (48 + i) c = kp G c a (i + 1) := by
  refine ud_ ?_ (fun j hj => ?_)
  · unfold kp
    rw [if_pos ⟨by omega, by omega⟩, Nat.add_sub_cancel_left, if_pos h]
  · unfold kp
    by_cases q : 48 ≤ j ∧ j < 48 + i
    · rw [if_pos q, if_pos ⟨q.1, by omega⟩]
    · rw [if_neg q, if_neg (by omega)]
theorem kp_k (hi : i < 24) (h : ¬ G i ≤ 1) : upd (kp G c a i) (48 + i) (kp G c a i i) = kp G c a (i + 1) := by
  refine ud_ ?_ (fun j hj => ?_)
  · unfold kp
    rw [if_pos ⟨by omega, by omega⟩, Nat.add_sub_cancel_left, if_neg h, if_neg (by omega)]
  · unfold kp
    by_cases q : 48 ≤ j ∧ j < 48 + i
    · rw [if_pos q, if_pos ⟨q.1, by omega⟩]
    · rw [if_neg q, if_neg (by omega)]
theorem kp_0 : kp G c a 0 = a := by
  funext j
  unfold kp
  rw [if_neg (by omega)]
theorem vk_s : upd (vk G a i) i (G i) = vk G a (i + 1) := by
  refine ud_ ?_ (fun j hj => ?_)
  · unfold vk
    rw [if_pos (by omega)]
  · unfold vk
    by_cases q : j < i
    · rw [if_pos q, if_pos (by omega)]
    · rw [if_neg q, if_neg (by omega)]
theorem vk_0 : vk G a 0 = a := by
  funext j
  unfold vk
  rw [if_neg (by omega)]
theorem cs_s (hi : i < 24) : upd (cs a i) i (cs a i (24 + i)) = cs a (i + 1) := by
  refine ud_ ?_ (fun j hj => ?_)
  · unfold cs
    rw [if_pos (by omega), if_neg (by omega)]
  · unfold cs
    by_cases q : j < i
    · rw [if_pos q, if_pos (by omega)]
    · rw [if_neg q, if_neg (by omega)]
theorem cs_0 : cs a 0 = a := by
  funext j
  unfold cs
  rw [if_neg (by omega)]
theorem cs_hi (hi : i ≤ 24) : cs a i (24 + j) = a (24 + j) := by
  unfold cs
  rw [if_neg (by omega)]
theorem cz_s : upd (upd (cz a i) i 0) (24 + i) 0 = cz a (i + 1) := by
  refine ud_ ?_ (fun j hj => ?_)
  · unfold cz
    rw [if_pos (Or.inr ⟨by omega, by omega⟩)]
  · by_cases e : j = i
    · subst e
      rw [ob_us]
      unfold cz
      rw [if_pos (Or.inl (by omega))]
    · rw [ob_un e]
      unfold cz
      by_cases q : j < i ∨ (24 ≤ j ∧ j < 24 + i)
      · rw [if_pos q, if_pos (by omega)]
      · rw [if_neg q, if_neg (by omega)]
theorem cz_0 : cz a 0 = a := by
  funext j
  unfold cz
  rw [if_neg (by omega)]
theorem ct_s {v : Int32} (hv : v = if kd (24 + i) = 0 then 0 else 1) : upd (ct kd tk i) i v = ct kd tk (i + 1) := by
  refine ud_ ?_ (fun j hj => ?_)
  · unfold ct
    rw [if_pos (by omega), hv]
  · unfold ct
    by_cases q : j < i
    · rw [if_pos q, if_pos (by omega)]
    · rw [if_neg q, if_neg (by omega)]
theorem ct_0 : ct kd tk 0 = tk := by
  funext j
  unfold ct
  rw [if_neg (by omega)]
theorem cl_s : upd (cl0 a i) i 0 = cl0 a (i + 1) := by
  refine ud_ ?_ (fun j hj => ?_)
  · unfold cl0
    rw [if_pos (by omega)]
  · unfold cl0
    by_cases q : j < i
    · rw [if_pos q, if_pos (by omega)]
    · rw [if_neg q, if_neg (by omega)]
theorem cl_0 : cl0 a 0 = a := by
  funext j
  unfold cl0
  rw [if_neg (by omega)]
theorem c8_s (hi : i < 192) : upd (c8 a i) i (c8 a i (192 + i)) = c8 a (i + 1) := by
  refine ud_ ?_ (fun j hj => ?_)
  · unfold c8
    rw [if_pos (by omega), if_neg (by omega)]
  · unfold c8
    by_cases q : j < i
    · rw [if_pos q, if_pos (by omega)]
    · rw [if_neg q, if_neg (by omega)]
theorem c8_0 : c8 a 0 = a := by
  funext j
  unfold c8
  rw [if_neg (by omega)]
/-! what is done of the log -/
theorem dn_s (hL : Lg bi li la L) (hLL : L < 24) (hj : j < L) (hs : s < 24) (e1 : li j = nI s) (e2 : la s = nI (j + 1)) (hb : bi s ≠ 0) : ∀ i, i < 24 → dn bi la (j + 1) i = (dn bi la j i || decide (i = s)) := by
  intro i hi
  by_cases h0 : bi i = 0
  · have : i ≠ s := fun e => hb (e ▸ h0)
    simp [dn, h0, this]
  · obtain ⟨j', hj', q1, q2⟩ := hL.2.2 i hi h0
    have c1 : (la i).toNatClampNeg = j' + 1 := by rw [q2, nI_clamp (by omega)]
    by_cases e : i = s
    · subst e
      have := ob_inj (q2.symm.trans e2) (by omega) (by omega)
      simp [dn, h0, c1]; omega
    · have : j' ≠ j := fun e' => by
        subst e'
        exact e (ob_inj (q1.symm.trans e1) (by omega) (by omega))
      simp [dn, h0, c1, e]; omega
theorem dn_L (hL : Lg bi li la L) (hLL : L < 24) (hi : i < 24) : dn bi la L i = decide (bi i ≠ 0) := by
  by_cases h0 : bi i = 0
  · simp [dn, h0]
  · obtain ⟨j', hj', q1, q2⟩ := hL.2.2 i hi h0
    have c1 : (la i).toNatClampNeg = j' + 1 := by rw [q2, nI_clamp (by omega)]
    simp [dn, h0, c1]; omega
theorem dn_0 (hL : Lg bi li la L) (hLL : L < 24) (hi : i < 24) : dn bi la 0 i = false := by
  by_cases h0 : bi i = 0
  · simp [dn, h0]
  · obtain ⟨j', hj', q1, q2⟩ := hL.2.2 i hi h0
    have c1 : (la i).toNatClampNeg = j' + 1 := by rw [q2, nI_clamp (by omega)]
    simp [dn, h0, c1]
theorem dn_n (hj : j < 24) (e2 : la s = nI (j + 1)) : dn bi la j s = false := by
  have c1 : (la s).toNatClampNeg = j + 1 := by rw [e2, nI_clamp (by omega)]
  simp [dn, c1]
theorem lf_at (hi : i < 24) : lf bi la G c a j (24 + i) = if dn bi la j i = true ∧ G i = 1 ∧ bi i = 8 then c else a (24 + i) := by
  unfold lf
  rw [Nat.add_sub_cancel_left]
  by_cases q : dn bi la j i = true ∧ G i = 1 ∧ bi i = 8
  · rw [if_pos q, if_pos ⟨by omega, by omega, q⟩]
  · rw [if_neg q, if_neg (fun z => q z.2.2)]
theorem lf_out {m : Nat} (h : m < 24 ∨ 48 ≤ m) : lf bi la G c a j m = a m := if_neg (by omega)
theorem ld_at {m : Int32} (hi : i < 24) : ld bi la G m a a1 j (24 + i) = if dn bi la j i = true ∧ G i = 1 ∧ bi i &&& m ≠ 0 then a i else a1 (24 + i) := by
  unfold ld
  rw [Nat.add_sub_cancel_left]
  by_cases q : dn bi la j i = true ∧ G i = 1 ∧ bi i &&& m ≠ 0
  · rw [if_pos q, if_pos ⟨by omega, by omega, q⟩]
  · rw [if_neg q, if_neg (fun z => q z.2.2)]
theorem ld_out {m : Nat} (h : m < 24 ∨ 48 ≤ m) : ld bi la G c a a1 j m = a1 m := if_neg (by omega)
theorem fx_ {f g : Nat → Int32} (h1 : ∀ m, m < 24 ∨ 48 ≤ m → f m = g m) (h2 : ∀ i, i < 24 → f (24 + i) = g (24 + i)) : f = g := by
  funext m
  by_cases h : m < 24 ∨ 48 ≤ m
  · exact h1 m h
  · obtain ⟨x, rfl⟩ : ∃ x, m = 24 + x := ⟨m - 24, by omega⟩
    exact h2 x (by omega)
theorem lf_0 (h : ∀ i, i < 24 → dn bi la 0 i = false) : lf bi la G c a 0 = a := fx_ (fun m hm => lf_out hm) (fun i hi => by
  rw [lf_at hi, h i hi, if_neg (fun z => absurd z.1 (by decide))])
theorem ld_0 {m : Int32} (h : ∀ i, i < 24 → dn bi la 0 i = false) : ld bi la G m a a1 0 = a1 := fx_ (fun m hm => ld_out hm) (fun i hi => by
  rw [ld_at hi, h i hi, if_neg (fun z => absurd z.1 (by decide))])
theorem lf_8 (hd : ∀ i, i < 24 → dn bi la (j + 1) i = (dn bi la j i || decide (i = s))) (hs : s < 24) (h1 : G s = 1) (h8 : bi s = 8) : upd (lf bi la G c a j) (24 + s) c = lf bi la G c a (j + 1) := by
  refine fx_ (fun m hm => ?_) (fun i hi => ?_)
  · rw [ob_un (by omega), lf_out hm, lf_out hm]
  · rw [lf_at hi, hd i hi]
    by_cases e : i = s
    · subst e
      rw [ob_us, if_pos ⟨by simp, h1, h8⟩]
    · rw [ob_un (by omega), lf_at hi]
      simp [e]
theorem lf_n (hd : ∀ i, i < 24 → dn bi la (j + 1) i = (dn bi la j i || decide (i = s))) (h : ¬ (G s = 1 ∧ bi s = 8)) : lf bi la G c a (j + 1) = lf bi la G c a j := by
  refine fx_ (fun m hm => ?_) (fun i hi => ?_)
  · rw [lf_out hm, lf_out hm]
  · rw [lf_at hi, lf_at hi, hd i hi]
    by_cases e : i = s
    · subst e
      rw [if_neg (fun z => h z.2), if_neg (fun z => h z.2)]
    · simp [e]
theorem ld_y {m : Int32} (hd : ∀ i, i < 24 → dn bi la (j + 1) i = (dn bi la j i || decide (i = s))) (hs : s < 24) (h1 : G s = 1) (h8 : bi s &&& m ≠ 0) : upd (ld bi la G m a a1 j) (24 + s) (a s) = ld bi la G m a a1 (j + 1) := by
  refine fx_ (fun m hm => ?_) (fun i hi => ?_)
  · rw [ob_un (by omega), ld_out hm, ld_out hm]
  · rw [ld_at hi, hd i hi]
    by_cases e : i = s
    · subst e
      rw [ob_us, if_pos ⟨by simp, h1, h8⟩]
    · rw [ob_un (by omega), ld_at hi]
      simp [e]
theorem ld_n {m : Int32} (hd : ∀ i, i < 24 → dn bi la (j + 1) i = (dn bi la j i || decide (i = s))) (h : ¬ (G s = 1 ∧ bi s &&& m ≠ 0)) : ld bi la G m a a1 (j + 1) = ld bi la G m a a1 j := by
  refine fx_ (fun m hm => ?_) (fun i hi => ?_)
  · rw [ld_out hm, ld_out hm]
  · rw [ld_at hi, ld_at hi, hd i hi]
    by_cases e : i = s
    · subst e
      rw [if_neg (fun z => h z.2), if_neg (fun z => h z.2)]
    · simp [e]
end
/-! X's reintegrate: the loops -/
section
variable {O N C L : Nat} {pb qh qt pl : Int32} {kd pa na da sl cc bi tk ve li la fa qu wm ol : Nat → Int32} {post : Int32 → Prop} {pst : SX → Prop}
theorem x_keep_l (k : pst (nI O, nI N, nI C, nI L, pb, qh, qt, pl, kp fa 0 kd 24, kp fa (-1) pa 24, kp fa (-1) na 24, kp fa 0 da 24, sl, cc, bi, tk, vk fa ve 24, li, la, fa, qu, wm, ol)) : ∀ d i, i + d = 24 → wX_keepIsolated_2 pst (d + 1) (nI i) (nI O) (nI N) (nI C) (nI L) pb qh qt pl (kp fa 0 kd i) (kp fa (-1) pa i) (kp fa (-1) na i) (kp fa 0 da i) sl cc bi tk (vk fa ve i) li la fa qu wm ol := by
  intro d
  induction d with
  | zero =>
    intro i hi
    have e : i = 24 := by omega
    subst e
    exact br_t (nI_le (a := 24) (by omega) (by omega)) k
  | succ d ih =>
    intro i hi
    have hi24 : i < 24 := by omega
    have c := nI_clamp (n := i) (by omega)
    refine br_f (nI_ge (b := 24) (by omega) (by omega)) ?_
    rw [c, ob_48]
    refine And.intro (ob_in i 24 hi24) (And.intro (ob_in i 24 hi24) (nm_r vk_s (And.intro (ob_in i 24 hi24) (br_c (fun h => x_clearEntry (by omega) (nm_r (nI_1 i) ?_)) (fun h => x_copyEntry (by omega) (by omega) (nm_r (nI_1 i) ?_))))))
    · simp only [kp_c h]
      exact ih (i + 1) (by omega)
    · simp only [kp_k hi24 h]
      exact ih (i + 1) (by omega)
theorem prl_s {s j : Nat} (hd : ∀ i, i < 24 → dn bi la (j + 1) i = (dn bi la j i || decide (i = s))) (h : ¬ (fa s = 1 ∧ bi s &&& 10 ≠ 0 ∧ kd (24 + s) ≠ 0)) : ∀ i, i < 24 → prl kd bi la fa (j + 1) i = prl kd bi la fa j i := by
  intro i hi
  unfold prl
  rw [hd i hi]
  by_cases e : i = s
  · subst e
    by_cases q1 : fa i = 1
    · by_cases q2 : bi i &&& 10 = 0
      · simp [q2]
      · have q3 : kd (24 + i) = 0 := Classical.byContradiction fun q => h ⟨q1, q2, q⟩
        simp [xs, q3]
    · simp [q1]
  · simp [e]
theorem x_lift_l (H : Cx O N kd pa na da bi) (hL : Lg bi li la L) (k : ∀ sl cc : Nat → Int32, SL 24 (prl kd bi la fa L) pa na sl cc → pst (nI O, nI N, nI C, nI L, pb, qh, qt, pl, lf bi la fa 0 kd L, lf bi la fa (-1) pa L, lf bi la fa (-1) na L, lf bi la fa 0 da L, sl, cc, bi, tk, ve, li, la, fa, qu, wm, ol)) : ∀ d j sl cc, j + d = L → SL 24 (prl kd bi la fa j) pa na sl cc → wX_liftLandedWork_2 pst (d + 1) (nI j) (nI O) (nI N) (nI C) (nI L) pb qh qt pl (lf bi la fa 0 kd j) (lf bi la fa (-1) pa j) (lf bi la fa (-1) na j) (lf bi la fa 0 da j) sl cc bi tk ve li la fa qu wm ol := by
  have hLL := lg_L hL (cx_b0 H)
  have hN := (cx_N H).2.2.2
  intro d
  induction d with
  | zero =>
    intro j sl cc hj hS
    have e : j = L := by omega
    subst e
    exact br_t (nI_le (by omega) (by omega)) (k sl cc hS)
  | succ d ih =>
    intro j sl cc hj hS
    obtain ⟨s, hs0, hs, e1, hbs, e2⟩ := hL.2.1 j (by omega)
    have hd := dn_s hL hLL (by omega) hs e1 e2 hbs
    have c1 := nI_clamp (n := s) (by omega)
    refine br_f (nI_ge (by omega) (by omega)) (And.intro (ob_in j 24 (by omega)) (nr_ (nI_clamp (by omega)) ?_))
    rw [e1]
    have next0 : ¬ (fa s = 1 ∧ bi s = 8) → ∀ sl' cc', SL 24 (prl kd bi la fa (j + 1)) pa na sl' cc' → wX_liftLandedWork_2 pst (d + 1) (nI (j + 1)) (nI O) (nI N) (nI C) (nI L) pb qh qt pl (lf bi la fa 0 kd j) (lf bi la fa (-1) pa j) (lf bi la fa (-1) na j) (lf bi la fa 0 da j) sl' cc' bi tk ve li la fa qu wm ol := fun hq sl' cc' hS' => by
      have := ih (j + 1) sl' cc' (by omega) hS'
      simp only [lf_n hd hq] at this
      exact this
    refine x_works hs (fun h1 => br_f ob_10 (And.intro (ob_in s 48 (by omega)) (rm_ c1 (fun h10 => nm_r (nI_1 j) (next0 (fun q => by rw [q.2] at h10; exact absurd h10 (by decide)) sl cc ?_)) (fun h10 => ?_)))) (fun h1 => br_t rfl (nm_r (nI_1 j) (next0 (fun q => h1 q.1) sl cc ?_)))
    · exact sl_congr hS (prl_s hd (fun q => q.2.1 h10)) (fun i _ _ => ⟨rfl, rfl⟩) (fun p n _ _ => rfl) (fun p _ => rfl)
    · have hpj : lf bi la fa (-1) pa j (24 + s) = pa (24 + s) := by
        rw [lf_at hs, dn_n (by omega) e2, if_neg (fun z => absurd z.1 (by decide))]
      have hnj : lf bi la fa (-1) na j (24 + s) = na (24 + s) := by
        rw [lf_at hs, dn_n (by omega) e2, if_neg (fun z => absurd z.1 (by decide))]
      obtain ⟨sl', cc', hS', hun⟩ : ∃ sl' cc' : Nat → Int32, SL 24 (prl kd bi la fa (j + 1)) pa na sl' cc' ∧ ∀ P : SX → Prop, P (nI O, nI N, nI C, nI L, pb, qh, qt, pl, lf bi la fa 0 kd j, lf bi la fa (-1) pa j, lf bi la fa (-1) na j, lf bi la fa 0 da j, sl', cc', bi, tk, ve, li, la, fa, qu, wm, ol) → wpX_unlink P (nI O, nI N, nI C, nI L, pb, qh, qt, pl, lf bi la fa 0 kd j, lf bi la fa (-1) pa j, lf bi la fa (-1) na j, lf bi la fa 0 da j, sl, cc, bi, tk, ve, li, la, fa, qu, wm, ol) (nI 1) (nI s) := by
        by_cases hk : kd (24 + s) = 0
        · exact ⟨sl, cc, sl_congr hS (prl_s hd (fun q => q.2.2 hk)) (fun i _ _ => ⟨rfl, rfl⟩) (fun p n _ _ => rfl) (fun p _ => rfl), fun P hP => x_unlink0 (s := 1) (by omega) hs (hpj.trans (cx_e H (by omega) hk).1) hP⟩
        · obtain ⟨_, p, n, hp, hn, q1, q2, _⟩ := cx_p1 H hs0 hs hk
          refine ⟨_, _, sl_out hS hs ?_ hp (by omega) q1 q2 (fun i hi => ?_), fun P hP => x_unlink (s := 1) (by omega) hs hp (by omega) (hpj.trans q1) (hnj.trans q2) hP⟩
          · simp [prl, xs, hs0, hk, dn_n (bi := bi) (la := la) (s := s) (j := j) (by omega) e2]
          · unfold prl
            rw [hd i hi]
            by_cases e : i = s
            · subst e; simp [h1, h10]
            · simp [e]
      refine hun _ (And.intro (ob_in s 48 (by omega)) (rc_ c1 (fun h8 => ?_) (fun h8 => nm_r (nI_1 j) (next0 (fun q => h8 q.2) sl' cc' hS'))))
      rw [ob_24]
      refine x_clearEntry (by omega) (nm_r (nI_1 j) ?_)
      simp only [lf_8 hd hs h1 h8]
      exact ih (j + 1) sl' cc' (by omega) hS'
    · exact sl_congr hS (prl_s hd (fun q => h1 q.1)) (fun i _ _ => ⟨rfl, rfl⟩) (fun p n _ _ => rfl) (fun p _ => rfl)
end
end
section
/-! X's reintegrate: landing, copying -/
section
variable {O N C L : Nat} {pb qh qt pl : Int32} {kd pa na da sl cc bi tk ve li la fa qu wm ol : Nat → Int32} {post : Int32 → Prop} {pst : SX → Prop}
theorem x_land54 {i : Nat} (hi : i < 24) (k : ∀ da' : Nat → Int32, (bi i &&& 5 ≠ 0 → da' = upd da (24 + i) (da i)) → (bi i &&& 5 = 0 → da' = da) → pst (nI O, nI N, nI C, nI L, pb, qh, qt, pl, kd, pa, na, da', sl, cc, bi, tk, ve, li, la, fa, qu, wm, ol)) : wX_land_54 pst (nI i) (nI O) (nI N) (nI C) (nI L) pb qh qt pl kd pa na da sl cc bi tk ve li la fa qu wm ol := by
  have c := nI_clamp (n := i) (by omega)
  have c2 := ob_cl (24 + i) (ob_24 i)
  refine And.intro (ob_in i 48 (by omega)) (rm_ c (fun h => k da (fun z => absurd h z) (fun _ => rfl)) (fun h => And.intro (ob_in i 72 (by omega)) (And.intro (ob_in (24 + i) 72 (by omega) (ob_24 i)) ?_)))
  rw [c, c2]
  exact nm_e (k _ (fun _ => rfl) (fun z => absurd z h))
theorem x_land25 {i p n : Nat} (hi : i < 24) (hp : bi i &&& 3 ≠ 0 → p < 24 ∧ n < 8 ∧ pa i = nI p ∧ na i = nI n) (k : ∀ pa' na' da' sl' cc' : Nat → Int32, (bi i &&& 3 ≠ 0 → pa' = upd pa (24 + i) (nI p) ∧ na' = upd na (24 + i) (nI n) ∧ sl' = upd sl (8 * (24 + p) + n) (nI i) ∧ cc' = upd cc (24 + p) (cc (24 + p) + 1)) → (bi i &&& 3 = 0 → pa' = pa ∧ na' = na ∧ sl' = sl ∧ cc' = cc) → (bi i &&& 5 ≠ 0 → da' = upd da (24 + i) (da i)) → (bi i &&& 5 = 0 → da' = da) → pst (nI O, nI N, nI C, nI L, pb, qh, qt, pl, kd, pa', na', da', sl', cc', bi, tk, ve, li, la, fa, qu, wm, ol)) : wX_land_25 pst (nI i) (nI O) (nI N) (nI C) (nI L) pb qh qt pl kd pa na da sl cc bi tk ve li la fa qu wm ol := by
  have c := nI_clamp (n := i) (by omega)
  refine And.intro (ob_in i 48 (by omega)) (rm_ c (fun h => x_land54 hi (fun da' h1 h2 => k pa na da' sl cc (fun z => absurd h z) (fun _ => ⟨rfl, rfl, rfl, rfl⟩) h1 h2)) (fun h => And.intro (ob_in i 72 (by omega)) (And.intro (ob_in i 72 (by omega)) ?_)))
  obtain ⟨a, b, e1, e2⟩ := hp h
  rw [c, e1, e2]
  exact x_place (s := 1) (by omega) hi a b (x_land54 hi (fun da' h1 h2 => k _ _ da' _ _ (fun _ => ⟨rfl, rfl, rfl, rfl⟩) (fun z => absurd z h) h1 h2))
theorem x_land {i p n : Nat} (hi : i < 24) (hb : vb (bi i)) (hp : bi i &&& 3 ≠ 0 → p < 24 ∧ n < 8 ∧ pa i = nI p ∧ na i = nI n) (k : ∀ kd' pa' na' da' sl' cc' : Nat → Int32, (bi i &&& 1 ≠ 0 → kd' = upd kd (24 + i) (kd i)) → (bi i &&& 1 = 0 → kd' = kd) → (bi i &&& 3 ≠ 0 → pa' = upd pa (24 + i) (nI p) ∧ na' = upd na (24 + i) (nI n) ∧ sl' = upd sl (8 * (24 + p) + n) (nI i) ∧ cc' = upd cc (24 + p) (cc (24 + p) + 1)) → (bi i &&& 3 = 0 → pa' = pa ∧ na' = na ∧ sl' = sl ∧ cc' = cc) → (bi i &&& 5 ≠ 0 → da' = upd da (24 + i) (da i)) → (bi i &&& 5 = 0 → da' = da) → pst (nI O, nI N, nI C, nI L, pb, qh, qt, pl, kd', pa', na', da', sl', cc', bi, tk, ve, li, la, fa, qu, wm, ol)) : wpX_land pst (nI O, nI N, nI C, nI L, pb, qh, qt, pl, kd, pa, na, da, sl, cc, bi, tk, ve, li, la, fa, qu, wm, ol) (nI i) := by
  have c := nI_clamp (n := i) (by omega)
  have c2 := ob_cl (24 + i) (ob_24 i)
  have h11 : bi i = 1 ↔ bi i &&& 1 ≠ 0 := by
    rcases hb with h | h | h | h | h | h <;> rw [h] <;> decide
  refine And.intro (ob_in i 48 (by omega)) (rc_ c (fun h => And.intro (ob_in i 72 (by omega)) (And.intro (ob_in (24 + i) 72 (by omega) (ob_24 i)) ?_)) (fun h => x_land25 hi hp (fun pa' na' da' sl' cc' a b c d => k kd pa' na' da' sl' cc' (fun z => absurd (h11.mpr z) h) (fun _ => rfl) a b c d)))
  rw [c, c2]
  exact nm_e (x_land25 hi hp (fun pa' na' da' sl' cc' a b c d => k _ pa' na' da' sl' cc' (fun _ => rfl) (fun z => absurd z (h11.mp h)) a b c d))
theorem x_land_l (H : Cx O N kd pa na da bi) (hL : Lg bi li la L) (ho : okF kd bi fa) (hc : ∀ x, x < 24 → ¬ Blk kd pa na bi fa x) (k : ∀ sl cc : Nat → Int32, SL 24 (prd kd bi la fa L L) (ld bi la fa 3 pa (lf bi la fa (-1) pa L) L) (ld bi la fa 3 na (lf bi la fa (-1) na L) L) sl cc → pst (nI O, nI N, nI C, nI L, pb, qh, qt, pl, ld bi la fa 1 kd (lf bi la fa 0 kd L) L, ld bi la fa 3 pa (lf bi la fa (-1) pa L) L, ld bi la fa 3 na (lf bi la fa (-1) na L) L, ld bi la fa 5 da (lf bi la fa 0 da L) L, sl, cc, bi, tk, ve, li, la, fa, qu, wm, ol)) : ∀ d j sl cc, j + d = L → SL 24 (prd kd bi la fa L j) (ld bi la fa 3 pa (lf bi la fa (-1) pa L) j) (ld bi la fa 3 na (lf bi la fa (-1) na L) j) sl cc → wX_landWork_2 pst (d + 1) (nI j) (nI O) (nI N) (nI C) (nI L) pb qh qt pl (ld bi la fa 1 kd (lf bi la fa 0 kd L) j) (ld bi la fa 3 pa (lf bi la fa (-1) pa L) j) (ld bi la fa 3 na (lf bi la fa (-1) na L) j) (ld bi la fa 5 da (lf bi la fa 0 da L) j) sl cc bi tk ve li la fa qu wm ol := by
  have hLL := lg_L hL (cx_b0 H)
  have hN := (cx_N H).2.2.2
  intro d
  induction d with
  | zero =>
    intro j sl cc hj hS
    have e : j = L := by omega
    subst e
    exact br_t (nI_le (by omega) (by omega)) (k sl cc hS)
  | succ d ih =>
    intro j sl cc hj hS
    obtain ⟨s, hs0, hs, e1, hbs, e2⟩ := hL.2.1 j (by omega)
    have hd := dn_s hL hLL (by omega) hs e1 e2 hbs
    have hdj : dn bi la j s = false := dn_n (by omega) e2
    have c1 := nI_clamp (n := s) (by omega)
    refine br_f (nI_ge (by omega) (by omega)) (And.intro (ob_in j 24 (by omega)) (nr_ (nI_clamp (by omega)) ?_))
    rw [e1]
    have hprd : ¬ (fa s = 1 ∧ bi s &&& 3 ≠ 0) → ∀ i, i < 24 → prd kd bi la fa L (j + 1) i = prd kd bi la fa L j i := fun hq i hi => by
      unfold prd
      rw [hd i hi]
      by_cases e : i = s
      · subst e
        by_cases q1 : fa i = 1
        · have q2 : bi i &&& 3 = 0 := Classical.byContradiction fun q => hq ⟨q1, q⟩
          simp [q2]
        · simp [q1]
      · simp [e]
    refine x_works hs (fun h1 => br_f ob_10 ?_) (fun h1 => br_t rfl (nm_r (nI_1 j) ?_))
    · -- the client's part is untouched
      have r0 : ∀ (m c : Int32) (a : Nat → Int32), ld bi la fa m a (lf bi la fa c a L) j s = a s := fun m c a => by
        rw [ld_out (Or.inl hs), lf_out (Or.inl hs)]
      obtain ⟨p, n, hpn⟩ : ∃ p n, bi s &&& 3 ≠ 0 → p < 24 ∧ n < N ∧ pa s = nI p ∧ na s = nI n := by
        by_cases h3 : bi s &&& 3 = 0
        · exact ⟨0, 0, fun z => absurd h3 z⟩
        · obtain ⟨_, _, _, _, p, n, a, b, c, d, _⟩ := cx_pl H hs h3
          exact ⟨p, n, fun _ => ⟨a, b, c, d⟩⟩
      refine x_land (p := p) (n := n) hs (cx_v H (by omega)) (fun h3 => ?_) (fun kd' pa' na' da' sl' cc' a1 a2 a3 a4 a5 a6 => nm_r (nI_1 j) ?_)
      · obtain ⟨a, b, c, d⟩ := hpn h3
        exact ⟨a, by omega, by rw [r0]; exact c, by rw [r0]; exact d⟩
      · have ek : kd' = ld bi la fa 1 kd (lf bi la fa 0 kd L) (j + 1) := by
          by_cases q : bi s &&& 1 = 0
          · rw [a2 q, ld_n hd (fun z => z.2 q)]
          · rw [a1 q, r0, ld_y hd hs h1 q]
        have ed : da' = ld bi la fa 5 da (lf bi la fa 0 da L) (j + 1) := by
          by_cases q : bi s &&& 5 = 0
          · rw [a6 q, ld_n hd (fun z => z.2 q)]
          · rw [a5 q, r0, ld_y hd hs h1 q]
        have epn : pa' = ld bi la fa 3 pa (lf bi la fa (-1) pa L) (j + 1) ∧ na' = ld bi la fa 3 na (lf bi la fa (-1) na L) (j + 1) ∧ SL 24 (prd kd bi la fa L (j + 1)) (ld bi la fa 3 pa (lf bi la fa (-1) pa L) (j + 1)) (ld bi la fa 3 na (lf bi la fa (-1) na L) (j + 1)) sl' cc' := by
          by_cases q : bi s &&& 3 = 0
          · obtain ⟨b1, b2, b3, b4⟩ := a4 q
            rw [b1, b2, b3, b4, ld_n hd (fun z => z.2 q), ld_n hd (fun z => z.2 q)]
            exact ⟨rfl, rfl, sl_congr hS (hprd (fun z => z.2 q)) (fun i _ _ => ⟨rfl, rfl⟩) (fun p n _ _ => rfl) (fun p _ => rfl)⟩
          · obtain ⟨b1, b2, b3, b4⟩ := a3 q
            obtain ⟨hp, hn, g1, g2⟩ := hpn q
            have y1 := ld_y (a := pa) (a1 := lf bi la fa (-1) pa L) hd hs h1 q
            have y2 := ld_y (a := na) (a1 := lf bi la fa (-1) na L) hd hs h1 q
            rw [g1] at y1
            rw [g2] at y2
            obtain ⟨_, hb8, _, hks, _⟩ := cx_pl H hs q
            rw [b1, b2, b3, b4, ← y1, ← y2]
            have hdL : ∀ i, i < 24 → dn bi la L i = decide (bi i ≠ 0) := fun i hi => dn_L hL hLL hi
            refine ⟨rfl, rfl, sl_in hS hs hs0 ?_ hp (by omega) (fun z hz hpz k1 k2 => ?_) (fun i hi => ?_)⟩
            · rw [prd, hdj, prl, hdL s hs]
              rcases vb_3 (cx_v H (m := s) (by omega)) q with w | w | w
              · simp [xs, (cx_cr H hs w).2.1]
              · have w10 : bi s &&& 10 ≠ 0 := by rw [w]; decide
                simp [hbs, h1, w10]
              · have w10 : bi s &&& 10 ≠ 0 := by rw [w]; decide
                simp [hbs, h1, w10]
            · rw [ld_at hz] at k1 k2
              by_cases qz : dn bi la j z = true ∧ fa z = 1 ∧ bi z &&& 3 ≠ 0
              · rw [if_pos qz] at k1 k2
                obtain ⟨_, _, hz0, hkz, _⟩ := cx_pl H hz qz.2.2
                have := cx_u0 H hz0 hz hs0 hs hkz hks (k1.trans g1.symm) (k2.trans g2.symm)
                subst this
                rw [hdj] at qz
                exact absurd qz.1 (by decide)
              · rw [if_neg qz] at k1 k2
                have hpl : prl kd bi la fa L z = true := by
                  rw [prd, Bool.or_eq_true] at hpz
                  rcases hpz with w | w
                  · exact w
                  · simp only [Bool.and_eq_true, decide_eq_true_eq] at w
                    exact absurd ⟨w.1.1, w.1.2, w.2⟩ qz
                have hx : z ≠ 0 ∧ kd (24 + z) ≠ 0 ∧ st bi fa z := by
                  rw [prl, hdL z hz] at hpl
                  simp only [xs, Bool.and_eq_true, decide_eq_true_eq, Bool.not_eq_true'] at hpl
                  refine ⟨hpl.1.1, hpl.1.2, fun w1 => ?_⟩
                  have wb : bi z ≠ 0 := fun e => absurd (w1.symm.trans ((ho z hz).1.mpr e)) (by decide)
                  have := hpl.2
                  simp [wb, w1] at this
                  exact this
                have h8z : ¬ (dn bi la L z = true ∧ fa z = 1 ∧ bi z = 8) := fun w => by
                  have := hx.2.2 w.2.1
                  rw [w.2.2] at this
                  exact absurd this (by decide)
                rw [lf_at hz, if_neg h8z] at k1 k2
                have hzs : z ≠ s := fun e => by
                  subst e
                  have := hx.2.2 h1
                  rcases vb_3 (cx_v H (m := z) (by omega)) q with w | w | w
                  · exact hx.2.1 (cx_cr H hs w).2.1
                  · rw [w] at this; exact absurd this (by decide)
                  · rw [w] at this; exact absurd this (by decide)
                exact hc s hs ⟨h1, Or.inr ⟨q, Or.inr ⟨z, hz, hzs, hx.2.1, k1.trans g1.symm, k2.trans g2.symm, hx.2.2⟩⟩⟩
            · unfold prd
              rw [hd i hi]
              by_cases e : i = s
              · subst e; simp [h1, q]
              · simp [e]
        obtain ⟨f1, f2, f3⟩ := epn
        subst ek ed f1 f2
        exact ih (j + 1) sl' cc' (by omega) f3
    · have := ih (j + 1) sl cc (by omega) (by
        rw [ld_n hd (fun z => h1 z.1), ld_n hd (fun z => h1 z.1)]
        exact sl_congr hS (hprd (fun z => h1 z.1)) (fun i _ _ => ⟨rfl, rfl⟩) (fun p n _ _ => rfl) (fun p _ => rfl))
      simp only [fun (m : Int32) (a a1 : Nat → Int32) => ld_n (m := m) (a := a) (a1 := a1) hd (fun z => h1 z.1)] at this
      exact this
theorem x_copy2_l (k : pst (nI O, nI N, nI C, 0, 0, qh, qt, 0, kd, pa, na, da, c8 sl 192, cc, bi, tk, ve, li, la, fa, qu, wm, ol)) : ∀ d i, i + d = 192 → wX_copyServerToClient_87 pst (nI O) (nI N) (nI C) (nI L) pb qh qt pl (d + 1) (nI i) kd pa na da (c8 sl i) cc bi tk ve li la fa qu wm ol := by
  intro d
  induction d with
  | zero =>
    intro i hi
    have e : i = 192 := by omega
    subst e
    exact br_t (nI_le (a := 192) (by omega) (by omega)) k
  | succ d ih =>
    intro i hi
    refine br_f (nI_ge (b := 192) (by omega) (by omega)) ?_
    rw [ob_192, nI_clamp (n := 192 + i) (by omega), nI_clamp (n := i) (by omega)]
    exact And.intro (ob_in (192 + i) 384 (by omega)) (And.intro (ob_in i 384 (by omega)) (nm_r (c8_s (by omega)) (nm_r (nI_1 i) (ih (i + 1) (by omega)))))
theorem x_copy_l (k : pst (nI O, nI N, nI C, 0, 0, qh, qt, 0, cs kd 24, cs pa 24, cs na 24, cs da 24, c8 sl 192, cs cc 24, cz bi 24, ct kd tk 24, ve, li, cl0 la 24, fa, qu, wm, ol)) : ∀ d i, i + d = 24 → wX_copyServerToClient_2 pst (d + 1) (nI i) (nI O) (nI N) (nI C) (nI L) pb qh qt pl (cs kd i) (cs pa i) (cs na i) (cs da i) sl (cs cc i) (cz bi i) (ct kd tk i) ve li (cl0 la i) fa qu wm ol := by
  intro d
  induction d with
  | zero =>
    intro i hi
    have e : i = 24 := by omega
    subst e
    refine br_t (nI_le (a := 24) (by omega) (by omega)) (Exists.intro 193 ?_)
    have := x_copy2_l (O := O) (N := N) (C := C) (L := L) (pb := pb) (qh := qh) (qt := qt) (pl := pl) (kd := cs kd 24) (pa := cs pa 24) (na := cs na 24) (da := cs da 24) (sl := sl) (cc := cs cc 24) (bi := cz bi 24) (tk := ct kd tk 24) (ve := ve) (li := li) (la := cl0 la 24) (fa := fa) (qu := qu) (wm := wm) (ol := ol) (pst := pst) k 192 0 (by omega)
    rw [c8_0] at this
    exact this
  | succ d ih =>
    intro i hi
    have hi24 : i < 24 := by omega
    have c1 := nI_clamp (n := i) (by omega)
    have c2 := nI_clamp (n := 24 + i) (by omega)
    refine br_f (nI_ge (b := 24) (by omega) (by omega)) ?_
    rw [ob_24]
    refine x_copyEntry (by omega) (by omega) ?_
    simp only [cs_s hi24]
    refine And.intro (ob_in (24 + i) 48 (by omega)) (And.intro (ob_in i 48 (by omega)) ?_)
    rw [c1, c2]
    refine nm_r (cs_s hi24) (And.intro (ob_in (24 + i) 72 (by omega)) ?_)
    have step : ∀ z0 : Int32, vp_nar .boolean z0 = (if kd (24 + i) = 0 then 0 else 1) → wX_copyServerToClient_54 pst (wX_copyServerToClient_2 pst (d + 1)) (nI i) z0 (nI i) (nI O) (nI N) (nI C) (nI L) pb qh qt pl (cs kd (i + 1)) (cs pa (i + 1)) (cs na (i + 1)) (cs da (i + 1)) sl (cs cc (i + 1)) (cz bi i) (ct kd tk i) ve li (cl0 la i) fa qu wm ol := by
      intro z0 hz
      unfold wX_copyServerToClient_54
      rw [ob_24, c1, c2]
      exact And.intro (ob_in i 24 hi24) (nm_r (ct_s hz) (And.intro (ob_in i 48 (by omega)) (nm_e (And.intro (ob_in (24 + i) 48 (by omega)) (nm_r cz_s (And.intro (ob_in i 24 hi24) (nm_r cl_s (nm_r (nI_1 i) (ih (i + 1) (by omega))))))))))
    have ek : cs kd (i + 1) (24 + i) = kd (24 + i) := cs_hi (by omega)
    rw [ek]
    exact br_c (fun h => step 0 (by rw [if_pos h]; exact ob_nb0)) (fun h => step 1 (by rw [if_neg h]; exact ob_nb1))
end
end
section
/-! Y's reintegrate -/
def yr (G : Nat → Int32) (c : Int32) (m a : Nat → Int32) (i : Nat) : Nat → Int32 := fun j => if j < 24 then (if j < i then m j else a j) else if j < 48 then (if j < 24 + i then m (j - 24) else a j) else if j < 48 + i then (if G (j - 48) = 0 ∨ G (j - 48) = 1 then c else a (j - 48)) else a j
def yu (m a : Nat → Int32) (i : Nat) : Nat → Int32 := fun j => if j < i then (if m j = 0 then 0 else 1) else a j
section
variable {G m a : Nat → Int32} {c : Int32} {i : Nat}
theorem yr_s (hi : i < 24) {f : Nat → Int32} (h1 : f (48 + i) = if G i = 0 ∨ G i = 1 then c else a i) (h2 : ∀ j, j ≠ 48 + i → f j = yr G c m a i j) : upd (upd f (24 + i) (m i)) i (m i) = yr G c m a (i + 1) := by
  refine ud_ ?_ (fun j hj => ?_)
  · unfold yr
    rw [if_pos hi, if_pos (by omega)]
  · by_cases e : j = 24 + i
    · subst e
      rw [ob_us]
      unfold yr
      rw [if_neg (by omega), if_pos (by omega), if_pos (by omega), Nat.add_sub_cancel_left]
    · rw [ob_un e]
      by_cases e2 : j = 48 + i
      · subst e2
        rw [h1]
        unfold yr
        rw [if_neg (by omega), if_neg (by omega), if_pos (by omega), Nat.add_sub_cancel_left]
      · rw [h2 j e2]
        unfold yr
        by_cases q1 : j < 24
        · rw [if_pos q1, if_pos q1]
          by_cases q2 : j < i
          · rw [if_pos q2, if_pos (by omega)]
          · rw [if_neg q2, if_neg (by omega)]
        · rw [if_neg q1, if_neg q1]
          by_cases q3 : j < 48
          · rw [if_pos q3, if_pos q3]
            by_cases q2 : j < 24 + i
            · rw [if_pos q2, if_pos (by omega)]
            · rw [if_neg q2, if_neg (by omega)]
          · rw [if_neg q3, if_neg q3]
            by_cases q2 : j < 48 + i
            · rw [if_pos q2, if_pos (by omega)]
            · rw [if_neg q2, if_neg (by omega)]
theorem yr_a (hi : i < 24) (h : G i = 0 ∨ G i = 1) : upd (upd (upd (yr G c m a i) (48 + i) c) (24 + i) (m i)) i (m i) = yr G c m a (i + 1) :=
  yr_s hi (by rw [ob_us, if_pos h]) (fun j hj => ob_un hj)
theorem yr_b (hi : i < 24) (h : ¬ (G i = 0 ∨ G i = 1)) : upd (upd (upd (upd (yr G c m a i) (48 + i) c) (48 + i) (upd (yr G c m a i) (48 + i) c i)) (24 + i) (m i)) i (m i) = yr G c m a (i + 1) := by
  refine yr_s hi ?_ (fun j hj => by rw [ob_un hj, ob_un hj])
  rw [ob_us, if_neg h, ob_un (by omega)]
  unfold yr
  rw [if_pos hi, if_neg (by omega)]
theorem yr_0 : yr G c m a 0 = a := by
  funext j
  unfold yr
  by_cases q1 : j < 24
  · rw [if_pos q1, if_neg (by omega)]
  · rw [if_neg q1]
    by_cases q3 : j < 48
    · rw [if_pos q3, if_neg (by omega)]
    · rw [if_neg q3, if_neg (by omega)]
theorem yu_s {v : Int32} (hv : v = if m i = 0 then 0 else 1) : upd (yu m a i) i v = yu m a (i + 1) := by
  refine ud_ ?_ (fun j hj => ?_)
  · unfold yu
    rw [if_pos (by omega), hv]
  · unfold yu
    by_cases q : j < i
    · rw [if_pos q, if_pos (by omega)]
    · rw [if_neg q, if_neg (by omega)]
theorem yu_0 : yu m a 0 = a := by
  funext j
  unfold yu
  rw [if_neg (by omega)]
end
section
variable {O N C : Nat} {kd pa na da bi tk ve fy mk mp mn md : Nat → Int32} {post : Int32 → Prop} {pst : SY → Prop} {psr : Int32 → SY → Prop}
theorem y_put {m : Nat} {v0 v1 v2 v3 : Int32} (hm : m < 72) (k : pst (nI O, nI N, nI C, upd kd m v0, upd pa m v1, upd na m v2, upd da m v3, bi, tk, ve, fy, mk, mp, mn, md)) : wpY_put pst (nI O, nI N, nI C, kd, pa, na, da, bi, tk, ve, fy, mk, mp, mn, md) (nI m) v0 v1 v2 v3 := by
  have c := nI_clamp (n := m) (by omega)
  have i := ob_in (x := nI m) m 72 hm
  exact br_f (nI_pos (by omega)) (br_t (nI_lt (b := 72) hm (by omega)) (And.intro i (nu_ c (And.intro i (nu_ c (And.intro i (nu_ c (And.intro i (nu_ c k)))))))))
theorem y_r92 {J : Int32 → Int32 → Int32 → Int32 → Int32 → (Nat → Int32) → (Nat → Int32) → (Nat → Int32) → (Nat → Int32) → (Nat → Int32) → (Nat → Int32) → (Nat → Int32) → (Nat → Int32) → (Nat → Int32) → (Nat → Int32) → (Nat → Int32) → (Nat → Int32) → Prop} {x1 : Int32} {i : Nat} (hi : i < 24) (k : J x1 (nI (i + 1)) (nI O) (nI N) (nI C) (upd (upd kd (24 + i) (mk i)) i (mk i)) (upd (upd pa (24 + i) (mp i)) i (mp i)) (upd (upd na (24 + i) (mn i)) i (mn i)) (upd (upd da (24 + i) (md i)) i (md i)) (upd (upd bi i 0) (24 + i) 0) (upd tk i (if mk i = 0 then 0 else 1)) ve fy mk mp mn md) : wY_reintegrate_92 psr J x1 (nI i) (nI O) (nI N) (nI C) kd pa na da bi tk ve fy mk mp mn md := by
  have c1 := nI_clamp (n := i) (by omega)
  have c2 := nI_clamp (n := 24 + i) (by omega)
  have i1 := ob_in (x := nI i) i 24 hi
  unfold wY_reintegrate_92
  rw [ob_24, c1, c2]
  refine And.intro i1 (And.intro i1 (And.intro i1 (And.intro i1 (y_put (by omega) (And.intro i1 (And.intro i1 (And.intro i1 (And.intro i1 (y_put (by omega) (And.intro (ob_in i 48 (by omega)) (nm_e (And.intro (ob_in (24 + i) 48 (by omega)) (nm_e (And.intro i1 (br_c (fun h => And.intro i1 (nm_r (e' := upd tk i (if mk i = 0 then 0 else 1)) ?_ (nm_r (nI_1 i) k))) (fun h => And.intro i1 (nm_r (e' := upd tk i (if mk i = 0 then 0 else 1)) ?_ (nm_r (nI_1 i) k))))))))))))))))))
  · rw [if_pos h, ob_nb0]
  · rw [if_neg h, ob_nb1]
theorem y_reint_l (k : psr (nI (cn (io fy) 24)) (nI O, nI N, nI C, yr fy 0 mk kd 24, yr fy (-1) mp pa 24, yr fy (-1) mn na 24, yr fy 0 md da 24, cz bi 24, yu mk tk 24, vk fy ve 24, fy, mk, mp, mn, md)) : ∀ d i, i + d = 24 → wY_reintegrate_8 psr (d + 1) (nI (cn (io fy) i)) (nI i) (nI O) (nI N) (nI C) (yr fy 0 mk kd i) (yr fy (-1) mp pa i) (yr fy (-1) mn na i) (yr fy 0 md da i) (cz bi i) (yu mk tk i) (vk fy ve i) fy mk mp mn md := by
  intro d
  induction d with
  | zero =>
    intro i hi
    have e : i = 24 := by omega
    subst e
    exact br_t (nI_le (a := 24) (by omega) (by omega)) k
  | succ d ih =>
    intro i hi
    have hi24 : i < 24 := by omega
    have c := nI_clamp (n := i) (by omega)
    have i1 := ob_in (x := nI i) i 24 hi24
    have i2 := ob_in (x := nI i) i 72 (by omega)
    have ih' := ih (i + 1) (by omega)
    have no : ∀ h : fy i = 0 ∨ fy i = 1, cn (io fy) (i + 1) = cn (io fy) i := fun h => by
      rw [cn_s]
      rcases h with h | h <;> simp [io, h]
    have yes : ∀ h : ¬ (fy i = 0 ∨ fy i = 1), cn (io fy) (i + 1) = cn (io fy) i + 1 := fun h => by
      have h0 : ¬ fy i = 0 := fun z => h (Or.inl z)
      have h1 : ¬ fy i = 1 := fun z => h (Or.inr z)
      rw [cn_s]
      simp [io, h0, h1]
    refine br_f (nI_ge (b := 24) (by omega) (by omega)) ?_
    rw [c, ob_48]
    refine And.intro i1 (And.intro i1 (nm_r vk_s (y_put (by omega) (And.intro i1 (br_c (fun h => y_r92 hi24 ?_) (fun h => And.intro i1 (br_c (fun h' => y_r92 hi24 ?_) (fun h' => nm_r (nI_1 _) (And.intro i2 (And.intro i2 (And.intro i2 (And.intro i2 (y_put (by omega) (y_r92 hi24 ?_))))))))))))))
    · rw [no (Or.inl h)] at ih'
      simp only [yr_a hi24 (Or.inl h), yu_s rfl, cz_s]
      exact ih'
    · rw [no (Or.inr h')] at ih'
      simp only [yr_a hi24 (Or.inr h'), yu_s rfl, cz_s]
      exact ih'
    · rw [yes (fun z => z.elim h h')] at ih'
      simp only [yr_b hi24 (fun z => z.elim h h'), yu_s rfl, cz_s]
      exact ih'
theorem y_reintegrate (H : Cx O N kd pa na da bi) (k : ∀ fy' mk mp mn md : Nat → Int32, Res kd pa na bi fy' → MG kd pa na da bi fy' mk mp mn md → psr (nI (cn (io fy') 24)) (nI O, nI N, nI C, yr fy' 0 mk kd 24, yr fy' (-1) mp pa 24, yr fy' (-1) mn na 24, yr fy' 0 md da 24, cz bi 24, yu mk tk 24, vk fy' ve 24, fy', mk, mp, mn, md)) : wpY_reintegrate psr (nI O, nI N, nI C, kd, pa, na, da, bi, tk, ve, fy, mk, mp, mn, md) := by
  unfold wpY_reintegrate
  refine y_judge H (fun fy' mk' mp' mn' md' hr hm => Exists.intro 25 ?_)
  have := y_reint_l (O := O) (N := N) (C := C) (k fy' mk' mp' mn' md' hr hm) 24 0 (by omega)
  simp only [yr_0, yu_0, cz_0, vk_0] at this
  exact this
end
/-! both results are the same arrays -/
section
variable {O N L : Nat} {kd pa na da bi li la fa fy a m : Nat → Int32} {c q : Int32}
theorem re_eq (H : Cx O N kd pa na da bi) (ho : okF kd bi fa) (hL : Lg bi li la L) (he : ∀ i, i < 24 → fy i = fa i) (hm : ∀ i, i < 24 → m i = mV c q a bi fa i) (hq : (8 : Int32) &&& q = 0) : cs (ld bi la fa q (kp fa c a 24) (lf bi la fa c (kp fa c a 24) L) L) 24 = yr fy c m a 24 := by
  have hLL := lg_L hL (cx_b0 H)
  have lo : ∀ j, j < 48 → kp fa c a 24 j = a j := fun j hj => by
    unfold kp
    rw [if_neg (by omega)]
  have main : ∀ i, i < 24 → ld bi la fa q (kp fa c a 24) (lf bi la fa c (kp fa c a 24) L) L (24 + i) = m i := fun i hi => by
    rw [hm i hi, ld_at hi, lf_at hi, dn_L hL hLL hi, lo i (by omega), lo (24 + i) (by omega)]
    by_cases h1 : fa i = 1
    · have hb0 : bi i ≠ 0 := fun e => absurd (h1.symm.trans ((ho i hi).1.mpr e)) (by decide)
      by_cases h8 : bi i = 8
      · rw [mv_8 h1 h8, if_neg (fun z => z.2.2 (by rw [h8]; exact hq)), if_pos ⟨by simp [hb0], h1, h8⟩]
      · by_cases hz : bi i &&& q = 0
        · rw [mv_s h1 h8 hz, if_neg (fun z => z.2.2 hz), if_neg (fun z => h8 z.2.2)]
        · rw [mv_c h1 h8 hz, if_pos ⟨by simp [hb0], h1, hz⟩]
    · rw [mv_n h1, if_neg (fun z => h1 z.2.1), if_neg (fun z => h1 z.2.1)]
  funext j
  unfold cs yr
  by_cases q1 : j < 24
  · rw [if_pos q1, if_pos q1, if_pos q1, main j q1]
  · rw [if_neg q1, if_neg q1]
    by_cases q2 : j < 48
    · rw [if_pos q2, if_pos (by omega)]
      obtain ⟨x, rfl⟩ : ∃ x, j = 24 + x := ⟨j - 24, by omega⟩
      rw [main x (by omega), Nat.add_sub_cancel_left]
    · rw [if_neg q2, ld_out (by omega), lf_out (by omega)]
      unfold kp
      by_cases q3 : j < 48 + 24
      · rw [if_pos q3, if_pos ⟨by omega, q3⟩, he (j - 48) (by omega)]
        rcases (ho (j - 48) (by omega)).2.2 with g | g | g | g | g <;> rw [g] <;> rfl
      · rw [if_neg q3, if_neg (by omega)]
end
end
section
/-! reintegrate: X's whole, and the facts of the state behind it -/
def ly (bi la fa : Nat → Int32) (L : Nat) (c q : Int32) (a : Nat → Int32) : Nat → Int32 := ld bi la fa q (kp fa c a 24) (lf bi la fa c (kp fa c a 24) L) L
theorem sm_z {f : Nat → Nat} : ∀ n, (∀ i, i < n → f i = 0) → sm f n = 0 := by
  intro n
  induction n with
  | zero => intro _; rfl
  | succ n ih =>
    intro h
    rw [sm_s, ih (fun i hi => h i (by omega)), h n (by omega)]
theorem tr_congr {o O N : Nat} {kd pa na kd' pa' na' : Nat → Int32} (h : Tr o O N kd pa na) (hE : ∀ z, z < 24 → (pa (o + z)).toNatClampNeg < 24) (e : ∀ i, i < 24 → kd' (o + i) = kd (o + i) ∧ pa' (o + i) = pa (o + i) ∧ na' (o + i) = na (o + i)) : Tr o O N kd' pa' na' := by
  refine ⟨?_, fun i h0 hi hk => ?_, fun i hi => ?_, fun i j i0 hi j0 hj ki kj e1 e2 => ?_, fun i hi => ?_⟩
  · obtain ⟨a, b, c⟩ := e 0 (by omega)
    rw [Nat.add_zero] at a b c
    rw [a, b, c]
    exact h.1
  · rw [(e i hi).1] at hk
    obtain ⟨q, p, n, hp, hn, e1, e2, e3⟩ := h.2.1 i h0 hi hk
    exact ⟨q, p, n, hp, hn, by rw [(e i hi).2.1]; exact e1, by rw [(e i hi).2.2]; exact e2, by rw [(e p hp).1]; exact e3⟩
  · rw [(e i hi).1]; exact h.2.2.1 i hi
  · rw [(e i hi).1] at ki
    rw [(e j hj).1] at kj
    rw [(e i hi).2.1, (e j hj).2.1] at e1
    rw [(e i hi).2.2, (e j hj).2.2] at e2
    exact h.2.2.2.1 i j i0 hi j0 hj ki kj e1 e2
  · obtain ⟨k, hk⟩ := h.2.2.2.2 i hi
    refine ⟨k, ?_⟩
    rw [(it_congr (f := pf o pa) (g := pf o pa') (fun z => z < 24) (fun z hz => ⟨by unfold pf; rw [(e z hz).2.1], hE z hz⟩) k i hi).1]
    exact hk
section
variable {O N L : Nat} {kd pa na da bi li la fa a kd' pa' na' : Nat → Int32} {c q : Int32}
theorem kp_lo {j : Nat} (hj : j < 48) : kp fa c a 24 j = a j := by
  unfold kp
  rw [if_neg (by omega)]
theorem kp_hi {x : Nat} (hx : x < 24) : kp fa c a 24 (48 + x) = if fa x ≤ 1 then c else a x := by
  unfold kp
  rw [if_pos ⟨by omega, by omega⟩, Nat.add_sub_cancel_left]
theorem cx_kp (H : Cx O N kd pa na da bi) : Cx O N (kp fa 0 kd 24) (kp fa (-1) pa 24) (kp fa (-1) na 24) (kp fa 0 da 24) bi := by
  refine ⟨H.1, tr_congr H.2.1 (fun z hz => cx_rl H (by omega)) (fun i hi => ⟨kp_lo (by omega), kp_lo (by omega), kp_lo (by omega)⟩), tr_congr H.2.2.1 (fun z hz => cx_rl H (by omega)) (fun i hi => ⟨kp_lo (by omega), kp_lo (by omega), kp_lo (by omega)⟩), fun m hm => ?_, H.2.2.2.2.1, H.2.2.2.2.2.1, H.2.2.2.2.2.2.1, fun i hi => ?_⟩
  · by_cases h : m < 48
    · rw [kp_lo h, kp_lo h, kp_lo h, kp_lo h]
      exact H.2.2.2.1 m hm
    · obtain ⟨x, rfl⟩ : ∃ x, m = 48 + x := ⟨m - 48, by omega⟩
      have hx24 : x < 24 := by omega
      rw [kp_hi hx24, kp_hi hx24, kp_hi hx24, kp_hi hx24]
      by_cases g : fa x ≤ 1
      · rw [if_pos g, if_pos g, if_pos g, if_pos g]
        exact ⟨fun _ => ⟨rfl, rfl⟩, fun _ => rfl⟩
      · rw [if_neg g, if_neg g, if_neg g, if_neg g]
        exact H.2.2.2.1 x (by omega)
  · rw [kp_lo (by omega), kp_lo (by omega)]
    exact H.2.2.2.2.2.2.2 i hi
theorem blk_arr (H : Cx O N kd pa na da bi) (e : ∀ j, j < 48 → kd' j = kd j ∧ pa' j = pa j ∧ na' j = na j) {F : Nat → Int32} {x : Nat} (hx : x < 24) (h : Blk kd' pa' na' bi F x) : Blk kd pa na bi F x := by
  obtain ⟨h1, ⟨h8, y, hy, k1, k2, k3⟩ | ⟨h3, hb⟩⟩ := h
  · rw [(e _ (by omega)).1] at k1
    rw [(e _ (by omega)).2.1] at k2
    exact ⟨h1, Or.inl ⟨h8, y, hy, k1, k2, k3⟩⟩
  · refine ⟨h1, Or.inr ⟨h3, ?_⟩⟩
    rcases hb with hb | ⟨y, hy, k0, k1, k2, k3, k4⟩
    · left
      rw [(e x (by omega)).2.1] at hb
      have := cx_rl H (m := x) (by omega)
      intro he
      refine hb ⟨he.1, fun z => ?_⟩
      rw [(e _ (by omega)).1]
      exact he.2 z
    · right
      rw [(e _ (by omega)).1] at k1
      rw [(e _ (by omega)).2.1, (e _ (by omega)).2.1] at k2
      rw [(e _ (by omega)).2.2, (e _ (by omega)).2.2] at k3
      exact ⟨y, hy, k0, k1, k2, k3, k4⟩
theorem ok_arr (e : ∀ j, j < 48 → kd' j = kd j) {F : Nat → Int32} (h : okF kd bi F) : okF kd' bi F := by
  intro i hi
  rw [e (24 + i) (by omega)]
  exact h i hi
theorem ly_at (H : Cx O N kd pa na da bi) (ho : okF kd bi fa) (hL : Lg bi li la L) (hq : (8 : Int32) &&& q = 0) {i : Nat} (hi : i < 24) : ly bi la fa L c q a (24 + i) = mV c q a bi fa i := by
  have hLL := lg_L hL (cx_b0 H)
  unfold ly
  rw [ld_at hi, lf_at hi, dn_L hL hLL hi, kp_lo (by omega), kp_lo (by omega)]
  by_cases h1 : fa i = 1
  · have hb0 : bi i ≠ 0 := fun e => absurd (h1.symm.trans ((ho i hi).1.mpr e)) (by decide)
    by_cases h8 : bi i = 8
    · rw [mv_8 h1 h8, if_neg (fun z => z.2.2 (by rw [h8]; exact hq)), if_pos ⟨by simp [hb0], h1, h8⟩]
    · by_cases hz : bi i &&& q = 0
      · rw [mv_s h1 h8 hz, if_neg (fun z => z.2.2 hz), if_neg (fun z => h8 z.2.2)]
      · rw [mv_c h1 h8 hz, if_pos ⟨by simp [hb0], h1, hz⟩]
  · rw [mv_n h1, if_neg (fun z => h1 z.2.1), if_neg (fun z => h1 z.2.1)]
theorem cs_lo {i : Nat} (hi : i < 24) : cs a 24 i = a (24 + i) := if_pos hi
theorem cs_up {j : Nat} (hj : 24 ≤ j) : cs a 24 j = a j := if_neg (by omega)
theorem cz_lo {j : Nat} (hj : j < 48) : cz a 24 j = 0 := if_pos (by omega)
theorem sl_move {o o' : Nat} {pr qr : Nat → Bool} {pa na sl cc pa' na' sl' cc' : Nat → Int32} (h : SL o pr pa na sl cc) (hp : ∀ i, i < 24 → qr i = pr i) (h1 : ∀ i, i < 24 → pa' (o' + i) = pa (o + i) ∧ na' (o' + i) = na (o + i)) (h2 : ∀ p n, p < 24 → n < 8 → sl' (8 * (o' + p) + n) = sl (8 * (o + p) + n)) (h3 : ∀ p, p < 24 → cc' (o' + p) = cc (o + p)) : SL o' qr pa' na' sl' cc' := by
  refine ⟨fun i hi hq => ?_, fun p n hp' hn => ?_, fun p hp' => ?_, ?_⟩
  · rw [hp i hi] at hq
    obtain ⟨p, n, a, b, c, d, e⟩ := h.1 i hi hq
    exact ⟨p, n, a, b, by rw [(h1 i hi).1]; exact c, by rw [(h1 i hi).2]; exact d, by rw [h2 p n a b]; exact e⟩
  · rw [h2 p n hp' hn]
    rcases h.2.1 p n hp' hn with g | ⟨i, a, b, c, d, e⟩
    · exact Or.inl g
    · exact Or.inr ⟨i, a, by rw [hp i a]; exact b, c, by rw [(h1 i a).1]; exact d, by rw [(h1 i a).2]; exact e⟩
  · rw [h3 p hp', h.2.2.1 p hp']
    refine congrArg nI (cn_congr 24 (fun i hi => ?_))
    show (pr i && decide (pa (o + i) = nI p)) = (qr i && decide (pa' (o' + i) = nI p))
    rw [hp i hi, (h1 i hi).1]
  · rw [hp 0 (by omega)]; exact h.2.2.2
theorem re_inv (H : Cx O N kd pa na da bi) (hL : Lg bi li la L) (hr : Res kd pa na bi fa) {sl cc tk : Nat → Int32} (hS : SL 24 (prd (kp fa 0 kd 24) bi la fa L L) (ly bi la fa L (-1) 3 pa) (ly bi la fa L (-1) 3 na) sl cc) : Inv O N 0 (cs (ly bi la fa L 0 1 kd) 24) (cs (ly bi la fa L (-1) 3 pa) 24) (cs (ly bi la fa L (-1) 3 na) 24) (cs (ly bi la fa L 0 5 da) 24) (c8 sl 192) (cs cc 24) (cz bi 24) (ct (ly bi la fa L 0 1 kd) tk 24) li (cl0 la 24) 0 := by
  obtain ⟨hc, hl, ho⟩ := res_fin H hr
  have hLL := lg_L hL (cx_b0 H)
  have a0 : ∀ i, i < 24 → cs (ly bi la fa L 0 1 kd) 24 i = mV 0 1 kd bi fa i := fun i hi => by
    rw [cs_lo hi]; exact ly_at H ho hL (by decide) hi
  have a1 : ∀ i, i < 24 → cs (ly bi la fa L 0 1 kd) 24 (24 + i) = mV 0 1 kd bi fa i := fun i hi => by
    rw [cs_up (by omega)]; exact ly_at H ho hL (by decide) hi
  have b0 : ∀ i, i < 24 → cs (ly bi la fa L (-1) 3 pa) 24 i = mV (-1) 3 pa bi fa i := fun i hi => by
    rw [cs_lo hi]; exact ly_at H ho hL (by decide) hi
  have b1 : ∀ i, i < 24 → cs (ly bi la fa L (-1) 3 pa) 24 (24 + i) = mV (-1) 3 pa bi fa i := fun i hi => by
    rw [cs_up (by omega)]; exact ly_at H ho hL (by decide) hi
  have d0 : ∀ i, i < 24 → cs (ly bi la fa L (-1) 3 na) 24 i = mV (-1) 3 na bi fa i := fun i hi => by
    rw [cs_lo hi]; exact ly_at H ho hL (by decide) hi
  have d1 : ∀ i, i < 24 → cs (ly bi la fa L (-1) 3 na) 24 (24 + i) = mV (-1) 3 na bi fa i := fun i hi => by
    rw [cs_up (by omega)]; exact ly_at H ho hL (by decide) hi
  have f0 : ∀ i, i < 24 → cs (ly bi la fa L 0 5 da) 24 i = mV 0 5 da bi fa i := fun i hi => by
    rw [cs_lo hi]; exact ly_at H ho hL (by decide) hi
  have f1 : ∀ i, i < 24 → cs (ly bi la fa L 0 5 da) 24 (24 + i) = mV 0 5 da bi fa i := fun i hi => by
    rw [cs_up (by omega)]; exact ly_at H ho hL (by decide) hi
  have up : ∀ (c q : Int32) (a : Nat → Int32) x, x < 24 → cs (ly bi la fa L c q a) 24 (48 + x) = if fa x ≤ 1 then c else a x := fun c q a x hx => by
    rw [cs_up (by omega)]
    unfold ly
    rw [ld_out (by omega), lf_out (by omega)]
    exact kp_hi hx
  have hpr : ∀ i, i < 24 → (prd (kp fa 0 kd 24) bi la fa L L i = true ↔ (i ≠ 0 ∧ mV 0 1 kd bi fa i ≠ 0)) := fun i hi => by
    rw [← mg_pr H ho hi]
    unfold prd prl
    rw [dn_L hL hLL hi]
    simp only [xs, kp_lo (a := kd) (fa := fa) (c := 0) (j := 24 + i) (by omega), Bool.or_eq_true, Bool.and_eq_true, decide_eq_true_eq, Bool.not_eq_true', Bool.and_eq_false_iff, decide_eq_false_iff_not]
    constructor
    · rintro (⟨⟨z1, z2⟩, z3⟩ | ⟨⟨z1, z2⟩, z3⟩)
      · refine Or.inl ⟨z1, z2, fun w1 => ?_⟩
        have wb : bi i ≠ 0 := fun e => absurd (w1.symm.trans ((ho i hi).1.mpr e)) (by decide)
        rcases z3 with (z | z) | z
        · exact absurd wb z
        · exact absurd w1 z
        · exact Classical.byContradiction z
      · exact Or.inr ⟨z2, z3⟩
    · rintro (⟨z1, z2, z3⟩ | ⟨z2, z3⟩)
      · refine Or.inl ⟨⟨z1, z2⟩, ?_⟩
        by_cases w1 : fa i = 1
        · exact Or.inr (fun w => w (z3 w1))
        · exact Or.inl (Or.inr w1)
      · have wb : bi i ≠ 0 := fun e => absurd (z2.symm.trans ((ho i hi).1.mpr e)) (by decide)
        exact Or.inr ⟨⟨wb, z2⟩, z3⟩
  have hx : ∀ o, (∀ i, i < 24 → cs (ly bi la fa L 0 1 kd) 24 (o + i) = mV 0 1 kd bi fa i) → ∀ i, i < 24 → xs o (cs (ly bi la fa L 0 1 kd) 24) i = prd (kp fa 0 kd 24) bi la fa L L i := fun o ho' i hi => by
    have e1 : xs o (cs (ly bi la fa L 0 1 kd) 24) i = true ↔ (i ≠ 0 ∧ mV 0 1 kd bi fa i ≠ 0) := by
      unfold xs
      rw [ho' i hi, Bool.and_eq_true, decide_eq_true_eq, decide_eq_true_eq]
    exact Bool.eq_iff_iff.mpr (e1.trans (hpr i hi).symm)
  refine ⟨⟨H.1, mg_tr H ho hc hl (fun i hi => ⟨by rw [Nat.zero_add]; exact a0 i hi, by rw [Nat.zero_add]; exact b0 i hi, by rw [Nat.zero_add]; exact d0 i hi⟩), mg_tr H ho hc hl (fun i hi => ⟨a1 i hi, b1 i hi, d1 i hi⟩), fun m hm => ?_, ?_⟩, ?_, ?_, fun i hi ht => ?_, ?_, ?_⟩
  · by_cases m1 : m < 24
    · rw [a0 m m1, b0 m m1, d0 m m1, f0 m m1]
      exact ⟨fun w => mg_no H ho m1 w, fun w => mg_da H ho m1 w⟩
    · by_cases m2 : m < 48
      · obtain ⟨x, rfl⟩ : ∃ x, m = 24 + x := ⟨m - 24, by omega⟩
        have hx24 : x < 24 := by omega
        rw [a1 x hx24, b1 x hx24, d1 x hx24, f1 x hx24]
        exact ⟨fun w => mg_no H ho hx24 w, fun w => mg_da H ho hx24 w⟩
      · obtain ⟨x, rfl⟩ : ∃ x, m = 48 + x := ⟨m - 48, by omega⟩
        have hx24 : x < 24 := by omega
        rw [up _ _ _ x hx24, up _ _ _ x hx24, up _ _ _ x hx24, up _ _ _ x hx24]
        by_cases g : fa x ≤ 1
        · rw [if_pos g, if_pos g, if_pos g, if_pos g]
          exact ⟨fun _ => ⟨rfl, rfl⟩, fun _ => rfl⟩
        · rw [if_neg g, if_neg g, if_neg g, if_neg g]
          exact H.2.2.2.1 x (by omega)
  · refine ⟨fun i hi => ?_, cz_lo (by omega), cz_lo (by omega), fun i hi => ?_⟩
    · rw [cz_lo hi]; exact Or.inl rfl
    · rw [cz_lo (j := i) (by omega), cz_lo (j := 24 + i) (by omega), a0 i hi, a1 i hi]
      refine ⟨fun w => absurd w (by decide), fun w => absurd w (by decide), fun _ => by decide, fun _ => by decide, fun w => absurd rfl w, fun w => absurd rfl w, fun w1 _ w2 => absurd w2 w1, fun _ _ => rfl⟩
  · refine sl_move hS (hx 0 (fun i hi => by rw [Nat.zero_add]; exact a0 i hi)) (fun i hi => ⟨by rw [Nat.zero_add, cs_lo hi], by rw [Nat.zero_add, cs_lo hi]⟩) (fun p n hp hn => ?_) (fun p hp => by rw [Nat.zero_add, cs_lo hp])
    unfold c8
    rw [if_pos (by omega)]
    congr 1
    omega
  · refine sl_move hS (hx 24 a1) (fun i hi => ⟨cs_up (by omega), cs_up (by omega)⟩) (fun p n hp hn => ?_) (fun p hp => cs_up (by omega))
    unfold c8
    rw [if_neg (by omega)]
  · have ht' : (if ly bi la fa L 0 1 kd (24 + i) = 0 then (0 : Int32) else 1) = 0 := by
      rw [ct, if_pos hi] at ht
      exact ht
    have hk : ly bi la fa L 0 1 kd (24 + i) = 0 := Classical.byContradiction fun w => by
      rw [if_neg w] at ht'
      exact absurd ht' (by decide)
    refine ⟨?_, ?_, cz_lo (by omega), cz_lo (by omega)⟩
    · rw [cs_lo hi]; exact hk
    · rw [cs_up (by omega)]; exact hk
  · refine ⟨(cn_z 24 (fun i hi => ?_)).symm, fun j hj => absurd hj (Nat.not_lt_zero _), fun i hi hb => absurd (cz_lo (by omega)) hb⟩
    rw [cz_lo (by omega)]
    rfl
  · rw [sm_z 24 (fun i hi => ?_)]
    · rfl
    · rw [cz_lo (by omega)]
      rfl
end
section
variable {O N C L : Nat} {pb qh qt pl : Int32} {kd pa na da sl cc bi tk ve li la fa qu wm ol : Nat → Int32} {psr : Int32 → SX → Prop}
theorem x_keep {pst : SX → Prop} (k : pst (nI O, nI N, nI C, nI L, pb, qh, qt, pl, kp fa 0 kd 24, kp fa (-1) pa 24, kp fa (-1) na 24, kp fa 0 da 24, sl, cc, bi, tk, vk fa ve 24, li, la, fa, qu, wm, ol)) : wpX_keepIsolated pst (nI O, nI N, nI C, nI L, pb, qh, qt, pl, kd, pa, na, da, sl, cc, bi, tk, ve, li, la, fa, qu, wm, ol) := by
  refine Exists.intro 25 ?_
  have := x_keep_l (O := O) (N := N) (C := C) (L := L) (pb := pb) (qh := qh) (qt := qt) (pl := pl) (kd := kd) (pa := pa) (na := na) (da := da) (sl := sl) (cc := cc) (bi := bi) (tk := tk) (ve := ve) (li := li) (la := la) (fa := fa) (qu := qu) (wm := wm) (ol := ol) k 24 0 (by omega)
  simp only [kp_0, vk_0] at this
  exact this
theorem x_lift {pst : SX → Prop} (H : Cx O N kd pa na da bi) (hL : Lg bi li la L) (hS : SL 24 (xs 24 kd) pa na sl cc) (k : ∀ sl cc : Nat → Int32, SL 24 (prl kd bi la fa L) pa na sl cc → pst (nI O, nI N, nI C, nI L, pb, qh, qt, pl, lf bi la fa 0 kd L, lf bi la fa (-1) pa L, lf bi la fa (-1) na L, lf bi la fa 0 da L, sl, cc, bi, tk, ve, li, la, fa, qu, wm, ol)) : wpX_liftLandedWork pst (nI O, nI N, nI C, nI L, pb, qh, qt, pl, kd, pa, na, da, sl, cc, bi, tk, ve, li, la, fa, qu, wm, ol) := by
  have hLL := lg_L hL (cx_b0 H)
  have hd0 : ∀ i, i < 24 → dn bi la 0 i = false := fun i hi => dn_0 hL hLL hi
  refine Exists.intro (L + 1) ?_
  have := x_lift_l (O := O) (N := N) (C := C) (L := L) (pb := pb) (qh := qh) (qt := qt) (pl := pl) (kd := kd) (pa := pa) (na := na) (da := da) (bi := bi) (tk := tk) (ve := ve) (li := li) (la := la) (fa := fa) (qu := qu) (wm := wm) (ol := ol) H hL k L 0 sl cc (by omega) (sl_congr hS (fun i hi => by unfold prl; rw [hd0 i hi]; simp) (fun i _ _ => ⟨rfl, rfl⟩) (fun p n _ _ => rfl) (fun p _ => rfl))
  simp only [lf_0 hd0] at this
  exact this
theorem x_landW {pst : SX → Prop} {kd1 pa1 na1 da1 : Nat → Int32} (H : Cx O N kd pa na da bi) (hL : Lg bi li la L) (ho : okF kd bi fa) (hc : ∀ x, x < 24 → ¬ Blk kd pa na bi fa x) (e1 : kd1 = lf bi la fa 0 kd L) (e2 : pa1 = lf bi la fa (-1) pa L) (e3 : na1 = lf bi la fa (-1) na L) (e4 : da1 = lf bi la fa 0 da L) (hS : SL 24 (prl kd bi la fa L) pa na sl cc) (k : ∀ sl cc : Nat → Int32, SL 24 (prd kd bi la fa L L) (ld bi la fa 3 pa (lf bi la fa (-1) pa L) L) (ld bi la fa 3 na (lf bi la fa (-1) na L) L) sl cc → pst (nI O, nI N, nI C, nI L, pb, qh, qt, pl, ld bi la fa 1 kd (lf bi la fa 0 kd L) L, ld bi la fa 3 pa (lf bi la fa (-1) pa L) L, ld bi la fa 3 na (lf bi la fa (-1) na L) L, ld bi la fa 5 da (lf bi la fa 0 da L) L, sl, cc, bi, tk, ve, li, la, fa, qu, wm, ol)) : wpX_landWork pst (nI O, nI N, nI C, nI L, pb, qh, qt, pl, kd1, pa1, na1, da1, sl, cc, bi, tk, ve, li, la, fa, qu, wm, ol) := by
  have hLL := lg_L hL (cx_b0 H)
  have hd0 : ∀ i, i < 24 → dn bi la 0 i = false := fun i hi => dn_0 hL hLL hi
  refine Exists.intro (L + 1) ?_
  subst e1 e2 e3 e4
  have := x_land_l (O := O) (N := N) (C := C) (L := L) (pb := pb) (qh := qh) (qt := qt) (pl := pl) (kd := kd) (pa := pa) (na := na) (da := da) (bi := bi) (tk := tk) (ve := ve) (li := li) (la := la) (fa := fa) (qu := qu) (wm := wm) (ol := ol) H hL ho hc k L 0 sl cc (by omega) (by
    rw [ld_0 hd0, ld_0 hd0]
    refine sl_congr hS (fun i hi => by unfold prd; rw [hd0 i hi]; simp) (fun i hi hp => ?_) (fun p n _ _ => rfl) (fun p _ => rfl)
    have h8 : ¬ (dn bi la L i = true ∧ fa i = 1 ∧ bi i = 8) := fun w => by
      have w10 : bi i &&& 10 ≠ 0 := by rw [w.2.2]; decide
      simp [prl, w.1, w.2.1, w10] at hp
    rw [lf_at hi, lf_at hi, if_neg h8, if_neg h8]
    exact ⟨rfl, rfl⟩)
  simp only [ld_0 hd0] at this
  exact this
theorem x_copy {pst : SX → Prop} (k : pst (nI O, nI N, nI C, 0, 0, qh, qt, 0, cs kd 24, cs pa 24, cs na 24, cs da 24, c8 sl 192, cs cc 24, cz bi 24, ct kd tk 24, ve, li, cl0 la 24, fa, qu, wm, ol)) : wpX_copyServerToClient pst (nI O, nI N, nI C, nI L, pb, qh, qt, pl, kd, pa, na, da, sl, cc, bi, tk, ve, li, la, fa, qu, wm, ol) := by
  refine Exists.intro 25 ?_
  have := x_copy_l (O := O) (N := N) (C := C) (L := L) (pb := pb) (qh := qh) (qt := qt) (pl := pl) (kd := kd) (pa := pa) (na := na) (da := da) (sl := sl) (cc := cc) (bi := bi) (tk := tk) (ve := ve) (li := li) (la := la) (fa := fa) (qu := qu) (wm := wm) (ol := ol) k 24 0 (by omega)
  simp only [cs_0, cz_0, ct_0, cl_0] at this
  exact this
theorem x_reintegrate (I : Inv O N L kd pa na da sl cc bi tk li la pb) (hc : pl = 0 ∨ (Res kd pa na bi fa ∧ qt = nI (cn (io fa) 24))) (k : ∀ (fa qu wm ol sl cc : Nat → Int32) (qh qt : Int32), Res kd pa na bi fa → Inv O N 0 (cs (ly bi la fa L 0 1 kd) 24) (cs (ly bi la fa L (-1) 3 pa) 24) (cs (ly bi la fa L (-1) 3 na) 24) (cs (ly bi la fa L 0 5 da) 24) (c8 sl 192) (cs cc 24) (cz bi 24) (ct (ly bi la fa L 0 1 kd) tk 24) li (cl0 la 24) 0 → psr (nI (cn (io fa) 24)) (nI O, nI N, nI C, 0, 0, qh, qt, 0, cs (ly bi la fa L 0 1 kd) 24, cs (ly bi la fa L (-1) 3 pa) 24, cs (ly bi la fa L (-1) 3 na) 24, cs (ly bi la fa L 0 5 da) 24, c8 sl 192, cs cc 24, cz bi 24, ct (ly bi la fa L 0 1 kd) tk 24, vk fa ve 24, li, cl0 la 24, fa, qu, wm, ol)) : wpX_reintegrate psr (nI O, nI N, nI C, nI L, pb, qh, qt, pl, kd, pa, na, da, sl, cc, bi, tk, ve, li, la, fa, qu, wm, ol) := by
  obtain ⟨H, S0, S1, hT, hL, hpb⟩ := I
  have hLL := lg_L hL (cx_b0 H)
  unfold wpX_reintegrate
  refine x_plan H hL S1 S0 hc (fun fa qu wm ol qh qt pl hr hq => ?_)
  obtain ⟨hcl, hlp, ho⟩ := res_fin H hr
  have H1 := cx_kp (fa := fa) H
  have hd0 : ∀ i, i < 24 → dn bi la 0 i = false := fun i hi => dn_0 hL hLL hi
  have kpx : ∀ i, i < 24 → xs 24 (kp fa 0 kd 24) i = xs 24 kd i := fun i hi => by
    unfold xs
    rw [kp_lo (by omega)]
  refine x_keep (x_lift H1 hL (sl_congr S1 kpx (fun i hi _ => ⟨kp_lo (by omega), kp_lo (by omega)⟩) (fun p n _ _ => rfl) (fun p _ => rfl)) (fun sl1 cc1 hS1 => x_landW H1 hL (ok_arr (fun j hj => kp_lo hj) ho) (fun x hx hb => hcl x hx (blk_arr H (fun j hj => ⟨kp_lo hj, kp_lo hj, kp_lo hj⟩) hx hb)) rfl rfl rfl rfl hS1 (fun sl2 cc2 hS2 => x_copy ?_)))
  subst hq
  exact k fa qu wm ol sl2 cc2 qh _ hr (re_inv H hL hr hS2)
end
end
section
/-! the calls that change one entry: the facts last -/
section
variable {o O N i p n : Nat} {kd pa na da bi tk sl cc : Nat → Int32} {kv : Int32}
theorem pf_lt (h : Tr o O N kd pa na) (hE : ∀ z, z < 24 → (pa (o + z)).toNatClampNeg < 24) : ∀ z, z < 24 → pf o pa z < 24 := hE
theorem pf_0 (h : Tr o O N kd pa na) : pf o pa 0 = 0 := by
  unfold pf
  rw [Nat.add_zero, h.1.2.1, ob_m1]
theorem tr_put (h : Tr o O N kd pa na) (hi0 : i ≠ 0) (hi : i < 24) (hiO : i < O) (hp : p < 24) (hn : n < N) (hkp : kd (o + p) = 1) (hkv : kv = 1 ∨ kv = 2) (hfree : ∀ j, j < 24 → j ≠ 0 → j ≠ i → kd (o + j) ≠ 0 → pa (o + j) = nI p → na (o + j) = nI n → False) (hac : ∀ k, it (pf o pa) k p ≠ i) (hch : ∀ j, j < 24 → j ≠ 0 → kd (o + j) ≠ 0 → pa (o + j) = nI i → kv = 1) : Tr o O N (upd kd (o + i) kv) (upd pa (o + i) (nI p)) (upd na (o + i) (nI n)) := by
  have hpi : p ≠ i := hac 0
  refine ⟨?_, fun j j0 hj hk => ?_, fun j hj => ?_, fun a b a0 ha b0 hb ka kb e1 e2 => ?_, fun j hj => ?_⟩
  · rw [ob_un (by omega), ob_un (by omega), ob_un (by omega)]
    exact h.1
  · by_cases e : j = i
    · subst e
      exact ⟨hiO, p, n, hp, hn, ob_us, ob_us, by rw [ob_un (by omega)]; exact hkp⟩
    · rw [ob_un (by omega)] at hk
      obtain ⟨q, p', n', hp', hn', e1, e2, e3⟩ := h.2.1 j j0 hj hk
      refine ⟨q, p', n', hp', hn', by rw [ob_un (by omega)]; exact e1, by rw [ob_un (by omega)]; exact e2, ?_⟩
      by_cases e' : p' = i
      · subst e'
        rw [ob_us]
        exact hch j hj j0 hk e1
      · rw [ob_un (by omega)]; exact e3
  · by_cases e : j = i
    · subst e
      rw [ob_us]
      exact Or.inr hkv
    · rw [ob_un (by omega)]; exact h.2.2.1 j hj
  · by_cases ea : a = i
    · by_cases eb : b = i
      · rw [ea, eb]
      · exfalso
        subst ea
        rw [ob_un (by omega)] at kb
        rw [ob_us, ob_un (by omega)] at e1 e2
        exact hfree b hb b0 eb kb e1.symm e2.symm
    · by_cases eb : b = i
      · exfalso
        subst eb
        rw [ob_un (by omega)] at ka
        rw [ob_us, ob_un (by omega)] at e1 e2
        exact hfree a ha a0 ea ka e1 e2
      · rw [ob_un (by omega)] at ka kb
        rw [ob_un (by omega), ob_un (by omega)] at e1 e2
        exact h.2.2.2.1 a b a0 ha b0 hb ka kb e1 e2
  · obtain ⟨k, hk⟩ := h.2.2.2.2 j hj
    refine it_upd (f := pf o pa) (i := i) (p := p) hac (fun z hz => ?_) ?_ (h.2.2.2.2 p hp) k j hk
    · unfold pf
      rw [ob_un (by omega)]
    · unfold pf
      rw [ob_us, nI_clamp (by omega)]
theorem tr_del (h : Tr o O N kd pa na) (hi0 : i ≠ 0) (hi : i < 24) (hch : ∀ j, j < 24 → j ≠ 0 → kd (o + j) ≠ 0 → pa (o + j) = nI i → False) : Tr o O N (upd kd (o + i) 0) (upd pa (o + i) (-1)) (upd na (o + i) (-1)) := by
  refine ⟨?_, fun j j0 hj hk => ?_, fun j hj => ?_, fun a b a0 ha b0 hb ka kb e1 e2 => ?_, fun j hj => ?_⟩
  · rw [ob_un (by omega), ob_un (by omega), ob_un (by omega)]
    exact h.1
  · have e : j ≠ i := fun e => hk (by rw [e, ob_us])
    rw [ob_un (by omega)] at hk
    obtain ⟨q, p', n', hp', hn', e1, e2, e3⟩ := h.2.1 j j0 hj hk
    refine ⟨q, p', n', hp', hn', by rw [ob_un (by omega)]; exact e1, by rw [ob_un (by omega)]; exact e2, ?_⟩
    have e' : p' ≠ i := fun e' => hch j hj j0 hk (e' ▸ e1)
    rw [ob_un (by omega)]; exact e3
  · by_cases e : j = i
    · subst e
      rw [ob_us]
      exact Or.inl rfl
    · rw [ob_un (by omega)]; exact h.2.2.1 j hj
  · have ea : a ≠ i := fun e => ka (by rw [e, ob_us])
    have eb : b ≠ i := fun e => kb (by rw [e, ob_us])
    rw [ob_un (by omega)] at ka kb
    rw [ob_un (by omega), ob_un (by omega)] at e1 e2
    exact h.2.2.2.1 a b a0 ha b0 hb ka kb e1 e2
  · obtain ⟨k, hk⟩ := h.2.2.2.2 j hj
    refine it_upd (f := pf o pa) (i := i) (p := 0) (fun k e => hi0 ?_) (fun z hz => ?_) ?_ ⟨0, rfl⟩ k j hk
    · rw [it_z (pf_0 h)] at e; exact e.symm
    · unfold pf
      rw [ob_un (by omega)]
    · unfold pf
      rw [ob_us, ob_m1]
/-- the clauses of one id's kinds and bits -/
def Bc (k0 k1 b0 b1 : Int32) : Prop :=
  (b0 = 1 → k0 ≠ 0 ∧ k1 = 0 ∧ b1 = 0) ∧ (b1 = 1 → k1 ≠ 0 ∧ k0 = 0 ∧ b0 = 0) ∧ (k0 ≠ 0 → b0 ≠ 8) ∧ (k1 ≠ 0 → b1 ≠ 8) ∧
  (b0 ≠ 0 → b0 ≠ 8 → k0 ≠ 0) ∧ (b1 ≠ 0 → b1 ≠ 8 → k1 ≠ 0) ∧ (k0 ≠ 0 → b0 ≠ 1 → k1 = 0 → b1 = 8) ∧ (k0 ≠ 0 → k1 ≠ 0 → k0 = k1)
theorem bt_upd {s : Nat} {v w : Int32} (h : Bt kd bi) (hs : s < 2) (hi0 : i ≠ 0) (hi : i < 24) (hw : vb w) (hx : (s = 0 → Bc v (kd (24 + i)) w (bi (24 + i))) ∧ (s = 1 → Bc (kd i) v (bi i) w)) : Bt (upd kd (24 * s + i) v) (upd bi (24 * s + i) w) := by
  refine ⟨fun j hj => ?_, by rw [ob_un (by omega)]; exact h.2.1, by rw [ob_un (by omega)]; exact h.2.2.1, fun j hj => ?_⟩
  · by_cases e : j = 24 * s + i
    · rw [e, ob_us]; exact hw
    · rw [ob_un e]; exact h.1 j hj
  · show Bc (upd kd (24 * s + i) v j) (upd kd (24 * s + i) v (24 + j)) (upd bi (24 * s + i) w j) (upd bi (24 * s + i) w (24 + j))
    by_cases e : j = i
    · subst e
      by_cases hs0 : s = 0
      · subst hs0
        rw [Nat.mul_zero, Nat.zero_add, ob_us, ob_us, ob_un (by omega), ob_un (by omega)]
        exact hx.1 rfl
      · have hs1 : s = 1 := by omega
        subst hs1
        rw [Nat.mul_one, ob_us, ob_us, ob_un (by omega), ob_un (by omega)]
        exact hx.2 rfl
    · rw [ob_un (by omega), ob_un (by omega), ob_un (by omega), ob_un (by omega)]
      exact h.2.2.2 j hj
theorem tk_upd {s : Nat} {v w : Int32} (h : Tk kd bi tk) (hs : s < 2) (hi : i < 24) (ht : tk i ≠ 0) : Tk (upd kd (24 * s + i) v) (upd bi (24 * s + i) w) tk := by
  intro j hj h0
  have e : j ≠ i := fun e => ht (e ▸ h0)
  rw [ob_un (by omega), ob_un (by omega), ob_un (by omega), ob_un (by omega)]
  exact h j hj h0
theorem cx_tr (H : Cx O N kd pa na da bi) {s : Nat} (hs : s < 2) : Tr (24 * s) O N kd pa na := by
  by_cases h : s = 0
  · subst h; exact H.2.1
  · have h1 : s = 1 := by omega
    subst h1; exact H.2.2.1
theorem cx_of (hO : 8 ≤ O ∧ O ≤ 24 ∧ 2 ≤ N ∧ N ≤ 8) (hT : ∀ s, s < 2 → Tr (24 * s) O N kd pa na) (hE : Eb kd pa na da) (hB : Bt kd bi) : Cx O N kd pa na da bi := ⟨hO, hT 0 (by omega), hT 1 (by omega), hE, hB⟩
theorem up_eq (a : Nat → Int32) (k : Nat) : upd a k (a k) = a := by
  funext j
  by_cases e : j = k
  · subst e; exact ob_us
  · exact ob_un e
end
section
variable {O N L : Nat} {kd pa na da sl cc bi tk li la : Nat → Int32} {pb : Int32}
theorem iv_sl (I : Inv O N L kd pa na da sl cc bi tk li la pb) {s : Nat} (hs : s < 2) : SL (24 * s) (xs (24 * s) kd) pa na sl cc := by
  by_cases h : s = 0
  · subst h; exact I.2.1
  · have h1 : s = 1 := by omega
    subst h1; exact I.2.2.1
theorem iv_rl (I : Inv O N L kd pa na da sl cc bi tk li la pb) {s : Nat} (hs : s < 2) : ∀ z, z < 24 → (pa (24 * s + z)).toNatClampNeg < 24 := fun z hz => cx_rl I.1 (by omega)
/-- a new entry -/
theorem iv_make (I : Inv O N L kd pa na da sl cc bi tk li la pb) {s i p n L' : Nat} {kv pb' : Int32} {li' la' : Nat → Int32} (hs : s < 2) (hi0 : i ≠ 0) (hi : i < O) (hp : p < O) (hn : n < N) (hkp : kd (24 * s + p) = 1) (hkv : kv = 1 ∨ kv = 2) (ht : tk i = 0) (hfree : ∀ j, j < 24 → xs (24 * s) kd j = true → pa (24 * s + j) = nI p → na (24 * s + j) = nI n → False) (hL : Lg (upd bi (24 * s + i) 1) li' la' L') (hpb : pb' = nI (sm (fun j => pc (upd bi (24 * s + i) 1 j)) 24)) : Inv O N L' (upd kd (24 * s + i) kv) (upd pa (24 * s + i) (nI p)) (upd na (24 * s + i) (nI n)) (upd da (24 * s + i) 0) (upd sl (8 * (24 * s + p) + n) (nI i)) (upd cc (24 * s + p) (cc (24 * s + p) + 1)) (upd bi (24 * s + i) 1) (upd tk i (vp_nar .boolean 1)) li' la' pb' := by
  have hO := I.1.1
  have hi24 : i < 24 := by omega
  obtain ⟨z1, z2, z3, z4⟩ := I.2.2.2.1 i hi24 ht
  have hk0 : kd (24 * s + i) = 0 := by
    by_cases h : s = 0
    · subst h; rw [Nat.mul_zero, Nat.zero_add]; exact z1
    · have h1 : s = 1 := by omega
      subst h1; exact z2
  have hkv0 : kv ≠ 0 := by rcases hkv with h | h <;> rw [h] <;> decide
  have hT := cx_tr I.1 hs
  have hS := iv_sl I hs
  have hac : ∀ k, it (pf (24 * s) pa) k p ≠ i := fun k e => by
    have : ∀ k, it (pf (24 * s) pa) k p < 24 ∧ kd (24 * s + it (pf (24 * s) pa) k p) = 1 := by
      intro k
      induction k with
      | zero => exact ⟨by show p < 24; omega, hkp⟩
      | succ k ih =>
        rw [it_s']
        by_cases z0 : it (pf (24 * s) pa) k p = 0
        · rw [z0, pf_0 hT]
          exact ⟨by omega, hT.1.1⟩
        · obtain ⟨_, p', n', hp', _, e1, _, e3⟩ := hT.2.1 _ z0 ih.1 (by rw [ih.2]; decide)
          have : pf (24 * s) pa (it (pf (24 * s) pa) k p) = p' := by
            unfold pf at *
            rw [e1, nI_clamp (by omega)]
          rw [this]
          exact ⟨hp', e3⟩
    have h1 := (this k).2
    rw [e, hk0] at h1
    exact absurd h1 (by decide)
  have hSL : ∀ t, t < 2 → SL (24 * t) (xs (24 * t) (upd kd (24 * s + i) kv)) (upd pa (24 * s + i) (nI p)) (upd na (24 * s + i) (nI n)) (upd sl (8 * (24 * s + p) + n) (nI i)) (upd cc (24 * s + p) (cc (24 * s + p) + 1)) := fun t ht' => by
    by_cases e : t = s
    · subst e
      refine sl_in hS hi24 hi0 ?_ (by omega) (by omega) hfree (fun j hj => ?_)
      · simp [xs, hk0]
      · unfold xs
        by_cases e : j = i
        · subst e; rw [ob_us]; simp [hi0, hkv0]
        · rw [ob_un (by omega)]; simp [e]
    · refine sl_congr (iv_sl I ht') (fun j hj => ?_) (fun j hj _ => ⟨ob_un (by omega), ob_un (by omega)⟩) (fun p' n' hp' hn' => ob_un (by omega)) (fun p' hp' => ob_un (by omega))
      unfold xs
      rw [ob_un (by omega)]
  refine ⟨cx_of I.1.1 (fun t ht' => ?_) (fun m hm => ?_) (bt_upd I.1.2.2.2.2 hs hi0 hi24 (Or.inr (Or.inl rfl)) ⟨fun e => ?_, fun e => ?_⟩), hSL 0 (by omega), hSL 1 (by omega), fun j hj h0 => ?_, hL, hpb⟩
  · by_cases e : t = s
    · subst e
      refine tr_put hT hi0 hi24 hi (by omega) hn hkp hkv (fun j hj j0 ji hk e1 e2 => hfree j hj (xs_t j0 hk) e1 e2) hac (fun j hj j0 hk e1 => ?_)
      obtain ⟨_, p', n', hp', _, q1, _, q3⟩ := hT.2.1 j j0 hj hk
      have := ob_inj (q1.symm.trans e1) (by omega) (by omega)
      subst this
      rw [hk0] at q3
      exact absurd q3 (by decide)
    · exact tr_congr (cx_tr I.1 ht') (iv_rl I ht') (fun j hj => ⟨ob_un (by omega), ob_un (by omega), ob_un (by omega)⟩)
  · by_cases e : m = 24 * s + i
    · subst e
      rw [ob_us]
      exact ⟨fun z => absurd z hkv0, fun _ => ob_us⟩
    · rw [ob_un e, ob_un e, ob_un e, ob_un e]
      exact I.1.2.2.2.1 m hm
  · rw [z2, z4]
    exact ⟨fun _ => ⟨hkv0, rfl, rfl⟩, fun z => absurd z (by decide), fun _ => by decide, fun z => absurd rfl z, fun _ _ => hkv0, fun z => absurd rfl z, fun _ z => absurd rfl z, fun _ z => absurd rfl z⟩
  · rw [z1, z3]
    exact ⟨fun z => absurd z (by decide), fun _ => ⟨hkv0, rfl, rfl⟩, fun z => absurd rfl z, fun _ => by decide, fun z => absurd rfl z, fun _ _ => hkv0, fun z => absurd rfl z, fun z => absurd rfl z⟩
  · have e : j ≠ i := fun e => by
      rw [e, ob_us] at h0
      exact vn1 h0
    rw [ob_un e] at h0
    rw [ob_un (by omega), ob_un (by omega), ob_un (by omega), ob_un (by omega)]
    exact I.2.2.2.1 j hj h0
/-! bits that are added or set by a removal -/
theorem bw_4 {b w : Int32} (hb : vb b) (h8 : b ≠ 8) (hw : w = if b = 1 then 1 else b ||| 4) : vb w ∧ w ≠ 8 ∧ w ≠ 0 ∧ (w = 1 ↔ b = 1) := by
  subst hw
  rcases hb with h | h | h | h | h | h <;> subst h <;> first | exact absurd rfl h8 | (unfold vb; decide)
theorem bw_2 {b w : Int32} (hb : vb b) (h8 : b ≠ 8) (hw : w = if b = 1 then 1 else b ||| 2) : vb w ∧ w ≠ 8 ∧ w ≠ 0 ∧ (w = 1 ↔ b = 1) := by
  subst hw
  rcases hb with h | h | h | h | h | h <;> subst h <;> first | exact absurd rfl h8 | (unfold vb; decide)
theorem bc_w0 {k0 k1 b0 b1 w : Int32} (h : Bc k0 k1 b0 b1) (hk : k0 ≠ 0) (h8 : w ≠ 8) (h1 : w = 1 ↔ b0 = 1) : Bc k0 k1 w b1 :=
  ⟨fun z => h.1 (h1.mp z), fun z => absurd (h.2.1 z).2.1 hk, fun _ => h8, h.2.2.2.1, fun _ _ => hk, h.2.2.2.2.2.1, fun z1 z2 => h.2.2.2.2.2.2.1 z1 (fun z => z2 (h1.mpr z)), h.2.2.2.2.2.2.2⟩
theorem bc_w1 {k0 k1 b0 b1 w : Int32} (h : Bc k0 k1 b0 b1) (hk : k1 ≠ 0) (h8 : w ≠ 8) (h1 : w = 1 ↔ b1 = 1) : Bc k0 k1 b0 w :=
  ⟨fun z => absurd (h.1 z).2.1 hk, fun z => h.2.1 (h1.mp z), h.2.2.1, fun _ => h8, h.2.2.2.2.1, fun _ _ => hk, fun _ _ z => absurd z hk, h.2.2.2.2.2.2.2⟩
theorem bc_r0 {k0 k1 b0 b1 w : Int32} (h : Bc k0 k1 b0 b1) (hk : k0 ≠ 0) (hw : w = 0 ∨ w = 8) : Bc 0 k1 w b1 :=
  ⟨fun z => by rcases hw with q | q <;> rw [q] at z <;> exact absurd z (by decide), fun z => absurd (h.2.1 z).2.1 hk, fun z => absurd rfl z, h.2.2.2.1, fun z1 z2 => by rcases hw with q | q <;> contradiction, h.2.2.2.2.2.1, fun z => absurd rfl z, fun z => absurd rfl z⟩
theorem bc_r1 {k0 k1 b0 b1 w : Int32} (h : Bc k0 k1 b0 b1) (hk : k1 ≠ 0) (hw : (w = 0 ∧ b1 = 1) ∨ (w = 8 ∧ b1 ≠ 1)) : Bc k0 0 b0 w :=
  ⟨fun z => absurd (h.1 z).2.1 hk, fun z => by rcases hw with ⟨q, _⟩ | ⟨q, _⟩ <;> rw [q] at z <;> exact absurd z (by decide), h.2.2.1, fun z => absurd rfl z, h.2.2.2.2.1, fun z1 z2 => by rcases hw with ⟨q, _⟩ | ⟨q, _⟩ <;> contradiction, fun z1 _ _ => by
    rcases hw with ⟨_, q⟩ | ⟨q, _⟩
    · exact absurd (h.2.1 q).2.1 z1
    · exact q, fun _ z => absurd rfl z⟩
theorem cx_bc (H : Cx O N kd pa na da bi) {i : Nat} (hi : i < 24) : Bc (kd i) (kd (24 + i)) (bi i) (bi (24 + i)) := H.2.2.2.2.2.2.2 i hi
theorem cx_b8 (H : Cx O N kd pa na da bi) {s i : Nat} (hs : s < 2) (hi : i < 24) (hk : kd (24 * s + i) ≠ 0) : bi (24 * s + i) ≠ 8 := by
  have h := cx_bc H hi
  by_cases h0 : s = 0
  · subst h0
    rw [Nat.mul_zero, Nat.zero_add] at hk ⊢
    exact h.2.2.1 hk
  · have h1 : s = 1 := by omega
    subst h1
    exact h.2.2.2.1 hk
theorem bt_w (H : Cx O N kd pa na da bi) {s i : Nat} {w : Int32} (hs : s < 2) (hi0 : i ≠ 0) (hi : i < 24) (hk : kd (24 * s + i) ≠ 0) (hw : vb w) (h8 : w ≠ 8) (h1 : w = 1 ↔ bi (24 * s + i) = 1) : Bt kd (upd bi (24 * s + i) w) := by
  have := bt_upd (v := kd (24 * s + i)) (w := w) H.2.2.2.2 hs hi0 hi hw ⟨fun e => ?_, fun e => ?_⟩
  · rw [up_eq] at this; exact this
  · subst e
    rw [Nat.mul_zero, Nat.zero_add] at hk h1 ⊢
    exact bc_w0 (cx_bc H hi) hk h8 h1
  · subst e
    exact bc_w1 (cx_bc H hi) hk h8 h1
theorem bt_r (H : Cx O N kd pa na da bi) {s i : Nat} {w : Int32} (hs : s < 2) (hi0 : i ≠ 0) (hi : i < 24) (hk : kd (24 * s + i) ≠ 0) (hw : (w = 0 ∧ bi (24 * s + i) = 1) ∨ (w = 8 ∧ bi (24 * s + i) ≠ 1)) : Bt (upd kd (24 * s + i) 0) (upd bi (24 * s + i) w) := by
  refine bt_upd H.2.2.2.2 hs hi0 hi ?_ ⟨fun e => ?_, fun e => ?_⟩
  · rcases hw with ⟨q, _⟩ | ⟨q, _⟩ <;> rw [q] <;> unfold vb <;> decide
  · subst e
    rw [Nat.mul_zero, Nat.zero_add] at hk hw
    exact bc_r0 (cx_bc H hi) hk (hw.imp (fun z => z.1) (fun z => z.1))
  · subst e
    exact bc_r1 (cx_bc H hi) hk hw
theorem iv_tk (I : Inv O N L kd pa na da sl cc bi tk li la pb) {s i : Nat} (hs : s < 2) (hi : i < 24) (hk : kd (24 * s + i) ≠ 0) : tk i ≠ 0 := fun h => by
  have := I.2.2.2.1 i hi h
  by_cases h0 : s = 0
  · subst h0
    rw [Nat.mul_zero, Nat.zero_add] at hk
    exact hk this.1
  · have h1 : s = 1 := by omega
    subst h1
    exact hk this.2.1
theorem iv_write (I : Inv O N L kd pa na da sl cc bi tk li la pb) {s i L' : Nat} {v w pb' : Int32} {li' la' : Nat → Int32} (hs : s < 2) (hi : i < 24) (hk : kd (24 * s + i) ≠ 0) (hk1 : kd (24 * s + i) ≠ 1) (hw : w = if bi (24 * s + i) = 1 then 1 else bi (24 * s + i) ||| 4) (hL : Lg (upd bi (24 * s + i) w) li' la' L') (hpb : pb' = nI (sm (fun j => pc (upd bi (24 * s + i) w j)) 24)) : Inv O N L' kd pa na (upd da (24 * s + i) v) sl cc (upd bi (24 * s + i) w) tk li' la' pb' := by
  have hT := cx_tr I.1 hs
  have hi0 : i ≠ 0 := fun e => hk1 (by rw [e, Nat.add_zero]; exact hT.1.1)
  have h2 : kd (24 * s + i) = 2 := ((hT.2.2.1 i hi).resolve_left hk).resolve_left hk1
  obtain ⟨b1, b2, b3, b4⟩ := bw_4 (cx_v I.1 (by omega)) (cx_b8 I.1 hs hi hk) hw
  refine ⟨⟨I.1.1, I.1.2.1, I.1.2.2.1, fun m hm => ?_, bt_w I.1 hs hi0 hi hk b1 b2 b4⟩, I.2.1, I.2.2.1, ?_, hL, hpb⟩
  · by_cases e : m = 24 * s + i
    · subst e
      exact ⟨(I.1.2.2.2.1 _ hm).1, fun z => absurd h2 z⟩
    · rw [ob_un e]; exact I.1.2.2.2.1 m hm
  · have := tk_upd (v := kd (24 * s + i)) (w := w) I.2.2.2.1 hs hi (iv_tk I hs hi hk)
    rw [up_eq] at this
    exact this
theorem iv_rename (I : Inv O N L kd pa na da sl cc bi tk li la pb) {s i p n p0 n0 L' : Nat} {w pb' : Int32} {li' la' : Nat → Int32} (hs : s < 2) (hi0 : i ≠ 0) (hi : i < 24) (hk : kd (24 * s + i) ≠ 0) (hp : p < 24) (hn : n < N) (hkp : kd (24 * s + p) = 1) (hp0 : p0 < 24) (hn0 : n0 < 8) (e0 : pa (24 * s + i) = nI p0) (e1 : na (24 * s + i) = nI n0) (hac : ∀ k, it (pf (24 * s) pa) k p ≠ i) (hfree : ∀ j, j < 24 → xs (24 * s) kd j = true → pa (24 * s + j) = nI p → na (24 * s + j) = nI n → False) (hw : w = if bi (24 * s + i) = 1 then 1 else bi (24 * s + i) ||| 2) (hL : Lg (upd bi (24 * s + i) w) li' la' L') (hpb : pb' = nI (sm (fun j => pc (upd bi (24 * s + i) w j)) 24)) : Inv O N L' kd (upd pa (24 * s + i) (nI p)) (upd na (24 * s + i) (nI n)) da (upd (upd sl (8 * (24 * s + p0) + n0) 0) (8 * (24 * s + p) + n) (nI i)) (upd (upd cc (24 * s + p0) (cc (24 * s + p0) - 1)) (24 * s + p) (upd cc (24 * s + p0) (cc (24 * s + p0) - 1) (24 * s + p) + 1)) (upd bi (24 * s + i) w) tk li' la' pb' := by
  have hO := I.1.1
  have hT := cx_tr I.1 hs
  have hS := iv_sl I hs
  obtain ⟨b1, b2, b3, b4⟩ := bw_2 (cx_v I.1 (by omega)) (cx_b8 I.1 hs hi hk) hw
  have hSL : ∀ t, t < 2 → SL (24 * t) (xs (24 * t) kd) (upd pa (24 * s + i) (nI p)) (upd na (24 * s + i) (nI n)) (upd (upd sl (8 * (24 * s + p0) + n0) 0) (8 * (24 * s + p) + n) (nI i)) (upd (upd cc (24 * s + p0) (cc (24 * s + p0) - 1)) (24 * s + p) (upd cc (24 * s + p0) (cc (24 * s + p0) - 1) (24 * s + p) + 1)) := fun t ht' => by
    by_cases e : t = s
    · subst e
      have h1 := sl_out (qr := fun j => xs (24 * t) kd j && decide (j ≠ i)) hS hi (xs_t hi0 hk) hp0 hn0 e0 e1 (fun j _ => rfl)
      refine sl_in h1 hi hi0 (by simp) hp (by omega) (fun j hj hq a b => ?_) (fun j hj => ?_)
      · rw [Bool.and_eq_true] at hq
        exact hfree j hj hq.1 a b
      · by_cases e : j = i
        · subst e; simp [xs, hi0, hk]
        · simp [e]
    · exact sl_congr (iv_sl I ht') (fun j hj => rfl) (fun j hj _ => ⟨ob_un (by omega), ob_un (by omega)⟩) (fun p' n' hp' hn' => by rw [ob_un (by omega), ob_un (by omega)]) (fun p' hp' => by rw [ob_un (by omega), ob_un (by omega)])
  refine ⟨cx_of I.1.1 (fun t ht' => ?_) (fun m hm => ?_) (bt_w I.1 hs hi0 hi hk b1 b2 b4), hSL 0 (by omega), hSL 1 (by omega), ?_, hL, hpb⟩
  · by_cases e : t = s
    · subst e
      have hkv : kd (24 * t + i) = 1 ∨ kd (24 * t + i) = 2 := (hT.2.2.1 i hi).resolve_left hk
      have := tr_put hT hi0 hi (hT.2.1 i hi0 hi hk).1 hp hn hkp hkv (fun j hj j0 ji hk e1 e2 => hfree j hj (xs_t j0 hk) e1 e2) hac (fun j hj j0 hk e1 => by
        obtain ⟨_, p', n', hp', _, q1, _, q3⟩ := hT.2.1 j j0 hj hk
        have := ob_inj (q1.symm.trans e1) (by omega) (by omega)
        subst this
        exact q3)
      rw [up_eq] at this
      exact this
    · exact tr_congr (cx_tr I.1 ht') (iv_rl I ht') (fun j hj => ⟨rfl, ob_un (by omega), ob_un (by omega)⟩)
  · by_cases e : m = 24 * s + i
    · subst e
      exact ⟨fun z => absurd z hk, (I.1.2.2.2.1 _ hm).2⟩
    · rw [ob_un e, ob_un e]; exact I.1.2.2.2.1 m hm
  · have := tk_upd (v := kd (24 * s + i)) (w := w) I.2.2.2.1 hs hi (iv_tk I hs hi hk)
    rw [up_eq] at this
    exact this
theorem iv_remove (I : Inv O N L kd pa na da sl cc bi tk li la pb) {s i p0 n0 L' : Nat} {w pb' : Int32} {li' la' : Nat → Int32} (hs : s < 2) (hi0 : i ≠ 0) (hi : i < 24) (hk : kd (24 * s + i) ≠ 0) (hp0 : p0 < 24) (hn0 : n0 < 8) (e0 : pa (24 * s + i) = nI p0) (e1 : na (24 * s + i) = nI n0) (hch : ∀ j, j < 24 → j ≠ 0 → kd (24 * s + j) ≠ 0 → pa (24 * s + j) = nI i → False) (hw : (w = 0 ∧ bi (24 * s + i) = 1) ∨ (w = 8 ∧ bi (24 * s + i) ≠ 1)) (hL : Lg (upd bi (24 * s + i) w) li' la' L') (hpb : pb' = nI (sm (fun j => pc (upd bi (24 * s + i) w j)) 24)) : Inv O N L' (upd kd (24 * s + i) 0) (upd pa (24 * s + i) (-1)) (upd na (24 * s + i) (-1)) (upd da (24 * s + i) 0) (upd sl (8 * (24 * s + p0) + n0) 0) (upd cc (24 * s + p0) (cc (24 * s + p0) - 1)) (upd bi (24 * s + i) w) tk li' la' pb' := by
  have hO := I.1.1
  have hT := cx_tr I.1 hs
  have hS := iv_sl I hs
  have hSL : ∀ t, t < 2 → SL (24 * t) (xs (24 * t) (upd kd (24 * s + i) 0)) (upd pa (24 * s + i) (-1)) (upd na (24 * s + i) (-1)) (upd sl (8 * (24 * s + p0) + n0) 0) (upd cc (24 * s + p0) (cc (24 * s + p0) - 1)) := fun t ht' => by
    by_cases e : t = s
    · subst e
      have h1 := sl_out (qr := fun j => xs (24 * t) kd j && decide (j ≠ i)) hS hi (xs_t hi0 hk) hp0 hn0 e0 e1 (fun j _ => rfl)
      refine sl_congr h1 (fun j hj => ?_) (fun j hj hq => ?_) (fun p' n' _ _ => rfl) (fun p' _ => rfl)
      · unfold xs
        by_cases e : j = i
        · subst e; rw [ob_us]; simp
        · rw [ob_un (by omega)]; simp [e]
      · have hne : j ≠ i := by
          rw [Bool.and_eq_true, decide_eq_true_eq] at hq
          exact hq.2
        rw [ob_un (by omega), ob_un (by omega)]
        exact ⟨rfl, rfl⟩
    · refine sl_congr (iv_sl I ht') (fun j hj => ?_) (fun j hj _ => ⟨ob_un (by omega), ob_un (by omega)⟩) (fun p' n' hp' hn' => ob_un (by omega)) (fun p' hp' => ob_un (by omega))
      unfold xs
      rw [ob_un (by omega)]
  refine ⟨cx_of I.1.1 (fun t ht' => ?_) (fun m hm => ?_) (bt_r I.1 hs hi0 hi hk hw), hSL 0 (by omega), hSL 1 (by omega), tk_upd I.2.2.2.1 hs hi (iv_tk I hs hi hk), hL, hpb⟩
  · by_cases e : t = s
    · subst e
      exact tr_del hT hi0 hi hch
    · exact tr_congr (cx_tr I.1 ht') (iv_rl I ht') (fun j hj => ⟨ob_un (by omega), ob_un (by omega), ob_un (by omega)⟩)
  · by_cases e : m = 24 * s + i
    · subst e
      rw [ob_us, ob_us, ob_us, ob_us]
      exact ⟨fun _ => ⟨rfl, rfl⟩, fun _ => rfl⟩
    · rw [ob_un e, ob_un e, ob_un e, ob_un e]
      exact I.1.2.2.2.1 m hm
end
end
section
/-! steps of X's and Y's calls, one answer each -/
theorem rt_ {a : Nat → Int32} {x v : Int32} {n : Nat} {A B : Prop} (h : x.toNatClampNeg = n) (e : a n = v) (k : A) : (a x.toNatClampNeg = v → A) ∧ (¬ a x.toNatClampNeg = v → B) := rc_ h (fun _ => k) (fun z => absurd e z)
theorem rf_ {a : Nat → Int32} {x v : Int32} {n : Nat} {A B : Prop} (h : x.toNatClampNeg = n) (e : ¬ a n = v) (k : B) : (a x.toNatClampNeg = v → A) ∧ (¬ a x.toNatClampNeg = v → B) := rc_ h (fun z => absurd z e) (fun _ => k)
theorem mt_ {a : Nat → Int32} {x v m : Int32} {n : Nat} {A B : Prop} (h : x.toNatClampNeg = n) (e : a n &&& m = v) (k : A) : (a x.toNatClampNeg &&& m = v → A) ∧ (¬ a x.toNatClampNeg &&& m = v → B) := rm_ h (fun _ => k) (fun z => absurd e z)
theorem mf_ {a : Nat → Int32} {x v m : Int32} {n : Nat} {A B : Prop} (h : x.toNatClampNeg = n) (e : ¬ a n &&& m = v) (k : B) : (a x.toNatClampNeg &&& m = v → A) ∧ (¬ a x.toNatClampNeg &&& m = v → B) := rm_ h (fun z => absurd z e) (fun _ => k)
theorem lt_1 {x : Int32} (h : x < 0) : x < 1 := by
  rw [Int32.lt_iff_toInt_lt] at *
  have h0 : (0 : Int32).toInt = 0 := by decide
  have h1 : (1 : Int32).toInt = 1 := by decide
  omega
theorem ge_1 {x : Int32} {O : Nat} (hO : 8 ≤ O) (hO2 : O ≤ 24) (h : nI O ≤ x) : ¬ x < 1 := by
  rw [Int32.lt_iff_toInt_lt]
  rw [Int32.le_iff_toInt_le, nI_toInt (by omega)] at h
  have h1 : (1 : Int32).toInt = 1 := by decide
  omega
theorem nlt_ {x : Int32} {O : Nat} (h : nI O ≤ x) : ¬ x < nI O := Int32.not_lt.mpr h
theorem gt_2 {x : Int32} (h0 : ¬ x < 0) (h : nI 3 ≤ x) : 2 < x := by
  obtain ⟨j, hj, rfl⟩ := nI_of h0
  rw [nI_leI (by omega) hj] at h
  exact nI_lt (a := 2) (by omega) hj
section
variable {O N C L : Nat} {pb qh qt pl : Int32} {kd pa na da sl cc bi tk ve li la fa qu wm ol : Nat → Int32} {post : Int32 → Prop} {pst : SX → Prop} {s j p n : Nat} {v m : Int32}
theorem xt_t (hs : s < 2) (k : post 1) : wpX_isTree post (nI O, nI N, nI C, nI L, pb, qh, qt, pl, kd, pa, na, da, sl, cc, bi, tk, ve, li, la, fa, qu, wm, ol) (nI s) := x_isTree (fun _ _ _ => k) (fun h0 h1 => by
  by_cases h : s = 0
  · subst h; exact absurd rfl h0
  · have e : s = 1 := by omega
    subst e; exact absurd rfl h1)
theorem xt_f (h0 : v ≠ 0) (h1 : v ≠ 1) (k : post 0) : wpX_isTree post (nI O, nI N, nI C, nI L, pb, qh, qt, pl, kd, pa, na, da, sl, cc, bi, tk, ve, li, la, fa, qu, wm, ol) v := br_f h0 (br_f h1 k)
theorem xi_t (hO : O ≤ 24) (hj : j < O) (k : post 1) : wpX_isId post (nI O, nI N, nI C, nI L, pb, qh, qt, pl, kd, pa, na, da, sl, cc, bi, tk, ve, li, la, fa, qu, wm, ol) (nI j) := x_isId hO (fun _ _ _ => k) (fun h => absurd rfl (h j hj))
theorem xi_f (hO : O ≤ 24) (hn : ∀ j, j < O → v ≠ nI j) (k : post 0) : wpX_isId post (nI O, nI N, nI C, nI L, pb, qh, qt, pl, kd, pa, na, da, sl, cc, bi, tk, ve, li, la, fa, qu, wm, ol) v := x_isId hO (fun j hj e => absurd e (hn j hj)) (fun _ => k)
theorem xn_t (hN : N ≤ 8) (hj : j < N) (k : post 1) : wpX_isName post (nI O, nI N, nI C, nI L, pb, qh, qt, pl, kd, pa, na, da, sl, cc, bi, tk, ve, li, la, fa, qu, wm, ol) (nI j) := x_isName hN (fun _ _ _ => k) (fun h => absurd rfl (h j hj))
theorem xn_f (hN : N ≤ 8) (hn : ∀ j, j < N → v ≠ nI j) (k : post 0) : wpX_isName post (nI O, nI N, nI C, nI L, pb, qh, qt, pl, kd, pa, na, da, sl, cc, bi, tk, ve, li, la, fa, qu, wm, ol) v := x_isName hN (fun j hj e => absurd e (hn j hj)) (fun _ => k)
theorem xe_t (hO : O ≤ 24) (hs : s < 3) (hj : j < O) (hk : kd (24 * s + j) ≠ 0) (k : post 1) : wpX_exists post (nI O, nI N, nI C, nI L, pb, qh, qt, pl, kd, pa, na, da, sl, cc, bi, tk, ve, li, la, fa, qu, wm, ol) (nI s) (nI j) := x_exists hO hs (fun _ _ _ _ => k) (fun h => absurd (h j hj rfl) hk)
theorem xe_f (hO : O ≤ 24) (hs : s < 3) (hn : ∀ j, j < O → v = nI j → kd (24 * s + j) = 0) (k : post 0) : wpX_exists post (nI O, nI N, nI C, nI L, pb, qh, qt, pl, kd, pa, na, da, sl, cc, bi, tk, ve, li, la, fa, qu, wm, ol) (nI s) v := x_exists hO hs (fun j hj e h => absurd (hn j hj e) h) (fun _ => k)
theorem xc_t (hO : O ≤ 24) (hs : s < 3) (hj : j < O) (hk : kd (24 * s + j) = 1) (k : post 0) : wpX_checkParent post (nI O, nI N, nI C, nI L, pb, qh, qt, pl, kd, pa, na, da, sl, cc, bi, tk, ve, li, la, fa, qu, wm, ol) (nI s) (nI j) := x_checkParent hO hs (fun _ _ _ _ _ => k) (fun j' hj' e h => by
  have := ob_inj e (by omega) (by omega)
  subst this
  rw [hk] at h; exact absurd h (by decide)) (fun h => by
  have := h j hj rfl
  rw [hk] at this; exact absurd this (by decide))
theorem xc_2 (hO : O ≤ 24) (hs : s < 3) (hj : j < O) (hk : kd (24 * s + j) = 2) (k : post 3) : wpX_checkParent post (nI O, nI N, nI C, nI L, pb, qh, qt, pl, kd, pa, na, da, sl, cc, bi, tk, ve, li, la, fa, qu, wm, ol) (nI s) (nI j) := x_checkParent hO hs (fun j' hj' e _ h => by
  have := ob_inj e (by omega) (by omega)
  subst this
  exact absurd hk h) (fun _ _ _ _ => k) (fun h => by
  have := h j hj rfl
  rw [hk] at this; exact absurd this (by decide))
theorem xc_f (hO : O ≤ 24) (hs : s < 3) (hn : ∀ j, j < O → v = nI j → kd (24 * s + j) = 0) (k : post 2) : wpX_checkParent post (nI O, nI N, nI C, nI L, pb, qh, qt, pl, kd, pa, na, da, sl, cc, bi, tk, ve, li, la, fa, qu, wm, ol) (nI s) v := x_checkParent hO hs (fun j hj e h _ => absurd (hn j hj e) h) (fun j hj e h => by
  rw [hn j hj e] at h; exact absurd h (by decide)) (fun _ => k)
theorem xl_t (hs : s < 2) (hj : j < 24) (h0 : s = 0) (h1 : pb = nI C) (h2 : bi (24 * s + j) &&& m = 0) (k : post 1) : wpX_lacksRoom post (nI O, nI N, nI C, nI L, pb, qh, qt, pl, kd, pa, na, da, sl, cc, bi, tk, ve, li, la, fa, qu, wm, ol) (nI s) (nI j) m := x_lacksRoom hs hj (fun _ _ _ => k) (fun h => (h h0 h1 h2).elim)
theorem xl_f (hs : s < 2) (hj : j < 24) (h : s = 0 → pb = nI C → bi (24 * s + j) &&& m = 0 → False) (k : post 0) : wpX_lacksRoom post (nI O, nI N, nI C, nI L, pb, qh, qt, pl, kd, pa, na, da, sl, cc, bi, tk, ve, li, la, fa, qu, wm, ol) (nI s) (nI j) m := x_lacksRoom hs hj (fun a b c => (h a b c).elim) (fun _ => k)
/-- X's path upwards -/
theorem x_within_l {o : Nat} (ho : o = 24 * s) (hs : s < 2) (hT : Tr o O N kd pa na) (hr : ∀ z, z < 24 → pa (o + z) = -1 ∨ ∃ w, w < 24 ∧ pa (o + z) = nI w) {i : Nat} (hp : p < 24) (hi0 : i ≠ 0) (hi : i < 24) (f : (∃ k, it (pf o pa) k p = i) → post 1) (g : (∀ k, it (pf o pa) k p ≠ i) → post 0) : ∀ d r a, r + d = 24 → av a (it (pf o pa) r p) → (∀ k, k < r → it (pf o pa) k p ≠ i) → wX_isWithin_6 post (nI s) (nI i) (nI O) (nI N) (nI C) (nI L) pb qh qt pl kd pa na da sl cc bi tk ve li la fa qu wm ol (d + 1) a (nI r) := by
  have z0 := pf_0 hT
  have zf : ∀ z, z < 24 → pf o pa z < 24 := fun z hz => by
    unfold pf
    rcases hr z hz with e | ⟨w, hw, e⟩
    · rw [e, ob_m1]; omega
    · rw [e, nI_clamp (by omega)]; exact hw
  intro d
  induction d with
  | zero =>
    intro r a hd ha hno
    have e : r = 24 := by omega
    subst e
    refine br_t (nI_le (a := 24) (by omega) (by omega)) (g (fun k hk => ?_))
    obtain ⟨k', h1, h2⟩ := it_short zf z0 hp hi0 ⟨k, hk⟩
    exact hno k' (by omega) h2
  | succ d ih =>
    intro r a hd ha hno
    refine br_f (nI_ge (b := 24) (by omega) (by omega)) ?_
    rcases ha with ⟨h1, h2⟩ | ⟨h1, h2, h3⟩
    · refine br_t h1 (g (fun k hk => ?_))
      by_cases hkr : k < r
      · exact hno k hkr hk
      · have : k = r + (k - r) := by omega
        rw [this, it_add, h2, it_z z0] at hk
        exact hi0 hk.symm
    · have hl := it_lt zf r p hp
      subst h3
      refine br_f h1 (ob_eq _ i (fun e => f ⟨r, e⟩) (fun e => ?_))
      have c := ob_cl (24 * s + it (pf o pa) r p) (ob_si s _)
      refine And.intro (ob_in (24 * s + it (pf o pa) r p) 72 (by omega) (ob_si s _)) (nr_ c (nm_r (nI_1 r) (ih (r + 1) _ (by omega) ?_ (fun k hk => ?_))))
      · rw [it_s', ← ho]
        generalize it (pf o pa) r p = z at *
        unfold pf
        rcases hr z hl with q | ⟨w, hw, q⟩
        · rw [q, ob_m1]; exact Or.inl ⟨by decide, rfl⟩
        · rw [q, nI_clamp (by omega)]
          by_cases w0 : w = 0
          · subst w0; exact Or.inl ⟨by decide, rfl⟩
          · exact Or.inr ⟨fun z => w0 ((ob_le0 (by omega)).mp z), w0, rfl⟩
      · by_cases ek : k = r
        · subst ek; exact e
        · exact hno k (by omega)
theorem x_within (H : Cx O N kd pa na da bi) (hs : s < 2) {i : Nat} (hp : p < 24) (hi0 : i ≠ 0) (hi : i < 24) (f : (∃ k, it (pf (24 * s) pa) k p = i) → post 1) (g : (∀ k, it (pf (24 * s) pa) k p ≠ i) → post 0) : wpX_isWithin post (nI O, nI N, nI C, nI L, pb, qh, qt, pl, kd, pa, na, da, sl, cc, bi, tk, ve, li, la, fa, qu, wm, ol) (nI s) (nI p) (nI i) := by
  refine Exists.intro 25 (x_within_l rfl hs (cx_tr H hs) (fun z hz => cx_rg H (by omega)) hp hi0 hi f g 24 0 (nI p) (by omega) ?_ (fun k hk => absurd hk (Nat.not_lt_zero _)))
  by_cases p0 : p = 0
  · subst p0; exact Or.inl ⟨by decide, rfl⟩
  · exact Or.inr ⟨fun z => p0 ((ob_le0 (by omega)).mp z), p0, rfl⟩
end
/-! Y -/
section
variable {O N C : Nat} {kd pa na da bi tk ve fy mk mp mn md : Nat → Int32} {post : Int32 → Prop} {pst : SY → Prop} {psr : Int32 → SY → Prop} {s j p n : Nat} {v m : Int32}
theorem yb_t (hs : s < 2) (k : post 0) : wpY_badSide post (nI O, nI N, nI C, kd, pa, na, da, bi, tk, ve, fy, mk, mp, mn, md) (nI s) := by
  by_cases h : s = 0
  · subst h; exact br_t rfl k
  · have e : s = 1 := by omega
    subst e; exact br_f ob_10 (br_t rfl k)
theorem yb_f (h0 : v ≠ 0) (h1 : v ≠ 1) (k : post 1) : wpY_badSide post (nI O, nI N, nI C, kd, pa, na, da, bi, tk, ve, fy, mk, mp, mn, md) v := br_f h0 (br_f h1 k)
theorem yk_t (hO : O ≤ 24) (hs : s < 3) (hj : j < O) (k : post (kd (24 * s + j))) : wpY_kind post (nI O, nI N, nI C, kd, pa, na, da, bi, tk, ve, fy, mk, mp, mn, md) (nI s) (nI j) :=
  br_f (nI_pos (by omega)) (br_f (nI_nlt (a := 2) (by omega) (by omega)) (br_f (nI_pos (by omega)) (br_t (nI_lt hj (by omega)) (And.intro (ob_in (24 * s + j) 72 (by omega) (ob_si s j)) (ex_ (ob_cl (24 * s + j) (ob_si s j)) k)))))
theorem yk_f (hO : O ≤ 24) (hs : s < 3) (hn : ∀ j, j < O → v ≠ nI j) (k : post 0) : wpY_kind post (nI O, nI N, nI C, kd, pa, na, da, bi, tk, ve, fy, mk, mp, mn, md) (nI s) v := by
  refine br_f (nI_pos (by omega)) (br_f (nI_nlt (a := 2) (by omega) (by omega)) ?_)
  rcases ob_ix v (n := O) (by omega) with ⟨j, hj, e⟩ | ⟨_, h | ⟨h1, h2⟩⟩
  · exact absurd e (hn j hj)
  · exact br_t h k
  · exact br_f h1 (br_f (nlt_ h2) k)
theorem yk_n (hO : O ≤ 24) (hs : s < 3) (hn : ∀ j, j < O → v = nI j → kd (24 * s + j) = 0) (k : post 0) : wpY_kind post (nI O, nI N, nI C, kd, pa, na, da, bi, tk, ve, fy, mk, mp, mn, md) (nI s) v := by
  rcases ob_ix v (n := O) (by omega) with ⟨j, hj, e⟩ | ⟨h, _⟩
  · subst e
    exact yk_t hO hs hj (by rw [hn j hj rfl]; exact k)
  · exact yk_f hO hs h k
theorem y_lookup_l (hs : s < 2) (f : ∀ y, y < 24 → kd (24 * s + y) ≠ 0 → pa (24 * s + y) = nI p → na (24 * s + y) = nI n → post (nI y)) (g : (∀ y, y < 24 → kd (24 * s + y) ≠ 0 → pa (24 * s + y) = nI p → na (24 * s + y) = nI n → False) → post (-1)) : ∀ d y, y + d = 24 → (∀ z, z < y → kd (24 * s + z) ≠ 0 → pa (24 * s + z) = nI p → na (24 * s + z) = nI n → False) → wY_lookup_37 post (nI s) (nI p) (nI n) (nI O) (nI N) (nI C) kd pa na da bi tk ve fy mk mp mn md (d + 1) (nI y) := by
  intro d
  induction d with
  | zero =>
    intro y hy hno
    have e : y = 24 := by omega
    subst e
    exact br_t (nI_le (a := 24) (by omega) (by omega)) (g hno)
  | succ d ih =>
    intro y hy hno
    have c := nI_clamp (n := 24 * s + y) (by omega)
    have i := ob_in (x := nI (24 * s + y)) (24 * s + y) 72 (by omega)
    have next : (kd (24 * s + y) ≠ 0 → pa (24 * s + y) = nI p → na (24 * s + y) = nI n → False) → wY_lookup_37 post (nI s) (nI p) (nI n) (nI O) (nI N) (nI C) kd pa na da bi tk ve fy mk mp mn md (d + 1) (nI (y + 1)) := fun h => ih (y + 1) (by omega) (fun z hz => by
      by_cases e : z = y
      · subst e; exact h
      · exact hno z (by omega))
    exact br_f (nI_ge (b := 24) (by omega) (by omega)) (nm_r (ob_si s y) (And.intro i (rc_ c (fun h => nm_r (nI_1 y) (next (fun z => absurd h z))) (fun h => And.intro i (rc_ c (fun h1 => And.intro i (rc_ c (fun h2 => f y (by omega) h h1 h2) (fun h2 => nm_r (nI_1 y) (next (fun _ _ z => h2 z))))) (fun h1 => nm_r (nI_1 y) (next (fun _ z _ => h1 z))))))))
theorem y_lookup (hO : O ≤ 24) (hN : N ≤ 8) (hs : s < 2) (hp : p < O) (hn : n < N) (f : ∀ y, y < 24 → kd (24 * s + y) ≠ 0 → pa (24 * s + y) = nI p → na (24 * s + y) = nI n → post (nI y)) (g : (∀ y, y < 24 → kd (24 * s + y) ≠ 0 → pa (24 * s + y) = nI p → na (24 * s + y) = nI n → False) → post (-1)) : wpY_lookup post (nI O, nI N, nI C, kd, pa, na, da, bi, tk, ve, fy, mk, mp, mn, md) (nI s) (nI p) (nI n) := by
  unfold wpY_lookup
  exact yb_t hs (br_t rfl (br_f (nI_pos (by omega)) (br_f (nI_ge hp (by omega)) (br_f (nI_pos (by omega)) (br_t (nI_lt hn (by omega)) (Exists.intro 25 (y_lookup_l hs f g 24 0 (by omega) (fun z hz => absurd hz (Nat.not_lt_zero _)))))))))
/-- Y's sum of bits -/
theorem y_p12s {J : Int32 → Int32 → Prop} {x c d : Nat} {b b' : Int32} (hx : x < 24) (h8 : ¬ 8 < b) (hb : b + b = b') (k : wY_pending_12 post J (nI x) (nI O) (nI N) (nI C) kd pa na da bi tk ve fy mk mp mn md d (nI (c + if bi x &&& b = 0 then 0 else 1)) b') : wY_pending_12 post J (nI x) (nI O) (nI N) (nI C) kd pa na da bi tk ve fy mk mp mn md (d + 1) (nI c) b := by
  refine br_f h8 (And.intro (ob_in x 48 (by omega)) (rm_ (nI_clamp (by omega)) (fun h => nm_r hb ?_) (fun h => nm_r (nI_1 c) (nm_r hb ?_))))
  · rw [if_pos h] at k; exact k
  · rw [if_neg h] at k; exact k
theorem pc_4 {b : Int32} (h : vb b) (c : Nat) : c + (if b &&& 1 = 0 then 0 else 1) + (if b &&& 2 = 0 then 0 else 1) + (if b &&& 4 = 0 then 0 else 1) + (if b &&& 8 = 0 then 0 else 1) = c + pc b := by
  have : (if b &&& 1 = 0 then 0 else 1) + (if b &&& 2 = 0 then 0 else 1) + (if b &&& 4 = 0 then 0 else 1) + (if b &&& 8 = 0 then 0 else 1) = pc b := by
    rcases h with h | h | h | h | h | h <;> subst h <;> decide
  omega
theorem y_pend_l (hv : ∀ i, i < 24 → vb (bi i)) (k : post (nI (sm (fun i => pc (bi i)) 24))) : ∀ d x, x + d = 24 → wY_pending_4 post (nI O) (nI N) (nI C) kd pa na da bi tk ve fy mk mp mn md (d + 1) (nI (sm (fun i => pc (bi i)) x)) (nI x) := by
  intro d
  induction d with
  | zero =>
    intro x hx
    have e : x = 24 := by omega
    subst e
    exact br_t (nI_le (a := 24) (by omega) (by omega)) k
  | succ d ih =>
    intro x hx
    have hx24 : x < 24 := by omega
    have ih' := ih (x + 1) (by omega)
    rw [sm_s, ← pc_4 (hv x hx24)] at ih'
    exact br_f (nI_ge (b := 24) (by omega) (by omega)) (Exists.intro 5 (y_p12s (b' := 2) hx24 (by decide) (by decide) (y_p12s (b' := 4) hx24 (by decide) (by decide) (y_p12s (b' := 8) hx24 (by decide) (by decide) (y_p12s (b' := 16) hx24 (by decide) (by decide) (br_t (by decide) (nm_r (nI_1 x) ih')))))))
theorem y_pending (hv : ∀ i, i < 24 → vb (bi i)) (k : post (nI (sm (fun i => pc (bi i)) 24))) : wpY_pending post (nI O, nI N, nI C, kd, pa, na, da, bi, tk, ve, fy, mk, mp, mn, md) := Exists.intro 25 (y_pend_l hv k 24 0 (by omega))
theorem yf_t (hv : ∀ i, i < 24 → vb (bi i)) (h0 : s = 0) (h1 : nI (sm (fun i => pc (bi i)) 24) = nI C) (k : post 1) : wpY_full post (nI O, nI N, nI C, kd, pa, na, da, bi, tk, ve, fy, mk, mp, mn, md) (nI s) := by
  subst h0
  exact br_t rfl (y_pending hv (br_t h1 k))
theorem yf_f (hv : ∀ i, i < 24 → vb (bi i)) (hs : s < 2) (h : s = 0 → nI (sm (fun i => pc (bi i)) 24) = nI C → False) (k : post 0) : wpY_full post (nI O, nI N, nI C, kd, pa, na, da, bi, tk, ve, fy, mk, mp, mn, md) (nI s) := by
  by_cases h0 : s = 0
  · subst h0
    exact br_t rfl (y_pending hv (br_f (h rfl) k))
  · exact br_f (fun z => h0 ((ob_n0 (by omega)).mp z)) k
/-- Y's path upwards -/
theorem y_path_l (H : Cx O N kd pa na da bi) (hs : s < 2) {i : Nat} {v3 v4 : Int32} (hp : p < 24) (hi0 : i ≠ 0) (hi : i < 24) (f : (∃ k, it (pf (24 * s) pa) k p = i) → psr 7 (nI O, nI N, nI C, kd, pa, na, da, bi, tk, ve, fy, mk, mp, mn, md)) (g : (∀ k, it (pf (24 * s) pa) k p ≠ i) → wY_rename_109 psr (nI s) (nI i) v3 v4 (nI O) (nI N) (nI C) kd pa na da bi tk ve fy mk mp mn md) : ∀ d r a, r + d = 24 → ((a = -1 ∧ it (pf (24 * s) pa) r p = 0) ∨ a = nI (it (pf (24 * s) pa) r p)) → (∀ k, k < r → it (pf (24 * s) pa) k p ≠ i) → wY_rename_68 psr (nI s) (nI i) v3 v4 (nI O) (nI N) (nI C) kd pa na da bi tk ve fy mk mp mn md (d + 1) a (nI r) := by
  have hT := cx_tr H hs
  have z0 := pf_0 hT
  have zf : ∀ z, z < 24 → pf (24 * s) pa z < 24 := fun z hz => cx_rl H (by omega)
  intro d
  induction d with
  | zero =>
    intro r a hd ha hno
    have e : r = 24 := by omega
    subst e
    refine br_t (nI_le (a := 24) (by omega) (by omega)) (g (fun k hk => ?_))
    obtain ⟨k', h1, h2⟩ := it_short zf z0 hp hi0 ⟨k, hk⟩
    exact hno k' (by omega) h2
  | succ d ih =>
    intro r a hd ha hno
    refine br_f (nI_ge (b := 24) (by omega) (by omega)) ?_
    rcases ha with ⟨h1, h2⟩ | h3
    · subst h1
      refine br_t (by decide) (g (fun k hk => ?_))
      by_cases hkr : k < r
      · exact hno k hkr hk
      · have : k = r + (k - r) := by omega
        rw [this, it_add, h2, it_z z0] at hk
        exact hi0 hk.symm
    · have hl := it_lt zf r p hp
      subst h3
      refine br_f (nI_pos (by omega)) (ob_eq _ i (fun e => f ⟨r, e⟩) (fun e => ?_))
      have c := ob_cl (24 * s + it (pf (24 * s) pa) r p) (ob_si s _)
      refine And.intro (ob_in (24 * s + it (pf (24 * s) pa) r p) 72 (by omega) (ob_si s _)) (nr_ c (nm_r (nI_1 r) (ih (r + 1) _ (by omega) ?_ (fun k hk => ?_))))
      · rw [it_s']
        generalize it (pf (24 * s) pa) r p = z at *
        unfold pf
        rcases cx_rg H (m := 24 * s + z) (by omega) with q | ⟨w, hw, q⟩
        · left; rw [q, ob_m1]; exact ⟨rfl, rfl⟩
        · right; rw [q, nI_clamp (by omega)]
      · by_cases ek : k = r
        · subst ek; exact e
        · exact hno k (by omega)
end
end
section
/-! the relation -/
/-- both objects hold the same entries, bits, taken ids and verdicts; X's indexes, log and sum fit them (Inv); a plan that X keeps is the result -/
def i_Rel (k : Nat) (u : SX) (v : SY) : Prop := ∃ (O N C L : Nat) (pb qh qt pl : Int32) (kd pa na da sl cc bi tk ve li la fa qu wm ol fy mk mp mn md : Nat → Int32), (Inv O N L kd pa na da sl cc bi tk li la pb ∧ (pl = 0 ∨ (Res kd pa na bi fa ∧ qt = nI (cn (io fa) 24)))) ∧ u = (nI O, nI N, nI C, nI L, pb, qh, qt, pl, kd, pa, na, da, sl, cc, bi, tk, ve, li, la, fa, qu, wm, ol) ∧ v = (nI O, nI N, nI C, kd, pa, na, da, bi, tk, ve, fy, mk, mp, mn, md)
theorem rl_h {P : SX → SY → Prop} {u u' : SX} {v v' : SY} (e1 : u = u') (e2 : v = v') (h : P u' v') : P u v := by
  subst e1; subst e2; exact h
theorem rl_el {k : Nat} {u : SX} {v : SY} {P : SX → SY → Prop} (h : ∀ (O N C L : Nat) (pb qh qt pl : Int32) (kd pa na da sl cc bi tk ve li la fa qu wm ol fy mk mp mn md : Nat → Int32), Inv O N L kd pa na da sl cc bi tk li la pb → (pl = 0 ∨ (Res kd pa na bi fa ∧ qt = nI (cn (io fa) 24))) → P (nI O, nI N, nI C, nI L, pb, qh, qt, pl, kd, pa, na, da, sl, cc, bi, tk, ve, li, la, fa, qu, wm, ol) (nI O, nI N, nI C, kd, pa, na, da, bi, tk, ve, fy, mk, mp, mn, md)) (I : i_Rel k u v) : P u v :=
  Exists.elim I fun O I =>
  Exists.elim I fun N I =>
  Exists.elim I fun C I =>
  Exists.elim I fun L I =>
  Exists.elim I fun pb I =>
  Exists.elim I fun qh I =>
  Exists.elim I fun qt I =>
  Exists.elim I fun pl I =>
  Exists.elim I fun kd I =>
  Exists.elim I fun pa I =>
  Exists.elim I fun na I =>
  Exists.elim I fun da I =>
  Exists.elim I fun sl I =>
  Exists.elim I fun cc I =>
  Exists.elim I fun bi I =>
  Exists.elim I fun tk I =>
  Exists.elim I fun ve I =>
  Exists.elim I fun li I =>
  Exists.elim I fun la I =>
  Exists.elim I fun fa I =>
  Exists.elim I fun qu I =>
  Exists.elim I fun wm I =>
  Exists.elim I fun ol I =>
  Exists.elim I fun fy I =>
  Exists.elim I fun mk I =>
  Exists.elim I fun mp I =>
  Exists.elim I fun mn I =>
  Exists.elim I fun md I =>
  rl_h I.2.1 I.2.2 (h O N C L pb qh qt pl kd pa na da sl cc bi tk ve li la fa qu wm ol fy mk mp mn md I.1.1 I.1.2)
theorem i_up {k : Nat} {u : SX} {v : SY} (h : i_Rel k u v) : i_Rel (k + 5) u v := h
section
variable {O N C L : Nat} {pb qh qt pl : Int32} {kd pa na da sl cc bi tk ve li la fa qu wm ol fy mk mp mn md : Nat → Int32}
theorem rl_in {k : Nat} (I : Inv O N L kd pa na da sl cc bi tk li la pb) (hc : (pl = 0 ∨ (Res kd pa na bi fa ∧ qt = nI (cn (io fa) 24)))) : i_Rel k (nI O, nI N, nI C, nI L, pb, qh, qt, pl, kd, pa, na, da, sl, cc, bi, tk, ve, li, la, fa, qu, wm, ol) (nI O, nI N, nI C, kd, pa, na, da, bi, tk, ve, fy, mk, mp, mn, md) := ⟨O, N, C, L, pb, qh, qt, pl, kd, pa, na, da, sl, cc, bi, tk, ve, li, la, fa, qu, wm, ol, fy, mk, mp, mn, md, ⟨I, hc⟩, rfl, rfl⟩
end
/-- a changing call's outcome: one answer and nothing changed, or 0 and one and the same change -/
def Out (wX : (Int32 → SX → Prop) → Prop) (wY : (Int32 → SY → Prop) → Prop) (O N C L : Nat) (pb qh qt pl : Int32) (kd pa na da sl cc bi tk ve li la fa qu wm ol fy mk mp mn md : Nat → Int32) : Prop :=
  (∃ r, (∀ psr : Int32 → SX → Prop, psr r (nI O, nI N, nI C, nI L, pb, qh, qt, pl, kd, pa, na, da, sl, cc, bi, tk, ve, li, la, fa, qu, wm, ol) → wX psr) ∧ (∀ psr : Int32 → SY → Prop, psr r (nI O, nI N, nI C, kd, pa, na, da, bi, tk, ve, fy, mk, mp, mn, md) → wY psr)) ∨
  (∃ kd' pa' na' da' bi' tk' : Nat → Int32, (∀ psr : Int32 → SX → Prop, (∀ (L' : Nat) (sl' cc' li' la' : Nat → Int32) (pb' : Int32), Inv O N L' kd' pa' na' da' sl' cc' bi' tk' li' la' pb' → psr 0 (nI O, nI N, nI C, nI L', pb', qh, qt, 0, kd', pa', na', da', sl', cc', bi', tk', ve, li', la', fa, qu, wm, ol)) → wX psr) ∧ (∀ psr : Int32 → SY → Prop, psr 0 (nI O, nI N, nI C, kd', pa', na', da', bi', tk', ve, fy, mk, mp, mn, md) → wY psr))
section
variable {O N C L : Nat} {pb qh qt pl : Int32} {kd pa na da sl cc bi tk ve li la fa qu wm ol fy mk mp mn md : Nat → Int32} {wX : (Int32 → SX → Prop) → Prop} {wY : (Int32 → SY → Prop) → Prop}
theorem out_fin {k : Nat} (I : Inv O N L kd pa na da sl cc bi tk li la pb) (hc : (pl = 0 ∨ (Res kd pa na bi fa ∧ qt = nI (cn (io fa) 24)))) (h : Out wX wY O N C L pb qh qt pl kd pa na da sl cc bi tk ve li la fa qu wm ol fy mk mp mn md) : wX (fun r u' => wY (fun r' v' => r' = r ∧ i_Rel k u' v')) := by
  rcases h with ⟨r, hX, hY⟩ | ⟨kd', pa', na', da', bi', tk', hX, hY⟩
  · exact hX _ (hY _ ⟨rfl, rl_in I hc⟩)
  · exact hX _ (fun L' sl' cc' li' la' pb' I' => hY _ ⟨rfl, rl_in I' (Or.inl rfl)⟩)
theorem out_k (r : Int32) (hX : ∀ psr : Int32 → SX → Prop, psr r (nI O, nI N, nI C, nI L, pb, qh, qt, pl, kd, pa, na, da, sl, cc, bi, tk, ve, li, la, fa, qu, wm, ol) → wX psr) (hY : ∀ psr : Int32 → SY → Prop, psr r (nI O, nI N, nI C, kd, pa, na, da, bi, tk, ve, fy, mk, mp, mn, md) → wY psr) : Out wX wY O N C L pb qh qt pl kd pa na da sl cc bi tk ve li la fa qu wm ol fy mk mp mn md := Or.inl ⟨r, hX, hY⟩
theorem out_c (kd' pa' na' da' bi' tk' : Nat → Int32) (hX : ∀ psr : Int32 → SX → Prop, (∀ (L' : Nat) (sl' cc' li' la' : Nat → Int32) (pb' : Int32), Inv O N L' kd' pa' na' da' sl' cc' bi' tk' li' la' pb' → psr 0 (nI O, nI N, nI C, nI L', pb', qh, qt, 0, kd', pa', na', da', sl', cc', bi', tk', ve, li', la', fa, qu, wm, ol)) → wX psr) (hY : ∀ psr : Int32 → SY → Prop, psr 0 (nI O, nI N, nI C, kd', pa', na', da', bi', tk', ve, fy, mk, mp, mn, md) → wY psr) : Out wX wY O N C L pb qh qt pl kd pa na da sl cc bi tk ve li la fa qu wm ol fy mk mp mn md := Or.inr ⟨kd', pa', na', da', bi', tk', hX, hY⟩
theorem y_put' {pst : SY → Prop} {x v0 v1 v2 v3 : Int32} {m : Nat} (hx : x = nI m) (hm : m < 72) (k : pst (nI O, nI N, nI C, upd kd m v0, upd pa m v1, upd na m v2, upd da m v3, bi, tk, ve, fy, mk, mp, mn, md)) : wpY_put pst (nI O, nI N, nI C, kd, pa, na, da, bi, tk, ve, fy, mk, mp, mn, md) x v0 v1 v2 v3 := by
  subst hx; exact y_put hm k
end
end
section
/-! make -/
section
variable {O N C L : Nat} {pb qh qt pl : Int32} {kd pa na da sl cc bi tk ve li la fa qu wm ol fy mk mp mn md : Nat → Int32}
theorem o_make (I : Inv O N L kd pa na da sl cc bi tk li la pb) {kv : Int32} (hkv : kv = 1 ∨ kv = 2) (v1 v2 v3 v4 : Int32) : Out (fun psr => wpX_make psr (nI O, nI N, nI C, nI L, pb, qh, qt, pl, kd, pa, na, da, sl, cc, bi, tk, ve, li, la, fa, qu, wm, ol) v1 v2 v3 v4 kv) (fun psr => wpY_make psr (nI O, nI N, nI C, kd, pa, na, da, bi, tk, ve, fy, mk, mp, mn, md) v1 v2 v3 v4 kv) O N C L pb qh qt pl kd pa na da sl cc bi tk ve li la fa qu wm ol fy mk mp mn md := by
  have H := I.1
  have hO24 : O ≤ 24 := H.1.2.1
  have hO8 : 8 ≤ O := H.1.1
  have hN : N ≤ 8 := H.1.2.2.2
  have hv : ∀ i, i < 24 → vb (bi i) := fun i hi => cx_v H (by omega)
  have hb0 := cx_b0 H
  have hL := I.2.2.2.2.1
  have hpb := I.2.2.2.2.2
  rcases ob_ix v1 (n := 2) (by omega) with ⟨s, hs, rfl⟩ | ⟨hb1, _⟩
  rotate_left
  · have h0 : v1 ≠ 0 := hb1 0 (by omega)
    have h1 : v1 ≠ 1 := hb1 1 (by omega)
    exact out_k 1 (fun psr k => by
      unfold wpX_make
      exact xt_f h0 h1 (br_t rfl k)) (fun psr k => by
      unfold wpY_make
      exact yb_f h0 h1 (br_f ob_10 k))
  have hs3 : s < 3 := by omega
  rcases ob_ix v2 (n := O) (by omega) with ⟨i, hi, rfl⟩ | ⟨hb2, hb2'⟩
  rotate_left
  · have hY : ∀ psr : Int32 → SY → Prop, psr 1 (nI O, nI N, nI C, kd, pa, na, da, bi, tk, ve, fy, mk, mp, mn, md) → wpY_make psr (nI O, nI N, nI C, kd, pa, na, da, bi, tk, ve, fy, mk, mp, mn, md) (nI s) v2 v3 v4 kv := fun psr k => by
      unfold wpY_make
      rcases hb2' with h | ⟨h1, h2⟩
      · exact yb_t hs (br_t rfl (br_t (lt_1 h) k))
      · exact yb_t hs (br_t rfl (br_f (ge_1 hO8 hO24 h2) (br_t h2 k)))
    exact out_k 1 (fun psr k => by
      unfold wpX_make
      exact xt_t hs (br_f ob_10 (br_f (hb2 0 (by omega)) (xi_f hO24 hb2 (br_t rfl k))))) hY
  by_cases i0 : i = 0
  · subst i0
    exact out_k 1 (fun psr k => by
      unfold wpX_make
      exact xt_t hs (br_f ob_10 (br_t rfl k))) (fun psr k => by
      unfold wpY_make
      exact yb_t hs (br_t rfl (br_t (by decide) k)))
  have n0 : ¬ nI i = 0 := fun z => i0 ((ob_n0 (by omega)).mp z)
  have n1 : ¬ nI i < 1 := nI_nlt (b := 1) (by omega) (by omega)
  rcases ob_ix v4 (n := N) (by omega) with ⟨n, hn, rfl⟩ | ⟨hb4, hb4'⟩
  rotate_left
  · have hY : ∀ psr : Int32 → SY → Prop, psr 1 (nI O, nI N, nI C, kd, pa, na, da, bi, tk, ve, fy, mk, mp, mn, md) → wpY_make psr (nI O, nI N, nI C, kd, pa, na, da, bi, tk, ve, fy, mk, mp, mn, md) (nI s) (nI i) v3 v4 kv := fun psr k => by
      unfold wpY_make
      rcases hb4' with h | ⟨h1, h2⟩
      · exact yb_t hs (br_t rfl (br_f n1 (br_f (nI_ge hi (by omega)) (br_t h k))))
      · exact yb_t hs (br_t rfl (br_f n1 (br_f (nI_ge hi (by omega)) (br_f h1 (br_f (nlt_ h2) k)))))
    exact out_k 1 (fun psr k => by
      unfold wpX_make
      exact xt_t hs (br_f ob_10 (br_f n0 (xi_t hO24 hi (br_f ob_10 (xn_f hN hb4 (br_t rfl k))))))) hY
  by_cases hpar : ∀ p, p < O → v3 = nI p → kd (24 * s + p) = 0
  · exact out_k 2 (fun psr k => by
      unfold wpX_make
      exact xt_t hs (br_f ob_10 (br_f n0 (xi_t hO24 hi (br_f ob_10 (xn_t hN hn (br_f ob_10 (xc_f hO24 hs3 hpar (br_f (by decide) k))))))))) (fun psr k => by
      unfold wpY_make
      exact yb_t hs (br_t rfl (br_f n1 (br_f (nI_ge hi (by omega)) (br_f (nI_pos (by omega)) (br_t (nI_lt hn (by omega)) (yk_n hO24 hs3 hpar (br_t rfl k))))))))
  obtain ⟨p, hp, hkp⟩ : ∃ p, p < O ∧ v3 = nI p ∧ kd (24 * s + p) ≠ 0 := Classical.byContradiction fun q => hpar (fun p hp e => Classical.byContradiction fun z => q ⟨p, hp, e, z⟩)
  obtain ⟨rfl, hkp⟩ := hkp
  by_cases hk2 : kd (24 * s + p) = 2
  · exact out_k 3 (fun psr k => by
      unfold wpX_make
      exact xt_t hs (br_f ob_10 (br_f n0 (xi_t hO24 hi (br_f ob_10 (xn_t hN hn (br_f ob_10 (xc_2 hO24 hs3 hp hk2 (br_f (by decide) k))))))))) (fun psr k => by
      unfold wpY_make
      exact yb_t hs (br_t rfl (br_f n1 (br_f (nI_ge hi (by omega)) (br_f (nI_pos (by omega)) (br_t (nI_lt hn (by omega)) (yk_t hO24 hs3 hp (br_f hkp (yk_t hO24 hs3 hp (br_t hk2 k))))))))))
  have hp24 : p < 24 := by omega
  have hn8 : n < 8 := by omega
  have hT := cx_tr H hs
  have hk1 : kd (24 * s + p) = 1 := ((hT.2.2.1 p hp24).resolve_left hkp).resolve_right hk2
  have hy0 : ∀ y, pa (24 * s + y) = nI p → y ≠ 0 := fun y hy e => by
    subst e
    rw [Nat.add_zero, hT.1.2.1] at hy
    exact ob_m1n (by omega) hy
  have hi24 : i < 24 := by omega
  have c1 := nI_clamp (n := i) (by omega)
  have c2 := ob_cl (24 * s + i) (ob_si s i)
  rcases sl_at (iv_sl I hs) hp24 hn8 with ⟨e0, hfree⟩ | ⟨c, hc, hc0, hcx, ec, ep, en, hu⟩
  rotate_left
  · have hne : ¬ sl (8 * (24 * s + p) + n) = 0 := fun z => hc0 ((ob_n0 (by omega)).mp (ec.symm.trans z))
    exact out_k 5 (fun psr k => by
      unfold wpX_make
      exact xt_t hs (br_f ob_10 (br_f n0 (xi_t hO24 hi (br_f ob_10 (xn_t hN hn (br_f ob_10 (xc_t hO24 hs3 hp hk1 (br_t rfl (x_occupant hs hp24 hn8 (br_f hne k))))))))))) (fun psr k => by
      unfold wpY_make
      exact yb_t hs (br_t rfl (br_f n1 (br_f (nI_ge hi (by omega)) (br_f (nI_pos (by omega)) (br_t (nI_lt hn (by omega)) (yk_t hO24 hs3 hp (br_f hkp (yk_t hO24 hs3 hp (br_f hk2 (y_lookup hO24 hN hs hp hn (fun y hy a b d => br_f (nI_pos (by omega)) k) (fun hno => (hno c hc (xs_f hcx).2 ep en).elim))))))))))))
  by_cases ht : tk i = 0
  rotate_left
  · exact out_k 6 (fun psr k => by
      unfold wpX_make
      exact xt_t hs (br_f ob_10 (br_f n0 (xi_t hO24 hi (br_f ob_10 (xn_t hN hn (br_f ob_10 (xc_t hO24 hs3 hp hk1 (br_t rfl (x_occupant hs hp24 hn8 (br_t e0 (And.intro (ob_in i 24 hi24) (rf_ c1 ht k))))))))))))) (fun psr k => by
      unfold wpY_make
      exact yb_t hs (br_t rfl (br_f n1 (br_f (nI_ge hi (by omega)) (br_f (nI_pos (by omega)) (br_t (nI_lt hn (by omega)) (yk_t hO24 hs3 hp (br_f hkp (yk_t hO24 hs3 hp (br_f hk2 (y_lookup hO24 hN hs hp hn (fun y hy a b d => (hfree y hy (xs_t (hy0 y b) a) b d).elim) (fun _ => br_t (by decide) (And.intro (ob_in i 24 hi24) (rf_ c1 ht k))))))))))))))
  by_cases hfull : s = 0 ∧ pb = nI C
  · exact out_k 9 (fun psr k => by
      unfold wpX_make
      exact xt_t hs (br_f ob_10 (br_f n0 (xi_t hO24 hi (br_f ob_10 (xn_t hN hn (br_f ob_10 (xc_t hO24 hs3 hp hk1 (br_t rfl (x_occupant hs hp24 hn8 (br_t e0 (And.intro (ob_in i 24 hi24) (rt_ c1 ht (xl_t hs hi24 hfull.1 hfull.2 Int32.and_zero (br_f ob_10 k))))))))))))))) (fun psr k => by
      unfold wpY_make
      exact yb_t hs (br_t rfl (br_f n1 (br_f (nI_ge hi (by omega)) (br_f (nI_pos (by omega)) (br_t (nI_lt hn (by omega)) (yk_t hO24 hs3 hp (br_f hkp (yk_t hO24 hs3 hp (br_f hk2 (y_lookup hO24 hN hs hp hn (fun y hy a b d => (hfree y hy (xs_t (hy0 y b) a) b d).elim) (fun _ => br_t (by decide) (And.intro (ob_in i 24 hi24) (rt_ c1 ht (yf_t hv hfull.1 (hpb.symm.trans hfull.2) (br_f ob_10 k))))))))))))))))
  have i72 := ob_in (24 * s + i) 72 (by omega) (ob_si s i)
  refine out_c (upd kd (24 * s + i) kv) (upd pa (24 * s + i) (nI p)) (upd na (24 * s + i) (nI n)) (upd da (24 * s + i) 0) (upd bi (24 * s + i) 1) (upd tk i (vp_nar .boolean 1)) (fun psr k => ?_) (fun psr k => ?_)
  · unfold wpX_make
    exact xt_t hs (br_f ob_10 (br_f n0 (xi_t hO24 hi (br_f ob_10 (xn_t hN hn (br_f ob_10 (xc_t hO24 hs3 hp hk1 (br_t rfl (x_occupant hs hp24 hn8 (br_t e0 (And.intro (ob_in i 24 hi24) (rt_ c1 ht (xl_f hs hi24 (fun a b _ => hfull ⟨a, b⟩) (br_t rfl (And.intro i72 (nu_ c2 (And.intro i72 (nu_ c2 (x_place hs hi24 hp24 hn8 (And.intro (ob_in i 24 hi24) (nu_ c1 (x_setBits hs hi24 i0 hb0 (cx_v H (by omega)) (Or.inr (Or.inl rfl)) hL hpb (fun L' li' la' pb' a b => k L' _ _ li' la' pb' (iv_make I hs i0 hi hp hn hk1 hkv ht hfree a b))))))))))))))))))))))))
  · unfold wpY_make
    exact yb_t hs (br_t rfl (br_f n1 (br_f (nI_ge hi (by omega)) (br_f (nI_pos (by omega)) (br_t (nI_lt hn (by omega)) (yk_t hO24 hs3 hp (br_f hkp (yk_t hO24 hs3 hp (br_f hk2 (y_lookup hO24 hN hs hp hn (fun y hy a b d => (hfree y hy (xs_t (hy0 y b) a) b d).elim) (fun _ => br_t (by decide) (And.intro (ob_in i 24 hi24) (rt_ c1 ht (yf_f hv hs (fun a b => hfull ⟨a, hpb.trans b⟩) (br_t rfl (y_put' (ob_si s i) (by omega) (And.intro (ob_in (24 * s + i) 48 (by omega) (ob_si s i)) (nu_ c2 (And.intro (ob_in i 24 hi24) (nu_ c1 k))))))))))))))))))))
end
end
section
/-! write -/
section
variable {O N C L : Nat} {pb qh qt pl : Int32} {kd pa na da sl cc bi tk ve li la fa qu wm ol fy mk mp mn md : Nat → Int32}
theorem y_w64 {psr : Int32 → SY → Prop} {m : Nat} {v : Int32} (hm : m < 48) (k : psr 0 (nI O, nI N, nI C, kd, pa, na, upd da m v, upd bi m (if bi m = 1 then 1 else bi m ||| 4), tk, ve, fy, mk, mp, mn, md)) : wY_write_64 psr v (nI m) (nI O) (nI N) (nI C) kd pa na da bi tk ve fy mk mp mn md := by
  have c := nI_clamp (n := m) (by omega)
  have i1 := ob_in (x := nI m) m 72 (by omega)
  have i2 := ob_in (x := nI m) m 48 hm
  refine And.intro i1 (nu_ c (And.intro i2 (rc_ c (fun h => ?_) (fun h => And.intro i2 (And.intro i2 ?_)))))
  · rw [if_pos h, ← h, up_eq] at k
    exact k
  · rw [c]
    rw [if_neg h] at k
    exact nm_e k
theorem o_write (I : Inv O N L kd pa na da sl cc bi tk li la pb) (v1 v2 v3 : Int32) : Out (fun psr => wpX_write psr (nI O, nI N, nI C, nI L, pb, qh, qt, pl, kd, pa, na, da, sl, cc, bi, tk, ve, li, la, fa, qu, wm, ol) v1 v2 v3) (fun psr => wpY_write psr (nI O, nI N, nI C, kd, pa, na, da, bi, tk, ve, fy, mk, mp, mn, md) v1 v2 v3) O N C L pb qh qt pl kd pa na da sl cc bi tk ve li la fa qu wm ol fy mk mp mn md := by
  have H := I.1
  have hO24 : O ≤ 24 := H.1.2.1
  have hO8 : 8 ≤ O := H.1.1
  have hN : N ≤ 8 := H.1.2.2.2
  have hv : ∀ i, i < 24 → vb (bi i) := fun i hi => cx_v H (by omega)
  have hb0 := cx_b0 H
  have hL := I.2.2.2.2.1
  have hpb := I.2.2.2.2.2
  rcases ob_ix v1 (n := 2) (by omega) with ⟨s, hs, rfl⟩ | ⟨hb1, _⟩
  rotate_left
  · have h0 : v1 ≠ 0 := hb1 0 (by omega)
    have h1 : v1 ≠ 1 := hb1 1 (by omega)
    exact out_k 1 (fun psr k => by
      unfold wpX_write
      exact xt_f h0 h1 (br_t rfl k)) (fun psr k => by
      unfold wpY_write
      exact yb_f h0 h1 (br_f ob_10 k))
  have hs3 : s < 3 := by omega
  by_cases hex : ∀ i, i < O → v2 = nI i → kd (24 * s + i) = 0
  · exact out_k 2 (fun psr k => by
      unfold wpX_write
      exact xt_t hs (br_f ob_10 (xe_f hO24 hs3 hex (br_t rfl k)))) (fun psr k => by
      unfold wpY_write
      exact yb_t hs (br_t rfl (yk_n hO24 hs3 hex (br_t rfl k))))
  obtain ⟨i, hi, hki⟩ : ∃ i, i < O ∧ v2 = nI i ∧ kd (24 * s + i) ≠ 0 := Classical.byContradiction fun q => hex (fun p hp e => Classical.byContradiction fun z => q ⟨p, hp, e, z⟩)
  obtain ⟨rfl, hki⟩ := hki
  have hi24 : i < 24 := by omega
  have c1 := nI_clamp (n := i) (by omega)
  have c2 := ob_cl (24 * s + i) (ob_si s i)
  have c3 := nI_clamp (n := 24 * s + i) (by omega)
  have i72 := ob_in (24 * s + i) 72 (by omega) (ob_si s i)
  have i48 := ob_in (x := nI (24 * s + i)) (24 * s + i) 48 (by omega)
  have hvi := cx_v H (m := 24 * s + i) (by omega)
  have h8i := cx_b8 H hs hi24 hki
  by_cases hk1 : kd (24 * s + i) = 1
  · exact out_k 4 (fun psr k => by
      unfold wpX_write
      exact xt_t hs (br_f ob_10 (xe_t hO24 hs3 hi hki (br_f ob_10 (And.intro i72 (rt_ c2 hk1 k)))))) (fun psr k => by
      unfold wpY_write
      exact yb_t hs (br_t rfl (yk_t hO24 hs3 hi (br_f hki (yk_t hO24 hs3 hi (br_t hk1 k))))))
  by_cases hfull : s = 0 ∧ pb = nI C ∧ bi (24 * s + i) &&& 5 = 0
  · exact out_k 9 (fun psr k => by
      unfold wpX_write
      exact xt_t hs (br_f ob_10 (xe_t hO24 hs3 hi hki (br_f ob_10 (And.intro i72 (rf_ c2 hk1 (xl_t hs hi24 hfull.1 hfull.2.1 hfull.2.2 (br_f ob_10 k)))))))) (fun psr k => by
      unfold wpY_write
      exact yb_t hs (br_t rfl (yk_t hO24 hs3 hi (br_f hki (yk_t hO24 hs3 hi (br_f hk1 (nm_r (ob_si s i) (And.intro i48 (mt_ c3 hfull.2.2 (yf_t hv hfull.1 (hpb.symm.trans hfull.2.1) (br_f ob_10 k)))))))))))
  refine out_c kd pa na (upd da (24 * s + i) v3) (upd bi (24 * s + i) (if bi (24 * s + i) = 1 then 1 else bi (24 * s + i) ||| 4)) tk (fun psr k => ?_) (fun psr k => ?_)
  · have i0 : i ≠ 0 := fun e => hk1 (by rw [e, Nat.add_zero]; exact (cx_tr H hs).1.1)
    unfold wpX_write
    exact xt_t hs (br_f ob_10 (xe_t hO24 hs3 hi hki (br_f ob_10 (And.intro i72 (rf_ c2 hk1 (xl_f hs hi24 (fun a b c => hfull ⟨a, b, c⟩) (br_t rfl (And.intro i72 (nu_ c2 (x_addBit hs hi24 i0 hb0 hvi (fun h1 => by have := (bw_4 hvi h8i rfl).1; rw [if_neg h1] at this; exact this) hL hpb (fun L' li' la' pb' w hw a b => by subst hw; exact k L' sl cc li' la' pb' (iv_write I hs hi24 hki hk1 rfl a b))))))))))))
  · have kw := y_w64 (O := O) (N := N) (C := C) (kd := kd) (pa := pa) (na := na) (da := da) (bi := bi) (tk := tk) (ve := ve) (fy := fy) (mk := mk) (mp := mp) (mn := mn) (md := md) (m := 24 * s + i) (v := v3) (by omega) k
    unfold wpY_write
    by_cases h5 : bi (24 * s + i) &&& 5 = 0
    · exact yb_t hs (br_t rfl (yk_t hO24 hs3 hi (br_f hki (yk_t hO24 hs3 hi (br_f hk1 (nm_r (ob_si s i) (And.intro i48 (mt_ c3 h5 (yf_f hv hs (fun a b => hfull ⟨a, hpb.trans b, h5⟩) (br_t rfl kw))))))))))
    · exact yb_t hs (br_t rfl (yk_t hO24 hs3 hi (br_f hki (yk_t hO24 hs3 hi (br_f hk1 (nm_r (ob_si s i) (And.intro i48 (mf_ c3 h5 kw))))))))
end
end
section
/-! rename -/
section
variable {O N C L : Nat} {pb qh qt pl : Int32} {kd pa na da sl cc bi tk ve li la fa qu wm ol fy mk mp mn md : Nat → Int32}
theorem y_r153 {psr : Int32 → SY → Prop} {m : Nat} {v3 v4 : Int32} (hm : m < 48) (k : psr 0 (nI O, nI N, nI C, kd, upd pa m v3, upd na m v4, da, upd bi m (if bi m = 1 then 1 else bi m ||| 2), tk, ve, fy, mk, mp, mn, md)) : wY_rename_153 psr v3 v4 (nI m) (nI O) (nI N) (nI C) kd pa na da bi tk ve fy mk mp mn md := by
  have c := nI_clamp (n := m) (by omega)
  have i1 := ob_in (x := nI m) m 72 (by omega)
  have i2 := ob_in (x := nI m) m 48 hm
  refine And.intro i1 (nu_ c (And.intro i1 (nu_ c (And.intro i2 (rc_ c (fun h => ?_) (fun h => And.intro i2 (And.intro i2 ?_)))))))
  · rw [if_pos h, ← h, up_eq] at k
    exact k
  · rw [c]
    rw [if_neg h] at k
    exact nm_e k
theorem o_rename (I : Inv O N L kd pa na da sl cc bi tk li la pb) (v1 v2 v3 v4 : Int32) : Out (fun psr => wpX_rename psr (nI O, nI N, nI C, nI L, pb, qh, qt, pl, kd, pa, na, da, sl, cc, bi, tk, ve, li, la, fa, qu, wm, ol) v1 v2 v3 v4) (fun psr => wpY_rename psr (nI O, nI N, nI C, kd, pa, na, da, bi, tk, ve, fy, mk, mp, mn, md) v1 v2 v3 v4) O N C L pb qh qt pl kd pa na da sl cc bi tk ve li la fa qu wm ol fy mk mp mn md := by
  have H := I.1
  have hO24 : O ≤ 24 := H.1.2.1
  have hO8 : 8 ≤ O := H.1.1
  have hN : N ≤ 8 := H.1.2.2.2
  have hv : ∀ i, i < 24 → vb (bi i) := fun i hi => cx_v H (by omega)
  have hb0 := cx_b0 H
  have hL := I.2.2.2.2.1
  have hpb := I.2.2.2.2.2
  rcases ob_ix v1 (n := 2) (by omega) with ⟨s, hs, rfl⟩ | ⟨hb1, _⟩
  rotate_left
  · have h0 : v1 ≠ 0 := hb1 0 (by omega)
    have h1 : v1 ≠ 1 := hb1 1 (by omega)
    exact out_k 1 (fun psr k => by
      unfold wpX_rename
      exact xt_f h0 h1 (br_t rfl k)) (fun psr k => by
      unfold wpY_rename
      exact yb_f h0 h1 (br_f ob_10 k))
  have hs3 : s < 3 := by omega
  by_cases v0 : v2 = 0
  · exact out_k 1 (fun psr k => by
      unfold wpX_rename
      exact xt_t hs (br_f ob_10 (br_t v0 k))) (fun psr k => by
      unfold wpY_rename
      exact yb_t hs (br_t rfl (br_t v0 k)))
  rcases ob_ix v4 (n := N) (by omega) with ⟨n, hn, rfl⟩ | ⟨hb4, hb4'⟩
  rotate_left
  · have hY : ∀ psr : Int32 → SY → Prop, psr 1 (nI O, nI N, nI C, kd, pa, na, da, bi, tk, ve, fy, mk, mp, mn, md) → wpY_rename psr (nI O, nI N, nI C, kd, pa, na, da, bi, tk, ve, fy, mk, mp, mn, md) (nI s) v2 v3 v4 := fun psr k => by
      unfold wpY_rename
      rcases hb4' with h | ⟨h1, h2⟩
      · exact yb_t hs (br_t rfl (br_f v0 (br_t h k)))
      · exact yb_t hs (br_t rfl (br_f v0 (br_f h1 (br_f (nlt_ h2) k))))
    exact out_k 1 (fun psr k => by
      unfold wpX_rename
      exact xt_t hs (br_f ob_10 (br_f v0 (xn_f hN hb4 (br_t rfl k))))) hY
  by_cases hex : ∀ i, i < O → v2 = nI i → kd (24 * s + i) = 0
  · exact out_k 2 (fun psr k => by
      unfold wpX_rename
      exact xt_t hs (br_f ob_10 (br_f v0 (xn_t hN hn (br_f ob_10 (xe_f hO24 hs3 hex (br_t rfl k))))))) (fun psr k => by
      unfold wpY_rename
      exact yb_t hs (br_t rfl (br_f v0 (br_f (nI_pos (by omega)) (br_t (nI_lt hn (by omega)) (yk_n hO24 hs3 hex (br_t rfl k)))))))
  obtain ⟨i, hi, hki⟩ : ∃ i, i < O ∧ v2 = nI i ∧ kd (24 * s + i) ≠ 0 := Classical.byContradiction fun q => hex (fun p hp e => Classical.byContradiction fun z => q ⟨p, hp, e, z⟩)
  obtain ⟨rfl, hki⟩ := hki
  have hi24 : i < 24 := by omega
  have c1 := nI_clamp (n := i) (by omega)
  have c2 := ob_cl (24 * s + i) (ob_si s i)
  have c3 := nI_clamp (n := 24 * s + i) (by omega)
  have i72 := ob_in (24 * s + i) 72 (by omega) (ob_si s i)
  have i48 := ob_in (x := nI (24 * s + i)) (24 * s + i) 48 (by omega)
  have hvi := cx_v H (m := 24 * s + i) (by omega)
  have h8i := cx_b8 H hs hi24 hki
  by_cases hpar : ∀ p, p < O → v3 = nI p → kd (24 * s + p) = 0
  · exact out_k 2 (fun psr k => by
      unfold wpX_rename
      exact xt_t hs (br_f ob_10 (br_f v0 (xn_t hN hn (br_f ob_10 (xe_t hO24 hs3 hi hki (br_f ob_10 (xc_f hO24 hs3 hpar (br_f (by decide) k))))))))) (fun psr k => by
      unfold wpY_rename
      exact yb_t hs (br_t rfl (br_f v0 (br_f (nI_pos (by omega)) (br_t (nI_lt hn (by omega)) (yk_t hO24 hs3 hi (br_f hki (yk_n hO24 hs3 hpar (br_t rfl k)))))))))
  obtain ⟨p, hp, hkp⟩ : ∃ p, p < O ∧ v3 = nI p ∧ kd (24 * s + p) ≠ 0 := Classical.byContradiction fun q => hpar (fun p hp e => Classical.byContradiction fun z => q ⟨p, hp, e, z⟩)
  obtain ⟨rfl, hkp⟩ := hkp
  by_cases hk2 : kd (24 * s + p) = 2
  · exact out_k 3 (fun psr k => by
      unfold wpX_rename
      exact xt_t hs (br_f ob_10 (br_f v0 (xn_t hN hn (br_f ob_10 (xe_t hO24 hs3 hi hki (br_f ob_10 (xc_2 hO24 hs3 hp hk2 (br_f (by decide) k))))))))) (fun psr k => by
      unfold wpY_rename
      exact yb_t hs (br_t rfl (br_f v0 (br_f (nI_pos (by omega)) (br_t (nI_lt hn (by omega)) (yk_t hO24 hs3 hi (br_f hki (yk_t hO24 hs3 hp (br_f hkp (yk_t hO24 hs3 hp (br_t hk2 k)))))))))))
  have hp24 : p < 24 := by omega
  have hn8 : n < 8 := by omega
  have hT := cx_tr H hs
  have hk1 : kd (24 * s + p) = 1 := ((hT.2.2.1 p hp24).resolve_left hkp).resolve_right hk2
  have hy0 : ∀ y, pa (24 * s + y) = nI p → y ≠ 0 := fun y hy e => by
    subst e
    rw [Nat.add_zero, hT.1.2.1] at hy
    exact ob_m1n (by omega) hy
  have i0 : i ≠ 0 := fun e => v0 (by rw [e]; rfl)
  by_cases hw : ∃ k, it (pf (24 * s) pa) k p = i
  · exact out_k 7 (fun psr k => by
      unfold wpX_rename
      exact xt_t hs (br_f ob_10 (br_f v0 (xn_t hN hn (br_f ob_10 (xe_t hO24 hs3 hi hki (br_f ob_10 (xc_t hO24 hs3 hp hk1 (br_t rfl (x_within H hs hp24 i0 hi24 (fun _ => br_f ob_10 k) (fun h => (hw.elim h).elim))))))))))) (fun psr k => by
      unfold wpY_rename
      exact yb_t hs (br_t rfl (br_f v0 (br_f (nI_pos (by omega)) (br_t (nI_lt hn (by omega)) (yk_t hO24 hs3 hi (br_f hki (yk_t hO24 hs3 hp (br_f hkp (yk_t hO24 hs3 hp (br_f hk2 (Exists.intro 25 (y_path_l H hs hp24 i0 hi24 (fun _ => k) (fun h => (hw.elim h).elim) 24 0 (nI p) (by omega) (Or.inr rfl) (fun k hk => absurd hk (Nat.not_lt_zero _)))))))))))))))
  have hac : ∀ k, it (pf (24 * s) pa) k p ≠ i := fun k e => hw ⟨k, e⟩
  rcases sl_at (iv_sl I hs) hp24 hn8 with ⟨e0, hfree⟩ | ⟨c, hc, hc0, hcx, ec, ep, en, hu⟩
  rotate_left
  · have hne : ¬ sl (8 * (24 * s + p) + n) = 0 := fun z => hc0 ((ob_n0 (by omega)).mp (ec.symm.trans z))
    exact out_k 5 (fun psr k => by
      unfold wpX_rename
      exact xt_t hs (br_f ob_10 (br_f v0 (xn_t hN hn (br_f ob_10 (xe_t hO24 hs3 hi hki (br_f ob_10 (xc_t hO24 hs3 hp hk1 (br_t rfl (x_within H hs hp24 i0 hi24 (fun h => (hw h).elim) (fun _ => br_t rfl (x_occupant hs hp24 hn8 (br_f hne k))))))))))))) (fun psr k => by
      unfold wpY_rename
      exact yb_t hs (br_t rfl (br_f v0 (br_f (nI_pos (by omega)) (br_t (nI_lt hn (by omega)) (yk_t hO24 hs3 hi (br_f hki (yk_t hO24 hs3 hp (br_f hkp (yk_t hO24 hs3 hp (br_f hk2 (Exists.intro 25 (y_path_l H hs hp24 i0 hi24 (fun h => (hw h).elim) (fun _ => (by unfold wY_rename_109; exact y_lookup hO24 hN hs hp hn (fun y hy a b d => br_f (nI_pos (by omega)) k) (fun hno => (hno c hc (xs_f hcx).2 ep en).elim))) 24 0 (nI p) (by omega) (Or.inr rfl) (fun k hk => absurd hk (Nat.not_lt_zero _)))))))))))))))
  by_cases hfull : s = 0 ∧ pb = nI C ∧ bi (24 * s + i) &&& 3 = 0
  · exact out_k 9 (fun psr k => by
      unfold wpX_rename
      exact xt_t hs (br_f ob_10 (br_f v0 (xn_t hN hn (br_f ob_10 (xe_t hO24 hs3 hi hki (br_f ob_10 (xc_t hO24 hs3 hp hk1 (br_t rfl (x_within H hs hp24 i0 hi24 (fun h => (hw h).elim) (fun _ => br_t rfl (x_occupant hs hp24 hn8 (br_t e0 (xl_t hs hi24 hfull.1 hfull.2.1 hfull.2.2 (br_f ob_10 k))))))))))))))) (fun psr k => by
      unfold wpY_rename
      exact yb_t hs (br_t rfl (br_f v0 (br_f (nI_pos (by omega)) (br_t (nI_lt hn (by omega)) (yk_t hO24 hs3 hi (br_f hki (yk_t hO24 hs3 hp (br_f hkp (yk_t hO24 hs3 hp (br_f hk2 (Exists.intro 25 (y_path_l H hs hp24 i0 hi24 (fun h => (hw h).elim) (fun _ => (by unfold wY_rename_109; exact y_lookup hO24 hN hs hp hn (fun y hy a b d => (hfree y hy (xs_t (hy0 y b) a) b d).elim) (fun _ => br_t (by decide) (nm_r (ob_si s i) (And.intro i48 (mt_ c3 hfull.2.2 (yf_t hv hfull.1 (hpb.symm.trans hfull.2.1) (br_f ob_10 k)))))))) 24 0 (nI p) (by omega) (Or.inr rfl) (fun k hk => absurd hk (Nat.not_lt_zero _)))))))))))))))
  obtain ⟨_, p0, n0, hp0, hn0, g0, g1, _⟩ := hT.2.1 i i0 hi24 hki
  refine out_c kd (upd pa (24 * s + i) (nI p)) (upd na (24 * s + i) (nI n)) da (upd bi (24 * s + i) (if bi (24 * s + i) = 1 then 1 else bi (24 * s + i) ||| 2)) tk (fun psr k => ?_) (fun psr k => ?_)
  · unfold wpX_rename
    exact xt_t hs (br_f ob_10 (br_f v0 (xn_t hN hn (br_f ob_10 (xe_t hO24 hs3 hi hki (br_f ob_10 (xc_t hO24 hs3 hp hk1 (br_t rfl (x_within H hs hp24 i0 hi24 (fun h => (hw h).elim) (fun _ => br_t rfl (x_occupant hs hp24 hn8 (br_t e0 (xl_f hs hi24 (fun a b c => hfull ⟨a, b, c⟩) (br_t rfl (x_unlink hs hi24 hp0 (by omega) g0 g1 (x_place hs hi24 hp24 hn8 (x_addBit hs hi24 i0 hb0 hvi (fun h1 => by have := (bw_2 hvi h8i rfl).1; rw [if_neg h1] at this; exact this) hL hpb (fun L' li' la' pb' w hw a b => by subst hw; exact k L' _ _ li' la' pb' (iv_rename I hs i0 hi24 hki hp24 hn hk1 hp0 (by omega) g0 g1 hac hfree rfl a b)))))))))))))))))))
  · have kw := y_r153 (O := O) (N := N) (C := C) (kd := kd) (pa := pa) (na := na) (da := da) (bi := bi) (tk := tk) (ve := ve) (fy := fy) (mk := mk) (mp := mp) (mn := mn) (md := md) (m := 24 * s + i) (v3 := nI p) (v4 := nI n) (by omega) k
    unfold wpY_rename
    by_cases h5 : bi (24 * s + i) &&& 3 = 0
    · exact yb_t hs (br_t rfl (br_f v0 (br_f (nI_pos (by omega)) (br_t (nI_lt hn (by omega)) (yk_t hO24 hs3 hi (br_f hki (yk_t hO24 hs3 hp (br_f hkp (yk_t hO24 hs3 hp (br_f hk2 (Exists.intro 25 (y_path_l H hs hp24 i0 hi24 (fun h => (hw h).elim) (fun _ => (by unfold wY_rename_109; exact y_lookup hO24 hN hs hp hn (fun y hy a b d => (hfree y hy (xs_t (hy0 y b) a) b d).elim) (fun _ => br_t (by decide) (nm_r (ob_si s i) (And.intro i48 (mt_ c3 h5 (yf_f hv hs (fun a b => hfull ⟨a, hpb.trans b, h5⟩) (br_t rfl kw)))))))) 24 0 (nI p) (by omega) (Or.inr rfl) (fun k hk => absurd hk (Nat.not_lt_zero _))))))))))))))
    · exact yb_t hs (br_t rfl (br_f v0 (br_f (nI_pos (by omega)) (br_t (nI_lt hn (by omega)) (yk_t hO24 hs3 hi (br_f hki (yk_t hO24 hs3 hp (br_f hkp (yk_t hO24 hs3 hp (br_f hk2 (Exists.intro 25 (y_path_l H hs hp24 i0 hi24 (fun h => (hw h).elim) (fun _ => (by unfold wY_rename_109; exact y_lookup hO24 hN hs hp hn (fun y hy a b d => (hfree y hy (xs_t (hy0 y b) a) b d).elim) (fun _ => br_t (by decide) (nm_r (ob_si s i) (And.intro i48 (mf_ c3 h5 kw)))))) 24 0 (nI p) (by omega) (Or.inr rfl) (fun k hk => absurd hk (Nat.not_lt_zero _))))))))))))))
end
end
section
/-! remove -/
section
variable {O N C L : Nat} {pb qh qt pl : Int32} {kd pa na da sl cc bi tk ve li la fa qu wm ol fy mk mp mn md : Nat → Int32}
theorem y_r98 {psr : Int32 → SY → Prop} {m : Nat} (hm : m < 48) (k : psr 0 (nI O, nI N, nI C, upd kd m 0, upd pa m (-1), upd na m (-1), upd da m 0, upd bi m (if bi m = 1 then 0 else 8), tk, ve, fy, mk, mp, mn, md)) : wY_remove_98 psr (nI m) (nI O) (nI N) (nI C) kd pa na da bi tk ve fy mk mp mn md := by
  have c := nI_clamp (n := m) (by omega)
  have i2 := ob_in (x := nI m) m 48 hm
  unfold wY_remove_98
  refine y_put (by omega) (And.intro i2 (rc_ c (fun h => And.intro i2 (nu_ c ?_)) (fun h => And.intro i2 (nu_ c ?_))))
  · rw [if_pos h] at k; exact k
  · rw [if_neg h] at k; exact k
theorem y_rm_l {psr : Int32 → SY → Prop} {s i : Nat} (hs : s < 2) (f : (∃ y, y < 24 ∧ kd (24 * s + y) ≠ 0 ∧ pa (24 * s + y) = nI i) → psr 8 (nI O, nI N, nI C, kd, pa, na, da, bi, tk, ve, fy, mk, mp, mn, md)) (g : (∀ y, y < 24 → kd (24 * s + y) ≠ 0 → pa (24 * s + y) = nI i → False) → ∀ x : Int32, x = nI s * 24 + nI i → (vp_in x 48 ∧ ((bi x.toNatClampNeg = 0 → wpY_full (fun r => (r = 0 → wY_remove_98 psr x (nI O) (nI N) (nI C) kd pa na da bi tk ve fy mk mp mn md) ∧ (¬ r = 0 → psr 9 (nI O, nI N, nI C, kd, pa, na, da, bi, tk, ve, fy, mk, mp, mn, md))) (nI O, nI N, nI C, kd, pa, na, da, bi, tk, ve, fy, mk, mp, mn, md) (nI s)) ∧ (¬ bi x.toNatClampNeg = 0 → wY_remove_98 psr x (nI O) (nI N) (nI C) kd pa na da bi tk ve fy mk mp mn md)))) : ∀ d y, y + d = 24 → (∀ z, z < y → kd (24 * s + z) ≠ 0 → pa (24 * s + z) = nI i → False) → wY_remove_27 psr (nI s) (nI i) (nI O) (nI N) (nI C) kd pa na da bi tk ve fy mk mp mn md (d + 1) (nI y) := by
  intro d
  induction d with
  | zero =>
    intro y hy hno
    have e : y = 24 := by omega
    subst e
    exact br_t (nI_le (a := 24) (by omega) (by omega)) (g hno)
  | succ d ih =>
    intro y hy hno
    have c := ob_cl (24 * s + y) (ob_si s y)
    have i1 := ob_in (24 * s + y) 72 (by omega) (ob_si s y)
    have next : (kd (24 * s + y) ≠ 0 → pa (24 * s + y) = nI i → False) → wY_remove_27 psr (nI s) (nI i) (nI O) (nI N) (nI C) kd pa na da bi tk ve fy mk mp mn md (d + 1) (nI (y + 1)) := fun h => ih (y + 1) (by omega) (fun z hz => by
      by_cases e : z = y
      · subst e; exact h
      · exact hno z (by omega))
    exact br_f (nI_ge (b := 24) (by omega) (by omega)) (And.intro i1 (rc_ c (fun h => nm_r (nI_1 y) (next (fun z => absurd h z))) (fun h => And.intro i1 (rc_ c (fun h1 => f ⟨y, by omega, h, h1⟩) (fun h1 => nm_r (nI_1 y) (next (fun _ z => h1 z)))))))
theorem v15 {b : Int32} (h : vb b) : b &&& 15 = 0 ↔ b = 0 := by
  rcases h with h | h | h | h | h | h <;> subst h <;> decide
theorem o_remove (I : Inv O N L kd pa na da sl cc bi tk li la pb) (v1 v2 : Int32) : Out (fun psr => wpX_remove psr (nI O, nI N, nI C, nI L, pb, qh, qt, pl, kd, pa, na, da, sl, cc, bi, tk, ve, li, la, fa, qu, wm, ol) v1 v2) (fun psr => wpY_remove psr (nI O, nI N, nI C, kd, pa, na, da, bi, tk, ve, fy, mk, mp, mn, md) v1 v2) O N C L pb qh qt pl kd pa na da sl cc bi tk ve li la fa qu wm ol fy mk mp mn md := by
  have H := I.1
  have hO24 : O ≤ 24 := H.1.2.1
  have hO8 : 8 ≤ O := H.1.1
  have hN : N ≤ 8 := H.1.2.2.2
  have hv : ∀ i, i < 24 → vb (bi i) := fun i hi => cx_v H (by omega)
  have hb0 := cx_b0 H
  have hL := I.2.2.2.2.1
  have hpb := I.2.2.2.2.2
  rcases ob_ix v1 (n := 2) (by omega) with ⟨s, hs, rfl⟩ | ⟨hb1, _⟩
  rotate_left
  · have h0 : v1 ≠ 0 := hb1 0 (by omega)
    have h1 : v1 ≠ 1 := hb1 1 (by omega)
    exact out_k 1 (fun psr k => by
      unfold wpX_remove
      exact xt_f h0 h1 (br_t rfl k)) (fun psr k => by
      unfold wpY_remove
      exact yb_f h0 h1 (br_f ob_10 k))
  have hs3 : s < 3 := by omega
  by_cases v0 : v2 = 0
  · exact out_k 1 (fun psr k => by
      unfold wpX_remove
      exact xt_t hs (br_f ob_10 (br_t v0 k))) (fun psr k => by
      unfold wpY_remove
      exact yb_t hs (br_t rfl (br_t v0 k)))
  by_cases hex : ∀ i, i < O → v2 = nI i → kd (24 * s + i) = 0
  · exact out_k 2 (fun psr k => by
      unfold wpX_remove
      exact xt_t hs (br_f ob_10 (br_f v0 (xe_f hO24 hs3 hex (br_t rfl k))))) (fun psr k => by
      unfold wpY_remove
      exact yb_t hs (br_t rfl (br_f v0 (yk_n hO24 hs3 hex (br_t rfl k)))))
  obtain ⟨i, hi, hki⟩ : ∃ i, i < O ∧ v2 = nI i ∧ kd (24 * s + i) ≠ 0 := Classical.byContradiction fun q => hex (fun p hp e => Classical.byContradiction fun z => q ⟨p, hp, e, z⟩)
  obtain ⟨rfl, hki⟩ := hki
  have hi24 : i < 24 := by omega
  have c1 := nI_clamp (n := i) (by omega)
  have c2 := ob_cl (24 * s + i) (ob_si s i)
  have c3 := nI_clamp (n := 24 * s + i) (by omega)
  have i72 := ob_in (24 * s + i) 72 (by omega) (ob_si s i)
  have i48 := ob_in (x := nI (24 * s + i)) (24 * s + i) 48 (by omega)
  have hvi := cx_v H (m := 24 * s + i) (by omega)
  have h8i := cx_b8 H hs hi24 hki
  have i0 : i ≠ 0 := fun e => v0 (by rw [e]; rfl)
  have hT := cx_tr H hs
  have hy0 : ∀ y, pa (24 * s + y) = nI i → y ≠ 0 := fun y hy e => by
    subst e
    rw [Nat.add_zero, hT.1.2.1] at hy
    exact ob_m1n (by omega) hy
  have hcc := (iv_sl I hs).2.2.1 i hi24
  have hcn : cn (fun j => xs (24 * s) kd j && decide (pa (24 * s + j) = nI i)) 24 < 2 ^ 31 := Nat.lt_of_le_of_lt (cn_le _ 24) (by omega)
  by_cases hch : ∃ y, y < 24 ∧ kd (24 * s + y) ≠ 0 ∧ pa (24 * s + y) = nI i
  · have hne : ¬ cc (24 * s + i) = 0 := fun z => by
      rw [hcc] at z
      have z' := (ob_n0 hcn).mp z
      obtain ⟨y, hy, q1, q2⟩ := hch
      have := cn_0 24 z' y hy
      simp [xs_t (hy0 y q2) q1, q2] at this
    exact out_k 8 (fun psr k => by
      unfold wpX_remove
      exact xt_t hs (br_f ob_10 (br_f v0 (xe_t hO24 hs3 hi hki (br_f ob_10 (nm_r (ob_si s i) (And.intro i48 (rf_ c3 hne k)))))))) (fun psr k => by
      unfold wpY_remove
      exact yb_t hs (br_t rfl (br_f v0 (yk_t hO24 hs3 hi (br_f hki (Exists.intro 25 (y_rm_l hs (fun _ => k) (fun h => (hch.elim (fun y q => h y q.1 q.2.1 q.2.2)).elim) 24 0 (by omega) (fun z hz => absurd hz (Nat.not_lt_zero _)))))))))
  have hno : ∀ y, y < 24 → kd (24 * s + y) ≠ 0 → pa (24 * s + y) = nI i → False := fun y a b c => hch ⟨y, a, b, c⟩
  have hz : cc (24 * s + i) = 0 := by
    rw [hcc, cn_z 24 (fun y hy => ?_)]
    · rfl
    · cases hq : (xs (24 * s) kd y && decide (pa (24 * s + y) = nI i)) with
      | false => rfl
      | true =>
        rw [Bool.and_eq_true, decide_eq_true_eq] at hq
        exact (hno y hy (xs_f hq.1).2 hq.2).elim
  by_cases hfull : s = 0 ∧ pb = nI C ∧ bi (24 * s + i) = 0
  · exact out_k 9 (fun psr k => by
      unfold wpX_remove
      exact xt_t hs (br_f ob_10 (br_f v0 (xe_t hO24 hs3 hi hki (br_f ob_10 (nm_r (ob_si s i) (And.intro i48 (rt_ c3 hz (xl_t hs hi24 hfull.1 hfull.2.1 ((v15 hvi).mpr hfull.2.2) (br_f ob_10 k)))))))))) (fun psr k => by
      unfold wpY_remove
      exact yb_t hs (br_t rfl (br_f v0 (yk_t hO24 hs3 hi (br_f hki (Exists.intro 25 (y_rm_l hs (fun h => (hch h).elim) (fun _ => nm_r (ob_si s i) (And.intro i48 (rt_ c3 hfull.2.2 (yf_t hv hfull.1 (hpb.symm.trans hfull.2.1) (br_f ob_10 k))))) 24 0 (by omega) (fun z hz => absurd hz (Nat.not_lt_zero _)))))))))
  obtain ⟨_, p0, n0, hp0, hn0, g0, g1, _⟩ := hT.2.1 i i0 hi24 hki
  refine out_c (upd kd (24 * s + i) 0) (upd pa (24 * s + i) (-1)) (upd na (24 * s + i) (-1)) (upd da (24 * s + i) 0) (upd bi (24 * s + i) (if bi (24 * s + i) = 1 then 0 else 8)) tk (fun psr k => ?_) (fun psr k => ?_)
  · have fin : ∀ w : Int32, ((w = 0 ∧ bi (24 * s + i) = 1) ∨ (w = 8 ∧ bi (24 * s + i) ≠ 1)) → wX_remove_85 psr (nI s) (nI i) w (nI O) (nI N) (nI C) (nI L) pb qh qt pl (upd kd (24 * s + i) 0) (upd pa (24 * s + i) (-1)) (upd na (24 * s + i) (-1)) (upd da (24 * s + i) 0) (upd sl (8 * (24 * s + p0) + n0) 0) (upd cc (24 * s + p0) (cc (24 * s + p0) - 1)) bi tk ve li la fa qu wm ol := fun w hw => by
      have ew : (if bi (24 * s + i) = 1 then (0 : Int32) else 8) = w := by
        rcases hw with ⟨q1, q2⟩ | ⟨q1, q2⟩
        · rw [if_pos q2, q1]
        · rw [if_neg q2, q1]
      rw [ew] at k
      unfold wX_remove_85
      exact x_setBits hs hi24 i0 hb0 hvi (by rcases hw with ⟨q, _⟩ | ⟨q, _⟩ <;> rw [q] <;> unfold vb <;> decide) hL hpb (fun L' li' la' pb' a b => k L' _ _ li' la' pb' (iv_remove I hs i0 hi24 hki hp0 (by omega) g0 g1 (fun j hj _ h1 h2 => hno j hj h1 h2) hw a b))
    unfold wpX_remove
    exact xt_t hs (br_f ob_10 (br_f v0 (xe_t hO24 hs3 hi hki (br_f ob_10 (nm_r (ob_si s i) (And.intro i48 (rt_ c3 hz (xl_f hs hi24 (fun a b c => hfull ⟨a, b, (v15 hvi).mp c⟩) (br_t rfl (x_unlink hs hi24 hp0 (by omega) g0 g1 (x_clearEntry (by omega) (And.intro i48 (rc_ c3 (fun h => fin 0 (Or.inl ⟨rfl, h⟩)) (fun h => fin 8 (Or.inr ⟨rfl, h⟩)))))))))))))))
  · have kw := y_r98 (O := O) (N := N) (C := C) (kd := kd) (pa := pa) (na := na) (da := da) (bi := bi) (tk := tk) (ve := ve) (fy := fy) (mk := mk) (mp := mp) (mn := mn) (md := md) (m := 24 * s + i) (by omega) k
    unfold wpY_remove
    by_cases h5 : bi (24 * s + i) = 0
    · exact yb_t hs (br_t rfl (br_f v0 (yk_t hO24 hs3 hi (br_f hki (Exists.intro 25 (y_rm_l hs (fun h => (hch h).elim) (fun _ => nm_r (ob_si s i) (And.intro i48 (rt_ c3 h5 (yf_f hv hs (fun a b => hfull ⟨a, hpb.trans b, h5⟩) (br_t rfl kw))))) 24 0 (by omega) (fun z hz => absurd hz (Nat.not_lt_zero _))))))))
    · exact yb_t hs (br_t rfl (br_f v0 (yk_t hO24 hs3 hi (br_f hki (Exists.intro 25 (y_rm_l hs (fun h => (hch h).elim) (fun _ => nm_r (ob_si s i) (And.intro i48 (rf_ c3 h5 kw))) 24 0 (by omega) (fun z hz => absurd hz (Nat.not_lt_zero _))))))))
end
end
section
/-! the constructors -/
theorem cl_out (x : Int32) {lo hi : Nat} (h : lo ≤ hi) (hh : hi < 2 ^ 31) : ∃ c, lo ≤ c ∧ c ≤ hi ∧ ∀ A : Int32 → Prop, A (nI c) → ((nI lo ≤ x → ((x ≤ nI hi → A x) ∧ (¬ x ≤ nI hi → A (nI hi)))) ∧ (¬ nI lo ≤ x → A (nI lo))) := by
  by_cases h1 : nI lo ≤ x
  · have h0 : ¬ x < 0 := Int32.not_lt.mpr (Int32.le_trans (nI_pos' (by omega)) h1)
    obtain ⟨j, hj, rfl⟩ := nI_of h0
    by_cases h2 : nI j ≤ nI hi
    · exact ⟨j, (nI_leI (by omega) hj).mp h1, (nI_leI hj hh).mp h2, fun A a => br_t h1 (br_t h2 a)⟩
    · exact ⟨hi, h, Nat.le_refl _, fun A a => br_t h1 (br_f h2 a)⟩
  · exact ⟨lo, Nat.le_refl _, h, fun A a => br_f h1 a⟩
def zi (i : Nat) : Nat → Int32 := fun j => if j < i then -1 else 0
theorem zi_s (i : Nat) : upd (zi i) i (-1) = zi (i + 1) := by
  refine ud_ ?_ (fun j hj => ?_)
  · unfold zi
    rw [if_pos (by omega)]
  · unfold zi
    by_cases q : j < i
    · rw [if_pos q, if_pos (by omega)]
    · rw [if_neg q, if_neg (by omega)]
theorem zi_0 : zi 0 = fun _ => 0 := by
  funext j
  unfold zi
  rw [if_neg (by omega)]
theorem zz_u (i : Nat) : upd (fun _ => (0 : Int32)) i 0 = fun _ => 0 := ud_ rfl (fun _ _ => rfl)
def kd0 : Nat → Int32 := upd (upd (fun _ => 0) 0 1) 24 1
def tk0 : Nat → Int32 := upd (fun _ => 0) 0 (vp_nar .boolean 1)
theorem kd0_n {m : Nat} (h0 : m ≠ 0) (h1 : m ≠ 24) : kd0 m = 0 := by
  unfold kd0
  rw [ob_un h1, ob_un h0]
theorem kd0_0 : kd0 0 = 1 := by
  unfold kd0
  rw [ob_un (by omega), ob_us]
theorem kd0_1 : kd0 24 = 1 := ob_us
theorem zi_l {m : Nat} (h : m < 72) : zi 72 m = -1 := if_pos h
theorem tr_0 {o O N : Nat} (ho : o = 0 ∨ o = 24) : Tr o O N kd0 (zi 72) (zi 72) := by
  have h1 : ∀ i, i ≠ 0 → i < 24 → kd0 (o + i) = 0 := fun i h0 hi => kd0_n (by omega) (by omega)
  refine ⟨⟨?_, zi_l (by omega), zi_l (by omega)⟩, fun i h0 hi hk => absurd (h1 i h0 hi) hk, fun i hi => ?_, fun i j i0 hi j0 hj ki => absurd (h1 i i0 hi) ki, fun i hi => ⟨1, ?_⟩⟩
  · rcases ho with e | e
    · rw [e]; exact kd0_0
    · rw [e]; exact kd0_1
  · by_cases h0 : i = 0
    · subst h0
      rcases ho with e | e
      · rw [e]; exact Or.inr (Or.inl kd0_0)
      · rw [e]; exact Or.inr (Or.inl kd0_1)
    · exact Or.inl (h1 i h0 hi)
  · show (zi 72 (o + i)).toNatClampNeg = 0
    rw [zi_l (by omega), ob_m1]
theorem sl_0 {o : Nat} (ho : o = 0 ∨ o = 24) : SL o (xs o kd0) (zi 72) (zi 72) (fun _ => 0) (fun _ => 0) := by
  have h1 : ∀ i, i < 24 → xs o kd0 i = false := fun i hi => by
    unfold xs
    by_cases h0 : i = 0
    · simp [h0]
    · rw [kd0_n (by omega) (by omega)]; simp
  refine ⟨fun i hi hx => ?_, fun p n hp hn => Or.inl rfl, fun p hp => ?_, h1 0 (by omega)⟩
  · rw [h1 i hi] at hx; exact absurd hx (by decide)
  · rw [cn_z 24 (fun i hi => by rw [h1 i hi]; rfl)]
    rfl
theorem iv_0 {O N : Nat} (hO : 8 ≤ O ∧ O ≤ 24 ∧ 2 ≤ N ∧ N ≤ 8) : Inv O N 0 kd0 (zi 72) (zi 72) (fun _ => 0) (fun _ => 0) (fun _ => 0) (fun _ => 0) tk0 (fun _ => 0) (fun _ => 0) 0 := by
  refine ⟨⟨hO, tr_0 (Or.inl rfl), tr_0 (Or.inr rfl), fun m hm => ⟨fun _ => ⟨zi_l hm, zi_l hm⟩, fun _ => rfl⟩, fun i hi => Or.inl rfl, rfl, rfl, fun i hi => ?_⟩, sl_0 (Or.inl rfl), sl_0 (Or.inr rfl), fun i hi ht => ?_, ⟨(cn_z 24 (fun i hi => rfl)).symm, fun j hj => absurd hj (Nat.not_lt_zero _), fun i hi hb => absurd rfl hb⟩, ?_⟩
  · refine ⟨fun z => absurd z (show ¬ (0 : Int32) = 1 by decide), fun z => absurd z (show ¬ (0 : Int32) = 1 by decide), fun _ => show ¬ (0 : Int32) = 8 by decide, fun _ => show ¬ (0 : Int32) = 8 by decide, fun z => absurd rfl z, fun z => absurd rfl z, fun z1 _ z2 => ?_, fun z1 z2 => ?_⟩
    · by_cases h0 : i = 0
      · subst h0; rw [kd0_1] at z2; exact absurd z2 (by decide)
      · exact absurd (kd0_n h0 (by omega)) z1
    · by_cases h0 : i = 0
      · subst h0; rw [kd0_0]; exact kd0_1.symm
      · exact absurd (kd0_n h0 (by omega)) z1
  · have h0 : i ≠ 0 := fun e => by
      subst e
      unfold tk0 at ht
      rw [ob_us] at ht
      exact vn1 ht
    exact ⟨kd0_n h0 (by omega), kd0_n (by omega) (by omega), rfl, rfl⟩
  · have e : sm (fun i => pc ((fun _ => (0 : Int32)) i)) 24 = 0 := sm_z 24 (fun i hi => rfl)
    rw [e]
    rfl
theorem x_clamp {ob nm ca ls pb qh qt pl : Int32} {kd pa na da sl cc bi tk ve li la fa qu wm ol : Nat → Int32} {post : Int32 → Prop} {x lo hi : Int32} {c : Nat} (h : ∀ A : Int32 → Prop, A (nI c) → ((lo ≤ x → ((x ≤ hi → A x) ∧ (¬ x ≤ hi → A hi))) ∧ (¬ lo ≤ x → A lo))) (k : post (nI c)) : wpX_clamp post (ob, nm, ca, ls, pb, qh, qt, pl, kd, pa, na, da, sl, cc, bi, tk, ve, li, la, fa, qu, wm, ol) x lo hi := h post k
section
variable {O N C : Nat} {pst : SX → Prop} {psy : SY → Prop}
theorem x_init_l (k : pst (nI O, nI N, nI C, 0, 0, 0, 0, 0, kd0, zi 72, zi 72, fun _ => 0, fun _ => 0, fun _ => 0, fun _ => 0, tk0, fun _ => 0, fun _ => 0, fun _ => 0, fun _ => 0, fun _ => 0, fun _ => 0, fun _ => 0)) : ∀ d i, i + d = 72 → wX_init_165 pst (d + 1) (nI i) (nI O) (nI N) (nI C) 0 0 0 0 0 (fun _ => 0) (zi i) (zi i) (fun _ => 0) (fun _ => 0) (fun _ => 0) (fun _ => 0) (fun _ => 0) (fun _ => 0) (fun _ => 0) (fun _ => 0) (fun _ => 0) (fun _ => 0) (fun _ => 0) (fun _ => 0) := by
  intro d
  induction d with
  | zero =>
    intro i hi
    have e : i = 72 := by omega
    subst e
    exact br_t (nI_le (a := 72) (by omega) (by omega)) (nm_e (nm_e (nm_e k)))
  | succ d ih =>
    intro i hi
    refine br_f (nI_ge (b := 72) (by omega) (by omega)) (x_clearEntry (L := 0) (by omega) (nm_r (nI_1 i) ?_))
    simp only [zi_s, zz_u]
    exact ih (i + 1) (by omega)
theorem y_init_l (k : psy (nI O, nI N, nI C, kd0, zi 72, zi 72, fun _ => 0, fun _ => 0, tk0, fun _ => 0, fun _ => 0, fun _ => 0, fun _ => 0, fun _ => 0, fun _ => 0)) : ∀ d i, i + d = 72 → wY_init_180 psy (nI O) (nI N) (nI C) (d + 1) (nI i) (fun _ => 0) (zi i) (zi i) (fun _ => 0) (fun _ => 0) (fun _ => 0) (fun _ => 0) (fun _ => 0) (fun _ => 0) (fun _ => 0) (fun _ => 0) (fun _ => 0) := by
  intro d
  induction d with
  | zero =>
    intro i hi
    have e : i = 72 := by omega
    subst e
    exact br_t (nI_le (a := 72) (by omega) (by omega)) (nm_e (nm_e (nm_e k)))
  | succ d ih =>
    intro i hi
    have c := nI_clamp (n := i) (by omega)
    refine br_f (nI_ge (b := 72) (by omega) (by omega)) ?_
    rw [c]
    exact And.intro (ob_in i 72 (by omega)) (nm_r (zi_s i) (And.intro (ob_in i 72 (by omega)) (nm_r (zi_s i) (nm_r (nI_1 i) (ih (i + 1) (by omega))))))
end
theorem i_vc0 (k0 : Int32) (k1 : Int32) (k2 : Int32) : wpX_init (fun u => wpY_init (fun v => i_Rel 3 u v) k0 k1 k2) k0 k1 k2 := by
  obtain ⟨O, o1, o2, hO⟩ := cl_out k0 (lo := 8) (hi := 24) (by omega) (by omega)
  obtain ⟨N, n1, n2, hN⟩ := cl_out k1 (lo := 2) (hi := 8) (by omega) (by omega)
  obtain ⟨C, c1, c2, hC⟩ := cl_out k2 (lo := 4) (hi := 32) (by omega) (by omega)
  unfold wpX_init
  refine x_clamp hO (x_clamp hN (x_clamp hC (Exists.intro 73 ?_)))
  have hx := fun (pst : SX → Prop) k => x_init_l (O := O) (N := N) (C := C) (pst := pst) k 72 0 (by omega)
  simp only [zi_0] at hx
  refine hx _ ?_
  refine hO (fun z => wY_init_124 _ k1 k2 z 0 0 0 (fun _ => 0) (fun _ => 0) (fun _ => 0) (fun _ => 0) (fun _ => 0) (fun _ => 0) (fun _ => 0) (fun _ => 0) (fun _ => 0) (fun _ => 0) (fun _ => 0) (fun _ => 0)) ?_
  refine hN (fun z => wY_init_149 _ k2 z (nI O) 0 0 (fun _ => 0) (fun _ => 0) (fun _ => 0) (fun _ => 0) (fun _ => 0) (fun _ => 0) (fun _ => 0) (fun _ => 0) (fun _ => 0) (fun _ => 0) (fun _ => 0) (fun _ => 0)) ?_
  refine hC (fun z => ∃ m, wY_init_180 _ (nI O) (nI N) z m 0 (fun _ => 0) (fun _ => 0) (fun _ => 0) (fun _ => 0) (fun _ => 0) (fun _ => 0) (fun _ => 0) (fun _ => 0) (fun _ => 0) (fun _ => 0) (fun _ => 0) (fun _ => 0)) (Exists.intro 73 ?_)
  have hy := fun (psy : SY → Prop) k => y_init_l (O := O) (N := N) (C := C) (psy := psy) k 72 0 (by omega)
  simp only [zi_0] at hy
  exact hy _ (rl_in (L := 0) (iv_0 ⟨o1, o2, n1, n2⟩) (Or.inl rfl))
end
section
/-! readers: one answer for both -/
section
variable {O N C L : Nat} {pb qh qt pl : Int32} {kd pa na da sl cc bi tk ve li la fa qu wm ol fy mk mp mn md : Nat → Int32} {post : Int32 → Prop} {s j : Nat} {v v' : Int32}
theorem xE_t (hO : O ≤ 24) (hs : s < 3) (hj : j < O) (k : post 1) : wpX_isEntry post (nI O, nI N, nI C, nI L, pb, qh, qt, pl, kd, pa, na, da, sl, cc, bi, tk, ve, li, la, fa, qu, wm, ol) (nI s) (nI j) :=
  br_f (nI_pos (by omega)) (br_f (nI_nlt (a := 2) (by omega) (by omega)) (xi_t hO hj (br_f ob_10 k)))
theorem xE_1 (h : v < 0 ∨ (¬ v < 0 ∧ nI 3 ≤ v)) (k : post 0) : wpX_isEntry post (nI O, nI N, nI C, nI L, pb, qh, qt, pl, kd, pa, na, da, sl, cc, bi, tk, ve, li, la, fa, qu, wm, ol) v v' := by
  rcases h with h | ⟨h1, h2⟩
  · exact br_t h k
  · exact br_f h1 (br_t (gt_2 h1 h2) k)
theorem xE_2 (hO : O ≤ 24) (hs : s < 3) (hn : ∀ j, j < O → v ≠ nI j) (k : post 0) : wpX_isEntry post (nI O, nI N, nI C, nI L, pb, qh, qt, pl, kd, pa, na, da, sl, cc, bi, tk, ve, li, la, fa, qu, wm, ol) (nI s) v :=
  br_f (nI_pos (by omega)) (br_f (nI_nlt (a := 2) (by omega) (by omega)) (xi_f hO hn (br_t rfl k)))
theorem yE_1 (h : v < 0 ∨ (¬ v < 0 ∧ nI 3 ≤ v)) (k : post 0) : wpY_kind post (nI O, nI N, nI C, kd, pa, na, da, bi, tk, ve, fy, mk, mp, mn, md) v v' := by
  rcases h with h | ⟨h1, h2⟩
  · exact br_t h k
  · exact br_f h1 (br_t (gt_2 h1 h2) k)
theorem r_kind (I : Inv O N L kd pa na da sl cc bi tk li la pb) (v1 v2 : Int32) : ∃ r, (∀ post : Int32 → Prop, post r → wpX_kind post (nI O, nI N, nI C, nI L, pb, qh, qt, pl, kd, pa, na, da, sl, cc, bi, tk, ve, li, la, fa, qu, wm, ol) v1 v2) ∧ (∀ post : Int32 → Prop, post r → wpY_kind post (nI O, nI N, nI C, kd, pa, na, da, bi, tk, ve, fy, mk, mp, mn, md) v1 v2) := by
  have H := I.1
  have hO24 : O ≤ 24 := H.1.2.1
  have hN : N ≤ 8 := H.1.2.2.2
  rcases ob_ix v1 (n := 3) (by omega) with ⟨s, hs, rfl⟩ | ⟨_, hb1⟩
  · rcases ob_ix v2 (n := O) (by omega) with ⟨j, hj, rfl⟩ | ⟨hb2, _⟩
    · have i72 := ob_in (24 * s + j) 72 (by omega) (ob_si s j)
      have c := ob_cl (24 * s + j) (ob_si s j)
      have hE := H.2.2.2.1 (24 * s + j) (by omega)
      refine ⟨kd (24 * s + j), fun post k => ?_, fun post k => ?_⟩
      · unfold wpX_kind
        exact xE_t hO24 hs hj (br_f ob_10 (And.intro i72 (ex_ c k)))
      · skip
        exact yk_t hO24 hs hj k
    · refine ⟨0, fun post k => ?_, fun post k => ?_⟩
      · unfold wpX_kind
        exact xE_2 hO24 hs hb2 (br_t rfl k)
      · skip
        exact yk_f hO24 hs hb2 (k)
  · refine ⟨0, fun post k => ?_, fun post k => ?_⟩
    · unfold wpX_kind
      exact xE_1 hb1 (br_t rfl k)
    · skip
      exact yE_1 hb1 (k)
theorem r_parent (I : Inv O N L kd pa na da sl cc bi tk li la pb) (v1 v2 : Int32) : ∃ r, (∀ post : Int32 → Prop, post r → wpX_parent post (nI O, nI N, nI C, nI L, pb, qh, qt, pl, kd, pa, na, da, sl, cc, bi, tk, ve, li, la, fa, qu, wm, ol) v1 v2) ∧ (∀ post : Int32 → Prop, post r → wpY_parent post (nI O, nI N, nI C, kd, pa, na, da, bi, tk, ve, fy, mk, mp, mn, md) v1 v2) := by
  have H := I.1
  have hO24 : O ≤ 24 := H.1.2.1
  have hN : N ≤ 8 := H.1.2.2.2
  rcases ob_ix v1 (n := 3) (by omega) with ⟨s, hs, rfl⟩ | ⟨_, hb1⟩
  · rcases ob_ix v2 (n := O) (by omega) with ⟨j, hj, rfl⟩ | ⟨hb2, _⟩
    · have i72 := ob_in (24 * s + j) 72 (by omega) (ob_si s j)
      have c := ob_cl (24 * s + j) (ob_si s j)
      have hE := H.2.2.2.1 (24 * s + j) (by omega)
      refine ⟨pa (24 * s + j), fun post k => ?_, fun post k => ?_⟩
      · unfold wpX_parent
        exact xE_t hO24 hs hj (br_f ob_10 (And.intro i72 (ex_ c k)))
      · unfold wpY_parent
        refine yk_t hO24 hs hj (br_c (fun h => ?_) (fun _ => And.intro i72 (ex_ c k)))
        rw [(hE.1 h).1] at k
        exact k
    · refine ⟨(-1), fun post k => ?_, fun post k => ?_⟩
      · unfold wpX_parent
        exact xE_2 hO24 hs hb2 (br_t rfl k)
      · unfold wpY_parent
        exact yk_f hO24 hs hb2 (br_t rfl k)
  · refine ⟨(-1), fun post k => ?_, fun post k => ?_⟩
    · unfold wpX_parent
      exact xE_1 hb1 (br_t rfl k)
    · unfold wpY_parent
      exact yE_1 hb1 (br_t rfl k)
theorem r_name (I : Inv O N L kd pa na da sl cc bi tk li la pb) (v1 v2 : Int32) : ∃ r, (∀ post : Int32 → Prop, post r → wpX_name post (nI O, nI N, nI C, nI L, pb, qh, qt, pl, kd, pa, na, da, sl, cc, bi, tk, ve, li, la, fa, qu, wm, ol) v1 v2) ∧ (∀ post : Int32 → Prop, post r → wpY_name post (nI O, nI N, nI C, kd, pa, na, da, bi, tk, ve, fy, mk, mp, mn, md) v1 v2) := by
  have H := I.1
  have hO24 : O ≤ 24 := H.1.2.1
  have hN : N ≤ 8 := H.1.2.2.2
  rcases ob_ix v1 (n := 3) (by omega) with ⟨s, hs, rfl⟩ | ⟨_, hb1⟩
  · rcases ob_ix v2 (n := O) (by omega) with ⟨j, hj, rfl⟩ | ⟨hb2, _⟩
    · have i72 := ob_in (24 * s + j) 72 (by omega) (ob_si s j)
      have c := ob_cl (24 * s + j) (ob_si s j)
      have hE := H.2.2.2.1 (24 * s + j) (by omega)
      refine ⟨na (24 * s + j), fun post k => ?_, fun post k => ?_⟩
      · unfold wpX_name
        exact xE_t hO24 hs hj (br_f ob_10 (And.intro i72 (ex_ c k)))
      · unfold wpY_name
        refine yk_t hO24 hs hj (br_c (fun h => ?_) (fun _ => And.intro i72 (ex_ c k)))
        rw [(hE.1 h).2] at k
        exact k
    · refine ⟨(-1), fun post k => ?_, fun post k => ?_⟩
      · unfold wpX_name
        exact xE_2 hO24 hs hb2 (br_t rfl k)
      · unfold wpY_name
        exact yk_f hO24 hs hb2 (br_t rfl k)
  · refine ⟨(-1), fun post k => ?_, fun post k => ?_⟩
    · unfold wpX_name
      exact xE_1 hb1 (br_t rfl k)
    · unfold wpY_name
      exact yE_1 hb1 (br_t rfl k)
theorem r_data (I : Inv O N L kd pa na da sl cc bi tk li la pb) (v1 v2 : Int32) : ∃ r, (∀ post : Int32 → Prop, post r → wpX_data post (nI O, nI N, nI C, nI L, pb, qh, qt, pl, kd, pa, na, da, sl, cc, bi, tk, ve, li, la, fa, qu, wm, ol) v1 v2) ∧ (∀ post : Int32 → Prop, post r → wpY_data post (nI O, nI N, nI C, kd, pa, na, da, bi, tk, ve, fy, mk, mp, mn, md) v1 v2) := by
  have H := I.1
  have hO24 : O ≤ 24 := H.1.2.1
  have hN : N ≤ 8 := H.1.2.2.2
  rcases ob_ix v1 (n := 3) (by omega) with ⟨s, hs, rfl⟩ | ⟨_, hb1⟩
  · rcases ob_ix v2 (n := O) (by omega) with ⟨j, hj, rfl⟩ | ⟨hb2, _⟩
    · have i72 := ob_in (24 * s + j) 72 (by omega) (ob_si s j)
      have c := ob_cl (24 * s + j) (ob_si s j)
      have hE := H.2.2.2.1 (24 * s + j) (by omega)
      refine ⟨da (24 * s + j), fun post k => ?_, fun post k => ?_⟩
      · unfold wpX_data
        exact xE_t hO24 hs hj (br_f ob_10 (And.intro i72 (ex_ c k)))
      · unfold wpY_data
        refine yk_t hO24 hs hj (br_c (fun _ => And.intro i72 (ex_ c k)) (fun h => ?_))
        rw [hE.2 h] at k
        exact k
    · refine ⟨0, fun post k => ?_, fun post k => ?_⟩
      · unfold wpX_data
        exact xE_2 hO24 hs hb2 (br_t rfl k)
      · unfold wpY_data
        exact yk_f hO24 hs hb2 (br_f (by decide) k)
  · refine ⟨0, fun post k => ?_, fun post k => ?_⟩
    · unfold wpX_data
      exact xE_1 hb1 (br_t rfl k)
    · unfold wpY_data
      exact yE_1 hb1 (br_f (by decide) k)
theorem r_touched (I : Inv O N L kd pa na da sl cc bi tk li la pb) (v1 v2 : Int32) : ∃ r, (∀ post : Int32 → Prop, post r → wpX_touched post (nI O, nI N, nI C, nI L, pb, qh, qt, pl, kd, pa, na, da, sl, cc, bi, tk, ve, li, la, fa, qu, wm, ol) v1 v2) ∧ (∀ post : Int32 → Prop, post r → wpY_touched post (nI O, nI N, nI C, kd, pa, na, da, bi, tk, ve, fy, mk, mp, mn, md) v1 v2) := by
  have H := I.1
  have hO24 : O ≤ 24 := H.1.2.1
  have hN : N ≤ 8 := H.1.2.2.2
  rcases ob_ix v1 (n := 2) (by omega) with ⟨s, hs, rfl⟩ | ⟨hb1, _⟩
  rotate_left
  · have h0 : v1 ≠ 0 := hb1 0 (by omega)
    have h1 : v1 ≠ 1 := hb1 1 (by omega)
    refine ⟨0, fun post k => ?_, fun post k => ?_⟩
    · unfold wpX_touched
      exact xt_f h0 h1 (br_t rfl k)
    · unfold wpY_touched
      exact yb_f h0 h1 (br_f ob_10 k)
  rcases ob_ix v2 (n := O) (by omega) with ⟨j, hj, rfl⟩ | ⟨hb2, hb2'⟩
  · have i48 := ob_in (24 * s + j) 48 (by omega) (ob_si s j)
    have c := ob_cl (24 * s + j) (ob_si s j)
    refine ⟨bi (24 * s + j), fun post k => ?_, fun post k => ?_⟩
    · unfold wpX_touched
      exact xt_t hs (br_f ob_10 (xi_t hO24 hj (br_f ob_10 (And.intro i48 (ex_ c k)))))
    · unfold wpY_touched
      exact yb_t hs (br_t rfl (br_f (nI_pos (by omega)) (br_t (nI_lt hj (by omega)) (And.intro i48 (ex_ c k)))))
  · refine ⟨0, fun post k => ?_, fun post k => ?_⟩
    · unfold wpX_touched
      exact xt_t hs (br_f ob_10 (xi_f hO24 hb2 (br_t rfl k)))
    · unfold wpY_touched
      rcases hb2' with h | ⟨h1, h2⟩
      · exact yb_t hs (br_t rfl (br_t h k))
      · exact yb_t hs (br_t rfl (br_f h1 (br_f (nlt_ h2) k)))
theorem r_lookup (I : Inv O N L kd pa na da sl cc bi tk li la pb) (v1 v2 v3 : Int32) : ∃ r, (∀ post : Int32 → Prop, post r → wpX_lookup post (nI O, nI N, nI C, nI L, pb, qh, qt, pl, kd, pa, na, da, sl, cc, bi, tk, ve, li, la, fa, qu, wm, ol) v1 v2 v3) ∧ (∀ post : Int32 → Prop, post r → wpY_lookup post (nI O, nI N, nI C, kd, pa, na, da, bi, tk, ve, fy, mk, mp, mn, md) v1 v2 v3) := by
  have H := I.1
  have hO24 : O ≤ 24 := H.1.2.1
  have hN : N ≤ 8 := H.1.2.2.2
  rcases ob_ix v1 (n := 2) (by omega) with ⟨s, hs, rfl⟩ | ⟨hb1, _⟩
  rotate_left
  · have h0 : v1 ≠ 0 := hb1 0 (by omega)
    have h1 : v1 ≠ 1 := hb1 1 (by omega)
    refine ⟨(-1), fun post k => ?_, fun post k => ?_⟩
    · unfold wpX_lookup
      exact xt_f h0 h1 (br_t rfl k)
    · unfold wpY_lookup
      exact yb_f h0 h1 (br_f ob_10 k)
  rcases ob_ix v2 (n := O) (by omega) with ⟨p, hp, rfl⟩ | ⟨hb2, hb2'⟩
  rotate_left
  · refine ⟨(-1), fun post k => ?_, fun post k => ?_⟩
    · unfold wpX_lookup
      exact xt_t hs (br_f ob_10 (xi_f hO24 hb2 (br_t rfl k)))
    · unfold wpY_lookup
      rcases hb2' with h | ⟨h1, h2⟩
      · exact yb_t hs (br_t rfl (br_t h k))
      · exact yb_t hs (br_t rfl (br_f h1 (br_t h2 k)))
  rcases ob_ix v3 (n := N) (by omega) with ⟨n, hn, rfl⟩ | ⟨hb3, hb3'⟩
  rotate_left
  · refine ⟨(-1), fun post k => ?_, fun post k => ?_⟩
    · unfold wpX_lookup
      exact xt_t hs (br_f ob_10 (xi_t hO24 hp (br_f ob_10 (xn_f hN hb3 (br_t rfl k)))))
    · unfold wpY_lookup
      rcases hb3' with h | ⟨h1, h2⟩
      · exact yb_t hs (br_t rfl (br_f (nI_pos (by omega)) (br_f (nI_ge hp (by omega)) (br_t h k))))
      · exact yb_t hs (br_t rfl (br_f (nI_pos (by omega)) (br_f (nI_ge hp (by omega)) (br_f h1 (br_f (nlt_ h2) k)))))
  have hT := cx_tr H hs
  have hy0 : ∀ y, pa (24 * s + y) = nI p → y ≠ 0 := fun y hy e => by
    subst e
    rw [Nat.add_zero, hT.1.2.1] at hy
    exact ob_m1n (by omega) hy
  rcases sl_at (iv_sl I hs) (p := p) (n := n) (by omega) (by omega) with ⟨e0, hfree⟩ | ⟨c, hc, hc0, hcx, ec, ep, en, hu⟩
  · refine ⟨(-1), fun post k => ?_, fun post k => y_lookup hO24 hN hs hp hn (fun y hy a b d => (hfree y hy (xs_t (hy0 y b) a) b d).elim) (fun _ => k)⟩
    unfold wpX_lookup
    exact xt_t hs (br_f ob_10 (xi_t hO24 hp (br_f ob_10 (xn_t hN hn (br_f ob_10 (x_occupant hs (by omega) (by omega) (br_t e0 k)))))))
  · refine ⟨nI c, fun post k => ?_, fun post k => y_lookup hO24 hN hs hp hn (fun y hy a b d => ?_) (fun hno => (hno c hc (xs_f hcx).2 ep en).elim)⟩
    · unfold wpX_lookup
      rw [← ec] at k
      exact xt_t hs (br_f ob_10 (xi_t hO24 hp (br_f ob_10 (xn_t hN hn (br_f ob_10 (x_occupant hs (by omega) (by omega) (br_f (fun z => hc0 ((ob_n0 (by omega)).mp (ec.symm.trans z))) k)))))))
    · rw [hu y hy (xs_t (hy0 y b) a) b d]
      exact k
theorem r_verdict (I : Inv O N L kd pa na da sl cc bi tk li la pb) (v1 : Int32) : ∃ r, (∀ post : Int32 → Prop, post r → wpX_verdict post (nI O, nI N, nI C, nI L, pb, qh, qt, pl, kd, pa, na, da, sl, cc, bi, tk, ve, li, la, fa, qu, wm, ol) v1) ∧ (∀ post : Int32 → Prop, post r → wpY_verdict post (nI O, nI N, nI C, kd, pa, na, da, bi, tk, ve, fy, mk, mp, mn, md) v1) := by
  have H := I.1
  have hO24 : O ≤ 24 := H.1.2.1
  have hN : N ≤ 8 := H.1.2.2.2
  rcases ob_ix v1 (n := O) (by omega) with ⟨j, hj, rfl⟩ | ⟨hb2, hb2'⟩
  · have i24 := ob_in (x := nI j) j 24 (by omega)
    have c := nI_clamp (n := j) (by omega)
    refine ⟨ve j, fun post k => ?_, fun post k => ?_⟩
    · unfold wpX_verdict
      exact xi_t hO24 hj (br_f ob_10 (And.intro i24 (ex_ c k)))
    · unfold wpY_verdict
      exact br_f (nI_pos (by omega)) (br_t (nI_lt hj (by omega)) (And.intro i24 (ex_ c k)))
  · refine ⟨0, fun post k => ?_, fun post k => ?_⟩
    · unfold wpX_verdict
      exact xi_f hO24 hb2 (br_t rfl k)
    · unfold wpY_verdict
      rcases hb2' with h | ⟨h1, h2⟩
      · exact br_t h k
      · exact br_f h1 (br_f (nlt_ h2) k)
theorem r_taken (I : Inv O N L kd pa na da sl cc bi tk li la pb) (v1 : Int32) : ∃ r, (∀ post : Int32 → Prop, post r → wpX_taken post (nI O, nI N, nI C, nI L, pb, qh, qt, pl, kd, pa, na, da, sl, cc, bi, tk, ve, li, la, fa, qu, wm, ol) v1) ∧ (∀ post : Int32 → Prop, post r → wpY_taken post (nI O, nI N, nI C, kd, pa, na, da, bi, tk, ve, fy, mk, mp, mn, md) v1) := by
  have H := I.1
  have hO24 : O ≤ 24 := H.1.2.1
  have hN : N ≤ 8 := H.1.2.2.2
  rcases ob_ix v1 (n := O) (by omega) with ⟨j, hj, rfl⟩ | ⟨hb2, hb2'⟩
  · have i24 := ob_in (x := nI j) j 24 (by omega)
    have c := nI_clamp (n := j) (by omega)
    by_cases ht : tk j = 0
    · refine ⟨0, fun post k => ?_, fun post k => ?_⟩
      · unfold wpX_taken
        exact xi_t hO24 hj (br_f ob_10 (And.intro i24 (rt_ c ht k)))
      · unfold wpY_taken
        exact br_f (nI_pos (by omega)) (br_f (nI_ge hj (by omega)) (And.intro i24 (rt_ c ht k)))
    · refine ⟨1, fun post k => ?_, fun post k => ?_⟩
      · unfold wpX_taken
        exact xi_t hO24 hj (br_f ob_10 (And.intro i24 (rf_ c ht k)))
      · unfold wpY_taken
        exact br_f (nI_pos (by omega)) (br_f (nI_ge hj (by omega)) (And.intro i24 (rf_ c ht k)))
  · refine ⟨0, fun post k => ?_, fun post k => ?_⟩
    · unfold wpX_taken
      exact xi_f hO24 hb2 (br_t rfl k)
    · unfold wpY_taken
      rcases hb2' with h | ⟨h1, h2⟩
      · exact br_t h k
      · exact br_f h1 (br_t h2 k)
end
end
section
/-! what is owed, call by call -/
theorem i_vc_mkdir {k : Nat} {u : SX} {v : SY} (I : i_Rel k u v) (hk : k + 5 ≤ 2563) (v1 : Int32) (v2 : Int32) (v3 : Int32) (v4 : Int32) : wpX_mkdir (fun r u' => wpY_mkdir (fun r' v' => r' = r ∧ i_Rel (k + 5) u' v') v v1 v2 v3 v4) u v1 v2 v3 v4 := by
  refine rl_el (P := fun u v => wpX_mkdir (fun r u' => wpY_mkdir (fun r' v' => r' = r ∧ i_Rel (k + 5) u' v') v v1 v2 v3 v4) u v1 v2 v3 v4) ?_ I
  intro O N C L pb qh qt pl kd pa na da sl cc bi tk ve li la fa qu wm ol fy mk mp mn md I hc
  have h := o_make (fy := fy) (mk := mk) (mp := mp) (mn := mn) (md := md) (C := C) (qh := qh) (qt := qt) (pl := pl) (ve := ve) (fa := fa) (qu := qu) (wm := wm) (ol := ol) I (kv := 1) (Or.inl rfl) v1 v2 v3 v4
  have h2 : Out (fun psr => wpX_mkdir psr (nI O, nI N, nI C, nI L, pb, qh, qt, pl, kd, pa, na, da, sl, cc, bi, tk, ve, li, la, fa, qu, wm, ol) v1 v2 v3 v4) (fun psr => wpY_mkdir psr (nI O, nI N, nI C, kd, pa, na, da, bi, tk, ve, fy, mk, mp, mn, md) v1 v2 v3 v4) O N C L pb qh qt pl kd pa na da sl cc bi tk ve li la fa qu wm ol fy mk mp mn md := by
    rcases h with ⟨r, hX, hY⟩ | ⟨kd', pa', na', da', bi', tk', hX, hY⟩
    · refine out_k r (fun psr q => ?_) (fun psr q => ?_)
      · unfold wpX_mkdir
        exact hX _ q
      · unfold wpY_mkdir
        exact hY _ q
    · refine out_c kd' pa' na' da' bi' tk' (fun psr q => ?_) (fun psr q => ?_)
      · unfold wpX_mkdir
        exact hX _ q
      · unfold wpY_mkdir
        exact hY _ q
  exact out_fin I hc h2
theorem i_vc_mkfile {k : Nat} {u : SX} {v : SY} (I : i_Rel k u v) (hk : k + 5 ≤ 2563) (v1 : Int32) (v2 : Int32) (v3 : Int32) (v4 : Int32) : wpX_mkfile (fun r u' => wpY_mkfile (fun r' v' => r' = r ∧ i_Rel (k + 5) u' v') v v1 v2 v3 v4) u v1 v2 v3 v4 := by
  refine rl_el (P := fun u v => wpX_mkfile (fun r u' => wpY_mkfile (fun r' v' => r' = r ∧ i_Rel (k + 5) u' v') v v1 v2 v3 v4) u v1 v2 v3 v4) ?_ I
  intro O N C L pb qh qt pl kd pa na da sl cc bi tk ve li la fa qu wm ol fy mk mp mn md I hc
  have h := o_make (fy := fy) (mk := mk) (mp := mp) (mn := mn) (md := md) (C := C) (qh := qh) (qt := qt) (pl := pl) (ve := ve) (fa := fa) (qu := qu) (wm := wm) (ol := ol) I (kv := 2) (Or.inr rfl) v1 v2 v3 v4
  have h2 : Out (fun psr => wpX_mkfile psr (nI O, nI N, nI C, nI L, pb, qh, qt, pl, kd, pa, na, da, sl, cc, bi, tk, ve, li, la, fa, qu, wm, ol) v1 v2 v3 v4) (fun psr => wpY_mkfile psr (nI O, nI N, nI C, kd, pa, na, da, bi, tk, ve, fy, mk, mp, mn, md) v1 v2 v3 v4) O N C L pb qh qt pl kd pa na da sl cc bi tk ve li la fa qu wm ol fy mk mp mn md := by
    rcases h with ⟨r, hX, hY⟩ | ⟨kd', pa', na', da', bi', tk', hX, hY⟩
    · refine out_k r (fun psr q => ?_) (fun psr q => ?_)
      · unfold wpX_mkfile
        exact hX _ q
      · unfold wpY_mkfile
        exact hY _ q
    · refine out_c kd' pa' na' da' bi' tk' (fun psr q => ?_) (fun psr q => ?_)
      · unfold wpX_mkfile
        exact hX _ q
      · unfold wpY_mkfile
        exact hY _ q
  exact out_fin I hc h2
theorem i_vc_write {k : Nat} {u : SX} {v : SY} (I : i_Rel k u v) (hk : k + 5 ≤ 2563) (v1 : Int32) (v2 : Int32) (v3 : Int32) : wpX_write (fun r u' => wpY_write (fun r' v' => r' = r ∧ i_Rel (k + 5) u' v') v v1 v2 v3) u v1 v2 v3 := by
  refine rl_el (P := fun u v => wpX_write (fun r u' => wpY_write (fun r' v' => r' = r ∧ i_Rel (k + 5) u' v') v v1 v2 v3) u v1 v2 v3) ?_ I
  intro O N C L pb qh qt pl kd pa na da sl cc bi tk ve li la fa qu wm ol fy mk mp mn md I hc
  exact out_fin (wX := fun psr => wpX_write psr (nI O, nI N, nI C, nI L, pb, qh, qt, pl, kd, pa, na, da, sl, cc, bi, tk, ve, li, la, fa, qu, wm, ol) v1 v2 v3) (wY := fun psr => wpY_write psr (nI O, nI N, nI C, kd, pa, na, da, bi, tk, ve, fy, mk, mp, mn, md) v1 v2 v3) I hc (o_write I v1 v2 v3)
theorem i_vc_rename {k : Nat} {u : SX} {v : SY} (I : i_Rel k u v) (hk : k + 5 ≤ 2563) (v1 : Int32) (v2 : Int32) (v3 : Int32) (v4 : Int32) : wpX_rename (fun r u' => wpY_rename (fun r' v' => r' = r ∧ i_Rel (k + 5) u' v') v v1 v2 v3 v4) u v1 v2 v3 v4 := by
  refine rl_el (P := fun u v => wpX_rename (fun r u' => wpY_rename (fun r' v' => r' = r ∧ i_Rel (k + 5) u' v') v v1 v2 v3 v4) u v1 v2 v3 v4) ?_ I
  intro O N C L pb qh qt pl kd pa na da sl cc bi tk ve li la fa qu wm ol fy mk mp mn md I hc
  exact out_fin (wX := fun psr => wpX_rename psr (nI O, nI N, nI C, nI L, pb, qh, qt, pl, kd, pa, na, da, sl, cc, bi, tk, ve, li, la, fa, qu, wm, ol) v1 v2 v3 v4) (wY := fun psr => wpY_rename psr (nI O, nI N, nI C, kd, pa, na, da, bi, tk, ve, fy, mk, mp, mn, md) v1 v2 v3 v4) I hc (o_rename I v1 v2 v3 v4)
theorem i_vc_remove {k : Nat} {u : SX} {v : SY} (I : i_Rel k u v) (hk : k + 5 ≤ 2563) (v1 : Int32) (v2 : Int32) : wpX_remove (fun r u' => wpY_remove (fun r' v' => r' = r ∧ i_Rel (k + 5) u' v') v v1 v2) u v1 v2 := by
  refine rl_el (P := fun u v => wpX_remove (fun r u' => wpY_remove (fun r' v' => r' = r ∧ i_Rel (k + 5) u' v') v v1 v2) u v1 v2) ?_ I
  intro O N C L pb qh qt pl kd pa na da sl cc bi tk ve li la fa qu wm ol fy mk mp mn md I hc
  exact out_fin (wX := fun psr => wpX_remove psr (nI O, nI N, nI C, nI L, pb, qh, qt, pl, kd, pa, na, da, sl, cc, bi, tk, ve, li, la, fa, qu, wm, ol) v1 v2) (wY := fun psr => wpY_remove psr (nI O, nI N, nI C, kd, pa, na, da, bi, tk, ve, fy, mk, mp, mn, md) v1 v2) I hc (o_remove I v1 v2)
theorem i_vc_reintegrate {k : Nat} {u : SX} {v : SY} (I : i_Rel k u v) (hk : k + 5 ≤ 2563) : wpX_reintegrate (fun r u' => wpY_reintegrate (fun r' v' => r' = r ∧ i_Rel (k + 5) u' v') v) u := by
  refine rl_el (P := fun u v => wpX_reintegrate (fun r u' => wpY_reintegrate (fun r' v' => r' = r ∧ i_Rel (k + 5) u' v') v) u) ?_ I
  intro O N C L pb qh qt pl kd pa na da sl cc bi tk ve li la fa qu wm ol fy mk mp mn md I hc
  have H := I.1
  refine x_reintegrate I hc (fun fa qu wm ol sl cc qh qt hr hI => y_reintegrate H (fun fy' mk' mp' mn' md' hr' hm => ?_))
  have hL := I.2.2.2.2.1
  have ho := (res_fin H hr).2.2
  have he : ∀ i, i < 24 → fy' i = fa i := res_uniq H hr hr'
  have e0 : yr fy' 0 mk' kd 24 = cs (ly bi la fa L 0 1 kd) 24 := (re_eq H ho hL he (fun i hi => (hm i hi).1.trans (mv_congr (he i hi))) (by decide)).symm
  have e1 : yr fy' (-1) mp' pa 24 = cs (ly bi la fa L (-1) 3 pa) 24 := (re_eq H ho hL he (fun i hi => (hm i hi).2.1.trans (mv_congr (he i hi))) (by decide)).symm
  have e2 : yr fy' (-1) mn' na 24 = cs (ly bi la fa L (-1) 3 na) 24 := (re_eq H ho hL he (fun i hi => (hm i hi).2.2.1.trans (mv_congr (he i hi))) (by decide)).symm
  have e3 : yr fy' 0 md' da 24 = cs (ly bi la fa L 0 5 da) 24 := (re_eq H ho hL he (fun i hi => (hm i hi).2.2.2.trans (mv_congr (he i hi))) (by decide)).symm
  have e4 : yu mk' tk 24 = ct (ly bi la fa L 0 1 kd) tk 24 := by
    funext j
    unfold yu ct
    by_cases q : j < 24
    · rw [if_pos q, if_pos q, ly_at H ho hL (by decide) q, (hm j q).1, mv_congr (he j q)]
    · rw [if_neg q, if_neg q]
  have e5 : vk fy' ve 24 = vk fa ve 24 := by
    funext j
    unfold vk
    by_cases q : j < 24
    · rw [if_pos q, if_pos q, he j q]
    · rw [if_neg q, if_neg q]
  have e6 : cn (io fy') 24 = cn (io fa) 24 := cn_congr 24 (fun i hi => by
    unfold io
    rw [he i hi])
  rw [e0, e1, e2, e3, e4, e5, e6]
  exact ⟨rfl, rl_in (L := 0) hI (Or.inl rfl)⟩
theorem i_vc_forecast {k : Nat} {u : SX} {v : SY} (I : i_Rel k u v) (hk : k + 5 ≤ 2563) (v1 : Int32) : wpX_forecast (fun r u' => wpY_forecast (fun r' v' => r' = r ∧ i_Rel (k + 5) u' v') v v1) u v1 := by
  refine rl_el (P := fun u v => wpX_forecast (fun r u' => wpY_forecast (fun r' v' => r' = r ∧ i_Rel (k + 5) u' v') v v1) u v1) ?_ I
  intro O N C L pb qh qt pl kd pa na da sl cc bi tk ve li la fa qu wm ol fy mk mp mn md I hc
  have H := I.1
  have hO24 : O ≤ 24 := H.1.2.1
  unfold wpX_forecast
  rcases ob_ix v1 (n := O) (by omega) with ⟨j, hj, rfl⟩ | ⟨hb2, hb2'⟩
  · have i24 := ob_in (x := nI j) j 24 (by omega)
    have c := nI_clamp (n := j) (by omega)
    refine xi_t hO24 hj (br_f ob_10 (x_plan H I.2.2.2.2.1 I.2.2.1 I.2.1 hc (fun fa' qu' wm' ol' qh' qt' pl' hr hq => And.intro i24 ?_)))
    unfold wpY_forecast
    refine br_f (nI_pos (by omega)) (br_t (nI_lt hj (by omega)) (y_judge H (fun fy' mk' mp' mn' md' hr' hm => And.intro i24 ⟨?_, rl_in I (Or.inr ⟨hr, hq⟩)⟩)))
    rw [c]
    exact res_uniq H hr hr' j (by omega)
  · refine xi_f hO24 hb2 (br_t rfl ?_)
    unfold wpY_forecast
    rcases hb2' with h | ⟨h1, h2⟩
    · exact br_t h ⟨rfl, rl_in I hc⟩
    · exact br_f h1 (br_f (nlt_ h2) ⟨rfl, rl_in I hc⟩)
theorem i_vc_verdict {k : Nat} {u : SX} {v : SY} (I : i_Rel k u v) (hk : k + 5 ≤ 2563) (v1 : Int32) : wpX_verdict (fun r => wpY_verdict (fun r' => r' = r ∧ i_Rel (k + 5) u v) v v1) u v1 := by
  refine rl_el (P := fun u v => wpX_verdict (fun r => wpY_verdict (fun r' => r' = r ∧ i_Rel (k + 5) u v) v v1) u v1) ?_ I
  intro O N C L pb qh qt pl kd pa na da sl cc bi tk ve li la fa qu wm ol fy mk mp mn md I hc
  obtain ⟨r, hX, hY⟩ := r_verdict (fy := fy) (mk := mk) (mp := mp) (mn := mn) (md := md) (C := C) (qh := qh) (qt := qt) (pl := pl) (ve := ve) (fa := fa) (qu := qu) (wm := wm) (ol := ol) I v1
  exact hX _ (hY _ ⟨rfl, rl_in I hc⟩)
theorem i_vc_kind {k : Nat} {u : SX} {v : SY} (I : i_Rel k u v) (hk : k + 5 ≤ 2563) (v1 : Int32) (v2 : Int32) : wpX_kind (fun r => wpY_kind (fun r' => r' = r ∧ i_Rel (k + 5) u v) v v1 v2) u v1 v2 := by
  refine rl_el (P := fun u v => wpX_kind (fun r => wpY_kind (fun r' => r' = r ∧ i_Rel (k + 5) u v) v v1 v2) u v1 v2) ?_ I
  intro O N C L pb qh qt pl kd pa na da sl cc bi tk ve li la fa qu wm ol fy mk mp mn md I hc
  obtain ⟨r, hX, hY⟩ := r_kind (fy := fy) (mk := mk) (mp := mp) (mn := mn) (md := md) (C := C) (qh := qh) (qt := qt) (pl := pl) (ve := ve) (fa := fa) (qu := qu) (wm := wm) (ol := ol) I v1 v2
  exact hX _ (hY _ ⟨rfl, rl_in I hc⟩)
theorem i_vc_parent {k : Nat} {u : SX} {v : SY} (I : i_Rel k u v) (hk : k + 5 ≤ 2563) (v1 : Int32) (v2 : Int32) : wpX_parent (fun r => wpY_parent (fun r' => r' = r ∧ i_Rel (k + 5) u v) v v1 v2) u v1 v2 := by
  refine rl_el (P := fun u v => wpX_parent (fun r => wpY_parent (fun r' => r' = r ∧ i_Rel (k + 5) u v) v v1 v2) u v1 v2) ?_ I
  intro O N C L pb qh qt pl kd pa na da sl cc bi tk ve li la fa qu wm ol fy mk mp mn md I hc
  obtain ⟨r, hX, hY⟩ := r_parent (fy := fy) (mk := mk) (mp := mp) (mn := mn) (md := md) (C := C) (qh := qh) (qt := qt) (pl := pl) (ve := ve) (fa := fa) (qu := qu) (wm := wm) (ol := ol) I v1 v2
  exact hX _ (hY _ ⟨rfl, rl_in I hc⟩)
theorem i_vc_name {k : Nat} {u : SX} {v : SY} (I : i_Rel k u v) (hk : k + 5 ≤ 2563) (v1 : Int32) (v2 : Int32) : wpX_name (fun r => wpY_name (fun r' => r' = r ∧ i_Rel (k + 5) u v) v v1 v2) u v1 v2 := by
  refine rl_el (P := fun u v => wpX_name (fun r => wpY_name (fun r' => r' = r ∧ i_Rel (k + 5) u v) v v1 v2) u v1 v2) ?_ I
  intro O N C L pb qh qt pl kd pa na da sl cc bi tk ve li la fa qu wm ol fy mk mp mn md I hc
  obtain ⟨r, hX, hY⟩ := r_name (fy := fy) (mk := mk) (mp := mp) (mn := mn) (md := md) (C := C) (qh := qh) (qt := qt) (pl := pl) (ve := ve) (fa := fa) (qu := qu) (wm := wm) (ol := ol) I v1 v2
  exact hX _ (hY _ ⟨rfl, rl_in I hc⟩)
theorem i_vc_data {k : Nat} {u : SX} {v : SY} (I : i_Rel k u v) (hk : k + 5 ≤ 2563) (v1 : Int32) (v2 : Int32) : wpX_data (fun r => wpY_data (fun r' => r' = r ∧ i_Rel (k + 5) u v) v v1 v2) u v1 v2 := by
  refine rl_el (P := fun u v => wpX_data (fun r => wpY_data (fun r' => r' = r ∧ i_Rel (k + 5) u v) v v1 v2) u v1 v2) ?_ I
  intro O N C L pb qh qt pl kd pa na da sl cc bi tk ve li la fa qu wm ol fy mk mp mn md I hc
  obtain ⟨r, hX, hY⟩ := r_data (fy := fy) (mk := mk) (mp := mp) (mn := mn) (md := md) (C := C) (qh := qh) (qt := qt) (pl := pl) (ve := ve) (fa := fa) (qu := qu) (wm := wm) (ol := ol) I v1 v2
  exact hX _ (hY _ ⟨rfl, rl_in I hc⟩)
theorem i_vc_lookup {k : Nat} {u : SX} {v : SY} (I : i_Rel k u v) (hk : k + 5 ≤ 2563) (v1 : Int32) (v2 : Int32) (v3 : Int32) : wpX_lookup (fun r => wpY_lookup (fun r' => r' = r ∧ i_Rel (k + 5) u v) v v1 v2 v3) u v1 v2 v3 := by
  refine rl_el (P := fun u v => wpX_lookup (fun r => wpY_lookup (fun r' => r' = r ∧ i_Rel (k + 5) u v) v v1 v2 v3) u v1 v2 v3) ?_ I
  intro O N C L pb qh qt pl kd pa na da sl cc bi tk ve li la fa qu wm ol fy mk mp mn md I hc
  obtain ⟨r, hX, hY⟩ := r_lookup (fy := fy) (mk := mk) (mp := mp) (mn := mn) (md := md) (C := C) (qh := qh) (qt := qt) (pl := pl) (ve := ve) (fa := fa) (qu := qu) (wm := wm) (ol := ol) I v1 v2 v3
  exact hX _ (hY _ ⟨rfl, rl_in I hc⟩)
theorem i_vc_touched {k : Nat} {u : SX} {v : SY} (I : i_Rel k u v) (hk : k + 5 ≤ 2563) (v1 : Int32) (v2 : Int32) : wpX_touched (fun r => wpY_touched (fun r' => r' = r ∧ i_Rel (k + 5) u v) v v1 v2) u v1 v2 := by
  refine rl_el (P := fun u v => wpX_touched (fun r => wpY_touched (fun r' => r' = r ∧ i_Rel (k + 5) u v) v v1 v2) u v1 v2) ?_ I
  intro O N C L pb qh qt pl kd pa na da sl cc bi tk ve li la fa qu wm ol fy mk mp mn md I hc
  obtain ⟨r, hX, hY⟩ := r_touched (fy := fy) (mk := mk) (mp := mp) (mn := mn) (md := md) (C := C) (qh := qh) (qt := qt) (pl := pl) (ve := ve) (fa := fa) (qu := qu) (wm := wm) (ol := ol) I v1 v2
  exact hX _ (hY _ ⟨rfl, rl_in I hc⟩)
theorem i_vc_pending {k : Nat} {u : SX} {v : SY} (I : i_Rel k u v) (hk : k + 5 ≤ 2563) : wpX_pending (fun r => wpY_pending (fun r' => r' = r ∧ i_Rel (k + 5) u v) v) u := by
  refine rl_el (P := fun u v => wpX_pending (fun r => wpY_pending (fun r' => r' = r ∧ i_Rel (k + 5) u v) v) u) ?_ I
  intro O N C L pb qh qt pl kd pa na da sl cc bi tk ve li la fa qu wm ol fy mk mp mn md I hc
  have hv : ∀ i, i < 24 → vb (bi i) := fun i hi => cx_v I.1 (by omega)
  exact y_pending hv ⟨I.2.2.2.2.2.symm, rl_in I hc⟩
theorem i_vc_taken {k : Nat} {u : SX} {v : SY} (I : i_Rel k u v) (hk : k + 5 ≤ 2563) (v1 : Int32) : wpX_taken (fun r => wpY_taken (fun r' => r' = r ∧ i_Rel (k + 5) u v) v v1) u v1 := by
  refine rl_el (P := fun u v => wpX_taken (fun r => wpY_taken (fun r' => r' = r ∧ i_Rel (k + 5) u v) v v1) u v1) ?_ I
  intro O N C L pb qh qt pl kd pa na da sl cc bi tk ve li la fa qu wm ol fy mk mp mn md I hc
  obtain ⟨r, hX, hY⟩ := r_taken (fy := fy) (mk := mk) (mp := mp) (mn := mn) (md := md) (C := C) (qh := qh) (qt := qt) (pl := pl) (ve := ve) (fa := fa) (qu := qu) (wm := wm) (ol := ol) I v1
  exact hX _ (hY _ ⟨rfl, rl_in I hc⟩)
end
