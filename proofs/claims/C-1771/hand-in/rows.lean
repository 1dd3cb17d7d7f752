section
theorem pk_us {f : Nat → Int32} {k : Nat} {x : Int32} : upd f k x k = x := if_pos rfl
theorem pk_un {f : Nat → Int32} {k j : Nat} {x : Int32} (h : j ≠ k) : upd f k x j = f j := if_neg h
theorem pk_uLs {f : Nat → Int64} {k : Nat} {x : Int64} : vp_updL f k x k = x := if_pos rfl
theorem pk_uLn {f : Nat → Int64} {k j : Nat} {x : Int64} (h : j ≠ k) : vp_updL f k x j = f j := if_neg h
theorem pk_sub {a b : Nat} (h : b ≤ a) : nI a - nI b = nI (a - b) := by
  obtain ⟨c, rfl⟩ : ∃ c, a = c + b := ⟨a - b, by omega⟩
  rw [← nI_add, Int32.add_sub_cancel, Nat.add_sub_cancel]
theorem pk_m1 (n : Nat) : nI (n + 1) + (-1) = nI n := by
  rw [← nI_1, Int32.add_assoc, show (1 : Int32) + (-1) = 0 from rfl, Int32.add_zero]
theorem pk_mul (a b : Nat) : nI a * nI b = nI (a * b) := (Int32.ofNat_mul a b).symm
theorem pk_div {a d : Nat} (ha : a < 2 ^ 31) (h0 : 0 < d) (hd : d < 2 ^ 31) : nI a / nI d = nI (a / d) := by
  apply Int32.toInt_inj.mp
  rw [lg_idiv_nonneg (by rw [nI_toInt ha]; omega) (by rw [nI_toInt hd]; omega), nI_toInt ha, nI_toInt hd, nI_toInt (Nat.lt_of_le_of_lt (Nat.div_le_self a d) ha)]
  first | rfl | exact (Int.natCast_ediv _ _).symm
theorem pk_rem {a d : Nat} (ha : a < 2 ^ 31) (h0 : 0 < d) (hd : d < 2 ^ 31) : nI a - nI a / nI d * nI d = nI (a % d) := by
  rw [pk_div ha h0 hd, pk_mul, pk_sub (Nat.div_mul_le_self a d)]
  exact congrArg nI (by have := Nat.div_add_mod' a d; omega)
theorem pk_ix (x : Int32) {n : Nat} (hn : n < 2 ^ 31) : x < 0 ∨ nI n ≤ x ∨ ∃ j : Nat, j < n ∧ x = nI j := by
  by_cases h : x < 0
  · exact Or.inl h
  · obtain ⟨j, hj, rfl⟩ := nI_of h
    by_cases h2 : j < n
    · exact Or.inr (Or.inr ⟨j, h2, rfl⟩)
    · exact Or.inr (Or.inl (nI_le (by omega) hj))
theorem pk_le {x y : Int32} {A B : Prop} (a b : Nat) (f : a ≤ b → A) (g : b < a → B) (hx : x = nI a := by rfl) (hy : y = nI b := by rfl) (ha : a < 2 ^ 31 := by omega) (hb : b < 2 ^ 31 := by omega) : (x ≤ y → A) ∧ (¬ x ≤ y → B) := by
  subst hx hy
  rw [nI_leI ha hb]
  exact ⟨f, fun z => g (by omega)⟩
theorem pk_lt {x y : Int32} {A B : Prop} (a b : Nat) (f : a < b → A) (g : b ≤ a → B) (hx : x = nI a := by rfl) (hy : y = nI b := by rfl) (ha : a < 2 ^ 31 := by omega) (hb : b < 2 ^ 31 := by omega) : (x < y → A) ∧ (¬ x < y → B) := by
  subst hx hy
  rw [nI_ltI ha hb]
  exact ⟨f, fun z => g (by omega)⟩
theorem pk_eq {x y : Int32} {A B : Prop} (a b : Nat) (f : a = b → A) (g : a ≠ b → B) (hx : x = nI a := by rfl) (hy : y = nI b := by rfl) (ha : a < 2 ^ 31 := by omega) (hb : b < 2 ^ 31 := by omega) : (x = y → A) ∧ (¬ x = y → B) := by
  subst hx hy
  rw [nI_eq ha hb]
  exact ⟨f, g⟩
theorem pk_in {x : Int32} (n N : Nat) (h : n < N) (hx : x = nI n := by rfl) (hN : N < 2 ^ 31 := by omega) : vp_in x N := by
  subst hx
  exact vp_in_nI h hN
theorem pk_cl {x : Int32} (n : Nat) (hx : x = nI n := by rfl) (h : n < 2 ^ 31 := by omega) : x.toNatClampNeg = n := by
  subst hx
  exact nI_clamp h
theorem pk_tn {n : Nat} (h : n < 2 ^ 32) : (nI n).toBitVec.toNat = n := Nat.mod_eq_of_lt h
theorem pk_lT {n : Nat} (h : n < 2 ^ 63) : (lN n).toInt = (n : Int) := lg_ofNat_toInt h
theorem pk_lLT {a b : Nat} (ha : a < 2 ^ 63) (hb : b < 2 ^ 63) : lN a < lN b ↔ a < b := by
  rw [Int64.lt_iff_toInt_lt, pk_lT ha, pk_lT hb]; omega
theorem pk_lLE {a b : Nat} (ha : a < 2 ^ 63) (hb : b < 2 ^ 63) : lN a ≤ lN b ↔ a ≤ b := by
  rw [Int64.le_iff_toInt_le, pk_lT ha, pk_lT hb]; omega
theorem pk_lEQ {a b : Nat} (ha : a < 2 ^ 63) (hb : b < 2 ^ 63) : lN a = lN b ↔ a = b := by
  rw [← Int64.toInt_inj, pk_lT ha, pk_lT hb]; omega
theorem pk_lOf {x : Int64} (h : ¬ x < 0) : ∃ k : Nat, k < 2 ^ 63 ∧ x = lN k := by
  rw [Int64.lt_iff_toInt_lt] at h
  have h0 : (0 : Int64).toInt = 0 := by decide
  have hx := Int64.toInt_lt x
  refine ⟨x.toInt.toNat, by omega, Int64.toInt_inj.mp ?_⟩
  rw [pk_lT (by omega)]
  omega
theorem pk_lDiv {a b : Nat} (ha : a < 2 ^ 63) (h0 : 0 < b) (hb : b < 2 ^ 63) : lN a / lN b = lN (a / b) := by
  apply Int64.toInt_inj.mp
  rw [lg_ldiv_nonneg (by rw [pk_lT ha]; omega) (by rw [pk_lT hb]; omega), pk_lT ha, pk_lT hb, pk_lT (Nat.lt_of_le_of_lt (Nat.div_le_self a b) ha)]
  rfl
theorem pk_lRem {a b : Nat} (ha : a < 2 ^ 63) (h0 : 0 < b) (hb : b < 2 ^ 63) : lN a - lN a / lN b * lN b = lN (a % b) := by
  rw [pk_lDiv ha h0 hb, lN_mul, lN_sub (Nat.div_mul_le_self a b)]
  exact congrArg lN (by have := Nat.div_add_mod' a b; omega)
theorem pk_loop {σ : Type} (W : Nat → Nat → σ → Prop) (I : Nat → σ → Prop) (e i0 : Nat) (s : σ) (hi : i0 ≤ e) (h0 : I i0 s) (hx : ∀ n s, I e s → W (n + 1) e s)
    (hs : ∀ n i s, i < e → I i s → (∀ s', I (i + 1) s' → W n (i + 1) s') → W (n + 1) i s) : ∃ n, W n i0 s :=
  ⟨e + 1, loop_i W I e hx hs (e + 1) i0 s hi (by omega) h0⟩
theorem pk_least (P : Nat → Prop) (h : ∃ k, P k) : ∃ k, P k ∧ ∀ j, j < k → ¬ P j := by
  obtain ⟨k, hk⟩ := h
  induction k using Nat.strongRecOn with
  | ind k ih =>
    by_cases e : ∃ j, j < k ∧ P j
    · obtain ⟨j, hj, pj⟩ := e
      exact ih j hj pj
    · exact ⟨k, hk, fun j hj pj => e ⟨j, hj, pj⟩⟩
end
section
/-! finite sums over Int, counts -/
def nc_sg : Nat → (Nat → Int) → Int
  | 0, _ => 0
  | n + 1, f => nc_sg n f + f n
theorem nc_sg_s (n : Nat) (f : Nat → Int) : nc_sg (n + 1) f = nc_sg n f + f n := rfl
theorem nc_sg_c {n : Nat} {f g : Nat → Int} (h : ∀ i, i < n → f i = g i) : nc_sg n f = nc_sg n g := by
  induction n with
  | zero => rfl
  | succ n ih => rw [nc_sg_s, nc_sg_s, ih (fun i hi => h i (by omega)), h n (by omega)]
theorem nc_sg_a (n : Nat) (f g : Nat → Int) : nc_sg n (fun i => f i + g i) = nc_sg n f + nc_sg n g := by
  induction n with
  | zero => rfl
  | succ n ih => rw [nc_sg_s, nc_sg_s, nc_sg_s, ih]; omega
theorem nc_sg_d (n : Nat) (f g : Nat → Int) : nc_sg n (fun i => f i - g i) = nc_sg n f - nc_sg n g := by
  induction n with
  | zero => rfl
  | succ n ih => rw [nc_sg_s, nc_sg_s, nc_sg_s, ih]; omega
theorem nc_sg_m (n : Nat) (c : Int) (f : Nat → Int) : nc_sg n (fun i => c * f i) = c * nc_sg n f := by
  induction n with
  | zero => exact (Int.mul_zero c).symm
  | succ n ih => rw [nc_sg_s, nc_sg_s, ih, Int.mul_add]
theorem nc_sg_mr (n : Nat) (c : Int) (f : Nat → Int) : nc_sg n (fun i => f i * c) = nc_sg n f * c := by
  induction n with
  | zero => exact (Int.zero_mul c).symm
  | succ n ih => rw [nc_sg_s, nc_sg_s, ih, Int.add_mul]
theorem nc_sg_z (n : Nat) : nc_sg n (fun _ => 0) = 0 := by
  induction n with
  | zero => rfl
  | succ n ih => rw [nc_sg_s, ih]; rfl
theorem nc_sg_zc {n : Nat} {f : Nat → Int} (h : ∀ i, i < n → f i = 0) : nc_sg n f = 0 :=
  (nc_sg_c (g := fun _ => 0) h).trans (nc_sg_z n)
theorem nc_sg_x (n m : Nat) (f : Nat → Nat → Int) : nc_sg n (fun i => nc_sg m (fun j => f i j)) = nc_sg m (fun j => nc_sg n (fun i => f i j)) := by
  induction n with
  | zero => exact (nc_sg_z m).symm
  | succ n ih =>
    rw [nc_sg_s, ih, ← nc_sg_a]
    rfl
theorem nc_sg_1 {n k : Nat} (hk : k < n) (f : Nat → Int) (hz : ∀ i, i < n → i ≠ k → f i = 0) : nc_sg n f = f k := by
  induction n with
  | zero => omega
  | succ n ih =>
    rw [nc_sg_s]
    by_cases h : k = n
    · subst h
      rw [nc_sg_zc (fun i hi => hz i (by omega) (by omega))]; omega
    · rw [ih (by omega) (fun i hi hne => hz i (by omega) hne), hz n (by omega) (by omega)]; omega
theorem nc_sg_p {n : Nat} {f : Nat → Int} (h : ∀ i, i < n → 0 ≤ f i) : 0 ≤ nc_sg n f := by
  induction n with
  | zero => exact Int.le_refl 0
  | succ n ih =>
    rw [nc_sg_s]
    have h1 := ih (fun i hi => h i (by omega))
    have h2 := h n (by omega)
    omega
theorem nc_sg_pz {n : Nat} {f : Nat → Int} (h : ∀ i, i < n → 0 ≤ f i) (z : nc_sg n f ≤ 0) : ∀ i, i < n → f i = 0 := by
  induction n with
  | zero => intro i hi; omega
  | succ n ih =>
    rw [nc_sg_s] at z
    have h1 := nc_sg_p (n := n) (f := f) (fun i hi => h i (by omega))
    have h2 := h n (by omega)
    intro i hi
    by_cases e : i = n
    · subst e; omega
    · exact ih (fun i hi => h i (by omega)) (by omega) i (by omega)
theorem nc_sg_t {m n : Nat} {f : Nat → Int} (h : m ≤ n) (hz : ∀ i, m ≤ i → i < n → f i = 0) : nc_sg n f = nc_sg m f := by
  induction n with
  | zero =>
    have : m = 0 := by omega
    subst this; rfl
  | succ n ih =>
    by_cases e : m = n + 1
    · subst e; rfl
    · rw [nc_sg_s, ih (by omega) (fun i hi hn => hz i hi (by omega)), hz n (by omega) (by omega)]; omega
theorem nc_sg_b {n : Nat} {f : Nat → Int} {B : Nat} (h : ∀ i, i < n → (f i).natAbs ≤ B) : (nc_sg n f).natAbs ≤ n * B := by
  induction n with
  | zero => exact Nat.zero_le _
  | succ n ih =>
    rw [nc_sg_s, Nat.add_mul, Nat.one_mul]
    have h1 := ih (fun i hi => h i (by omega))
    have h2 := h n (by omega)
    exact Nat.le_trans (Int.natAbs_add_le _ _) (Nat.add_le_add h1 h2)
/-! counts -/
def nc_cn (P : Nat → Bool) : Nat → Nat
  | 0 => 0
  | n + 1 => nc_cn P n + (if P n = true then 1 else 0)
theorem nc_cn_s (P : Nat → Bool) (n : Nat) : nc_cn P (n + 1) = nc_cn P n + (if P n = true then 1 else 0) := rfl
theorem nc_cn_t {P : Nat → Bool} {n : Nat} (h : P n = true) : nc_cn P (n + 1) = nc_cn P n + 1 := by rw [nc_cn_s, if_pos h]
theorem nc_cn_f {P : Nat → Bool} {n : Nat} (h : ¬ P n = true) : nc_cn P (n + 1) = nc_cn P n := by rw [nc_cn_s, if_neg h]; rfl
theorem nc_cn_c {P Q : Nat → Bool} {n : Nat} (h : ∀ i, i < n → P i = Q i) : nc_cn P n = nc_cn Q n := by
  induction n with
  | zero => rfl
  | succ n ih => rw [nc_cn_s, nc_cn_s, ih (fun i hi => h i (by omega)), h n (by omega)]
theorem nc_cn_le (P : Nat → Bool) (n : Nat) : nc_cn P n ≤ n := by
  induction n with
  | zero => exact Nat.le_refl _
  | succ n ih =>
    rw [nc_cn_s]
    by_cases h : P n = true
    · rw [if_pos h]; omega
    · rw [if_neg h]; omega
theorem nc_cn_mo (P : Nat → Bool) {a b : Nat} (h : a ≤ b) : nc_cn P a ≤ nc_cn P b := by
  induction b with
  | zero =>
    have : a = 0 := by omega
    subst this; exact Nat.le_refl _
  | succ b ih =>
    by_cases e : a = b + 1
    · subst e; exact Nat.le_refl _
    · have := ih (by omega)
      rw [nc_cn_s]; omega
theorem nc_cn_lt {P : Nat → Bool} {a b : Nat} (ha : P a = true) (h : a < b) : nc_cn P a < nc_cn P b := by
  have h1 := nc_cn_mo P (a := a + 1) (b := b) h
  rw [nc_cn_t ha] at h1
  omega
theorem nc_cn_inj {P : Nat → Bool} {a b : Nat} (ha : P a = true) (hb : P b = true) (e : nc_cn P a = nc_cn P b) : a = b := by
  by_cases h1 : a < b
  · have := nc_cn_lt ha h1; omega
  · by_cases h2 : b < a
    · have := nc_cn_lt hb h2; omega
    · omega
/-- more points in Q than in P -/
theorem nc_cn_im {P Q : Nat → Bool} {n : Nat} (h : ∀ i, i < n → P i = true → Q i = true) : nc_cn P n ≤ nc_cn Q n := by
  induction n with
  | zero => exact Nat.le_refl _
  | succ n ih =>
    have h1 := ih (fun i hi => h i (by omega))
    by_cases hp : P n = true
    · rw [nc_cn_t hp, nc_cn_t (h n (by omega) hp)]; omega
    · rw [nc_cn_f hp, nc_cn_s]; omega
theorem nc_cn_st {P Q : Nat → Bool} {n k : Nat} (h : ∀ i, i < n → P i = true → Q i = true) (hk : k < n) (hp : ¬ P k = true) (hq : Q k = true) : nc_cn P n < nc_cn Q n := by
  induction n with
  | zero => omega
  | succ n ih =>
    by_cases e : k = n
    · subst e
      have h1 := nc_cn_im (P := P) (Q := Q) (n := k) (fun i hi => h i (by omega))
      rw [nc_cn_f hp, nc_cn_t hq]; omega
    · have h1 := ih (fun i hi => h i (by omega)) (by omega)
      by_cases hpn : P n = true
      · rw [nc_cn_t hpn, nc_cn_t (h n (by omega) hpn)]; omega
      · rw [nc_cn_f hpn, nc_cn_s]; omega
/-- one point wanting -/
theorem nc_cn_w1 {P : Nat → Bool} {n k : Nat} (hk : k < n) (hp : ¬ P k = true) : nc_cn P n + 1 ≤ n := by
  have h1 := nc_cn_st (P := P) (Q := fun _ => true) (n := n) (k := k) (fun _ _ _ => rfl) hk hp rfl
  have h2 := nc_cn_le (fun _ => true) n
  omega
theorem nc_cn_w2 {P : Nat → Bool} {n k l : Nat} (hk : k < n) (hl : l < n) (hkl : k ≠ l) (hp : ¬ P k = true) (hq : ¬ P l = true) : nc_cn P n + 2 ≤ n := by
  have h1 := nc_cn_st (P := P) (Q := fun i => if i = k then true else P i) (n := n) (k := k) (fun i _ h => by
    show (if i = k then true else P i) = true
    by_cases e : i = k
    · rw [if_pos e]
    · rw [if_neg e]; exact h) hk hp (if_pos rfl)
  have h2 := nc_cn_w1 (P := fun i => if i = k then true else P i) (n := n) (k := l) hl (by
    show ¬ (if l = k then true else P l) = true
    rw [if_neg (fun e => hkl e.symm)]; exact hq)
  omega
/-- the i-th point of P below n -/
def nc_pt (P : Nat → Bool) : Nat → Nat → Nat
  | 0, _ => 0
  | n + 1, i => if P n = true ∧ nc_cn P n = i then n else nc_pt P n i
theorem nc_pt_s (P : Nat → Bool) (n i : Nat) : nc_pt P (n + 1) i = if P n = true ∧ nc_cn P n = i then n else nc_pt P n i := rfl
theorem nc_pt_ok {P : Nat → Bool} {n i : Nat} (h : i < nc_cn P n) : P (nc_pt P n i) = true ∧ nc_pt P n i < n ∧ nc_cn P (nc_pt P n i) = i := by
  induction n with
  | zero => exact absurd h (Nat.not_lt_zero _)
  | succ n ih =>
    rw [nc_pt_s]
    by_cases c : P n = true ∧ nc_cn P n = i
    · rw [if_pos c]; exact ⟨c.1, by omega, c.2⟩
    · rw [if_neg c]
      have h1 : i < nc_cn P n := by
        by_cases hp : P n = true
        · rw [nc_cn_t hp] at h
          have : nc_cn P n ≠ i := fun e => c ⟨hp, e⟩
          omega
        · rw [nc_cn_f hp] at h; exact h
      obtain ⟨a, b, d⟩ := ih h1
      exact ⟨a, by omega, d⟩
theorem nc_pt_of {P : Nat → Bool} {n p : Nat} (hp : P p = true) (h : p < n) : nc_pt P n (nc_cn P p) = p := by
  obtain ⟨a, _, d⟩ := nc_pt_ok (P := P) (n := n) (i := nc_cn P p) (nc_cn_lt hp h)
  exact nc_cn_inj a hp d
theorem nc_pt_inj {P : Nat → Bool} {n i j : Nat} (hi : i < nc_cn P n) (hj : j < nc_cn P n) (e : nc_pt P n i = nc_pt P n j) : i = j := by
  have h1 := (nc_pt_ok hi).2.2
  have h2 := (nc_pt_ok hj).2.2
  rw [e] at h1
  omega
end
section
/-! labels: the least point of every point's group -/
def nc_Inv (n : Nat) (w : Nat → Nat) (f : Nat → Int) : Prop := ∀ p q, p < n → q < n → 0 < w (6 * p + q) → f p = f q
def nc_Lab (n : Nat) (w : Nat → Nat) (L : Nat → Nat) : Prop :=
  (∀ p, p < n → L p ≤ p) ∧ (∀ p q, p < n → q < n → 0 < w (6 * p + q) → L p = L q) ∧ (∀ f, nc_Inv n w f → ∀ p, p < n → f (L p) = f p)
theorem nc_lu {P Q : Nat → Prop} (e : ∀ k, P k ↔ Q k) {a b : Nat} (ha : P a ∧ ∀ j, j < a → ¬ P j) (hb : Q b ∧ ∀ j, j < b → ¬ Q j) : a = b := by
  by_cases h1 : a < b
  · exact absurd ((e a).mp ha.1) (hb.2 a h1)
  · by_cases h2 : b < a
    · exact absurd ((e b).mpr hb.1) (ha.2 b h2)
    · omega
theorem nc_lab_l (n : Nat) (w : Nat → Nat) (p : Nat) : ∃ k, (∀ f, nc_Inv n w f → f k = f p) ∧ ∀ j, j < k → ¬ (∀ f, nc_Inv n w f → f j = f p) :=
  pk_least (fun k => ∀ f, nc_Inv n w f → f k = f p) ⟨p, fun _ _ => rfl⟩
theorem nc_le_of {P : Nat → Prop} {a p : Nat} (h : ∀ j, j < a → ¬ P j) (hp : P p) : a ≤ p := by
  by_cases c : a ≤ p
  · exact c
  · exact absurd hp (h p (by omega))
noncomputable def nc_lab (n : Nat) (w : Nat → Nat) (p : Nat) : Nat := (nc_lab_l n w p).choose
theorem nc_lab_sp (n : Nat) (w : Nat → Nat) (p : Nat) : (∀ f, nc_Inv n w f → f (nc_lab n w p) = f p) ∧ ∀ j, j < nc_lab n w p → ¬ (∀ f, nc_Inv n w f → f j = f p) := (nc_lab_l n w p).choose_spec
theorem nc_lab_ok (n : Nat) (w : Nat → Nat) : nc_Lab n w (nc_lab n w) := by
  refine ⟨fun p _ => nc_le_of (P := fun j => ∀ f, nc_Inv n w f → f j = f p) (nc_lab_sp n w p).2 (fun _ _ => rfl), fun p q hp hq hw => ?_, fun f hf p _ => (nc_lab_sp n w p).1 f hf⟩
  refine nc_lu (P := fun j => ∀ f, nc_Inv n w f → f j = f p) (Q := fun j => ∀ f, nc_Inv n w f → f j = f q) (fun k => ?_) (nc_lab_sp n w p) (nc_lab_sp n w q)
  constructor
  · intro h f hf
    rw [h f hf]; exact hf p q hp hq hw
  · intro h f hf
    rw [h f hf]; exact (hf p q hp hq hw).symm
theorem nc_lab_idem {n : Nat} {w L : Nat → Nat} (hL : nc_Lab n w L) {p : Nat} (hp : p < n) : L (L p) = L p := by
  have h := hL.2.2 (fun p => (L p : Int)) (fun p q hp hq hw => by
    have := hL.2.1 p q hp hq hw
    show (L p : Int) = (L q : Int)
    rw [this]) p hp
  exact Int.ofNat.inj h
def nc_sy (n : Nat) (w : Nat → Nat) : Prop := ∀ p q, p < n → q < n → w (6 * p + q) = w (6 * q + p)
theorem nc_prog {n : Nat} {w L v v' : Nat → Nat} (hL : nc_Lab n w L) (hs : nc_sy n w) (hv : ∀ p, p < n → L p ≤ v p ∧ v p ≤ p) (hv' : ∀ p, p < n → L p ≤ v' p ∧ v' p ≤ v p)
    (he : ∀ p q, p < n → q < n → 0 < w (6 * p + q) → v' q ≤ v p) :
    (∀ p, p < n → v p = L p) ∨ nc_cn (fun p => decide (v p = L p)) n < nc_cn (fun p => decide (v' p = L p)) n := by
  by_cases hedge : ∃ a b, a < n ∧ b < n ∧ 0 < w (6 * a + b) ∧ v a = L a ∧ v b ≠ L b
  · right
    obtain ⟨a, b, ha, hb, hw, h1, h2⟩ := hedge
    refine nc_cn_st (k := b) (fun i hi h => ?_) hb (fun h => h2 (of_decide_eq_true h)) ?_
    · have e : v i = L i := of_decide_eq_true h
      have := hv' i hi
      exact decide_eq_true (by omega)
    · have h3 := he a b ha hb hw
      have h4 := hL.2.1 a b ha hb hw
      have h5 := hv' b hb
      exact decide_eq_true (by omega)
  · left
    intro p hp
    have hinv : nc_Inv n w (fun p => if v p = L p then 1 else 0) := by
      intro a b ha hb hw
      show (if v a = L a then (1 : Int) else 0) = (if v b = L b then (1 : Int) else 0)
      by_cases c1 : v a = L a
      · have c2 : v b = L b := by
          by_cases c : v b = L b
          · exact c
          · exact absurd ⟨a, b, ha, hb, hw, c1, c⟩ hedge
        rw [if_pos c1, if_pos c2]
      · have c2 : ¬ v b = L b := by
          intro c
          exact hedge ⟨b, a, hb, ha, by rw [hs b a hb ha]; exact hw, c, c1⟩
        rw [if_neg c1, if_neg c2]
    have h := hL.2.2 _ hinv p hp
    have hl : L p < n := Nat.lt_of_le_of_lt (hL.1 p hp) hp
    have h1 := hv (L p) hl
    rw [nc_lab_idem hL hp] at h1
    have h2 : v (L p) = L (L p) := by rw [nc_lab_idem hL hp]; omega
    have h3 : (if v (L p) = L (L p) then (1 : Int) else 0) = (if v p = L p then (1 : Int) else 0) := h
    rw [if_pos h2] at h3
    by_cases c : v p = L p
    · exact c
    · rw [if_neg c] at h3; omega
theorem nc_fix {n : Nat} {w L v : Nat → Nat} (hL : nc_Lab n w L) (hs : nc_sy n w) (hv : ∀ p, p < n → L p ≤ v p ∧ v p ≤ p)
    (he : ∀ p q, p < n → q < n → 0 < w (6 * p + q) → v p ≤ v q) : ∀ p, p < n → v p = L p := by
  intro p hp
  have hinv : nc_Inv n w (fun p => (v p : Int)) := by
    intro a b ha hb hw
    have h1 := he a b ha hb hw
    have h2 := he b a hb ha (by rw [hs b a hb ha]; exact hw)
    show (v a : Int) = (v b : Int)
    omega
  have h : (v (L p) : Int) = (v p : Int) := hL.2.2 _ hinv p hp
  have hl : L p < n := Nat.lt_of_le_of_lt (hL.1 p hp) hp
  have h1 := hv (L p) hl
  have h2 := hv p hp
  omega
/-- one round of either side: v to v' -/
def nc_Rd (n : Nat) (w L v v' : Nat → Nat) : Prop :=
  (∀ p, p < n → L p ≤ v' p ∧ v' p ≤ v p) ∧ (∀ p q, p < n → q < n → 0 < w (6 * p + q) → v' q ≤ v p)
/-- after r rounds -/
def nc_Af (n : Nat) (L v : Nat → Nat) (r : Nat) : Prop :=
  (∀ p, p < n → L p ≤ v p ∧ v p ≤ p) ∧ ((∀ p, p < n → v p = L p) ∨ r + 1 ≤ nc_cn (fun p => decide (v p = L p)) n)
theorem nc_Af0 {n : Nat} {w L v : Nat → Nat} (hn : 0 < n) (hL : nc_Lab n w L) (hv : ∀ p, p < n → v p = p) : nc_Af n L v 0 := by
  refine ⟨fun p hp => ?_, Or.inr ?_⟩
  · have := hL.1 p hp
    rw [hv p hp]; omega
  · have h0 : v 0 = L 0 := by
      have h1 := hL.1 0 hn
      have h2 := hv 0 hn
      omega
    have := nc_cn_lt (P := fun p => decide (v p = L p)) (a := 0) (b := n) (decide_eq_true h0) hn
    omega
theorem nc_AfS {n r : Nat} {w L v v' : Nat → Nat} (hL : nc_Lab n w L) (hs : nc_sy n w) (ha : nc_Af n L v r) (hr : nc_Rd n w L v v') : nc_Af n L v' (r + 1) := by
  refine ⟨fun p hp => ?_, ?_⟩
  · have h1 := ha.1 p hp
    have h2 := hr.1 p hp
    omega
  · have hal : (∀ p, p < n → v p = L p) → ∀ p, p < n → v' p = L p := fun h p hp => by
      have h1 := h p hp
      have h2 := hr.1 p hp
      omega
    rcases ha.2 with h | h
    · exact Or.inl (hal h)
    · rcases nc_prog hL hs ha.1 hr.1 hr.2 with h' | h'
      · exact Or.inl (hal h')
      · exact Or.inr (by omega)
theorem nc_AfE {n r : Nat} {L v : Nat → Nat} (ha : nc_Af n L v r) (hr : n ≤ r) : ∀ p, p < n → v p = L p := by
  rcases ha.2 with h | h
  · exact h
  · have := nc_cn_le (fun p => decide (v p = L p)) n
    omega
/-! the number of groups -/
noncomputable def nc_pc (n : Nat) (w : Nat → Nat) : Nat := nc_cn (fun p => decide (nc_lab n w p = p)) n
theorem nc_pc1 {n : Nat} {w : Nat → Nat} (hn : 0 < n) : nc_pc n w ≤ 1 ↔ ∀ p, p < n → nc_lab n w p = 0 := by
  have hL := nc_lab_ok n w
  constructor
  · intro h p hp
    by_cases c : nc_lab n w p = 0
    · exact c
    · exfalso
      have hl : nc_lab n w p < n := Nat.lt_of_le_of_lt (hL.1 p hp) hp
      have h0 : nc_lab n w 0 = 0 := by have := hL.1 0 hn; omega
      have h1 := nc_cn_lt (P := fun p => decide (nc_lab n w p = p)) (a := 0) (b := nc_lab n w p) (decide_eq_true h0) (by omega)
      have h2 := nc_cn_lt (P := fun p => decide (nc_lab n w p = p)) (a := nc_lab n w p) (b := n) (decide_eq_true (nc_lab_idem hL hp)) hl
      unfold nc_pc at h
      omega
  · intro h
    have h1 : ∀ m, nc_cn (fun p => decide (0 = p)) m ≤ 1 ∧ (m = 0 → nc_cn (fun p => decide (0 = p)) m = 0) := by
      intro m
      induction m with
      | zero => exact ⟨by decide, fun _ => rfl⟩
      | succ m ih =>
        refine ⟨?_, fun e => by omega⟩
        rw [nc_cn_s]
        by_cases c : m = 0
        · rw [ih.2 c]
          by_cases d : decide (0 = m) = true
          · rw [if_pos d]; omega
          · rw [if_neg d]; omega
        · rw [if_neg (fun d => c (of_decide_eq_true d).symm)]
          exact ih.1
    unfold nc_pc
    rw [nc_cn_c (Q := fun p => decide (0 = p)) (fun i hi => by rw [h i hi])]
    exact (h1 n).1
end
section
/-! determinants of two to five rows, by the first row -/
def nc_2 (a b c d : Int) : Int := a * d - b * c
def nc_3 (a00 a01 a02 a10 a11 a12 a20 a21 a22 : Int) : Int := a00 * nc_2 a11 a12 a21 a22 - a01 * nc_2 a10 a12 a20 a22 + a02 * nc_2 a10 a11 a20 a21
def nc_4 (a00 a01 a02 a03 a10 a11 a12 a13 a20 a21 a22 a23 a30 a31 a32 a33 : Int) : Int := a00 * nc_3 a11 a12 a13 a21 a22 a23 a31 a32 a33 - a01 * nc_3 a10 a12 a13 a20 a22 a23 a30 a32 a33 + a02 * nc_3 a10 a11 a13 a20 a21 a23 a30 a31 a33 - a03 * nc_3 a10 a11 a12 a20 a21 a22 a30 a31 a32
def nc_5 (a00 a01 a02 a03 a04 a10 a11 a12 a13 a14 a20 a21 a22 a23 a24 a30 a31 a32 a33 a34 a40 a41 a42 a43 a44 : Int) : Int := a00 * nc_4 a11 a12 a13 a14 a21 a22 a23 a24 a31 a32 a33 a34 a41 a42 a43 a44 - a01 * nc_4 a10 a12 a13 a14 a20 a22 a23 a24 a30 a32 a33 a34 a40 a42 a43 a44 + a02 * nc_4 a10 a11 a13 a14 a20 a21 a23 a24 a30 a31 a33 a34 a40 a41 a43 a44 - a03 * nc_4 a10 a11 a12 a14 a20 a21 a22 a24 a30 a31 a32 a34 a40 a41 a42 a44 + a04 * nc_4 a10 a11 a12 a13 a20 a21 a22 a23 a30 a31 a32 a33 a40 a41 a42 a43
/-- the minor of the rows 0 .. k-1, i and the columns 0 .. k-1, c -/
def nc_mk (A : Nat → Nat → Int) : Nat → Nat → Nat → Int
  | 0, i, c => A i c
  | 1, i, c => nc_2 (A 0 0) (A 0 c) (A i 0) (A i c)
  | 2, i, c => nc_3 (A 0 0) (A 0 1) (A 0 c) (A 1 0) (A 1 1) (A 1 c) (A i 0) (A i 1) (A i c)
  | 3, i, c => nc_4 (A 0 0) (A 0 1) (A 0 2) (A 0 c) (A 1 0) (A 1 1) (A 1 2) (A 1 c) (A 2 0) (A 2 1) (A 2 2) (A 2 c) (A i 0) (A i 1) (A i 2) (A i c)
  | 4, i, c => nc_5 (A 0 0) (A 0 1) (A 0 2) (A 0 3) (A 0 c) (A 1 0) (A 1 1) (A 1 2) (A 1 3) (A 1 c) (A 2 0) (A 2 1) (A 2 2) (A 2 3) (A 2 c) (A 3 0) (A 3 1) (A 3 2) (A 3 3) (A 3 c) (A i 0) (A i 1) (A i 2) (A i 3) (A i c)
  | _, _, _ => 0
def nc_pv (A : Nat → Nat → Int) : Nat → Int
  | 0 => 1
  | k + 1 => nc_mk A k k k
/-- the determinant of the first k rows and columns with column c in the place of column i -/
def nc_rk (A : Nat → Nat → Int) (k i c : Nat) : Int := nc_pv (fun r j => A r (if j = i then c else j)) k
theorem nc_bar0 (akk akc aik aic : Int) : akk * aic - aik * akc = 1 * (nc_2 akk akc aik aic) := by
  try simp only [nc_2]
  grind
theorem nc_bar1 (a00 a0k a0c ak0 akk akc ai0 aik aic : Int) : (nc_2 a00 a0k ak0 akk) * (nc_2 a00 a0c ai0 aic) - (nc_2 a00 a0k ai0 aik) * (nc_2 a00 a0c ak0 akc) = a00 * (nc_3 a00 a0k a0c ak0 akk akc ai0 aik aic) := by
  try simp only [nc_3, nc_2]
  grind
theorem nc_bar2 (a00 a01 a0k a0c a10 a11 a1k a1c ak0 ak1 akk akc ai0 ai1 aik aic : Int) : (nc_3 a00 a01 a0k a10 a11 a1k ak0 ak1 akk) * (nc_3 a00 a01 a0c a10 a11 a1c ai0 ai1 aic) - (nc_3 a00 a01 a0k a10 a11 a1k ai0 ai1 aik) * (nc_3 a00 a01 a0c a10 a11 a1c ak0 ak1 akc) = (nc_2 a00 a01 a10 a11) * (nc_4 a00 a01 a0k a0c a10 a11 a1k a1c ak0 ak1 akk akc ai0 ai1 aik aic) := by
  try simp only [nc_4, nc_3, nc_2]
  grind
theorem nc_bar3 (a00 a01 a02 a0k a0c a10 a11 a12 a1k a1c a20 a21 a22 a2k a2c ak0 ak1 ak2 akk akc ai0 ai1 ai2 aik aic : Int) : (nc_4 a00 a01 a02 a0k a10 a11 a12 a1k a20 a21 a22 a2k ak0 ak1 ak2 akk) * (nc_4 a00 a01 a02 a0c a10 a11 a12 a1c a20 a21 a22 a2c ai0 ai1 ai2 aic) - (nc_4 a00 a01 a02 a0k a10 a11 a12 a1k a20 a21 a22 a2k ai0 ai1 ai2 aik) * (nc_4 a00 a01 a02 a0c a10 a11 a12 a1c a20 a21 a22 a2c ak0 ak1 ak2 akc) = (nc_3 a00 a01 a02 a10 a11 a12 a20 a21 a22) * (nc_5 a00 a01 a02 a0k a0c a10 a11 a12 a1k a1c a20 a21 a22 a2k a2c ak0 ak1 ak2 akk akc ai0 ai1 ai2 aik aic) := by
  try simp only [nc_5, nc_4, nc_3, nc_2]
  grind
theorem nc_gj1_0 (a00 a0k a0c ak0 akk akc : Int) : (nc_2 a00 a0k ak0 akk) * a0c - a0k * (nc_2 a00 a0c ak0 akc) = a00 * (nc_2 a0c a0k akc akk) := by
  try simp only [nc_2]
  grind
theorem nc_gj2_0 (a00 a01 a0k a0c a10 a11 a1k a1c ak0 ak1 akk akc : Int) : (nc_3 a00 a01 a0k a10 a11 a1k ak0 ak1 akk) * (nc_2 a0c a01 a1c a11) - (nc_2 a0k a01 a1k a11) * (nc_3 a00 a01 a0c a10 a11 a1c ak0 ak1 akc) = (nc_2 a00 a01 a10 a11) * (nc_3 a0c a01 a0k a1c a11 a1k akc ak1 akk) := by
  try simp only [nc_3, nc_2]
  grind
theorem nc_gj2_1 (a00 a01 a0k a0c a10 a11 a1k a1c ak0 ak1 akk akc : Int) : (nc_3 a00 a01 a0k a10 a11 a1k ak0 ak1 akk) * (nc_2 a00 a0c a10 a1c) - (nc_2 a00 a0k a10 a1k) * (nc_3 a00 a01 a0c a10 a11 a1c ak0 ak1 akc) = (nc_2 a00 a01 a10 a11) * (nc_3 a00 a0c a0k a10 a1c a1k ak0 akc akk) := by
  try simp only [nc_3, nc_2]
  grind
theorem nc_gj3_0 (a00 a01 a02 a0k a0c a10 a11 a12 a1k a1c a20 a21 a22 a2k a2c ak0 ak1 ak2 akk akc : Int) : (nc_4 a00 a01 a02 a0k a10 a11 a12 a1k a20 a21 a22 a2k ak0 ak1 ak2 akk) * (nc_3 a0c a01 a02 a1c a11 a12 a2c a21 a22) - (nc_3 a0k a01 a02 a1k a11 a12 a2k a21 a22) * (nc_4 a00 a01 a02 a0c a10 a11 a12 a1c a20 a21 a22 a2c ak0 ak1 ak2 akc) = (nc_3 a00 a01 a02 a10 a11 a12 a20 a21 a22) * (nc_4 a0c a01 a02 a0k a1c a11 a12 a1k a2c a21 a22 a2k akc ak1 ak2 akk) := by
  try simp only [nc_4, nc_3, nc_2]
  grind
theorem nc_gj3_1 (a00 a01 a02 a0k a0c a10 a11 a12 a1k a1c a20 a21 a22 a2k a2c ak0 ak1 ak2 akk akc : Int) : (nc_4 a00 a01 a02 a0k a10 a11 a12 a1k a20 a21 a22 a2k ak0 ak1 ak2 akk) * (nc_3 a00 a0c a02 a10 a1c a12 a20 a2c a22) - (nc_3 a00 a0k a02 a10 a1k a12 a20 a2k a22) * (nc_4 a00 a01 a02 a0c a10 a11 a12 a1c a20 a21 a22 a2c ak0 ak1 ak2 akc) = (nc_3 a00 a01 a02 a10 a11 a12 a20 a21 a22) * (nc_4 a00 a0c a02 a0k a10 a1c a12 a1k a20 a2c a22 a2k ak0 akc ak2 akk) := by
  try simp only [nc_4, nc_3, nc_2]
  grind
theorem nc_gj3_2 (a00 a01 a02 a0k a0c a10 a11 a12 a1k a1c a20 a21 a22 a2k a2c ak0 ak1 ak2 akk akc : Int) : (nc_4 a00 a01 a02 a0k a10 a11 a12 a1k a20 a21 a22 a2k ak0 ak1 ak2 akk) * (nc_3 a00 a01 a0c a10 a11 a1c a20 a21 a2c) - (nc_3 a00 a01 a0k a10 a11 a1k a20 a21 a2k) * (nc_4 a00 a01 a02 a0c a10 a11 a12 a1c a20 a21 a22 a2c ak0 ak1 ak2 akc) = (nc_3 a00 a01 a02 a10 a11 a12 a20 a21 a22) * (nc_4 a00 a01 a0c a0k a10 a11 a1c a1k a20 a21 a2c a2k ak0 ak1 akc akk) := by
  try simp only [nc_4, nc_3, nc_2]
  grind
end
section
theorem nc_ad0_0 (a00 : Int) : 0 + a00 * 1 = a00 := by
  grind
theorem nc_ad1_0 (a00 a01 a10 a11 : Int) : 0 + a00 * (-a01) + a01 * a00 = 0 := by
  try simp only [nc_2]
  grind
theorem nc_ad1_1 (a00 a01 a10 a11 : Int) : 0 + a10 * (-a01) + a11 * a00 = (nc_2 a00 a01 a10 a11) := by
  try simp only [nc_2]
  grind
theorem nc_ad2_0 (a00 a01 a02 a10 a11 a12 a20 a21 a22 : Int) : 0 + a00 * (nc_2 a01 a02 a11 a12) + a01 * (-(nc_2 a00 a02 a10 a12)) + a02 * (nc_2 a00 a01 a10 a11) = 0 := by
  try simp only [nc_3, nc_2]
  grind
theorem nc_ad2_1 (a00 a01 a02 a10 a11 a12 a20 a21 a22 : Int) : 0 + a10 * (nc_2 a01 a02 a11 a12) + a11 * (-(nc_2 a00 a02 a10 a12)) + a12 * (nc_2 a00 a01 a10 a11) = 0 := by
  try simp only [nc_3, nc_2]
  grind
theorem nc_ad2_2 (a00 a01 a02 a10 a11 a12 a20 a21 a22 : Int) : 0 + a20 * (nc_2 a01 a02 a11 a12) + a21 * (-(nc_2 a00 a02 a10 a12)) + a22 * (nc_2 a00 a01 a10 a11) = (nc_3 a00 a01 a02 a10 a11 a12 a20 a21 a22) := by
  try simp only [nc_3, nc_2]
  grind
theorem nc_ad3_0 (a00 a01 a02 a03 a10 a11 a12 a13 a20 a21 a22 a23 a30 a31 a32 a33 : Int) : 0 + a00 * (-(nc_3 a01 a02 a03 a11 a12 a13 a21 a22 a23)) + a01 * (nc_3 a00 a02 a03 a10 a12 a13 a20 a22 a23) + a02 * (-(nc_3 a00 a01 a03 a10 a11 a13 a20 a21 a23)) + a03 * (nc_3 a00 a01 a02 a10 a11 a12 a20 a21 a22) = 0 := by
  try simp only [nc_4, nc_3, nc_2]
  grind
theorem nc_ad3_1 (a00 a01 a02 a03 a10 a11 a12 a13 a20 a21 a22 a23 a30 a31 a32 a33 : Int) : 0 + a10 * (-(nc_3 a01 a02 a03 a11 a12 a13 a21 a22 a23)) + a11 * (nc_3 a00 a02 a03 a10 a12 a13 a20 a22 a23) + a12 * (-(nc_3 a00 a01 a03 a10 a11 a13 a20 a21 a23)) + a13 * (nc_3 a00 a01 a02 a10 a11 a12 a20 a21 a22) = 0 := by
  try simp only [nc_4, nc_3, nc_2]
  grind
theorem nc_ad3_2 (a00 a01 a02 a03 a10 a11 a12 a13 a20 a21 a22 a23 a30 a31 a32 a33 : Int) : 0 + a20 * (-(nc_3 a01 a02 a03 a11 a12 a13 a21 a22 a23)) + a21 * (nc_3 a00 a02 a03 a10 a12 a13 a20 a22 a23) + a22 * (-(nc_3 a00 a01 a03 a10 a11 a13 a20 a21 a23)) + a23 * (nc_3 a00 a01 a02 a10 a11 a12 a20 a21 a22) = 0 := by
  try simp only [nc_4, nc_3, nc_2]
  grind
theorem nc_ad3_3 (a00 a01 a02 a03 a10 a11 a12 a13 a20 a21 a22 a23 a30 a31 a32 a33 : Int) : 0 + a30 * (-(nc_3 a01 a02 a03 a11 a12 a13 a21 a22 a23)) + a31 * (nc_3 a00 a02 a03 a10 a12 a13 a20 a22 a23) + a32 * (-(nc_3 a00 a01 a03 a10 a11 a13 a20 a21 a23)) + a33 * (nc_3 a00 a01 a02 a10 a11 a12 a20 a21 a22) = (nc_4 a00 a01 a02 a03 a10 a11 a12 a13 a20 a21 a22 a23 a30 a31 a32 a33) := by
  try simp only [nc_4, nc_3, nc_2]
  grind
theorem nc_ad4_0 (a00 a01 a02 a03 a04 a10 a11 a12 a13 a14 a20 a21 a22 a23 a24 a30 a31 a32 a33 a34 a40 a41 a42 a43 a44 : Int) : 0 + a00 * (nc_4 a01 a02 a03 a04 a11 a12 a13 a14 a21 a22 a23 a24 a31 a32 a33 a34) + a01 * (-(nc_4 a00 a02 a03 a04 a10 a12 a13 a14 a20 a22 a23 a24 a30 a32 a33 a34)) + a02 * (nc_4 a00 a01 a03 a04 a10 a11 a13 a14 a20 a21 a23 a24 a30 a31 a33 a34) + a03 * (-(nc_4 a00 a01 a02 a04 a10 a11 a12 a14 a20 a21 a22 a24 a30 a31 a32 a34)) + a04 * (nc_4 a00 a01 a02 a03 a10 a11 a12 a13 a20 a21 a22 a23 a30 a31 a32 a33) = 0 := by
  try simp only [nc_5, nc_4, nc_3, nc_2]
  grind
theorem nc_ad4_1 (a00 a01 a02 a03 a04 a10 a11 a12 a13 a14 a20 a21 a22 a23 a24 a30 a31 a32 a33 a34 a40 a41 a42 a43 a44 : Int) : 0 + a10 * (nc_4 a01 a02 a03 a04 a11 a12 a13 a14 a21 a22 a23 a24 a31 a32 a33 a34) + a11 * (-(nc_4 a00 a02 a03 a04 a10 a12 a13 a14 a20 a22 a23 a24 a30 a32 a33 a34)) + a12 * (nc_4 a00 a01 a03 a04 a10 a11 a13 a14 a20 a21 a23 a24 a30 a31 a33 a34) + a13 * (-(nc_4 a00 a01 a02 a04 a10 a11 a12 a14 a20 a21 a22 a24 a30 a31 a32 a34)) + a14 * (nc_4 a00 a01 a02 a03 a10 a11 a12 a13 a20 a21 a22 a23 a30 a31 a32 a33) = 0 := by
  try simp only [nc_5, nc_4, nc_3, nc_2]
  grind
theorem nc_ad4_2 (a00 a01 a02 a03 a04 a10 a11 a12 a13 a14 a20 a21 a22 a23 a24 a30 a31 a32 a33 a34 a40 a41 a42 a43 a44 : Int) : 0 + a20 * (nc_4 a01 a02 a03 a04 a11 a12 a13 a14 a21 a22 a23 a24 a31 a32 a33 a34) + a21 * (-(nc_4 a00 a02 a03 a04 a10 a12 a13 a14 a20 a22 a23 a24 a30 a32 a33 a34)) + a22 * (nc_4 a00 a01 a03 a04 a10 a11 a13 a14 a20 a21 a23 a24 a30 a31 a33 a34) + a23 * (-(nc_4 a00 a01 a02 a04 a10 a11 a12 a14 a20 a21 a22 a24 a30 a31 a32 a34)) + a24 * (nc_4 a00 a01 a02 a03 a10 a11 a12 a13 a20 a21 a22 a23 a30 a31 a32 a33) = 0 := by
  try simp only [nc_5, nc_4, nc_3, nc_2]
  grind
theorem nc_ad4_3 (a00 a01 a02 a03 a04 a10 a11 a12 a13 a14 a20 a21 a22 a23 a24 a30 a31 a32 a33 a34 a40 a41 a42 a43 a44 : Int) : 0 + a30 * (nc_4 a01 a02 a03 a04 a11 a12 a13 a14 a21 a22 a23 a24 a31 a32 a33 a34) + a31 * (-(nc_4 a00 a02 a03 a04 a10 a12 a13 a14 a20 a22 a23 a24 a30 a32 a33 a34)) + a32 * (nc_4 a00 a01 a03 a04 a10 a11 a13 a14 a20 a21 a23 a24 a30 a31 a33 a34) + a33 * (-(nc_4 a00 a01 a02 a04 a10 a11 a12 a14 a20 a21 a22 a24 a30 a31 a32 a34)) + a34 * (nc_4 a00 a01 a02 a03 a10 a11 a12 a13 a20 a21 a22 a23 a30 a31 a32 a33) = 0 := by
  try simp only [nc_5, nc_4, nc_3, nc_2]
  grind
theorem nc_ad4_4 (a00 a01 a02 a03 a04 a10 a11 a12 a13 a14 a20 a21 a22 a23 a24 a30 a31 a32 a33 a34 a40 a41 a42 a43 a44 : Int) : 0 + a40 * (nc_4 a01 a02 a03 a04 a11 a12 a13 a14 a21 a22 a23 a24 a31 a32 a33 a34) + a41 * (-(nc_4 a00 a02 a03 a04 a10 a12 a13 a14 a20 a22 a23 a24 a30 a32 a33 a34)) + a42 * (nc_4 a00 a01 a03 a04 a10 a11 a13 a14 a20 a21 a23 a24 a30 a31 a33 a34) + a43 * (-(nc_4 a00 a01 a02 a04 a10 a11 a12 a14 a20 a21 a22 a24 a30 a31 a32 a34)) + a44 * (nc_4 a00 a01 a02 a03 a10 a11 a12 a13 a20 a21 a22 a23 a30 a31 a32 a33) = (nc_5 a00 a01 a02 a03 a04 a10 a11 a12 a13 a14 a20 a21 a22 a23 a24 a30 a31 a32 a33 a34 a40 a41 a42 a43 a44) := by
  try simp only [nc_5, nc_4, nc_3, nc_2]
  grind
theorem nc_bd0_0 (a00 : Int) : a00 = a00 * 1 - (0) := by
  grind
theorem nc_bd1_0 (a00 a01 a10 a11 : Int) : nc_2 a00 a01 a10 a11 = a00 * a11 - (0 + a01 * a10) := by
  try simp only [nc_2]
  grind
theorem nc_bd1_1 (a00 a01 a10 a11 : Int) : nc_2 a00 a01 a10 a11 = a11 * a00 - (0 + a10 * a01) := by
  try simp only [nc_2]
  grind
theorem nc_bd2_0 (a00 a01 a02 a10 a11 a12 a20 a21 a22 : Int) : nc_3 a00 a01 a02 a10 a11 a12 a20 a21 a22 = a00 * (nc_2 a11 a12 a21 a22) - (0 + a01 * (nc_2 a10 a12 a20 a22) + a02 * (nc_2 a11 a10 a21 a20)) := by
  try simp only [nc_3, nc_2]
  grind
theorem nc_bd2_1 (a00 a01 a02 a10 a11 a12 a20 a21 a22 : Int) : nc_3 a00 a01 a02 a10 a11 a12 a20 a21 a22 = a11 * (nc_2 a00 a02 a20 a22) - (0 + a10 * (nc_2 a01 a02 a21 a22) + a12 * (nc_2 a00 a01 a20 a21)) := by
  try simp only [nc_3, nc_2]
  grind
theorem nc_bd2_2 (a00 a01 a02 a10 a11 a12 a20 a21 a22 : Int) : nc_3 a00 a01 a02 a10 a11 a12 a20 a21 a22 = a22 * (nc_2 a00 a01 a10 a11) - (0 + a20 * (nc_2 a02 a01 a12 a11) + a21 * (nc_2 a00 a02 a10 a12)) := by
  try simp only [nc_3, nc_2]
  grind
theorem nc_bd3_0 (a00 a01 a02 a03 a10 a11 a12 a13 a20 a21 a22 a23 a30 a31 a32 a33 : Int) : nc_4 a00 a01 a02 a03 a10 a11 a12 a13 a20 a21 a22 a23 a30 a31 a32 a33 = a00 * (nc_3 a11 a12 a13 a21 a22 a23 a31 a32 a33) - (0 + a01 * (nc_3 a10 a12 a13 a20 a22 a23 a30 a32 a33) + a02 * (nc_3 a11 a10 a13 a21 a20 a23 a31 a30 a33) + a03 * (nc_3 a11 a12 a10 a21 a22 a20 a31 a32 a30)) := by
  try simp only [nc_4, nc_3, nc_2]
  grind
theorem nc_bd3_1 (a00 a01 a02 a03 a10 a11 a12 a13 a20 a21 a22 a23 a30 a31 a32 a33 : Int) : nc_4 a00 a01 a02 a03 a10 a11 a12 a13 a20 a21 a22 a23 a30 a31 a32 a33 = a11 * (nc_3 a00 a02 a03 a20 a22 a23 a30 a32 a33) - (0 + a10 * (nc_3 a01 a02 a03 a21 a22 a23 a31 a32 a33) + a12 * (nc_3 a00 a01 a03 a20 a21 a23 a30 a31 a33) + a13 * (nc_3 a00 a02 a01 a20 a22 a21 a30 a32 a31)) := by
  try simp only [nc_4, nc_3, nc_2]
  grind
theorem nc_bd3_2 (a00 a01 a02 a03 a10 a11 a12 a13 a20 a21 a22 a23 a30 a31 a32 a33 : Int) : nc_4 a00 a01 a02 a03 a10 a11 a12 a13 a20 a21 a22 a23 a30 a31 a32 a33 = a22 * (nc_3 a00 a01 a03 a10 a11 a13 a30 a31 a33) - (0 + a20 * (nc_3 a02 a01 a03 a12 a11 a13 a32 a31 a33) + a21 * (nc_3 a00 a02 a03 a10 a12 a13 a30 a32 a33) + a23 * (nc_3 a00 a01 a02 a10 a11 a12 a30 a31 a32)) := by
  try simp only [nc_4, nc_3, nc_2]
  grind
theorem nc_bd3_3 (a00 a01 a02 a03 a10 a11 a12 a13 a20 a21 a22 a23 a30 a31 a32 a33 : Int) : nc_4 a00 a01 a02 a03 a10 a11 a12 a13 a20 a21 a22 a23 a30 a31 a32 a33 = a33 * (nc_3 a00 a01 a02 a10 a11 a12 a20 a21 a22) - (0 + a30 * (nc_3 a03 a01 a02 a13 a11 a12 a23 a21 a22) + a31 * (nc_3 a00 a03 a02 a10 a13 a12 a20 a23 a22) + a32 * (nc_3 a00 a01 a03 a10 a11 a13 a20 a21 a23)) := by
  try simp only [nc_4, nc_3, nc_2]
  grind
theorem nc_bd4_0 (a00 a01 a02 a03 a04 a10 a11 a12 a13 a14 a20 a21 a22 a23 a24 a30 a31 a32 a33 a34 a40 a41 a42 a43 a44 : Int) : nc_5 a00 a01 a02 a03 a04 a10 a11 a12 a13 a14 a20 a21 a22 a23 a24 a30 a31 a32 a33 a34 a40 a41 a42 a43 a44 = a00 * (nc_4 a11 a12 a13 a14 a21 a22 a23 a24 a31 a32 a33 a34 a41 a42 a43 a44) - (0 + a01 * (nc_4 a10 a12 a13 a14 a20 a22 a23 a24 a30 a32 a33 a34 a40 a42 a43 a44) + a02 * (nc_4 a11 a10 a13 a14 a21 a20 a23 a24 a31 a30 a33 a34 a41 a40 a43 a44) + a03 * (nc_4 a11 a12 a10 a14 a21 a22 a20 a24 a31 a32 a30 a34 a41 a42 a40 a44) + a04 * (nc_4 a11 a12 a13 a10 a21 a22 a23 a20 a31 a32 a33 a30 a41 a42 a43 a40)) := by
  try simp only [nc_5, nc_4, nc_3, nc_2]
  grind
theorem nc_bd4_1 (a00 a01 a02 a03 a04 a10 a11 a12 a13 a14 a20 a21 a22 a23 a24 a30 a31 a32 a33 a34 a40 a41 a42 a43 a44 : Int) : nc_5 a00 a01 a02 a03 a04 a10 a11 a12 a13 a14 a20 a21 a22 a23 a24 a30 a31 a32 a33 a34 a40 a41 a42 a43 a44 = a11 * (nc_4 a00 a02 a03 a04 a20 a22 a23 a24 a30 a32 a33 a34 a40 a42 a43 a44) - (0 + a10 * (nc_4 a01 a02 a03 a04 a21 a22 a23 a24 a31 a32 a33 a34 a41 a42 a43 a44) + a12 * (nc_4 a00 a01 a03 a04 a20 a21 a23 a24 a30 a31 a33 a34 a40 a41 a43 a44) + a13 * (nc_4 a00 a02 a01 a04 a20 a22 a21 a24 a30 a32 a31 a34 a40 a42 a41 a44) + a14 * (nc_4 a00 a02 a03 a01 a20 a22 a23 a21 a30 a32 a33 a31 a40 a42 a43 a41)) := by
  try simp only [nc_5, nc_4, nc_3, nc_2]
  grind
theorem nc_bd4_2 (a00 a01 a02 a03 a04 a10 a11 a12 a13 a14 a20 a21 a22 a23 a24 a30 a31 a32 a33 a34 a40 a41 a42 a43 a44 : Int) : nc_5 a00 a01 a02 a03 a04 a10 a11 a12 a13 a14 a20 a21 a22 a23 a24 a30 a31 a32 a33 a34 a40 a41 a42 a43 a44 = a22 * (nc_4 a00 a01 a03 a04 a10 a11 a13 a14 a30 a31 a33 a34 a40 a41 a43 a44) - (0 + a20 * (nc_4 a02 a01 a03 a04 a12 a11 a13 a14 a32 a31 a33 a34 a42 a41 a43 a44) + a21 * (nc_4 a00 a02 a03 a04 a10 a12 a13 a14 a30 a32 a33 a34 a40 a42 a43 a44) + a23 * (nc_4 a00 a01 a02 a04 a10 a11 a12 a14 a30 a31 a32 a34 a40 a41 a42 a44) + a24 * (nc_4 a00 a01 a03 a02 a10 a11 a13 a12 a30 a31 a33 a32 a40 a41 a43 a42)) := by
  try simp only [nc_5, nc_4, nc_3, nc_2]
  grind
theorem nc_bd4_3 (a00 a01 a02 a03 a04 a10 a11 a12 a13 a14 a20 a21 a22 a23 a24 a30 a31 a32 a33 a34 a40 a41 a42 a43 a44 : Int) : nc_5 a00 a01 a02 a03 a04 a10 a11 a12 a13 a14 a20 a21 a22 a23 a24 a30 a31 a32 a33 a34 a40 a41 a42 a43 a44 = a33 * (nc_4 a00 a01 a02 a04 a10 a11 a12 a14 a20 a21 a22 a24 a40 a41 a42 a44) - (0 + a30 * (nc_4 a03 a01 a02 a04 a13 a11 a12 a14 a23 a21 a22 a24 a43 a41 a42 a44) + a31 * (nc_4 a00 a03 a02 a04 a10 a13 a12 a14 a20 a23 a22 a24 a40 a43 a42 a44) + a32 * (nc_4 a00 a01 a03 a04 a10 a11 a13 a14 a20 a21 a23 a24 a40 a41 a43 a44) + a34 * (nc_4 a00 a01 a02 a03 a10 a11 a12 a13 a20 a21 a22 a23 a40 a41 a42 a43)) := by
  try simp only [nc_5, nc_4, nc_3, nc_2]
  grind
theorem nc_bd4_4 (a00 a01 a02 a03 a04 a10 a11 a12 a13 a14 a20 a21 a22 a23 a24 a30 a31 a32 a33 a34 a40 a41 a42 a43 a44 : Int) : nc_5 a00 a01 a02 a03 a04 a10 a11 a12 a13 a14 a20 a21 a22 a23 a24 a30 a31 a32 a33 a34 a40 a41 a42 a43 a44 = a44 * (nc_4 a00 a01 a02 a03 a10 a11 a12 a13 a20 a21 a22 a23 a30 a31 a32 a33) - (0 + a40 * (nc_4 a04 a01 a02 a03 a14 a11 a12 a13 a24 a21 a22 a23 a34 a31 a32 a33) + a41 * (nc_4 a00 a04 a02 a03 a10 a14 a12 a13 a20 a24 a22 a23 a30 a34 a32 a33) + a42 * (nc_4 a00 a01 a04 a03 a10 a11 a14 a13 a20 a21 a24 a23 a30 a31 a34 a33) + a43 * (nc_4 a00 a01 a02 a04 a10 a11 a12 a14 a20 a21 a22 a24 a30 a31 a32 a34)) := by
  try simp only [nc_5, nc_4, nc_3, nc_2]
  grind
end
section
theorem nc_adj (A : Nat → Nat → Int) {k : Nat} (hk : k ≤ 4) : ∃ x : Nat → Int, x k = nc_pv A k ∧ ∀ i, i ≤ k → nc_sg (k + 1) (fun j => A i j * x j) = if i = k then nc_pv A (k + 1) else 0 := by
  rcases (by omega : k = 0 ∨ k = 1 ∨ k = 2 ∨ k = 3 ∨ k = 4) with rfl | rfl | rfl | rfl | rfl
  · refine ⟨fun j => [1].getD j 0, rfl, fun i hi => ?_⟩
    obtain rfl : i = 0 := by omega
    rw [if_pos rfl]
    exact nc_ad0_0 (A 0 0)
  · refine ⟨fun j => [-((A 0 1)), ((A 0 0))].getD j 0, rfl, fun i hi => ?_⟩
    rcases (by omega : i = 0 ∨ i = 1) with rfl | rfl
    · rw [if_neg (by decide)]
      exact nc_ad1_0 (A 0 0) (A 0 1) (A 1 0) (A 1 1)
    · rw [if_pos rfl]
      exact nc_ad1_1 (A 0 0) (A 0 1) (A 1 0) (A 1 1)
  · refine ⟨fun j => [(nc_2 (A 0 1) (A 0 2) (A 1 1) (A 1 2)), -(nc_2 (A 0 0) (A 0 2) (A 1 0) (A 1 2)), (nc_2 (A 0 0) (A 0 1) (A 1 0) (A 1 1))].getD j 0, rfl, fun i hi => ?_⟩
    rcases (by omega : i = 0 ∨ i = 1 ∨ i = 2) with rfl | rfl | rfl
    · rw [if_neg (by decide)]
      exact nc_ad2_0 (A 0 0) (A 0 1) (A 0 2) (A 1 0) (A 1 1) (A 1 2) (A 2 0) (A 2 1) (A 2 2)
    · rw [if_neg (by decide)]
      exact nc_ad2_1 (A 0 0) (A 0 1) (A 0 2) (A 1 0) (A 1 1) (A 1 2) (A 2 0) (A 2 1) (A 2 2)
    · rw [if_pos rfl]
      exact nc_ad2_2 (A 0 0) (A 0 1) (A 0 2) (A 1 0) (A 1 1) (A 1 2) (A 2 0) (A 2 1) (A 2 2)
  · refine ⟨fun j => [-(nc_3 (A 0 1) (A 0 2) (A 0 3) (A 1 1) (A 1 2) (A 1 3) (A 2 1) (A 2 2) (A 2 3)), (nc_3 (A 0 0) (A 0 2) (A 0 3) (A 1 0) (A 1 2) (A 1 3) (A 2 0) (A 2 2) (A 2 3)), -(nc_3 (A 0 0) (A 0 1) (A 0 3) (A 1 0) (A 1 1) (A 1 3) (A 2 0) (A 2 1) (A 2 3)), (nc_3 (A 0 0) (A 0 1) (A 0 2) (A 1 0) (A 1 1) (A 1 2) (A 2 0) (A 2 1) (A 2 2))].getD j 0, rfl, fun i hi => ?_⟩
    rcases (by omega : i = 0 ∨ i = 1 ∨ i = 2 ∨ i = 3) with rfl | rfl | rfl | rfl
    · rw [if_neg (by decide)]
      exact nc_ad3_0 (A 0 0) (A 0 1) (A 0 2) (A 0 3) (A 1 0) (A 1 1) (A 1 2) (A 1 3) (A 2 0) (A 2 1) (A 2 2) (A 2 3) (A 3 0) (A 3 1) (A 3 2) (A 3 3)
    · rw [if_neg (by decide)]
      exact nc_ad3_1 (A 0 0) (A 0 1) (A 0 2) (A 0 3) (A 1 0) (A 1 1) (A 1 2) (A 1 3) (A 2 0) (A 2 1) (A 2 2) (A 2 3) (A 3 0) (A 3 1) (A 3 2) (A 3 3)
    · rw [if_neg (by decide)]
      exact nc_ad3_2 (A 0 0) (A 0 1) (A 0 2) (A 0 3) (A 1 0) (A 1 1) (A 1 2) (A 1 3) (A 2 0) (A 2 1) (A 2 2) (A 2 3) (A 3 0) (A 3 1) (A 3 2) (A 3 3)
    · rw [if_pos rfl]
      exact nc_ad3_3 (A 0 0) (A 0 1) (A 0 2) (A 0 3) (A 1 0) (A 1 1) (A 1 2) (A 1 3) (A 2 0) (A 2 1) (A 2 2) (A 2 3) (A 3 0) (A 3 1) (A 3 2) (A 3 3)
  · refine ⟨fun j => [(nc_4 (A 0 1) (A 0 2) (A 0 3) (A 0 4) (A 1 1) (A 1 2) (A 1 3) (A 1 4) (A 2 1) (A 2 2) (A 2 3) (A 2 4) (A 3 1) (A 3 2) (A 3 3) (A 3 4)), -(nc_4 (A 0 0) (A 0 2) (A 0 3) (A 0 4) (A 1 0) (A 1 2) (A 1 3) (A 1 4) (A 2 0) (A 2 2) (A 2 3) (A 2 4) (A 3 0) (A 3 2) (A 3 3) (A 3 4)), (nc_4 (A 0 0) (A 0 1) (A 0 3) (A 0 4) (A 1 0) (A 1 1) (A 1 3) (A 1 4) (A 2 0) (A 2 1) (A 2 3) (A 2 4) (A 3 0) (A 3 1) (A 3 3) (A 3 4)), -(nc_4 (A 0 0) (A 0 1) (A 0 2) (A 0 4) (A 1 0) (A 1 1) (A 1 2) (A 1 4) (A 2 0) (A 2 1) (A 2 2) (A 2 4) (A 3 0) (A 3 1) (A 3 2) (A 3 4)), (nc_4 (A 0 0) (A 0 1) (A 0 2) (A 0 3) (A 1 0) (A 1 1) (A 1 2) (A 1 3) (A 2 0) (A 2 1) (A 2 2) (A 2 3) (A 3 0) (A 3 1) (A 3 2) (A 3 3))].getD j 0, rfl, fun i hi => ?_⟩
    rcases (by omega : i = 0 ∨ i = 1 ∨ i = 2 ∨ i = 3 ∨ i = 4) with rfl | rfl | rfl | rfl | rfl
    · rw [if_neg (by decide)]
      exact nc_ad4_0 (A 0 0) (A 0 1) (A 0 2) (A 0 3) (A 0 4) (A 1 0) (A 1 1) (A 1 2) (A 1 3) (A 1 4) (A 2 0) (A 2 1) (A 2 2) (A 2 3) (A 2 4) (A 3 0) (A 3 1) (A 3 2) (A 3 3) (A 3 4) (A 4 0) (A 4 1) (A 4 2) (A 4 3) (A 4 4)
    · rw [if_neg (by decide)]
      exact nc_ad4_1 (A 0 0) (A 0 1) (A 0 2) (A 0 3) (A 0 4) (A 1 0) (A 1 1) (A 1 2) (A 1 3) (A 1 4) (A 2 0) (A 2 1) (A 2 2) (A 2 3) (A 2 4) (A 3 0) (A 3 1) (A 3 2) (A 3 3) (A 3 4) (A 4 0) (A 4 1) (A 4 2) (A 4 3) (A 4 4)
    · rw [if_neg (by decide)]
      exact nc_ad4_2 (A 0 0) (A 0 1) (A 0 2) (A 0 3) (A 0 4) (A 1 0) (A 1 1) (A 1 2) (A 1 3) (A 1 4) (A 2 0) (A 2 1) (A 2 2) (A 2 3) (A 2 4) (A 3 0) (A 3 1) (A 3 2) (A 3 3) (A 3 4) (A 4 0) (A 4 1) (A 4 2) (A 4 3) (A 4 4)
    · rw [if_neg (by decide)]
      exact nc_ad4_3 (A 0 0) (A 0 1) (A 0 2) (A 0 3) (A 0 4) (A 1 0) (A 1 1) (A 1 2) (A 1 3) (A 1 4) (A 2 0) (A 2 1) (A 2 2) (A 2 3) (A 2 4) (A 3 0) (A 3 1) (A 3 2) (A 3 3) (A 3 4) (A 4 0) (A 4 1) (A 4 2) (A 4 3) (A 4 4)
    · rw [if_pos rfl]
      exact nc_ad4_4 (A 0 0) (A 0 1) (A 0 2) (A 0 3) (A 0 4) (A 1 0) (A 1 1) (A 1 2) (A 1 3) (A 1 4) (A 2 0) (A 2 1) (A 2 2) (A 2 3) (A 2 4) (A 3 0) (A 3 1) (A 3 2) (A 3 3) (A 3 4) (A 4 0) (A 4 1) (A 4 2) (A 4 3) (A 4 4)
theorem nc_pv_c {A B : Nat → Nat → Int} {k : Nat} (hk : k ≤ 5) (h : ∀ r c, r < k → c < k → A r c = B r c) : nc_pv A k = nc_pv B k := by
  rcases (by omega : k = 0 ∨ k = 1 ∨ k = 2 ∨ k = 3 ∨ k = 4 ∨ k = 5) with rfl | rfl | rfl | rfl | rfl | rfl
  · rfl
  · simp only [nc_pv, nc_mk]
    rw [h 0 0 (by decide) (by decide)]
  · simp only [nc_pv, nc_mk]
    rw [h 0 0 (by decide) (by decide), h 0 1 (by decide) (by decide), h 1 0 (by decide) (by decide), h 1 1 (by decide) (by decide)]
  · simp only [nc_pv, nc_mk]
    rw [h 0 0 (by decide) (by decide), h 0 1 (by decide) (by decide), h 0 2 (by decide) (by decide), h 1 0 (by decide) (by decide), h 1 1 (by decide) (by decide), h 1 2 (by decide) (by decide), h 2 0 (by decide) (by decide), h 2 1 (by decide) (by decide), h 2 2 (by decide) (by decide)]
  · simp only [nc_pv, nc_mk]
    rw [h 0 0 (by decide) (by decide), h 0 1 (by decide) (by decide), h 0 2 (by decide) (by decide), h 0 3 (by decide) (by decide), h 1 0 (by decide) (by decide), h 1 1 (by decide) (by decide), h 1 2 (by decide) (by decide), h 1 3 (by decide) (by decide), h 2 0 (by decide) (by decide), h 2 1 (by decide) (by decide), h 2 2 (by decide) (by decide), h 2 3 (by decide) (by decide), h 3 0 (by decide) (by decide), h 3 1 (by decide) (by decide), h 3 2 (by decide) (by decide), h 3 3 (by decide) (by decide)]
  · simp only [nc_pv, nc_mk]
    rw [h 0 0 (by decide) (by decide), h 0 1 (by decide) (by decide), h 0 2 (by decide) (by decide), h 0 3 (by decide) (by decide), h 0 4 (by decide) (by decide), h 1 0 (by decide) (by decide), h 1 1 (by decide) (by decide), h 1 2 (by decide) (by decide), h 1 3 (by decide) (by decide), h 1 4 (by decide) (by decide), h 2 0 (by decide) (by decide), h 2 1 (by decide) (by decide), h 2 2 (by decide) (by decide), h 2 3 (by decide) (by decide), h 2 4 (by decide) (by decide), h 3 0 (by decide) (by decide), h 3 1 (by decide) (by decide), h 3 2 (by decide) (by decide), h 3 3 (by decide) (by decide), h 3 4 (by decide) (by decide), h 4 0 (by decide) (by decide), h 4 1 (by decide) (by decide), h 4 2 (by decide) (by decide), h 4 3 (by decide) (by decide), h 4 4 (by decide) (by decide)]
theorem nc_rk_c {A B : Nat → Nat → Int} {k i c : Nat} (hk : k ≤ 5) (h : ∀ r c, r < k → c ≤ k → A r c = B r c) (hc : c ≤ k) : nc_rk A k i c = nc_rk B k i c := by
  refine nc_pv_c hk (fun r j hr hj => ?_)
  show A r (if j = i then c else j) = B r (if j = i then c else j)
  refine h r _ hr ?_
  by_cases e : j = i
  · rw [if_pos e]; exact hc
  · rw [if_neg e]; omega
def nc_sk (j i : Nat) : Nat := if i < j then i else i + 1
def nc_bB (M : Nat → Nat → Int) (m j : Nat) : Nat → Nat → Int := fun r c => if c < m then M (nc_sk j r) (nc_sk j c) else M (nc_sk j r) j
theorem nc_bd (M : Nat → Nat → Int) {m j : Nat} (hm : m ≤ 4) (hj : j ≤ m) : nc_pv M (m + 1) = M j j * nc_pv (nc_bB M m j) m - nc_sg m (fun i => M j (nc_sk j i) * nc_rk (nc_bB M m j) m i m) := by
  rcases (by omega : m = 0 ∨ m = 1 ∨ m = 2 ∨ m = 3 ∨ m = 4) with rfl | rfl | rfl | rfl | rfl
  · obtain rfl : j = 0 := by omega
    exact nc_bd0_0 (M 0 0)
  · rcases (by omega : j = 0 ∨ j = 1) with rfl | rfl
    · exact nc_bd1_0 (M 0 0) (M 0 1) (M 1 0) (M 1 1)
    · exact nc_bd1_1 (M 0 0) (M 0 1) (M 1 0) (M 1 1)
  · rcases (by omega : j = 0 ∨ j = 1 ∨ j = 2) with rfl | rfl | rfl
    · exact nc_bd2_0 (M 0 0) (M 0 1) (M 0 2) (M 1 0) (M 1 1) (M 1 2) (M 2 0) (M 2 1) (M 2 2)
    · exact nc_bd2_1 (M 0 0) (M 0 1) (M 0 2) (M 1 0) (M 1 1) (M 1 2) (M 2 0) (M 2 1) (M 2 2)
    · exact nc_bd2_2 (M 0 0) (M 0 1) (M 0 2) (M 1 0) (M 1 1) (M 1 2) (M 2 0) (M 2 1) (M 2 2)
  · rcases (by omega : j = 0 ∨ j = 1 ∨ j = 2 ∨ j = 3) with rfl | rfl | rfl | rfl
    · exact nc_bd3_0 (M 0 0) (M 0 1) (M 0 2) (M 0 3) (M 1 0) (M 1 1) (M 1 2) (M 1 3) (M 2 0) (M 2 1) (M 2 2) (M 2 3) (M 3 0) (M 3 1) (M 3 2) (M 3 3)
    · exact nc_bd3_1 (M 0 0) (M 0 1) (M 0 2) (M 0 3) (M 1 0) (M 1 1) (M 1 2) (M 1 3) (M 2 0) (M 2 1) (M 2 2) (M 2 3) (M 3 0) (M 3 1) (M 3 2) (M 3 3)
    · exact nc_bd3_2 (M 0 0) (M 0 1) (M 0 2) (M 0 3) (M 1 0) (M 1 1) (M 1 2) (M 1 3) (M 2 0) (M 2 1) (M 2 2) (M 2 3) (M 3 0) (M 3 1) (M 3 2) (M 3 3)
    · exact nc_bd3_3 (M 0 0) (M 0 1) (M 0 2) (M 0 3) (M 1 0) (M 1 1) (M 1 2) (M 1 3) (M 2 0) (M 2 1) (M 2 2) (M 2 3) (M 3 0) (M 3 1) (M 3 2) (M 3 3)
  · rcases (by omega : j = 0 ∨ j = 1 ∨ j = 2 ∨ j = 3 ∨ j = 4) with rfl | rfl | rfl | rfl | rfl
    · exact nc_bd4_0 (M 0 0) (M 0 1) (M 0 2) (M 0 3) (M 0 4) (M 1 0) (M 1 1) (M 1 2) (M 1 3) (M 1 4) (M 2 0) (M 2 1) (M 2 2) (M 2 3) (M 2 4) (M 3 0) (M 3 1) (M 3 2) (M 3 3) (M 3 4) (M 4 0) (M 4 1) (M 4 2) (M 4 3) (M 4 4)
    · exact nc_bd4_1 (M 0 0) (M 0 1) (M 0 2) (M 0 3) (M 0 4) (M 1 0) (M 1 1) (M 1 2) (M 1 3) (M 1 4) (M 2 0) (M 2 1) (M 2 2) (M 2 3) (M 2 4) (M 3 0) (M 3 1) (M 3 2) (M 3 3) (M 3 4) (M 4 0) (M 4 1) (M 4 2) (M 4 3) (M 4 4)
    · exact nc_bd4_2 (M 0 0) (M 0 1) (M 0 2) (M 0 3) (M 0 4) (M 1 0) (M 1 1) (M 1 2) (M 1 3) (M 1 4) (M 2 0) (M 2 1) (M 2 2) (M 2 3) (M 2 4) (M 3 0) (M 3 1) (M 3 2) (M 3 3) (M 3 4) (M 4 0) (M 4 1) (M 4 2) (M 4 3) (M 4 4)
    · exact nc_bd4_3 (M 0 0) (M 0 1) (M 0 2) (M 0 3) (M 0 4) (M 1 0) (M 1 1) (M 1 2) (M 1 3) (M 1 4) (M 2 0) (M 2 1) (M 2 2) (M 2 3) (M 2 4) (M 3 0) (M 3 1) (M 3 2) (M 3 3) (M 3 4) (M 4 0) (M 4 1) (M 4 2) (M 4 3) (M 4 4)
    · exact nc_bd4_4 (M 0 0) (M 0 1) (M 0 2) (M 0 3) (M 0 4) (M 1 0) (M 1 1) (M 1 2) (M 1 3) (M 1 4) (M 2 0) (M 2 1) (M 2 2) (M 2 3) (M 2 4) (M 3 0) (M 3 1) (M 3 2) (M 3 3) (M 3 4) (M 4 0) (M 4 1) (M 4 2) (M 4 3) (M 4 4)
theorem nc_bar (A : Nat → Nat → Int) {k : Nat} (hk : k ≤ 3) (i c : Nat) : nc_mk A k k k * nc_mk A k i c - nc_mk A k i k * nc_mk A k k c = nc_pv A k * nc_mk A (k + 1) i c := by
  rcases (by omega : k = 0 ∨ k = 1 ∨ k = 2 ∨ k = 3) with rfl | rfl | rfl | rfl
  · exact nc_bar0 (A 0 0) (A 0 c) (A i 0) (A i c)
  · exact nc_bar1 (A 0 0) (A 0 1) (A 0 c) (A 1 0) (A 1 1) (A 1 c) (A i 0) (A i 1) (A i c)
  · exact nc_bar2 (A 0 0) (A 0 1) (A 0 2) (A 0 c) (A 1 0) (A 1 1) (A 1 2) (A 1 c) (A 2 0) (A 2 1) (A 2 2) (A 2 c) (A i 0) (A i 1) (A i 2) (A i c)
  · exact nc_bar3 (A 0 0) (A 0 1) (A 0 2) (A 0 3) (A 0 c) (A 1 0) (A 1 1) (A 1 2) (A 1 3) (A 1 c) (A 2 0) (A 2 1) (A 2 2) (A 2 3) (A 2 c) (A 3 0) (A 3 1) (A 3 2) (A 3 3) (A 3 c) (A i 0) (A i 1) (A i 2) (A i 3) (A i c)
def nc_gt (A : Nat → Nat → Int) (k i c : Nat) : Int := if i < k then nc_rk A k i c else nc_mk A k i c
theorem nc_gjs (A : Nat → Nat → Int) {k i : Nat} (hk : k ≤ 3) (hne : i ≠ k) (c : Nat) : nc_mk A k k k * nc_gt A k i c - nc_gt A k i k * nc_mk A k k c = nc_pv A k * nc_gt A (k + 1) i c := by
  unfold nc_gt
  by_cases h : i < k
  · rw [if_pos h, if_pos h, if_pos (by omega)]
    rcases (by omega : k = 1 ∨ k = 2 ∨ k = 3) with rfl | rfl | rfl
    · obtain rfl : i = 0 := by omega
      exact nc_gj1_0 (A 0 0) (A 0 1) (A 0 c) (A 1 0) (A 1 1) (A 1 c)
    · rcases (by omega : i = 0 ∨ i = 1) with rfl | rfl
      · exact nc_gj2_0 (A 0 0) (A 0 1) (A 0 2) (A 0 c) (A 1 0) (A 1 1) (A 1 2) (A 1 c) (A 2 0) (A 2 1) (A 2 2) (A 2 c)
      · exact nc_gj2_1 (A 0 0) (A 0 1) (A 0 2) (A 0 c) (A 1 0) (A 1 1) (A 1 2) (A 1 c) (A 2 0) (A 2 1) (A 2 2) (A 2 c)
    · rcases (by omega : i = 0 ∨ i = 1 ∨ i = 2) with rfl | rfl | rfl
      · exact nc_gj3_0 (A 0 0) (A 0 1) (A 0 2) (A 0 3) (A 0 c) (A 1 0) (A 1 1) (A 1 2) (A 1 3) (A 1 c) (A 2 0) (A 2 1) (A 2 2) (A 2 3) (A 2 c) (A 3 0) (A 3 1) (A 3 2) (A 3 3) (A 3 c)
      · exact nc_gj3_1 (A 0 0) (A 0 1) (A 0 2) (A 0 3) (A 0 c) (A 1 0) (A 1 1) (A 1 2) (A 1 3) (A 1 c) (A 2 0) (A 2 1) (A 2 2) (A 2 3) (A 2 c) (A 3 0) (A 3 1) (A 3 2) (A 3 3) (A 3 c)
      · exact nc_gj3_2 (A 0 0) (A 0 1) (A 0 2) (A 0 3) (A 0 c) (A 1 0) (A 1 1) (A 1 2) (A 1 3) (A 1 c) (A 2 0) (A 2 1) (A 2 2) (A 2 3) (A 2 c) (A 3 0) (A 3 1) (A 3 2) (A 3 3) (A 3 c)
  · rw [if_neg h, if_neg h, if_neg (by omega)]
    exact nc_bar A hk i c
theorem nc_gtd (A : Nat → Nat → Int) {k : Nat} (hk : k ≤ 4) (c : Nat) : nc_gt A (k + 1) k c = nc_mk A k k c := by
  unfold nc_gt
  rw [if_pos (by omega)]
  rcases (by omega : k = 0 ∨ k = 1 ∨ k = 2 ∨ k = 3 ∨ k = 4) with rfl | rfl | rfl | rfl | rfl
  · rfl
  · rfl
  · rfl
  · rfl
  · rfl
theorem nc_gt0 (A : Nat → Nat → Int) (k c : Nat) : nc_gt A k k c = nc_mk A k k c := if_neg (by omega)
/-! bounds -/
theorem nc_mb {a b : Int} {B : Nat} (ha : a.natAbs ≤ 54) (hb : b.natAbs ≤ B) : (a * b).natAbs ≤ 54 * B := by
  rw [Int.natAbs_mul]; exact Nat.mul_le_mul ha hb
theorem nc_bn2 {a00 a01 a10 a11 : Int} (h00 : a00.natAbs ≤ 54) (h01 : a01.natAbs ≤ 54) (h10 : a10.natAbs ≤ 54) (h11 : a11.natAbs ≤ 54) : (nc_2 a00 a01 a10 a11).natAbs ≤ 5832 := by
  have e0 := nc_mb h00 h11
  have e1 := nc_mb h01 h10
  unfold nc_2
  generalize a00 * a11 = t0 at *
  generalize a01 * a10 = t1 at *
  omega
theorem nc_bn3 {a00 a01 a02 a10 a11 a12 a20 a21 a22 : Int} (h00 : a00.natAbs ≤ 54) (h01 : a01.natAbs ≤ 54) (h02 : a02.natAbs ≤ 54) (h10 : a10.natAbs ≤ 54) (h11 : a11.natAbs ≤ 54) (h12 : a12.natAbs ≤ 54) (h20 : a20.natAbs ≤ 54) (h21 : a21.natAbs ≤ 54) (h22 : a22.natAbs ≤ 54) : (nc_3 a00 a01 a02 a10 a11 a12 a20 a21 a22).natAbs ≤ 944784 := by
  have e0 := nc_mb h00 (nc_bn2 h11 h12 h21 h22)
  have e1 := nc_mb h01 (nc_bn2 h10 h12 h20 h22)
  have e2 := nc_mb h02 (nc_bn2 h10 h11 h20 h21)
  unfold nc_3
  generalize a00 * nc_2 a11 a12 a21 a22 = t0 at *
  generalize a01 * nc_2 a10 a12 a20 a22 = t1 at *
  generalize a02 * nc_2 a10 a11 a20 a21 = t2 at *
  omega
theorem nc_bn4 {a00 a01 a02 a03 a10 a11 a12 a13 a20 a21 a22 a23 a30 a31 a32 a33 : Int} (h00 : a00.natAbs ≤ 54) (h01 : a01.natAbs ≤ 54) (h02 : a02.natAbs ≤ 54) (h03 : a03.natAbs ≤ 54) (h10 : a10.natAbs ≤ 54) (h11 : a11.natAbs ≤ 54) (h12 : a12.natAbs ≤ 54) (h13 : a13.natAbs ≤ 54) (h20 : a20.natAbs ≤ 54) (h21 : a21.natAbs ≤ 54) (h22 : a22.natAbs ≤ 54) (h23 : a23.natAbs ≤ 54) (h30 : a30.natAbs ≤ 54) (h31 : a31.natAbs ≤ 54) (h32 : a32.natAbs ≤ 54) (h33 : a33.natAbs ≤ 54) : (nc_4 a00 a01 a02 a03 a10 a11 a12 a13 a20 a21 a22 a23 a30 a31 a32 a33).natAbs ≤ 204073344 := by
  have e0 := nc_mb h00 (nc_bn3 h11 h12 h13 h21 h22 h23 h31 h32 h33)
  have e1 := nc_mb h01 (nc_bn3 h10 h12 h13 h20 h22 h23 h30 h32 h33)
  have e2 := nc_mb h02 (nc_bn3 h10 h11 h13 h20 h21 h23 h30 h31 h33)
  have e3 := nc_mb h03 (nc_bn3 h10 h11 h12 h20 h21 h22 h30 h31 h32)
  unfold nc_4
  generalize a00 * nc_3 a11 a12 a13 a21 a22 a23 a31 a32 a33 = t0 at *
  generalize a01 * nc_3 a10 a12 a13 a20 a22 a23 a30 a32 a33 = t1 at *
  generalize a02 * nc_3 a10 a11 a13 a20 a21 a23 a30 a31 a33 = t2 at *
  generalize a03 * nc_3 a10 a11 a12 a20 a21 a22 a30 a31 a32 = t3 at *
  omega
theorem nc_bn5 {a00 a01 a02 a03 a04 a10 a11 a12 a13 a14 a20 a21 a22 a23 a24 a30 a31 a32 a33 a34 a40 a41 a42 a43 a44 : Int} (h00 : a00.natAbs ≤ 54) (h01 : a01.natAbs ≤ 54) (h02 : a02.natAbs ≤ 54) (h03 : a03.natAbs ≤ 54) (h04 : a04.natAbs ≤ 54) (h10 : a10.natAbs ≤ 54) (h11 : a11.natAbs ≤ 54) (h12 : a12.natAbs ≤ 54) (h13 : a13.natAbs ≤ 54) (h14 : a14.natAbs ≤ 54) (h20 : a20.natAbs ≤ 54) (h21 : a21.natAbs ≤ 54) (h22 : a22.natAbs ≤ 54) (h23 : a23.natAbs ≤ 54) (h24 : a24.natAbs ≤ 54) (h30 : a30.natAbs ≤ 54) (h31 : a31.natAbs ≤ 54) (h32 : a32.natAbs ≤ 54) (h33 : a33.natAbs ≤ 54) (h34 : a34.natAbs ≤ 54) (h40 : a40.natAbs ≤ 54) (h41 : a41.natAbs ≤ 54) (h42 : a42.natAbs ≤ 54) (h43 : a43.natAbs ≤ 54) (h44 : a44.natAbs ≤ 54) : (nc_5 a00 a01 a02 a03 a04 a10 a11 a12 a13 a14 a20 a21 a22 a23 a24 a30 a31 a32 a33 a34 a40 a41 a42 a43 a44).natAbs ≤ 55099802880 := by
  have e0 := nc_mb h00 (nc_bn4 h11 h12 h13 h14 h21 h22 h23 h24 h31 h32 h33 h34 h41 h42 h43 h44)
  have e1 := nc_mb h01 (nc_bn4 h10 h12 h13 h14 h20 h22 h23 h24 h30 h32 h33 h34 h40 h42 h43 h44)
  have e2 := nc_mb h02 (nc_bn4 h10 h11 h13 h14 h20 h21 h23 h24 h30 h31 h33 h34 h40 h41 h43 h44)
  have e3 := nc_mb h03 (nc_bn4 h10 h11 h12 h14 h20 h21 h22 h24 h30 h31 h32 h34 h40 h41 h42 h44)
  have e4 := nc_mb h04 (nc_bn4 h10 h11 h12 h13 h20 h21 h22 h23 h30 h31 h32 h33 h40 h41 h42 h43)
  unfold nc_5
  generalize a00 * nc_4 a11 a12 a13 a14 a21 a22 a23 a24 a31 a32 a33 a34 a41 a42 a43 a44 = t0 at *
  generalize a01 * nc_4 a10 a12 a13 a14 a20 a22 a23 a24 a30 a32 a33 a34 a40 a42 a43 a44 = t1 at *
  generalize a02 * nc_4 a10 a11 a13 a14 a20 a21 a23 a24 a30 a31 a33 a34 a40 a41 a43 a44 = t2 at *
  generalize a03 * nc_4 a10 a11 a12 a14 a20 a21 a22 a24 a30 a31 a32 a34 a40 a41 a42 a44 = t3 at *
  generalize a04 * nc_4 a10 a11 a12 a13 a20 a21 a22 a23 a30 a31 a32 a33 a40 a41 a42 a43 = t4 at *
  omega
theorem nc_mk_b3 {A : Nat → Nat → Int} (h : ∀ r c, (A r c).natAbs ≤ 54) {k : Nat} (hk : k ≤ 3) (i c : Nat) : (nc_mk A k i c).natAbs ≤ 204073344 := by
  rcases (by omega : k = 0 ∨ k = 1 ∨ k = 2 ∨ k = 3) with rfl | rfl | rfl | rfl
  · exact Nat.le_trans (h i c) (by decide)
  · exact Nat.le_trans (nc_bn2 (h 0 0) (h 0 c) (h i 0) (h i c)) (by decide)
  · exact Nat.le_trans (nc_bn3 (h 0 0) (h 0 1) (h 0 c) (h 1 0) (h 1 1) (h 1 c) (h i 0) (h i 1) (h i c)) (by decide)
  · exact Nat.le_trans (nc_bn4 (h 0 0) (h 0 1) (h 0 2) (h 0 c) (h 1 0) (h 1 1) (h 1 2) (h 1 c) (h 2 0) (h 2 1) (h 2 2) (h 2 c) (h i 0) (h i 1) (h i 2) (h i c)) (by decide)
theorem nc_mk_b4 {A : Nat → Nat → Int} (h : ∀ r c, (A r c).natAbs ≤ 54) {k : Nat} (hk : k ≤ 4) (i c : Nat) : (nc_mk A k i c).natAbs ≤ 55099802880 := by
  by_cases e : k ≤ 3
  · exact Nat.le_trans (nc_mk_b3 h e i c) (by decide)
  · obtain rfl : k = 4 := by omega
    exact nc_bn5 (h 0 0) (h 0 1) (h 0 2) (h 0 3) (h 0 c) (h 1 0) (h 1 1) (h 1 2) (h 1 3) (h 1 c) (h 2 0) (h 2 1) (h 2 2) (h 2 3) (h 2 c) (h 3 0) (h 3 1) (h 3 2) (h 3 3) (h 3 c) (h i 0) (h i 1) (h i 2) (h i 3) (h i c)
theorem nc_pv_b4 {A : Nat → Nat → Int} (h : ∀ r c, (A r c).natAbs ≤ 54) {k : Nat} (hk : k ≤ 4) : (nc_pv A k).natAbs ≤ 204073344 := by
  cases k with
  | zero => exact (by decide : (1 : Int).natAbs ≤ 204073344)
  | succ k => exact nc_mk_b3 h (by omega) k k
theorem nc_pv_b5 {A : Nat → Nat → Int} (h : ∀ r c, (A r c).natAbs ≤ 54) {k : Nat} (hk : k ≤ 5) : (nc_pv A k).natAbs ≤ 55099802880 := by
  cases k with
  | zero => exact (by decide : (1 : Int).natAbs ≤ 55099802880)
  | succ k => exact nc_mk_b4 h (by omega) k k
theorem nc_gt_b {A : Nat → Nat → Int} (h : ∀ r c, (A r c).natAbs ≤ 54) {k : Nat} (hk : k ≤ 3) (i c : Nat) : (nc_gt A k i c).natAbs ≤ 204073344 := by
  unfold nc_gt
  by_cases e : i < k
  · rw [if_pos e]; exact nc_pv_b4 (A := fun r j => A r (if j = i then c else j)) (fun r j => h r _) (by omega)
  · rw [if_neg e]; exact nc_mk_b3 h hk i c
theorem nc_rk_b {A : Nat → Nat → Int} (h : ∀ r c, (A r c).natAbs ≤ 54) {k : Nat} (hk : k ≤ 4) (i c : Nat) : (nc_rk A k i c).natAbs ≤ 204073344 :=
  nc_pv_b4 (A := fun r j => A r (if j = i then c else j)) (fun r j => h r _) hk
end
section
/-! balances, energy, leading minors greater than 0 -/
theorem nc_r1 (g a b : Int) : g * ((a - b) * (a - b)) = (g * (a * a) + g * (b * b)) - 2 * (g * (a * b)) := by grind
theorem nc_r2 (y s c : Int) : y * (s * y - c) = s * (y * y) - y * c := by grind
theorem nc_r3 (g a b : Int) : g * (a * b) = a * (g * b) := by grind
def nc_lp (n : Nat) (g : Nat → Nat → Int) (p q : Nat) : Int := (if p = q then nc_sg n (g p) else 0) - g p q
theorem nc_en {n : Nat} {g : Nat → Nat → Int} (hs : ∀ p q, p < n → q < n → g p q = g q p) (y : Nat → Int) :
    2 * nc_sg n (fun p => y p * (nc_sg n (g p) * y p - nc_sg n (fun q => g p q * y q))) = nc_sg n (fun p => nc_sg n (fun q => g p q * ((y p - y q) * (y p - y q)))) := by
  have h1 : nc_sg n (fun p => nc_sg n (fun q => g p q * (y p * y p))) = nc_sg n (fun p => nc_sg n (g p) * (y p * y p)) :=
    nc_sg_c (fun p _ => nc_sg_mr n (y p * y p) (g p))
  have h2 : nc_sg n (fun p => nc_sg n (fun q => g p q * (y q * y q))) = nc_sg n (fun p => nc_sg n (g p) * (y p * y p)) := by
    rw [nc_sg_x]
    refine nc_sg_c (fun q hq => ?_)
    show nc_sg n (fun p => g p q * (y q * y q)) = nc_sg n (g q) * (y q * y q)
    rw [← nc_sg_mr]
    exact nc_sg_c (fun p hp => by rw [hs p q hp hq])
  have h3 : nc_sg n (fun p => nc_sg n (fun q => g p q * (y p * y q))) = nc_sg n (fun p => y p * nc_sg n (fun q => g p q * y q)) := by
    refine nc_sg_c (fun p _ => ?_)
    show nc_sg n (fun q => g p q * (y p * y q)) = y p * nc_sg n (fun q => g p q * y q)
    rw [← nc_sg_m]
    exact nc_sg_c (fun q _ => nc_r3 _ _ _)
  have h4 : nc_sg n (fun p => nc_sg n (fun q => g p q * ((y p - y q) * (y p - y q)))) = (nc_sg n (fun p => nc_sg n (fun q => g p q * (y p * y p))) + nc_sg n (fun p => nc_sg n (fun q => g p q * (y q * y q)))) - 2 * nc_sg n (fun p => nc_sg n (fun q => g p q * (y p * y q))) := by
    rw [← nc_sg_m, ← nc_sg_a, ← nc_sg_d]
    refine nc_sg_c (fun p _ => ?_)
    show _ = (nc_sg n (fun q => g p q * (y p * y p)) + nc_sg n (fun q => g p q * (y q * y q))) - 2 * nc_sg n (fun q => g p q * (y p * y q))
    rw [← nc_sg_m, ← nc_sg_a, ← nc_sg_d]
    exact nc_sg_c (fun q _ => nc_r1 _ _ _)
  have h5 : nc_sg n (fun p => y p * (nc_sg n (g p) * y p - nc_sg n (fun q => g p q * y q))) = nc_sg n (fun p => nc_sg n (g p) * (y p * y p)) - nc_sg n (fun p => y p * nc_sg n (fun q => g p q * y q)) := by
    rw [← nc_sg_d]
    exact nc_sg_c (fun p _ => nc_r2 _ _ _)
  rw [h4, h5, h1, h2, h3]
  omega
def nc_y (K : Nat) (ap : Nat → Nat) (x : Nat → Int) (p : Nat) : Int := nc_sg K (fun j => if p = ap j then x j else 0)
theorem nc_yF {n K : Nat} {ap : Nat → Nat} {x : Nat → Int} (h : ∀ j, j < K → ap j < n) (F : Nat → Int) : nc_sg n (fun p => nc_y K ap x p * F p) = nc_sg K (fun i => x i * F (ap i)) := by
  have h1 : nc_sg n (fun p => nc_y K ap x p * F p) = nc_sg n (fun p => nc_sg K (fun j => (if p = ap j then x j else 0) * F p)) :=
    nc_sg_c (fun p _ => (nc_sg_mr K (F p) _).symm)
  rw [h1, nc_sg_x]
  refine nc_sg_c (fun j hj => ?_)
  show nc_sg n (fun p => (if p = ap j then x j else 0) * F p) = x j * F (ap j)
  rw [nc_sg_1 (h j hj) (fun p => (if p = ap j then x j else 0) * F p) (fun i _ hne => by
    show (if i = ap j then x j else 0) * F i = 0
    rw [if_neg hne, Int.zero_mul])]
  show (if ap j = ap j then x j else 0) * F (ap j) = _
  rw [if_pos rfl]
theorem nc_lpy {n K : Nat} {ap : Nat → Nat} {x : Nat → Int} {g : Nat → Nat → Int} (h : ∀ j, j < K → ap j < n) (p : Nat) :
    nc_sg n (g p) * nc_y K ap x p - nc_sg n (fun q => g p q * nc_y K ap x q) = nc_sg K (fun j => nc_lp n g p (ap j) * x j) := by
  have h1 : nc_sg n (fun q => g p q * nc_y K ap x q) = nc_sg K (fun j => g p (ap j) * x j) := by
    have h2 := nc_yF (n := n) (K := K) (ap := ap) (x := x) h (fun q => g p q)
    rw [nc_sg_c (fun q _ => Int.mul_comm (g p q) (nc_y K ap x q)), h2]
    exact nc_sg_c (fun j _ => Int.mul_comm _ _)
  have h2 : nc_sg n (g p) * nc_y K ap x p = nc_sg K (fun j => nc_sg n (g p) * (if p = ap j then x j else 0)) := (nc_sg_m K _ _).symm
  rw [h1, h2, ← nc_sg_d]
  refine nc_sg_c (fun j _ => ?_)
  show nc_sg n (g p) * (if p = ap j then x j else 0) - g p (ap j) * x j = ((if p = ap j then nc_sg n (g p) else 0) - g p (ap j)) * x j
  by_cases e : p = ap j
  · rw [if_pos e, if_pos e, Int.sub_mul]
  · rw [if_neg e, if_neg e, Int.sub_mul, Int.mul_zero, Int.zero_mul]
theorem nc_Q {n k : Nat} {g : Nat → Nat → Int} {ap : Nat → Nat} {x : Nat → Int} {D : Int} (hap : ∀ j, j < k + 1 → ap j < n)
    (hxi : ∀ i, i ≤ k → nc_sg (k + 1) (fun j => nc_lp n g (ap i) (ap j) * x j) = if i = k then D else 0) :
    nc_sg n (fun p => nc_y (k + 1) ap x p * (nc_sg n (g p) * nc_y (k + 1) ap x p - nc_sg n (fun q => g p q * nc_y (k + 1) ap x q))) = x k * D := by
  have e : nc_sg n (fun p => nc_y (k + 1) ap x p * (nc_sg n (g p) * nc_y (k + 1) ap x p - nc_sg n (fun q => g p q * nc_y (k + 1) ap x q))) = nc_sg n (fun p => nc_y (k + 1) ap x p * nc_sg (k + 1) (fun j => nc_lp n g p (ap j) * x j)) :=
    nc_sg_c (fun p _ => by rw [nc_lpy hap p])
  rw [e, nc_yF hap (fun p => nc_sg (k + 1) (fun j => nc_lp n g p (ap j) * x j))]
  rw [nc_sg_1 (Nat.lt_succ_self k) _ (fun i hi hne => ?_)]
  · show x k * nc_sg (k + 1) (fun j => nc_lp n g (ap k) (ap j) * x j) = _
    rw [hxi k (Nat.le_refl k), if_pos rfl]
  · show x i * nc_sg (k + 1) (fun j => nc_lp n g (ap i) (ap j) * x j) = 0
    rw [hxi i (Nat.le_of_lt_succ hi), if_neg hne, Int.mul_zero]
theorem nc_sqn (a : Int) : 0 ≤ a * a := by
  rcases Int.le_total 0 a with h | h
  · exact Int.mul_nonneg h h
  · have := Int.mul_nonneg (a := -a) (b := -a) (by omega) (by omega)
    rw [Int.neg_mul_neg] at this
    exact this
theorem nc_pos {n m d : Nat} {g : Nat → Nat → Int} {ap : Nat → Nat} (hs : ∀ p q, p < n → q < n → g p q = g q p) (hg : ∀ p q, p < n → q < n → 0 ≤ g p q)
    (hm : m ≤ 5) (hap : ∀ i, i < m → ap i < n) (hinj : ∀ i j, i < m → j < m → ap i = ap j → i = j) (hnd : ∀ i, i < m → ap i ≠ d)
    (hc : ∀ f : Nat → Int, (∀ p q, p < n → q < n → 0 < g p q → f p = f q) → ∀ i, i < m → f (ap i) = f d) :
    ∀ k, k ≤ m → 0 < nc_pv (fun i j => nc_lp n g (ap i) (ap j)) k := by
  intro k
  induction k with
  | zero => intro _; show (0 : Int) < 1; decide
  | succ k ih =>
    intro hk
    have hp := ih (by omega)
    obtain ⟨x, hx, hxi⟩ := nc_adj (fun i j => nc_lp n g (ap i) (ap j)) (k := k) (by omega)
    have hap' : ∀ j, j < k + 1 → ap j < n := fun j hj => hap j (by omega)
    have h2 := nc_en hs (nc_y (k + 1) ap x)
    rw [nc_Q hap' hxi, hx] at h2
    by_cases hpos : 0 < nc_pv (fun i j => nc_lp n g (ap i) (ap j)) (k + 1)
    · exact hpos
    · exfalso
      have hle : nc_pv (fun i j => nc_lp n g (ap i) (ap j)) k * nc_pv (fun i j => nc_lp n g (ap i) (ap j)) (k + 1) ≤ nc_pv (fun i j => nc_lp n g (ap i) (ap j)) k * 0 :=
        Int.mul_le_mul_of_nonneg_left (by omega) (by omega)
      rw [Int.mul_zero] at hle
      have hnn : ∀ p, p < n → ∀ q, q < n → 0 ≤ g p q * ((nc_y (k + 1) ap x p - nc_y (k + 1) ap x q) * (nc_y (k + 1) ap x p - nc_y (k + 1) ap x q)) :=
        fun p hp q hq => Int.mul_nonneg (hg p q hp hq) (nc_sqn _)
      have hz := nc_sg_pz (f := fun p => nc_sg n (fun q => g p q * ((nc_y (k + 1) ap x p - nc_y (k + 1) ap x q) * (nc_y (k + 1) ap x p - nc_y (k + 1) ap x q)))) (n := n)
        (fun p hp => nc_sg_p (fun q hq => hnn p hp q hq)) (by rw [← h2]; omega)
      have hinv : ∀ p q, p < n → q < n → 0 < g p q → nc_y (k + 1) ap x p = nc_y (k + 1) ap x q := by
        intro p q hp hq hgp
        have h4 : g p q * ((nc_y (k + 1) ap x p - nc_y (k + 1) ap x q) * (nc_y (k + 1) ap x p - nc_y (k + 1) ap x q)) = 0 :=
          nc_sg_pz (f := fun q => g p q * ((nc_y (k + 1) ap x p - nc_y (k + 1) ap x q) * (nc_y (k + 1) ap x p - nc_y (k + 1) ap x q))) (n := n)
            (fun q hq => hnn p hp q hq) (Int.le_of_eq (hz p hp)) q hq
        rcases Int.mul_eq_zero.mp h4 with h5 | h5
        · omega
        · rcases Int.mul_eq_zero.mp h5 with h6 | h6 <;> omega
      have h7 := hc (nc_y (k + 1) ap x) hinv k (by omega)
      have h8 : nc_y (k + 1) ap x (ap k) = x k :=
        (nc_sg_1 (Nat.lt_succ_self k) (fun j => if ap k = ap j then x j else 0) (fun i hi hne => if_neg (fun e => hne (hinj k i (by omega) (by omega) e).symm))).trans (if_pos rfl)
      have h9 : nc_y (k + 1) ap x d = 0 := nc_sg_zc (fun j hj => if_neg (fun e => hnd j (by omega) e.symm))
      omega
theorem nc_lps {n : Nat} {g : Nat → Nat → Int} (hs : ∀ p q, p < n → q < n → g p q = g q p) {p q : Nat} (hp : p < n) (hq : q < n) : nc_lp n g p q = nc_lp n g q p := by
  unfold nc_lp
  by_cases e : p = q
  · subst e; rfl
  · rw [if_neg e, if_neg (fun c => e c.symm), hs p q hp hq]
theorem nc_max {P : Nat → Prop} : ∀ n, (∃ p, p < n ∧ P p) → ∃ t, t < n ∧ P t ∧ ∀ p, t < p → p < n → ¬ P p := by
  intro n
  induction n with
  | zero => intro ⟨p, hp, _⟩; omega
  | succ n ih =>
    intro ⟨p, hp, hP⟩
    by_cases c : P n
    · exact ⟨n, by omega, c, fun q h1 h2 => by omega⟩
    · have hpn : p ≠ n := fun e => c (e ▸ hP)
      obtain ⟨t, ht, h1, h2⟩ := ih ⟨p, by omega, hP⟩
      refine ⟨t, by omega, h1, fun q hq1 hq2 => ?_⟩
      by_cases e : q = n
      · rw [e]; exact c
      · exact h2 q hq1 (by omega)
/-- not joined: some leading minor of the table without point 0 is 0 -/
theorem nc_sing {n t : Nat} {g : Nat → Nat → Int} (hn : n ≤ 6) (hs : ∀ p q, p < n → q < n → g p q = g q p) (hg : ∀ p q, p < n → q < n → 0 ≤ g p q) (f : Nat → Int)
    (hf : ∀ p q, p < n → q < n → 0 < g p q → f p = f q) (h0 : f 0 = 0) (ht : t + 1 < n) (hft : f (t + 1) ≠ 0) (hmax : ∀ p, t + 1 < p → p < n → f p = 0) :
    nc_pv (fun i j => nc_lp n g (i + 1) (j + 1)) (t + 1) = 0 := by
  have hap : ∀ j, j < t + 1 → (fun i => i + 1) j < n := fun j hj => by show j + 1 < n; omega
  have hy : ∀ p, p < n → nc_y (t + 1) (fun i => i + 1) (fun i => f (i + 1)) p = f p := by
    intro p hp
    by_cases c0 : p = 0
    · rw [c0, h0]
      exact nc_sg_zc (fun j _ => if_neg (fun e => by
        have e' : (0 : Nat) = j + 1 := e
        omega))
    · by_cases c1 : p ≤ t + 1
      · have h1 := nc_sg_1 (n := t + 1) (k := p - 1) (by omega) (fun j => if p = j + 1 then f (j + 1) else 0) (fun i hi hne => if_neg (by omega))
        have h2 : (if p = p - 1 + 1 then f (p - 1 + 1) else 0) = f p := by
          rw [if_pos (by omega), show p - 1 + 1 = p from by omega]
        exact h1.trans h2
      · rw [hmax p (by omega) hp]
        exact nc_sg_zc (fun j hj => if_neg (fun e => by
          have e' : p = j + 1 := e
          omega))
  have hk : ∀ i, i < t + 1 → nc_sg (t + 1) (fun j => nc_lp n g (i + 1) (j + 1) * f (j + 1)) = 0 := by
    intro i hi
    have h1 := nc_lpy (n := n) (K := t + 1) (ap := fun i => i + 1) (x := fun i => f (i + 1)) (g := g) hap (i + 1)
    rw [hy (i + 1) (by omega)] at h1
    rw [nc_sg_c (f := fun q => g (i + 1) q * nc_y (t + 1) (fun i => i + 1) (fun i => f (i + 1)) q) (g := fun q => g (i + 1) q * f (i + 1)) (fun q hq => by
      show g (i + 1) q * nc_y (t + 1) (fun i => i + 1) (fun i => f (i + 1)) q = g (i + 1) q * f (i + 1)
      rw [hy q hq]
      by_cases c : 0 < g (i + 1) q
      · rw [hf (i + 1) q (by omega) hq c]
      · have := hg (i + 1) q (by omega) hq
        have e : g (i + 1) q = 0 := by omega
        rw [e, Int.zero_mul, Int.zero_mul]), nc_sg_mr] at h1
    have h2 : nc_sg n (g (i + 1)) * f (i + 1) - nc_sg n (fun q => g (i + 1) q) * f (i + 1) = 0 := Int.sub_self _
    exact h1.symm.trans h2
  obtain ⟨c, _, hc⟩ := nc_adj (fun i j => nc_lp n g (i + 1) (j + 1)) (k := t) (by omega)
  have h1 : nc_sg (t + 1) (fun i => f (i + 1) * nc_sg (t + 1) (fun j => nc_lp n g (i + 1) (j + 1) * c j)) = f (t + 1) * nc_pv (fun i j => nc_lp n g (i + 1) (j + 1)) (t + 1) := by
    rw [nc_sg_1 (Nat.lt_succ_self t) _ (fun i hi hne => ?_)]
    · show f (t + 1) * nc_sg (t + 1) (fun j => nc_lp n g (t + 1) (j + 1) * c j) = _
      rw [hc t (Nat.le_refl t), if_pos rfl]
    · show f (i + 1) * nc_sg (t + 1) (fun j => nc_lp n g (i + 1) (j + 1) * c j) = 0
      rw [hc i (Nat.le_of_lt_succ hi), if_neg hne, Int.mul_zero]
  have h2 : nc_sg (t + 1) (fun i => f (i + 1) * nc_sg (t + 1) (fun j => nc_lp n g (i + 1) (j + 1) * c j)) = 0 := by
    have e1 : nc_sg (t + 1) (fun i => f (i + 1) * nc_sg (t + 1) (fun j => nc_lp n g (i + 1) (j + 1) * c j)) = nc_sg (t + 1) (fun i => nc_sg (t + 1) (fun j => c j * (nc_lp n g (j + 1) (i + 1) * f (i + 1)))) := by
      refine nc_sg_c (fun i hi => ?_)
      show f (i + 1) * nc_sg (t + 1) (fun j => nc_lp n g (i + 1) (j + 1) * c j) = _
      rw [← nc_sg_m]
      refine nc_sg_c (fun j hj => ?_)
      show f (i + 1) * (nc_lp n g (i + 1) (j + 1) * c j) = c j * (nc_lp n g (j + 1) (i + 1) * f (i + 1))
      rw [nc_lps hs (p := i + 1) (q := j + 1) (by omega) (by omega)]
      generalize nc_lp n g (j + 1) (i + 1) = a
      generalize f (i + 1) = b
      generalize c j = d
      rw [Int.mul_comm a d, nc_r3, Int.mul_comm b a]
    rw [e1, nc_sg_x]
    refine nc_sg_zc (fun j hj => ?_)
    show nc_sg (t + 1) (fun i => c j * (nc_lp n g (j + 1) (i + 1) * f (i + 1))) = 0
    rw [nc_sg_m, hk j hj, Int.mul_zero]
  rw [h2] at h1
  rcases Int.mul_eq_zero.mp h1.symm with h | h
  · exact absurd h hft
  · exact h
end
section
/-! the reference's codes: digits, used mask, parity -/
def nc_dg (k c i : Nat) : Nat := c / k ^ i % k
def nc_us (k c : Nat) : Nat → Nat
  | 0 => 0
  | i + 1 => nc_us k c i ||| 2 ^ nc_dg k c i
def nc_di (k c : Nat) : Nat → Bool
  | 0 => true
  | i + 1 => nc_di k c i && !(Nat.testBit (nc_us k c i) (nc_dg k c i))
def nc_tg (k c i : Nat) (o : Bool) : Nat → Bool
  | 0 => o
  | j + 1 => if nc_dg k c i < nc_dg k c j then !(nc_tg k c i o j) else nc_tg k c i o j
def nc_od (k c : Nat) : Nat → Bool
  | 0 => false
  | i + 1 => nc_tg k c i (nc_od k c i) i
def nc_pd (f : Nat → Int) (s : Int) : Nat → Int
  | 0 => s
  | i + 1 => nc_pd f s i * f i
def nc_sn (o : Bool) : Int := if o = true then -1 else 1
def nc_cd (k m : Nat) (M : Nat → Nat → Int) (c : Nat) : Int := if nc_di k c m = true then nc_pd (fun i => M i (nc_dg k c i)) (nc_sn (nc_od k c m)) m else 0
def nc_dl (k c : Nat) : Nat → Nat → List Nat
  | _, 0 => []
  | i, l + 1 => nc_dg k c i :: nc_dl k c (i + 1) l
def nc_dc (k m : Nat) : Nat → List (Bool × List Nat)
  | 0 => []
  | c + 1 => if nc_di k c m = true then (nc_od k c m, nc_dl k c 0 m) :: nc_dc k m c else nc_dc k m c
def nc_pl (M : Nat → Nat → Int) : Nat → Int → List Nat → Int
  | _, s, [] => s
  | i, s, d :: l => nc_pl M (i + 1) (s * M i d) l
def nc_ev (M : Nat → Nat → Int) : List (Bool × List Nat) → Int
  | [] => 0
  | x :: l => nc_ev M l + nc_pl M 0 (nc_sn x.1) x.2
theorem nc_plp (M : Nat → Nat → Int) (k c : Nat) (s : Int) : ∀ l i, nc_pl M i (nc_pd (fun i => M i (nc_dg k c i)) s i) (nc_dl k c i l) = nc_pd (fun i => M i (nc_dg k c i)) s (i + l) := by
  intro l
  induction l with
  | zero => intro i; rfl
  | succ l ih =>
    intro i
    have h := ih (i + 1)
    rw [show i + (l + 1) = i + 1 + l from by omega]
    exact h
theorem nc_evs (M : Nat → Nat → Int) (k m : Nat) : ∀ N, nc_sg N (nc_cd k m M) = nc_ev M (nc_dc k m N) := by
  intro N
  induction N with
  | zero => rfl
  | succ N ih =>
    rw [nc_sg_s, ih]
    unfold nc_cd
    rw [nc_dc]
    by_cases h : nc_di k N m = true
    · rw [if_pos h, if_pos h, nc_ev]
      have h2 := nc_plp M k N (nc_sn (nc_od k N m)) m 0
      rw [Nat.zero_add] at h2
      rw [← h2]
      rfl
    · rw [if_neg h, if_neg h]; omega
theorem nc_tab0 : nc_dc 1 0 1 = [(false, [])] := by decide +kernel
theorem nc_cp0 : (0 : Int) + 1 = 1 := rfl
theorem nc_tab1 : nc_dc 1 1 1 = [(false, [0])] := by decide +kernel
theorem nc_cp1 (a00 : Int) : 0 + 1 * a00 = a00 := by
  grind
theorem nc_tab2 : nc_dc 2 2 4 = [(false, [0, 1]), (true, [1, 0])] := by decide +kernel
theorem nc_cp2 (a00 a01 a10 a11 : Int) : 0 + (-1) * a01 * a10 + 1 * a00 * a11 = nc_2 a00 a01 a10 a11 := by
  simp only [nc_2]
  grind
theorem nc_tab3 : nc_dc 3 3 27 = [(false, [0, 1, 2]), (true, [1, 0, 2]), (true, [0, 2, 1]), (false, [2, 0, 1]), (false, [1, 2, 0]), (true, [2, 1, 0])] := by decide +kernel
theorem nc_cp3 (a00 a01 a02 a10 a11 a12 a20 a21 a22 : Int) : 0 + (-1) * a02 * a11 * a20 + 1 * a01 * a12 * a20 + 1 * a02 * a10 * a21 + (-1) * a00 * a12 * a21 + (-1) * a01 * a10 * a22 + 1 * a00 * a11 * a22 = nc_3 a00 a01 a02 a10 a11 a12 a20 a21 a22 := by
  simp only [nc_3, nc_2]
  grind
theorem nc_tab4 : nc_dc 4 4 256 = [(false, [0, 1, 2, 3]), (true, [1, 0, 2, 3]), (true, [0, 2, 1, 3]), (false, [2, 0, 1, 3]), (false, [1, 2, 0, 3]), (true, [2, 1, 0, 3]), (true, [0, 1, 3, 2]), (false, [1, 0, 3, 2]), (false, [0, 3, 1, 2]), (true, [3, 0, 1, 2]), (true, [1, 3, 0, 2]), (false, [3, 1, 0, 2]), (false, [0, 2, 3, 1]), (true, [2, 0, 3, 1]), (true, [0, 3, 2, 1]), (false, [3, 0, 2, 1]), (false, [2, 3, 0, 1]), (true, [3, 2, 0, 1]), (true, [1, 2, 3, 0]), (false, [2, 1, 3, 0]), (false, [1, 3, 2, 0]), (true, [3, 1, 2, 0]), (true, [2, 3, 1, 0]), (false, [3, 2, 1, 0])] := by decide +kernel
theorem nc_cp4 (a00 a01 a02 a03 a10 a11 a12 a13 a20 a21 a22 a23 a30 a31 a32 a33 : Int) : 0 + 1 * a03 * a12 * a21 * a30 + (-1) * a02 * a13 * a21 * a30 + (-1) * a03 * a11 * a22 * a30 + 1 * a01 * a13 * a22 * a30 + 1 * a02 * a11 * a23 * a30 + (-1) * a01 * a12 * a23 * a30 + (-1) * a03 * a12 * a20 * a31 + 1 * a02 * a13 * a20 * a31 + 1 * a03 * a10 * a22 * a31 + (-1) * a00 * a13 * a22 * a31 + (-1) * a02 * a10 * a23 * a31 + 1 * a00 * a12 * a23 * a31 + 1 * a03 * a11 * a20 * a32 + (-1) * a01 * a13 * a20 * a32 + (-1) * a03 * a10 * a21 * a32 + 1 * a00 * a13 * a21 * a32 + 1 * a01 * a10 * a23 * a32 + (-1) * a00 * a11 * a23 * a32 + (-1) * a02 * a11 * a20 * a33 + 1 * a01 * a12 * a20 * a33 + 1 * a02 * a10 * a21 * a33 + (-1) * a00 * a12 * a21 * a33 + (-1) * a01 * a10 * a22 * a33 + 1 * a00 * a11 * a22 * a33 = nc_4 a00 a01 a02 a03 a10 a11 a12 a13 a20 a21 a22 a23 a30 a31 a32 a33 := by
  simp only [nc_4, nc_3, nc_2]
  grind
theorem nc_tab5 : nc_dc 5 5 3125 = [(false, [0, 1, 2, 3, 4]), (true, [1, 0, 2, 3, 4]), (true, [0, 2, 1, 3, 4]), (false, [2, 0, 1, 3, 4]), (false, [1, 2, 0, 3, 4]), (true, [2, 1, 0, 3, 4]), (true, [0, 1, 3, 2, 4]), (false, [1, 0, 3, 2, 4]), (false, [0, 3, 1, 2, 4]), (true, [3, 0, 1, 2, 4]), (true, [1, 3, 0, 2, 4]), (false, [3, 1, 0, 2, 4]), (false, [0, 2, 3, 1, 4]), (true, [2, 0, 3, 1, 4]), (true, [0, 3, 2, 1, 4]), (false, [3, 0, 2, 1, 4]), (false, [2, 3, 0, 1, 4]), (true, [3, 2, 0, 1, 4]), (true, [1, 2, 3, 0, 4]), (false, [2, 1, 3, 0, 4]), (false, [1, 3, 2, 0, 4]), (true, [3, 1, 2, 0, 4]), (true, [2, 3, 1, 0, 4]), (false, [3, 2, 1, 0, 4]), (true, [0, 1, 2, 4, 3]), (false, [1, 0, 2, 4, 3]), (false, [0, 2, 1, 4, 3]), (true, [2, 0, 1, 4, 3]), (true, [1, 2, 0, 4, 3]), (false, [2, 1, 0, 4, 3]), (false, [0, 1, 4, 2, 3]), (true, [1, 0, 4, 2, 3]), (true, [0, 4, 1, 2, 3]), (false, [4, 0, 1, 2, 3]), (false, [1, 4, 0, 2, 3]), (true, [4, 1, 0, 2, 3]), (true, [0, 2, 4, 1, 3]), (false, [2, 0, 4, 1, 3]), (false, [0, 4, 2, 1, 3]), (true, [4, 0, 2, 1, 3]), (true, [2, 4, 0, 1, 3]), (false, [4, 2, 0, 1, 3]), (false, [1, 2, 4, 0, 3]), (true, [2, 1, 4, 0, 3]), (true, [1, 4, 2, 0, 3]), (false, [4, 1, 2, 0, 3]), (false, [2, 4, 1, 0, 3]), (true, [4, 2, 1, 0, 3]), (false, [0, 1, 3, 4, 2]), (true, [1, 0, 3, 4, 2]), (true, [0, 3, 1, 4, 2]), (false, [3, 0, 1, 4, 2]), (false, [1, 3, 0, 4, 2]), (true, [3, 1, 0, 4, 2]), (true, [0, 1, 4, 3, 2]), (false, [1, 0, 4, 3, 2]), (false, [0, 4, 1, 3, 2]), (true, [4, 0, 1, 3, 2]), (true, [1, 4, 0, 3, 2]), (false, [4, 1, 0, 3, 2]), (false, [0, 3, 4, 1, 2]), (true, [3, 0, 4, 1, 2]), (true, [0, 4, 3, 1, 2]), (false, [4, 0, 3, 1, 2]), (false, [3, 4, 0, 1, 2]), (true, [4, 3, 0, 1, 2]), (true, [1, 3, 4, 0, 2]), (false, [3, 1, 4, 0, 2]), (false, [1, 4, 3, 0, 2]), (true, [4, 1, 3, 0, 2]), (true, [3, 4, 1, 0, 2]), (false, [4, 3, 1, 0, 2]), (true, [0, 2, 3, 4, 1]), (false, [2, 0, 3, 4, 1]), (false, [0, 3, 2, 4, 1]), (true, [3, 0, 2, 4, 1]), (true, [2, 3, 0, 4, 1]), (false, [3, 2, 0, 4, 1]), (false, [0, 2, 4, 3, 1]), (true, [2, 0, 4, 3, 1]), (true, [0, 4, 2, 3, 1]), (false, [4, 0, 2, 3, 1]), (false, [2, 4, 0, 3, 1]), (true, [4, 2, 0, 3, 1]), (true, [0, 3, 4, 2, 1]), (false, [3, 0, 4, 2, 1]), (false, [0, 4, 3, 2, 1]), (true, [4, 0, 3, 2, 1]), (true, [3, 4, 0, 2, 1]), (false, [4, 3, 0, 2, 1]), (false, [2, 3, 4, 0, 1]), (true, [3, 2, 4, 0, 1]), (true, [2, 4, 3, 0, 1]), (false, [4, 2, 3, 0, 1]), (false, [3, 4, 2, 0, 1]), (true, [4, 3, 2, 0, 1]), (false, [1, 2, 3, 4, 0]), (true, [2, 1, 3, 4, 0]), (true, [1, 3, 2, 4, 0]), (false, [3, 1, 2, 4, 0]), (false, [2, 3, 1, 4, 0]), (true, [3, 2, 1, 4, 0]), (true, [1, 2, 4, 3, 0]), (false, [2, 1, 4, 3, 0]), (false, [1, 4, 2, 3, 0]), (true, [4, 1, 2, 3, 0]), (true, [2, 4, 1, 3, 0]), (false, [4, 2, 1, 3, 0]), (false, [1, 3, 4, 2, 0]), (true, [3, 1, 4, 2, 0]), (true, [1, 4, 3, 2, 0]), (false, [4, 1, 3, 2, 0]), (false, [3, 4, 1, 2, 0]), (true, [4, 3, 1, 2, 0]), (true, [2, 3, 4, 1, 0]), (false, [3, 2, 4, 1, 0]), (false, [2, 4, 3, 1, 0]), (true, [4, 2, 3, 1, 0]), (true, [3, 4, 2, 1, 0]), (false, [4, 3, 2, 1, 0])] := by decide +kernel
theorem nc_cp5 (a00 a01 a02 a03 a04 a10 a11 a12 a13 a14 a20 a21 a22 a23 a24 a30 a31 a32 a33 a34 a40 a41 a42 a43 a44 : Int) : 0 + 1 * a04 * a13 * a22 * a31 * a40 + (-1) * a03 * a14 * a22 * a31 * a40 + (-1) * a04 * a12 * a23 * a31 * a40 + 1 * a02 * a14 * a23 * a31 * a40 + 1 * a03 * a12 * a24 * a31 * a40 + (-1) * a02 * a13 * a24 * a31 * a40 + (-1) * a04 * a13 * a21 * a32 * a40 + 1 * a03 * a14 * a21 * a32 * a40 + 1 * a04 * a11 * a23 * a32 * a40 + (-1) * a01 * a14 * a23 * a32 * a40 + (-1) * a03 * a11 * a24 * a32 * a40 + 1 * a01 * a13 * a24 * a32 * a40 + 1 * a04 * a12 * a21 * a33 * a40 + (-1) * a02 * a14 * a21 * a33 * a40 + (-1) * a04 * a11 * a22 * a33 * a40 + 1 * a01 * a14 * a22 * a33 * a40 + 1 * a02 * a11 * a24 * a33 * a40 + (-1) * a01 * a12 * a24 * a33 * a40 + (-1) * a03 * a12 * a21 * a34 * a40 + 1 * a02 * a13 * a21 * a34 * a40 + 1 * a03 * a11 * a22 * a34 * a40 + (-1) * a01 * a13 * a22 * a34 * a40 + (-1) * a02 * a11 * a23 * a34 * a40 + 1 * a01 * a12 * a23 * a34 * a40 + (-1) * a04 * a13 * a22 * a30 * a41 + 1 * a03 * a14 * a22 * a30 * a41 + 1 * a04 * a12 * a23 * a30 * a41 + (-1) * a02 * a14 * a23 * a30 * a41 + (-1) * a03 * a12 * a24 * a30 * a41 + 1 * a02 * a13 * a24 * a30 * a41 + 1 * a04 * a13 * a20 * a32 * a41 + (-1) * a03 * a14 * a20 * a32 * a41 + (-1) * a04 * a10 * a23 * a32 * a41 + 1 * a00 * a14 * a23 * a32 * a41 + 1 * a03 * a10 * a24 * a32 * a41 + (-1) * a00 * a13 * a24 * a32 * a41 + (-1) * a04 * a12 * a20 * a33 * a41 + 1 * a02 * a14 * a20 * a33 * a41 + 1 * a04 * a10 * a22 * a33 * a41 + (-1) * a00 * a14 * a22 * a33 * a41 + (-1) * a02 * a10 * a24 * a33 * a41 + 1 * a00 * a12 * a24 * a33 * a41 + 1 * a03 * a12 * a20 * a34 * a41 + (-1) * a02 * a13 * a20 * a34 * a41 + (-1) * a03 * a10 * a22 * a34 * a41 + 1 * a00 * a13 * a22 * a34 * a41 + 1 * a02 * a10 * a23 * a34 * a41 + (-1) * a00 * a12 * a23 * a34 * a41 + 1 * a04 * a13 * a21 * a30 * a42 + (-1) * a03 * a14 * a21 * a30 * a42 + (-1) * a04 * a11 * a23 * a30 * a42 + 1 * a01 * a14 * a23 * a30 * a42 + 1 * a03 * a11 * a24 * a30 * a42 + (-1) * a01 * a13 * a24 * a30 * a42 + (-1) * a04 * a13 * a20 * a31 * a42 + 1 * a03 * a14 * a20 * a31 * a42 + 1 * a04 * a10 * a23 * a31 * a42 + (-1) * a00 * a14 * a23 * a31 * a42 + (-1) * a03 * a10 * a24 * a31 * a42 + 1 * a00 * a13 * a24 * a31 * a42 + 1 * a04 * a11 * a20 * a33 * a42 + (-1) * a01 * a14 * a20 * a33 * a42 + (-1) * a04 * a10 * a21 * a33 * a42 + 1 * a00 * a14 * a21 * a33 * a42 + 1 * a01 * a10 * a24 * a33 * a42 + (-1) * a00 * a11 * a24 * a33 * a42 + (-1) * a03 * a11 * a20 * a34 * a42 + 1 * a01 * a13 * a20 * a34 * a42 + 1 * a03 * a10 * a21 * a34 * a42 + (-1) * a00 * a13 * a21 * a34 * a42 + (-1) * a01 * a10 * a23 * a34 * a42 + 1 * a00 * a11 * a23 * a34 * a42 + (-1) * a04 * a12 * a21 * a30 * a43 + 1 * a02 * a14 * a21 * a30 * a43 + 1 * a04 * a11 * a22 * a30 * a43 + (-1) * a01 * a14 * a22 * a30 * a43 + (-1) * a02 * a11 * a24 * a30 * a43 + 1 * a01 * a12 * a24 * a30 * a43 + 1 * a04 * a12 * a20 * a31 * a43 + (-1) * a02 * a14 * a20 * a31 * a43 + (-1) * a04 * a10 * a22 * a31 * a43 + 1 * a00 * a14 * a22 * a31 * a43 + 1 * a02 * a10 * a24 * a31 * a43 + (-1) * a00 * a12 * a24 * a31 * a43 + (-1) * a04 * a11 * a20 * a32 * a43 + 1 * a01 * a14 * a20 * a32 * a43 + 1 * a04 * a10 * a21 * a32 * a43 + (-1) * a00 * a14 * a21 * a32 * a43 + (-1) * a01 * a10 * a24 * a32 * a43 + 1 * a00 * a11 * a24 * a32 * a43 + 1 * a02 * a11 * a20 * a34 * a43 + (-1) * a01 * a12 * a20 * a34 * a43 + (-1) * a02 * a10 * a21 * a34 * a43 + 1 * a00 * a12 * a21 * a34 * a43 + 1 * a01 * a10 * a22 * a34 * a43 + (-1) * a00 * a11 * a22 * a34 * a43 + 1 * a03 * a12 * a21 * a30 * a44 + (-1) * a02 * a13 * a21 * a30 * a44 + (-1) * a03 * a11 * a22 * a30 * a44 + 1 * a01 * a13 * a22 * a30 * a44 + 1 * a02 * a11 * a23 * a30 * a44 + (-1) * a01 * a12 * a23 * a30 * a44 + (-1) * a03 * a12 * a20 * a31 * a44 + 1 * a02 * a13 * a20 * a31 * a44 + 1 * a03 * a10 * a22 * a31 * a44 + (-1) * a00 * a13 * a22 * a31 * a44 + (-1) * a02 * a10 * a23 * a31 * a44 + 1 * a00 * a12 * a23 * a31 * a44 + 1 * a03 * a11 * a20 * a32 * a44 + (-1) * a01 * a13 * a20 * a32 * a44 + (-1) * a03 * a10 * a21 * a32 * a44 + 1 * a00 * a13 * a21 * a32 * a44 + 1 * a01 * a10 * a23 * a32 * a44 + (-1) * a00 * a11 * a23 * a32 * a44 + (-1) * a02 * a11 * a20 * a33 * a44 + 1 * a01 * a12 * a20 * a33 * a44 + 1 * a02 * a10 * a21 * a33 * a44 + (-1) * a00 * a12 * a21 * a33 * a44 + (-1) * a01 * a10 * a22 * a33 * a44 + 1 * a00 * a11 * a22 * a33 * a44 = nc_5 a00 a01 a02 a03 a04 a10 a11 a12 a13 a14 a20 a21 a22 a23 a24 a30 a31 a32 a33 a34 a40 a41 a42 a43 a44 := by
  simp only [nc_5, nc_4, nc_3, nc_2]
  grind
def nc_kk (m : Nat) : Nat := if 1 ≤ m then m else 1
theorem nc_codes (M : Nat → Nat → Int) {m : Nat} (hm : m ≤ 5) : nc_sg (nc_kk m ^ m) (nc_cd (nc_kk m) m M) = nc_pv M m := by
  rw [nc_evs]
  rcases (by omega : m = 0 ∨ m = 1 ∨ m = 2 ∨ m = 3 ∨ m = 4 ∨ m = 5) with rfl | rfl | rfl | rfl | rfl | rfl
  · rw [show nc_kk 0 = 1 from rfl, show 1 ^ 0 = 1 from by decide, nc_tab0]
    exact nc_cp0
  · rw [show nc_kk 1 = 1 from rfl, show 1 ^ 1 = 1 from by decide, nc_tab1]
    exact nc_cp1 (M 0 0)
  · rw [show nc_kk 2 = 2 from rfl, show 2 ^ 2 = 4 from by decide, nc_tab2]
    exact nc_cp2 (M 0 0) (M 0 1) (M 1 0) (M 1 1)
  · rw [show nc_kk 3 = 3 from rfl, show 3 ^ 3 = 27 from by decide, nc_tab3]
    exact nc_cp3 (M 0 0) (M 0 1) (M 0 2) (M 1 0) (M 1 1) (M 1 2) (M 2 0) (M 2 1) (M 2 2)
  · rw [show nc_kk 4 = 4 from rfl, show 4 ^ 4 = 256 from by decide, nc_tab4]
    exact nc_cp4 (M 0 0) (M 0 1) (M 0 2) (M 0 3) (M 1 0) (M 1 1) (M 1 2) (M 1 3) (M 2 0) (M 2 1) (M 2 2) (M 2 3) (M 3 0) (M 3 1) (M 3 2) (M 3 3)
  · rw [show nc_kk 5 = 5 from rfl, show 5 ^ 5 = 3125 from by decide, nc_tab5]
    exact nc_cp5 (M 0 0) (M 0 1) (M 0 2) (M 0 3) (M 0 4) (M 1 0) (M 1 1) (M 1 2) (M 1 3) (M 1 4) (M 2 0) (M 2 1) (M 2 2) (M 2 3) (M 2 4) (M 3 0) (M 3 1) (M 3 2) (M 3 3) (M 3 4) (M 4 0) (M 4 1) (M 4 2) (M 4 3) (M 4 4)
end
section
/-! numbers: ints and longs of the walks -/
def nc_g (w : Nat → Nat) : Nat → Int32 := fun j => nI (w j)
def nc_u (w : Nat → Nat) (k v : Nat) : Nat → Nat := fun j => if j = k then v else w j
def nc_put (w : Nat → Nat) (p q v : Nat) : Nat → Nat := nc_u (nc_u w (6 * p + q) v) (6 * q + p) v
theorem nc_gu (w : Nat → Nat) (k v : Nat) : upd (nc_g w) k (nI v) = nc_g (nc_u w k v) := by
  funext j
  show (if j = k then nI v else nI (w j)) = nI (if j = k then v else w j)
  by_cases e : j = k
  · rw [if_pos e, if_pos e]
  · rw [if_neg e, if_neg e]
def nc_l (z : Int) : Int64 := Int64.ofInt z
theorem nc_l_a (a b : Int) : nc_l a + nc_l b = nc_l (a + b) := (Int64.ofInt_add a b).symm
theorem nc_l_s (a b : Int) : nc_l a - nc_l b = nc_l (a - b) := (Int64.ofInt_sub a b).symm
theorem nc_l_m (a b : Int) : nc_l a * nc_l b = nc_l (a * b) := (Int64.ofInt_mul a b).symm
theorem nc_l_n (a : Int) : -nc_l a = nc_l (-a) := (Int64.ofInt_neg a).symm
theorem nc_l_N (n : Nat) : nc_l (n : Int) = lN n := Int64.ofInt_eq_ofNat
theorem nc_l_i {n : Nat} (h : n < 2 ^ 31) : (nI n).toInt64 = nc_l (n : Int) := (nI_l h).trans (nc_l_N n).symm
theorem nc_l_g' : ∀ v, v < 10 → (-(nI v)).toInt64 = nc_l (-(v : Int)) := by decide +kernel
theorem nc_l_g {v : Nat} (h : v ≤ 9) : (-(nI v)).toInt64 = nc_l (-(v : Int)) := nc_l_g' v (by omega)
theorem nc_l_0 : nc_l 0 = 0 := by decide +kernel
theorem nc_l_1 : nc_l 1 = 1 := by decide +kernel
theorem nc_l_m1 : nc_l (-1) = -1 := by decide +kernel
theorem nc_l_t {z : Int} (h : z.natAbs < 2 ^ 63) : (nc_l z).toInt = z := Int64.toInt_ofInt_of_le (by omega) (by omega)
theorem nc_l_d {b q : Int} (hb : b ≠ 0) (h1 : b.natAbs < 2 ^ 63) (h2 : (b * q).natAbs < 2 ^ 63) : nc_l (b * q) / nc_l b = nc_l q := by
  unfold nc_l
  rw [← Int64.ofInt_tdiv (by rw [Int64.toInt_minValue]; omega) (by rw [Int64.toInt_maxValue]; omega) (by rw [Int64.toInt_minValue]; omega) (by rw [Int64.toInt_maxValue]; omega)]
  rw [Int.mul_tdiv_cancel_left q hb]
theorem nc_l_z {z : Int} (h : z.natAbs < 2 ^ 63) : nc_l z = 0 ↔ z = 0 := by
  constructor
  · intro e
    have := congrArg Int64.toInt e
    rw [nc_l_t h] at this
    exact this
  · intro e
    rw [e]; exact nc_l_0
theorem nc_l_le {z : Int} (h : z.natAbs < 2 ^ 63) : 0 ≤ nc_l z ↔ 0 ≤ z := by
  rw [Int64.le_iff_toInt_le, nc_l_t h]
  exact Iff.rfl
theorem nc_6 : (6 : Int32) = nI 6 := rfl
theorem nc_ix (p q : Nat) : (6 * nI p) + nI q = nI (6 * p + q) := by rw [nc_6, pk_mul, nI_add]
theorem nc_7 : (7 : Int32) = nI 7 := rfl
theorem nc_tx (p q : Nat) : (7 * nI p) + nI q = nI (7 * p + q) := by rw [nc_7, pk_mul, nI_add]
theorem nc_inI {p q : Nat} (hp : p < 6) (hq : q < 6) : vp_in ((6 * nI p) + nI q) 36 := by
  rw [nc_ix]; exact vp_in_nI (by omega) (by omega)
theorem nc_cl {p q : Nat} (hp : p < 6) (hq : q < 6) : ((6 * nI p) + nI q).toNatClampNeg = 6 * p + q := by
  rw [nc_ix]; exact nI_clamp (by omega)
theorem nc_tin {p q : Nat} (hp : p < 6) (hq : q < 7) : vp_in ((7 * nI p) + nI q) 42 := by
  rw [nc_tx]; exact vp_in_nI (by omega) (by omega)
theorem nc_tcl {p q : Nat} (hp : p < 6) (hq : q < 7) : ((7 * nI p) + nI q).toNatClampNeg = 7 * p + q := by
  rw [nc_tx]; exact nI_clamp (by omega)
/-! the network -/
def nc_ok (n : Nat) (w : Nat → Nat) : Prop := (2 ≤ n ∧ n ≤ 6) ∧ (∀ j, w j ≤ 9) ∧ (∀ p q, p < 6 → q < 6 → w (6 * p + q) = w (6 * q + p)) ∧ (∀ p, p < 6 → w (6 * p + p) = 0) ∧ (∀ p q, p < 6 → q < 6 → n ≤ q → w (6 * p + q) = 0)
theorem nc_put_e (w : Nat → Nat) (p q v j : Nat) : nc_put w p q v j = if j = 6 * q + p then v else if j = 6 * p + q then v else w j := rfl
theorem nc_put_ok {n p q v : Nat} {w : Nat → Nat} (h : nc_ok n w) (hp : p < n) (hq : q < n) (hne : p ≠ q) (hv : v ≤ 9) : nc_ok n (nc_put w p q v) := by
  obtain ⟨⟨h1, h2⟩, h3, h4, h5, h6⟩ := h
  refine ⟨⟨h1, h2⟩, fun j => ?_, fun a b ha hb => ?_, fun a ha => ?_, fun a b ha hb hnb => ?_⟩
  · rw [nc_put_e]
    by_cases c1 : j = 6 * q + p
    · rw [if_pos c1]; exact hv
    · rw [if_neg c1]
      by_cases c2 : j = 6 * p + q
      · rw [if_pos c2]; exact hv
      · rw [if_neg c2]; exact h3 j
  · rw [nc_put_e, nc_put_e]
    by_cases c1 : a = q ∧ b = p
    · rw [if_pos (by omega), if_neg (by omega), if_pos (by omega)]
    · by_cases c2 : a = p ∧ b = q
      · rw [if_neg (by omega), if_pos (by omega), if_pos (by omega)]
      · rw [if_neg (by omega), if_neg (by omega), if_neg (by omega), if_neg (by omega)]
        exact h4 a b ha hb
  · rw [nc_put_e, if_neg (by omega), if_neg (by omega)]
    exact h5 a ha
  · rw [nc_put_e, if_neg (by omega), if_neg (by omega)]
    exact h6 a b ha hb hnb
theorem nc_put_back {n p q : Nat} {w : Nat → Nat} (h : nc_ok n w) (hp : p < 6) (hq : q < 6) : nc_put (nc_put w p q 0) p q (w (6 * p + q)) = w := by
  funext j
  rw [nc_put_e, nc_put_e]
  by_cases c1 : j = 6 * q + p
  · rw [if_pos c1, c1]; exact h.2.2.1 p q hp hq
  · rw [if_neg c1]
    by_cases c2 : j = 6 * p + q
    · rw [if_pos c2, c2]
    · rw [if_neg c2, if_neg c1, if_neg c2]
theorem nc_put_sy (w : Nat → Nat) (p q v : Nat) : nc_put w p q v = nc_put w q p v := by
  funext j
  rw [nc_put_e, nc_put_e]
  by_cases c1 : j = 6 * q + p
  · rw [if_pos c1]
    by_cases c2 : j = 6 * p + q
    · rw [if_pos c2]
    · rw [if_neg c2, if_pos c1]
  · rw [if_neg c1]
    by_cases c2 : j = 6 * p + q
    · rw [if_pos c2, if_pos c2]
    · rw [if_neg c2, if_neg c2, if_neg c1]
theorem nc_ok_sy {n : Nat} {w : Nat → Nat} (h : nc_ok n w) : nc_sy n w := fun p q hp hq => h.2.2.1 p q (by have := h.1.2; omega) (by have := h.1.2; omega)
def nc_w (w : Nat → Nat) (p q : Nat) : Int := (w (6 * p + q) : Int)
/-! the small methods of both sides -/
section
variable {n : Nat} {fs fd : Int32} {fb ft fw : Int64} {w : Nat → Nat} {pa ro : Nat → Int32} {ta tp : Nat → Int64}
variable {sz : Int32} {la aa pe : Nat → Int32}
theorem xx_pt_t {post : Int32 → Prop} {p : Nat} (hn : n ≤ 6) (hp : p < n) (h : post 1) : wpX_isPoint post (nI n, fs, fd, fb, ft, fw, nc_g w, pa, ta, ro, tp) (nI p) := by
  unfold wpX_isPoint
  exact br_f (nI_pos (by omega)) (br_f (nI_ge hp (by omega)) h)
theorem xx_pt_f {post : Int32 → Prop} {v : Int32} (hn : n ≤ 6) (hv : ¬ ∃ p, p < n ∧ v = nI p) (h : post 0) : wpX_isPoint post (nI n, fs, fd, fb, ft, fw, nc_g w, pa, ta, ro, tp) v := by
  unfold wpX_isPoint
  rcases pk_ix v (n := n) (by omega) with h1 | h1 | h1
  · exact br_t h1 h
  · exact br_c (fun _ => h) (fun _ => br_t h1 h)
  · exact absurd h1 hv
theorem yy_bd_t {post : Int32 → Prop} {p : Nat} (hn : n ≤ 6) (hp : p < n) (h : post 0) : wpY_bad post (nI n, fs, fd, sz, nc_g w, la, aa, pe) (nI p) := by
  unfold wpY_bad
  exact br_f (nI_pos (by omega)) (br_f (nI_ge hp (by omega)) (br_t (nI_le (a := p) (b := 5) (by omega) (by omega)) h))
theorem yy_bd_f {post : Int32 → Prop} {v : Int32} (hn : n ≤ 6) (hv : ¬ ∃ p, p < n ∧ v = nI p) (h : post 1) : wpY_bad post (nI n, fs, fd, sz, nc_g w, la, aa, pe) v := by
  unfold wpY_bad
  rcases pk_ix v (n := n) (by omega) with h1 | h1 | h1
  · exact br_t h1 h
  · exact br_c (fun _ => h) (fun _ => br_t h1 h)
  · exact absurd h1 hv
theorem xx_set {post : SX → Prop} {p q v : Nat} (hp : p < 6) (hq : q < 6) (hne : p ≠ q) (h : post (nI n, fs, fd, fb, ft, fw, nc_g (nc_put w p q v), pa, ta, ro, tp)) : wpX_set post (nI n, fs, fd, fb, ft, fw, nc_g w, pa, ta, ro, tp) (nI p) (nI q) (nI v) := by
  unfold wpX_set
  refine br_f (fun e => hne ((nI_eq (by omega) (by omega)).mp e)) ⟨nc_inI hp hq, fun a1 e1 => ⟨nc_inI hq hp, fun a2 e2 => ?_⟩⟩
  rw [nc_cl hp hq, nc_gu] at e1
  rw [nc_cl hq hp, e1, nc_gu] at e2
  rw [e2]
  exact h
theorem yy_put {post : SY → Prop} {p q v : Nat} (hp : p < 6) (hq : q < 6) (h : post (nI n, fs, fd, sz, nc_g (nc_put w p q v), la, aa, pe)) : wpY_put post (nI n, fs, fd, sz, nc_g w, la, aa, pe) (nI p) (nI q) (nI v) := by
  unfold wpY_put
  refine ⟨nc_inI hp hq, fun a1 e1 => ⟨nc_inI hq hp, fun a2 e2 => ?_⟩⟩
  rw [nc_cl hp hq, nc_gu] at e1
  rw [nc_cl hq hp, e1, nc_gu] at e2
  rw [e2]
  exact h
end
end
section
/-! findParts, countParts: X -/
theorem nc_gc {w : Nat → Nat} {k : Nat} (h : k < 2 ^ 31) : nc_g w (nI k).toNatClampNeg = nI (w k) := by rw [nI_clamp h]; rfl
theorem nc_ge {n p q : Nat} {w : Nat → Nat} (hok : nc_ok n w) (hp : p < 6) (hq : q < 6) (h : 0 < w (6 * p + q)) : p < n ∧ q < n := by
  obtain ⟨⟨h1, h2⟩, h3, h4, h5, h6⟩ := hok
  constructor
  · by_cases c : p < n
    · exact c
    · have e1 := h4 p q hp hq
      have e2 := h6 q p hq hp (by omega)
      omega
  · by_cases c : q < n
    · exact c
    · have := h6 p q hp hq (by omega)
      omega
/-- within a round: from v0, the edges below k done -/
def nc_In (n : Nat) (w L v0 v : Nat → Nat) (k : Nat) : Prop :=
  (∀ p, p < n → L p ≤ v p ∧ v p ≤ v0 p) ∧ (∀ p q, p < n → q < n → 6 * p + q < k → 0 < w (6 * p + q) → v q ≤ v0 p)
section
variable {n : Nat} {fs fd : Int32} {fb ft fw : Int64} {w : Nat → Nat} {ro : Nat → Int32} {ta tp : Nat → Int64}
theorem xx_fp35 {post : SX → Prop} {J : Int32 → (Nat → Int32) → (Nat → Int32) → (Nat → Int64) → (Nat → Int32) → (Nat → Int64) → Prop} {x1 : Int32} {L v0 : Nat → Nat}
    (hok : nc_ok n w) (hL : nc_Lab n w L)  (hv0 : ∀ p, p < n → v0 p ≤ 5)
    (hJ : ∀ pa v, (∀ p, p < n → pa p = nI (v p)) → nc_Rd n w L v0 v → J (x1 + 1) (nc_g w) pa ta ro tp) :
    ∀ d k pa v, k + d = 36 → (∀ p, p < n → pa p = nI (v p)) → nc_In n w L v0 v k → wX_findParts_35 post J x1 (nI n) fs fd fb ft fw (d + 1) (nI k) (nc_g w) pa ta ro tp := by
  intro d
  induction d with
  | zero =>
    intro k pa v hk hpa hin
    refine br_t (nI_le (a := 36) (b := k) (by omega) (by omega)) (nm_e (hJ pa v hpa ⟨hin.1, fun p q hp hq hw => hin.2 p q hp hq ?_ hw⟩))
    have := hok.1.2
    omega
  | succ d ih =>
    intro k pa v hk hpa hin
    have hn := hok.1.2
    have h6 : ¬ (6 : Int32) = 0 := by decide
    refine br_f (nI_ge (a := k) (b := 36) (by omega) (by omega)) ⟨h6, nm_r (pk_div (a := k) (d := 6) (by omega) (by omega) (by omega)) ⟨h6, nm_r (pk_rem (a := k) (d := 6) (by omega) (by omega) (by omega)) ⟨vp_in_nI (by omega) (by omega), ?_⟩⟩⟩
    have hkk : 6 * (k / 6) + k % 6 = k := by omega
    have hp6 : k / 6 < 6 := by omega
    have hq6 : k % 6 < 6 := by omega
    generalize k / 6 = p at hkk hp6 ⊢
    generalize k % 6 = q at hkk hq6 ⊢
    refine pk_le (w k) 0 (fun h0 => ?_) (fun h0 => ?_) (nc_gc (by omega)) rfl (by have := hok.2.1 k; omega) (by omega)
    · refine nm_r (nI_1 k) (ih (k + 1) pa v (by omega) hpa ⟨hin.1, fun p' q' hp' hq' hlt hw => ?_⟩)
      by_cases e : 6 * p' + q' = k
      · rw [e] at hw; omega
      · exact hin.2 p' q' hp' hq' (by omega) hw
    · have hpq := nc_ge hok hp6 hq6 (by rw [hkk]; exact h0)
      have e1 : pa (nI q).toNatClampNeg = nI (v q) := by rw [nI_clamp (by omega)]; exact hpa q hpq.2
      have e2 : pa (nI p).toNatClampNeg = nI (v p) := by rw [nI_clamp (by omega)]; exact hpa p hpq.1
      have b1 := hin.1 p hpq.1
      have b2 := hin.1 q hpq.2
      have b3 := hv0 p hpq.1
      have b4 := hv0 q hpq.2
      have hLL := hL.2.1 p q hpq.1 hpq.2 (by rw [hkk]; exact h0)
      refine ⟨vp_in_nI hp6 (by omega), vp_in_nI hq6 (by omega), pk_le (v q) (v p) (fun h1 => ?_) (fun h1 => ?_) e1 e2 (by omega) (by omega)⟩
      · refine nm_r (nI_1 k) (ih (k + 1) pa v (by omega) hpa ⟨hin.1, fun p' q' hp' hq' hlt hw => ?_⟩)
        by_cases e : 6 * p' + q' = k
        · have ep : p' = p := by omega
          have eq : q' = q := by omega
          rw [ep, eq]; omega
        · exact hin.2 p' q' hp' hq' (by omega) hw
      · refine ⟨vp_in_nI hp6 (by omega), vp_in_nI hq6 (by omega), ?_⟩
        refine nm_r (e' := upd pa q (nI (v p))) (by rw [e2, nI_clamp (by omega)]) (nm_r (nI_1 k) (ih (k + 1) (upd pa q (nI (v p))) (nc_u v q (v p)) (by omega) (fun p' hp' => ?_) ⟨fun p' hp' => ?_, fun p' q' hp' hq' hlt hw => ?_⟩))
        · show (if p' = q then nI (v p) else pa p') = nI (if p' = q then v p else v p')
          by_cases e : p' = q
          · rw [if_pos e, if_pos e]
          · rw [if_neg e, if_neg e]; exact hpa p' hp'
        · show L p' ≤ (if p' = q then v p else v p') ∧ (if p' = q then v p else v p') ≤ v0 p'
          by_cases e : p' = q
          · rw [if_pos e, e]; omega
          · rw [if_neg e]; exact hin.1 p' hp'
        · show (if q' = q then v p else v q') ≤ v0 p'
          by_cases e : q' = q
          · rw [if_pos e]
            by_cases e3 : 6 * p' + q' = k
            · have ep : p' = p := by omega
              rw [ep]; omega
            · have := hin.2 p' q' hp' hq' (by omega) hw
              rw [e] at this
              omega
          · rw [if_neg e]
            have : 6 * p' + q' ≠ k := by omega
            exact hin.2 p' q' hp' hq' (by omega) hw
theorem xx_fp25 {post : SX → Prop} {L : Nat → Nat} (hok : nc_ok n w) (hL : nc_Lab n w L) (h : ∀ pa, (∀ p, p < n → pa p = nI (L p)) → post (nI n, fs, fd, fb, ft, fw, nc_g w, pa, ta, ro, tp)) :
    ∀ d r pa v, r + d = n → (∀ p, p < n → pa p = nI (v p)) → nc_Af n L v r → wX_findParts_25 post (nI n) fs fd fb ft fw (d + 1) (nI r) (nc_g w) pa ta ro tp := by
  have hn := hok.1.2
  intro d
  induction d with
  | zero =>
    intro r pa v hr hpa haf
    refine br_t (nI_le (by omega) (by omega)) (h pa (fun p hp => ?_))
    rw [hpa p hp, nc_AfE haf (by omega) p hp]
  | succ d ih =>
    intro r pa v hr hpa haf
    refine br_f (nI_ge (by omega) (by omega)) ⟨37, ?_⟩
    refine xx_fp35 (L := L) (v0 := v) hok hL (fun p hp => by have := haf.1 p hp; omega) (fun pa' v' hpa' hrd => ?_) 36 0 pa v rfl hpa ⟨fun p hp => ⟨(haf.1 p hp).1, Nat.le_refl _⟩, fun p q _ _ h _ => by omega⟩
    rw [nI_1]
    exact ih (r + 1) pa' v' (by omega) hpa' (nc_AfS hL (nc_ok_sy hok) haf hrd)
theorem xx_fp2 {post : SX → Prop} {L : Nat → Nat} (hok : nc_ok n w) (hL : nc_Lab n w L) (h : ∀ pa, (∀ p, p < n → pa p = nI (L p)) → post (nI n, fs, fd, fb, ft, fw, nc_g w, pa, ta, ro, tp)) :
    ∀ d i pa, i + d = n → (∀ p, p < i → pa p = nI p) → wX_findParts_2 post (nI n) fs fd fb ft fw (d + 1) (nI i) (nc_g w) pa ta ro tp := by
  have hn := hok.1.2
  have hn1 := hok.1.1
  intro d
  induction d with
  | zero =>
    intro i pa hi hpa
    refine br_t (nI_le (by omega) (by omega)) ⟨n + 1, ?_⟩
    exact xx_fp25 hok hL h n 0 pa (fun p => p) (by omega) (fun p hp => hpa p (by omega)) (nc_Af0 (by omega) hL (fun _ _ => rfl))
  | succ d ih =>
    intro i pa hi hpa
    refine br_f (nI_ge (by omega) (by omega)) ⟨vp_in_nI (by omega) (by omega), nm_r (e' := upd pa i (nI i)) (by rw [nI_clamp (by omega)]) (nm_r (nI_1 i) (ih (i + 1) _ (by omega) (fun p hp => ?_)))⟩
    show (if p = i then nI i else pa p) = nI p
    by_cases e : p = i
    · rw [if_pos e, e]
    · rw [if_neg e]; exact hpa p (by omega)
theorem xx_fp {post : SX → Prop} {pa : Nat → Int32} (hok : nc_ok n w) (h : ∀ pa, (∀ p, p < n → pa p = nI (nc_lab n w p)) → post (nI n, fs, fd, fb, ft, fw, nc_g w, pa, ta, ro, tp)) : wpX_findParts post (nI n, fs, fd, fb, ft, fw, nc_g w, pa, ta, ro, tp) := by
  unfold wpX_findParts
  exact ⟨n + 1, xx_fp2 hok (nc_lab_ok n w) h n 0 pa (by omega) (fun p hp => by omega)⟩
theorem xx_cp8 {post : Int32 → SX → Prop} {pa : Nat → Int32} (hok : nc_ok n w) (hpa : ∀ p, p < n → pa p = nI (nc_lab n w p)) (h : post (nI (nc_pc n w)) (nI n, fs, fd, fb, ft, fw, nc_g w, pa, ta, ro, tp)) :
    ∀ d i, i + d = n → wX_countParts_8 post (nI n) fs fd fb ft fw (nc_g w) pa ta ro tp (d + 1) (nI (nc_cn (fun p => decide (nc_lab n w p = p)) i)) (nI i) := by
  have hn := hok.1.2
  intro d
  induction d with
  | zero =>
    intro i hi
    obtain rfl : i = n := by omega
    exact br_t (nI_le (by omega) (by omega)) h
  | succ d ih =>
    intro i hi
    have hl := (nc_lab_ok n w).1 i (by omega)
    refine br_f (nI_ge (by omega) (by omega)) ⟨vp_in_nI (by omega) (by omega), pk_eq (nc_lab n w i) i (fun e => ?_) (fun e => ?_) (by rw [nI_clamp (by omega)]; exact hpa i (by omega)) rfl (by omega) (by omega)⟩
    · refine nm_r (nI_1 _) (nm_r (nI_1 i) ?_)
      have h1 := ih (i + 1) (by omega)
      rw [nc_cn_t (P := fun p => decide (nc_lab n w p = p)) (n := i) (decide_eq_true e)] at h1
      exact h1
    · refine nm_r (e' := nI (nc_cn (fun p => decide (nc_lab n w p = p)) i)) (Int32.add_zero _) (nm_r (nI_1 i) ?_)
      have h1 := ih (i + 1) (by omega)
      rw [nc_cn_f (P := fun p => decide (nc_lab n w p = p)) (n := i) (fun c => e (of_decide_eq_true c))] at h1
      exact h1
theorem xx_cp {post : Int32 → SX → Prop} {pa : Nat → Int32} (hok : nc_ok n w) (h : ∀ pa, post (nI (nc_pc n w)) (nI n, fs, fd, fb, ft, fw, nc_g w, pa, ta, ro, tp)) : wpX_countParts post (nI n, fs, fd, fb, ft, fw, nc_g w, pa, ta, ro, tp) := by
  unfold wpX_countParts
  refine xx_fp hok (fun pa' hpa' => ?_)
  exact ⟨n + 1, xx_cp8 hok hpa' (h pa') n 0 (by omega)⟩
end
end
section
/-! group, groups: Y -/
/-- within a pass: from v0, the edges below k done; o: has anything changed -/
def nc_Iy (n : Nat) (w L v0 v : Nat → Nat) (k : Nat) (o : Int32) : Prop :=
  (∀ p, p < n → L p ≤ v p ∧ v p ≤ v0 p) ∧ (∀ p q, p < n → q < n → 6 * p + q < k → 0 < w (6 * p + q) → v p ≤ v0 q) ∧ (o = 0 ∨ o = 1) ∧ (o = 0 → ∀ p, p < n → v p = v0 p)
section
variable {n : Nat} {fs fd : Int32} {sz : Int32} {w : Nat → Nat} {aa pe : Nat → Int32}
theorem nc_IyS {n p k : Nat} {o : Int32} {w L v0 v : Nat → Nat} (hn : n ≤ 6) (h : nc_Iy n w L v0 v (6 * p + k) o) (hk : n ≤ k) (h6 : k ≤ 6) : nc_Iy n w L v0 v (6 * (p + 1) + 0) o := by
  refine ⟨h.1, fun p' q' hp' hq' hlt hw => ?_, h.2.2⟩
  by_cases e : 6 * p' + q' < 6 * p + k
  · exact h.2.1 p' q' hp' hq' e hw
  · omega
theorem yy_lo20 {post : Int32 → SY → Prop} {J : Int32 → Int32 → (Nat → Int32) → (Nat → Int32) → (Nat → Int32) → (Nat → Int32) → Prop} {p : Nat} {L v0 : Nat → Nat}
    (hok : nc_ok n w) (hL : nc_Lab n w L) (hv0 : ∀ p, p < n → v0 p ≤ 5) (hp : p < n)
    (hJ : ∀ o la v, (∀ p, p < n → la p = nI (v p)) → nc_Iy n w L v0 v (6 * (p + 1) + 0) o → J o (nI (p + 1)) (nc_g w) la aa pe) :
    ∀ d q o la v, q + d = n → (∀ p, p < n → la p = nI (v p)) → nc_Iy n w L v0 v (6 * p + q) o → wY_lower_20 post J (nI p) (nI n) fs fd sz (d + 1) o (nI q) (nc_g w) la aa pe := by
  have hn := hok.1.2
  intro d
  induction d with
  | zero =>
    intro q o la v hq hla hin
    exact br_t (nI_le (by omega) (by omega)) (nm_r (nI_1 p) (hJ o la v hla (nc_IyS hn hin (by omega) (by omega))))
  | succ d ih =>
    intro q o la v hq hla hin
    have hp6 : p < 6 := by omega
    have hq6 : q < 6 := by omega
    have hqn : q < n := by omega
    refine br_f (nI_ge (by omega) (by omega)) (br_f (nI_ge (a := q) (b := 6) (by omega) (by omega)) ⟨nc_inI hp6 hq6, ?_⟩)
    refine pk_le (w (6 * p + q)) 0 (fun h0 => ?_) (fun h0 => ?_) (by rw [nc_cl hp6 hq6]; rfl) rfl (by have := hok.2.1 (6 * p + q); omega) (by omega)
    · refine nm_r (nI_1 q) (ih (q + 1) o la v (by omega) hla ⟨hin.1, fun p' q' hp' hq' hlt hw => ?_, hin.2.2⟩)
      by_cases e : 6 * p' + q' = 6 * p + q
      · rw [e] at hw; omega
      · exact hin.2.1 p' q' hp' hq' (by omega) hw
    · have e1 : la (nI p).toNatClampNeg = nI (v p) := by rw [nI_clamp (by omega)]; exact hla p hp
      have e2 : la (nI q).toNatClampNeg = nI (v q) := by rw [nI_clamp (by omega)]; exact hla q hqn
      have b1 := hin.1 p hp
      have b2 := hin.1 q hqn
      have b3 := hv0 p hp
      have b4 := hv0 q hqn
      have hLL := hL.2.1 p q hp hqn h0
      refine ⟨vp_in_nI hq6 (by omega), vp_in_nI hp6 (by omega), pk_le (v p) (v q) (fun h1 => ?_) (fun h1 => ?_) e1 e2 (by omega) (by omega)⟩
      · refine nm_r (nI_1 q) (ih (q + 1) o la v (by omega) hla ⟨hin.1, fun p' q' hp' hq' hlt hw => ?_, hin.2.2⟩)
        by_cases e : 6 * p' + q' = 6 * p + q
        · have ep : p' = p := by omega
          have eq : q' = q := by omega
          rw [ep, eq]; omega
        · exact hin.2.1 p' q' hp' hq' (by omega) hw
      · refine ⟨vp_in_nI hq6 (by omega), vp_in_nI hp6 (by omega), ?_⟩
        refine nm_r (e' := upd la p (nI (v q))) (by rw [e2, nI_clamp (by omega)]) (nm_r (nI_1 q) (ih (q + 1) 1 (upd la p (nI (v q))) (nc_u v p (v q)) (by omega) (fun p' hp' => ?_) ⟨fun p' hp' => ?_, fun p' q' hp' hq' hlt hw => ?_, Or.inr rfl, fun c => absurd c (by decide)⟩))
        · show (if p' = p then nI (v q) else la p') = nI (if p' = p then v q else v p')
          by_cases e : p' = p
          · rw [if_pos e, if_pos e]
          · rw [if_neg e, if_neg e]; exact hla p' hp'
        · show L p' ≤ (if p' = p then v q else v p') ∧ (if p' = p then v q else v p') ≤ v0 p'
          by_cases e : p' = p
          · rw [if_pos e, e]; omega
          · rw [if_neg e]; exact hin.1 p' hp'
        · show (if p' = p then v q else v p') ≤ v0 q'
          by_cases e : p' = p
          · rw [if_pos e]
            by_cases e3 : 6 * p' + q' = 6 * p + q
            · have eq : q' = q := by omega
              rw [eq]; omega
            · have := hin.2.1 p' q' hp' hq' (by omega) hw
              rw [e] at this
              omega
          · rw [if_neg e]
            have : 6 * p' + q' ≠ 6 * p + q := by omega
            exact hin.2.1 p' q' hp' hq' (by omega) hw
theorem nc_nb {o : Int32} (h : o = 0 ∨ o = 1) : narrow .boolean (.int o) = .int o := by
  rcases h with h | h
  · rw [h]; rfl
  · rw [h]; rfl
theorem yy_lo4 {post : Int32 → SY → Prop} {L v0 : Nat → Nat} (hok : nc_ok n w) (hL : nc_Lab n w L) (hv0 : ∀ p, p < n → v0 p ≤ 5)
    (h : ∀ o la v, (∀ p, p < n → la p = nI (v p)) → nc_Iy n w L v0 v (6 * n + 0) o → post o (nI n, fs, fd, sz, nc_g w, la, aa, pe)) :
    ∀ d p o la v, p + d = n → (∀ p, p < n → la p = nI (v p)) → nc_Iy n w L v0 v (6 * p + 0) o → wY_lower_4 post (nI n) fs fd sz (d + 1) o (nI p) (nc_g w) la aa pe := by
  have hn := hok.1.2
  intro d
  induction d with
  | zero =>
    intro p o la v hp hla hin
    obtain rfl : p = n := by omega
    exact br_t (nI_le (by omega) (by omega)) ⟨nc_nb hin.2.2.1, h o la v hla hin⟩
  | succ d ih =>
    intro p o la v hp hla hin
    refine br_f (nI_ge (by omega) (by omega)) (br_f (nI_ge (a := p) (b := 6) (by omega) (by omega)) ⟨n + 1, ?_⟩)
    exact yy_lo20 hok hL hv0 (by omega) (fun o' la' v' hla' hin' => ih (p + 1) o' la' v' (by omega) hla' hin') n 0 o la v (by omega) hla hin
theorem yy_lo {post : Int32 → SY → Prop} {la : Nat → Int32} {L v0 : Nat → Nat} (hok : nc_ok n w) (hL : nc_Lab n w L) (hv0 : ∀ p, p < n → L p ≤ v0 p ∧ v0 p ≤ p) (hla : ∀ p, p < n → la p = nI (v0 p))
    (h : ∀ o la v, (∀ p, p < n → la p = nI (v p)) → nc_Rd n w L v0 v → (o = 0 ∨ o = 1) → (o = 0 → ∀ p, p < n → v p = L p) → post o (nI n, fs, fd, sz, nc_g w, la, aa, pe)) : wpY_lower post (nI n, fs, fd, sz, nc_g w, la, aa, pe) := by
  have hn := hok.1.2
  unfold wpY_lower
  refine ⟨n + 1, yy_lo4 hok hL (fun p hp => by have := hv0 p hp; omega) (fun o la v hla' hin => ?_) n 0 0 la v0 (by omega) hla ⟨fun p hp => ⟨(hv0 p hp).1, Nat.le_refl _⟩, fun p q _ _ h _ => by omega, Or.inl rfl, fun _ _ _ => rfl⟩⟩
  have he : ∀ p q, p < n → q < n → 0 < w (6 * p + q) → v p ≤ v0 q := fun p q hp hq hw => hin.2.1 p q hp hq (by omega) hw
  refine h o la v hla' ⟨hin.1, fun p q hp hq hw => he q p hq hp (by rw [nc_ok_sy hok q p hq hp]; exact hw)⟩ hin.2.2.1 (fun ho => ?_)
  have hvv := hin.2.2.2 ho
  refine nc_fix hL (nc_ok_sy hok) (fun p hp => ?_) (fun p q hp hq hw => ?_)
  · rw [hvv p hp]; exact hv0 p hp
  · rw [hvv q hq]; exact he p q hp hq hw
theorem yy_gr25 {post : SY → Prop} {L : Nat → Nat} (hok : nc_ok n w) (hL : nc_Lab n w L) (h : ∀ la, (∀ p, p < n → la p = nI (L p)) → post (nI n, fs, fd, sz, nc_g w, la, aa, pe)) :
    ∀ d r o la v, r + d = 6 → (∀ p, p < n → la p = nI (v p)) → nc_Af n L v r → (o = 0 ∨ o = 1) → (o = 0 → ∀ p, p < n → v p = L p) → wY_group_25 post (d + 1) o (nI r) (nI n) fs fd sz (nc_g w) la aa pe := by
  have hn := hok.1.2
  intro d
  induction d with
  | zero =>
    intro r o la v hr hla haf ho hz
    refine br_t (nI_le (a := 6) (b := r) (by omega) (by omega)) (h la (fun p hp => ?_))
    rw [hla p hp, nc_AfE haf (by omega) p hp]
  | succ d ih =>
    intro r o la v hr hla haf ho hz
    refine br_f (nI_ge (a := r) (b := 6) (by omega) (by omega)) ?_
    by_cases c : o = 0
    · refine br_t c (h la (fun p hp => ?_))
      rw [hla p hp, hz c p hp]
    · refine br_f c ?_
      refine yy_lo hok hL haf.1 hla (fun o' la' v' hla' hrd ho' hz' => ?_)
      refine nm_r (nI_1 r) (ih (r + 1) o' la' v' (by omega) hla' (nc_AfS hL (nc_ok_sy hok) haf hrd) ho' hz')
theorem yy_gr2 {post : SY → Prop} {L : Nat → Nat} (hok : nc_ok n w) (hL : nc_Lab n w L) (h : ∀ la, (∀ p, p < n → la p = nI (L p)) → post (nI n, fs, fd, sz, nc_g w, la, aa, pe)) :
    ∀ d i la, i + d = 6 → (∀ p, p < i → la p = nI p) → wY_group_2 post (nI n) fs fd sz (d + 1) (nI i) (nc_g w) la aa pe := by
  have hn := hok.1.2
  have hn1 := hok.1.1
  intro d
  induction d with
  | zero =>
    intro i la hi hla
    refine br_t (nI_le (a := 6) (b := i) (by omega) (by omega)) ⟨7, ?_⟩
    exact yy_gr25 hok hL h 6 0 1 la (fun p => p) (by omega) (fun p hp => hla p (by omega)) (nc_Af0 (by omega) hL (fun _ _ => rfl)) (Or.inr rfl) (fun c => absurd c (by decide))
  | succ d ih =>
    intro i la hi hla
    refine br_f (nI_ge (a := i) (b := 6) (by omega) (by omega)) ⟨vp_in_nI (by omega) (by omega), nm_r (e' := upd la i (nI i)) (by rw [nI_clamp (by omega)]) (nm_r (nI_1 i) (ih (i + 1) _ (by omega) (fun p hp => ?_)))⟩
    show (if p = i then nI i else la p) = nI p
    by_cases e : p = i
    · rw [if_pos e, e]
    · rw [if_neg e]; exact hla p (by omega)
theorem yy_gr {post : SY → Prop} {la : Nat → Int32} (hok : nc_ok n w) (h : ∀ la, (∀ p, p < n → la p = nI (nc_lab n w p)) → post (nI n, fs, fd, sz, nc_g w, la, aa, pe)) : wpY_group post (nI n, fs, fd, sz, nc_g w, la, aa, pe) := by
  unfold wpY_group
  exact ⟨7, yy_gr2 hok (nc_lab_ok n w) h 6 0 la (by omega) (fun p hp => by omega)⟩
theorem yy_gs8 {post : Int32 → SY → Prop} {la : Nat → Int32} (hok : nc_ok n w) (hla : ∀ p, p < n → la p = nI (nc_lab n w p)) (h : post (nI (nc_pc n w)) (nI n, fs, fd, sz, nc_g w, la, aa, pe)) :
    ∀ d i, i + d = n → wY_groups_8 post (nI n) fs fd sz (nc_g w) la aa pe (d + 1) (nI (nc_cn (fun p => decide (nc_lab n w p = p)) i)) (nI i) := by
  have hn := hok.1.2
  intro d
  induction d with
  | zero =>
    intro i hi
    obtain rfl : i = n := by omega
    exact br_t (nI_le (by omega) (by omega)) h
  | succ d ih =>
    intro i hi
    have hl := (nc_lab_ok n w).1 i (by omega)
    refine br_f (nI_ge (by omega) (by omega)) (br_f (nI_ge (a := i) (b := 6) (by omega) (by omega)) ⟨vp_in_nI (by omega) (by omega), pk_eq (nc_lab n w i) i (fun e => ?_) (fun e => ?_) (by rw [nI_clamp (by omega)]; exact hla i (by omega)) rfl (by omega) (by omega)⟩)
    · refine nm_r (nI_1 _) (nm_r (nI_1 i) ?_)
      have h1 := ih (i + 1) (by omega)
      rw [nc_cn_t (P := fun p => decide (nc_lab n w p = p)) (n := i) (decide_eq_true e)] at h1
      exact h1
    · refine nm_r (nI_1 i) ?_
      have h1 := ih (i + 1) (by omega)
      rw [nc_cn_f (P := fun p => decide (nc_lab n w p = p)) (n := i) (fun c => e (of_decide_eq_true c))] at h1
      exact h1
theorem yy_gs {post : Int32 → SY → Prop} {la : Nat → Int32} (hok : nc_ok n w) (h : ∀ la, post (nI (nc_pc n w)) (nI n, fs, fd, sz, nc_g w, la, aa, pe)) : wpY_groups post (nI n, fs, fd, sz, nc_g w, la, aa, pe) := by
  unfold wpY_groups
  refine yy_gr hok (fun la' hla' => ?_)
  exact ⟨n + 1, yy_gs8 hok hla' (h la') n 0 (by omega)⟩
end
end
section
/-! trees: the value; X's degree, reduceRow, determinant -/
theorem nc_lp_b {n : Nat} {w : Nat → Nat} (hok : nc_ok n w) (p q : Nat) : (nc_lp n (nc_w w) p q).natAbs ≤ 54 := by
  have hn := hok.1.2
  have h1 : (nc_sg n (nc_w w p)).natAbs ≤ n * 9 := nc_sg_b (fun i _ => by
    have := hok.2.1 (6 * p + i)
    show ((w (6 * p + i) : Int)).natAbs ≤ 9
    omega)
  have h2 : 0 ≤ nc_sg n (nc_w w p) := nc_sg_p (fun i _ => Int.natCast_nonneg _)
  have h3 : 0 ≤ nc_w w p q ∧ nc_w w p q ≤ 9 := by
    have := hok.2.1 (6 * p + q)
    show 0 ≤ ((w (6 * p + q) : Int)) ∧ ((w (6 * p + q) : Int)) ≤ 9
    omega
  unfold nc_lp
  by_cases e : p = q
  · rw [if_pos e]; omega
  · rw [if_neg e]; omega
theorem nc_ws {n : Nat} {w : Nat → Nat} (hok : nc_ok n w) : ∀ p q, p < n → q < n → nc_w w p q = nc_w w q p := fun p q hp hq => by
  have := nc_ok_sy hok p q hp hq
  show ((w (6 * p + q) : Int)) = ((w (6 * q + p) : Int))
  rw [this]
theorem nc_wp (w : Nat → Nat) (p q : Nat) : 0 ≤ nc_w w p q := Int.natCast_nonneg _
theorem nc_inv {n : Nat} {w : Nat → Nat} {f : Nat → Int} (h : ∀ p q, p < n → q < n → 0 < nc_w w p q → f p = f q) : nc_Inv n w f := fun p q hp hq hw => h p q hp hq (by
  show 0 < ((w (6 * p + q) : Int))
  omega)
theorem nc_inv' {n : Nat} {w : Nat → Nat} {f : Nat → Int} (h : nc_Inv n w f) : ∀ p q, p < n → q < n → 0 < nc_w w p q → f p = f q := fun p q hp hq hw => h p q hp hq (by
  have : 0 < ((w (6 * p + q) : Int)) := hw
  omega)
def nc_tA (n : Nat) (w : Nat → Nat) : Nat → Nat → Int := fun i j => nc_lp n (nc_w w) (i + 1) (j + 1)
noncomputable def nc_tv (n : Nat) (w : Nat → Nat) : Int := if nc_pc n w ≤ 1 then nc_pv (nc_tA n w) (n - 1) else 0
def nc_XD (A : Nat → Nat → Int) (m : Nat) (z : Int) : Prop := (z = 0 ∧ ∃ k, k < m ∧ nc_pv A (k + 1) = 0) ∨ (z = nc_pv A m ∧ ∀ k, k < m → nc_pv A (k + 1) ≠ 0)
theorem nc_tvx {n : Nat} {w : Nat → Nat} {z : Int} (hok : nc_ok n w) (h : nc_XD (nc_tA n w) (n - 1) z) : z = nc_tv n w := by
  have hn := hok.1.2
  have hn1 := hok.1.1
  have hL := nc_lab_ok n w
  unfold nc_tv
  by_cases c : nc_pc n w ≤ 1
  · rw [if_pos c]
    have hall := (nc_pc1 (by omega)).mp c
    have hpos := nc_pos (n := n) (m := n - 1) (d := 0) (g := nc_w w) (ap := fun i => i + 1) (nc_ws hok) (fun p q _ _ => nc_wp w p q) (by omega) (fun i hi => by show i + 1 < n; omega)
      (fun i j _ _ e => by have e' : i + 1 = j + 1 := e; omega) (fun i _ => by show i + 1 ≠ 0; omega) (fun f hf i hi => by
        have h1 := hL.2.2 f (nc_inv hf) (i + 1) (by omega)
        rw [hall (i + 1) (by omega)] at h1
        exact h1.symm)
    rcases h with ⟨_, k, hk, hz⟩ | ⟨hz, _⟩
    · have := hpos (k + 1) (by omega)
      have e : nc_pv (fun i j => nc_lp n (nc_w w) (i + 1) (j + 1)) (k + 1) = 0 := hz
      rw [e] at this
      exact absurd this (by decide)
    · exact hz
  · rw [if_neg c]
    rcases h with ⟨hz, _⟩ | ⟨_, hnz⟩
    · exact hz
    · exfalso
      have hex : ∃ p, p < n ∧ nc_lab n w p ≠ 0 := by
        by_cases h1 : ∃ p, p < n ∧ nc_lab n w p ≠ 0
        · exact h1
        · refine absurd ((nc_pc1 (by omega)).mpr (fun p hp => ?_)) c
          by_cases h2 : nc_lab n w p = 0
          · exact h2
          · exact absurd ⟨p, hp, h2⟩ h1
      obtain ⟨t, ht, h1, h2⟩ := nc_max n hex
      have hl0 : nc_lab n w 0 = 0 := by have := hL.1 0 (by omega); omega
      have ht0 : t ≠ 0 := fun e => h1 (by rw [e]; exact hl0)
      obtain ⟨t', rfl⟩ : ∃ t', t = t' + 1 := ⟨t - 1, by omega⟩
      have hs := nc_sing (n := n) (t := t') (g := nc_w w) hn (nc_ws hok) (fun p q _ _ => nc_wp w p q) (fun p => (nc_lab n w p : Int)) (nc_inv' (fun p q hp hq hw => by
          show (nc_lab n w p : Int) = (nc_lab n w q : Int)
          rw [hL.2.1 p q hp hq hw])) (by show (nc_lab n w 0 : Int) = 0; rw [hl0]; rfl) ht (by show ¬ (nc_lab n w (t' + 1) : Int) = 0; omega) (fun p hp1 hp2 => by
          show (nc_lab n w p : Int) = 0
          have : nc_lab n w p = 0 := by
            by_cases h3 : nc_lab n w p = 0
            · exact h3
            · exact absurd h3 (h2 p hp1 hp2)
          rw [this]; rfl)
      exact hnz t' (by omega) hs
theorem nc_dv {a b c d e q : Int} (ha : a.natAbs ≤ 204073344) (hb : b.natAbs ≤ 204073344) (hc : c.natAbs ≤ 204073344) (hd : d.natAbs ≤ 204073344) (he : e.natAbs ≤ 204073344) (he0 : e ≠ 0)
    (h : a * b - c * d = e * q) : (nc_l a * nc_l b - nc_l c * nc_l d) / nc_l e = nc_l q := by
  rw [nc_l_m, nc_l_m, nc_l_s, h]
  have h1 : (a * b).natAbs ≤ 204073344 * 204073344 := by rw [Int.natAbs_mul]; exact Nat.mul_le_mul ha hb
  have h2 : (c * d).natAbs ≤ 204073344 * 204073344 := by rw [Int.natAbs_mul]; exact Nat.mul_le_mul hc hd
  refine nc_l_d he0 (by omega) ?_
  rw [← h]
  generalize a * b = x at *
  generalize c * d = y at *
  omega
section
variable {n : Nat} {fs fd : Int32} {fb ft fw : Int64} {w : Nat → Nat} {pa ro : Nat → Int32} {tp : Nat → Int64}
theorem xx_dg5 {post : Int64 → Prop} {ta : Nat → Int64} {p : Nat} (hok : nc_ok n w) (hp : p < 6) (h : post (nc_l (nc_sg n (nc_w w p)))) :
    ∀ d q, q + d = n → wX_degree_5 post (nI p) (nI n) fs fd fb ft fw (nc_g w) pa ta ro tp (d + 1) (nc_l (nc_sg q (nc_w w p))) (nI q) := by
  have hn := hok.1.2
  intro d
  induction d with
  | zero =>
    intro q hq
    obtain rfl : q = n := by omega
    exact br_t (nI_le (by omega) (by omega)) h
  | succ d ih =>
    intro q hq
    refine br_f (nI_ge (by omega) (by omega)) ⟨nc_inI hp (by omega), nm_r (e' := nc_l (nc_sg (q + 1) (nc_w w p))) ?_ (nm_r (nI_1 q) (ih (q + 1) (by omega)))⟩
    rw [nc_cl hp (by omega), show nc_g w (6 * p + q) = nI (w (6 * p + q)) from rfl, nc_l_i (by have := hok.2.1 (6 * p + q); omega), nc_l_a]
    rfl
theorem xx_dg {post : Int64 → Prop} {ta : Nat → Int64} {p : Nat} (hok : nc_ok n w) (hp : p < 6) (h : post (nc_l (nc_sg n (nc_w w p)))) : wpX_degree post (nI n, fs, fd, fb, ft, fw, nc_g w, pa, ta, ro, tp) (nI p) := by
  unfold wpX_degree
  refine ⟨n + 1, ?_⟩
  have h1 := xx_dg5 (fs := fs) (fd := fd) (fb := fb) (ft := ft) (fw := fw) (pa := pa) (ro := ro) (tp := tp) (ta := ta) hok hp h n 0 (by omega)
  rw [show nc_l (nc_sg 0 (nc_w w p)) = 0 from nc_l_0] at h1
  exact h1
theorem xx_rr44 {post : SX → Prop} {i k fr cols : Nat} {pv en by_ : Int64} {ta0 : Nat → Int64} (hi : i < 6) (hk : k < 6) (hne : i ≠ k) (hc : cols ≤ 7) (hby : ¬ by_ = 0)
    (h : ∀ ta, (∀ c, fr ≤ c → c < cols → ta (7 * i + c) = (pv * ta0 (7 * i + c) - en * ta0 (7 * k + c)) / by_) → (∀ j, (j < 7 * i + fr ∨ 7 * i + cols ≤ j) → ta j = ta0 j) → post (nI n, fs, fd, fb, ft, fw, nc_g w, pa, ta, ro, tp)) :
    ∀ d c ta, c + d = cols → fr ≤ c → (∀ j, fr ≤ j → j < c → ta (7 * i + j) = (pv * ta0 (7 * i + j) - en * ta0 (7 * k + j)) / by_) → (∀ j, (j < 7 * i + fr ∨ 7 * i + c ≤ j) → ta j = ta0 j) →
      wX_reduceRow_44 post (nI i) (nI k) (nI cols) pv en by_ (nI n) fs fd fb ft fw (d + 1) (nI c) (nc_g w) pa ta ro tp := by
  intro d
  induction d with
  | zero =>
    intro c ta hcd hfr h1 h2
    obtain rfl : c = cols := by omega
    exact br_t (nI_le (by omega) (by omega)) (h ta h1 h2)
  | succ d ih =>
    intro c ta hcd hfr h1 h2
    refine br_f (nI_ge (by omega) (by omega)) ⟨nc_tin hi (by omega), nc_tin hk (by omega), hby, nc_tin hi (by omega), ?_⟩
    refine nm_r (e' := vp_updL ta (7 * i + c) ((pv * ta0 (7 * i + c) - en * ta0 (7 * k + c)) / by_)) ?_ (nm_r (nI_1 c) (ih (c + 1) _ (by omega) (by omega) (fun j hj1 hj2 => ?_) (fun j hj => ?_)))
    · rw [nc_tcl hi (by omega), nc_tcl hk (by omega), h2 (7 * i + c) (by omega), h2 (7 * k + c) (by omega)]
    · by_cases e : j = c
      · rw [e]; exact pk_uLs
      · rw [pk_uLn (by omega)]; exact h1 j hj1 (by omega)
    · rw [pk_uLn (by omega)]; exact h2 j (by omega)
theorem xx_rr {post : SX → Prop} {i k fr cols : Nat} {bf : Int64} {ta0 : Nat → Int64} (hi : i < 6) (hk : k < 6) (hne : i ≠ k) (hfr : fr ≤ cols) (hc : cols ≤ 7) (hbf : ¬ bf = 0)
    (h : ∀ ta, (∀ c, fr ≤ c → c < cols → ta (7 * i + c) = (ta0 (7 * k + k) * ta0 (7 * i + c) - ta0 (7 * i + k) * ta0 (7 * k + c)) / bf) → (∀ j, (j < 7 * i + fr ∨ 7 * i + cols ≤ j) → ta j = ta0 j) → post (nI n, fs, fd, fb, ft, fw, nc_g w, pa, ta, ro, tp)) :
    wpX_reduceRow post (nI n, fs, fd, fb, ft, fw, nc_g w, pa, ta0, ro, tp) (nI i) (nI k) (nI fr) (nI cols) bf := by
  unfold wpX_reduceRow
  refine ⟨nc_tin hk (by omega), nm_r (e' := ta0 (7 * k + k)) (by rw [nc_tcl hk (by omega)]) ⟨nc_tin hi (by omega), nm_r (e' := ta0 (7 * i + k)) (by rw [nc_tcl hi (by omega)]) (br_f hbf ⟨cols - fr + 1, ?_⟩)⟩⟩
  exact xx_rr44 hi hk hne hc hbf h (cols - fr) fr ta0 (by omega) (Nat.le_refl _) (fun j h1 h2 => by omega) (fun _ _ => rfl)
/-- rows k+1 .. i-1 are one step on -/
def nc_T1 (A : Nat → Nat → Int) (m k i : Nat) (ta : Nat → Int64) : Prop :=
  ∀ r c, k ≤ r → r < m → k ≤ c → c < m → ta (7 * r + c) = nc_l (if k < r ∧ r < i then nc_mk A (k + 1) r c else nc_mk A k r c)
theorem xx_det121 {post : Int64 → SX → Prop} {J : Int64 → Int32 → Int32 → Int32 → Int32 → Int64 → Int64 → Int64 → (Nat → Int32) → (Nat → Int32) → (Nat → Int64) → (Nat → Int32) → (Nat → Int64) → Prop}
    {A : Nat → Nat → Int} {m k : Nat} {x5 : Int64} (hA : ∀ r c, (A r c).natAbs ≤ 54) (hm : m ≤ 5) (hk : k < m) (hpv : nc_pv A k ≠ 0)
    (hJ : ∀ ta, nc_T1 A m k m ta → J x5 (nI (k + 1)) (nI n) fs fd fb ft fw (nc_g w) pa ta ro tp) :
    ∀ d i ta, i + d = m → k < i → nc_T1 A m k i ta → wX_determinant_121 post J (nI m) (nc_l (nc_pv A k)) (nI k) x5 (d + 1) (nI i) (nI n) fs fd fb ft fw (nc_g w) pa ta ro tp := by
  intro d
  induction d with
  | zero =>
    intro i ta hi hki hT
    obtain rfl : i = m := by omega
    exact br_t (nI_le (by omega) (by omega)) (nm_r (nI_1 k) (hJ ta hT))
  | succ d ih =>
    intro i ta hi hki hT
    have hk3 : k ≤ 3 := by omega
    have hb := nc_pv_b4 hA (k := k) (by omega)
    refine br_f (nI_ge (by omega) (by omega)) ?_
    refine xx_rr (by omega) (by omega) (by omega) (by omega) (by omega) (fun e => hpv ((nc_l_z (by omega)).mp e)) (fun ta' h1 h2 => nm_r (nI_1 i) (ih (i + 1) ta' (by omega) (by omega) ?_))
    intro r c hr1 hr2 hc1 hc2
    by_cases e : r = i
    · subst e
      rw [h1 c hc1 hc2, hT k k (by omega) (by omega) (by omega) (by omega), hT r c (by omega) (by omega) (by omega) (by omega), hT r k (by omega) (by omega) (by omega) (by omega), hT k c (by omega) (by omega) (by omega) (by omega)]
      rw [if_neg (by omega), if_neg (by omega), if_neg (by omega), if_neg (by omega), if_pos (by omega)]
      exact nc_dv (nc_mk_b3 hA hk3 _ _) (nc_mk_b3 hA hk3 _ _) (nc_mk_b3 hA hk3 _ _) (nc_mk_b3 hA hk3 _ _) hb hpv (nc_bar A hk3 r c)
    · rw [h2 (7 * r + c) (by omega), hT r c hr1 hr2 hc1 hc2]
      by_cases e2 : k < r ∧ r < i
      · rw [if_pos e2, if_pos (by omega)]
      · rw [if_neg e2, if_neg (by omega)]
def nc_T0 (A : Nat → Nat → Int) (m k : Nat) (ta : Nat → Int64) : Prop := ∀ r c, k ≤ r → r < m → k ≤ c → c < m → ta (7 * r + c) = nc_l (nc_mk A k r c)
theorem xx_det85 {post : Int64 → SX → Prop} {A : Nat → Nat → Int} {m : Nat} (hA : ∀ r c, (A r c).natAbs ≤ 54) (hm : m ≤ 5)
    (h : ∀ ta z, nc_XD A m z → post (nc_l z) (nI n, fs, fd, fb, ft, fw, nc_g w, pa, ta, ro, tp)) :
    ∀ d k ta, k + d = m → (∀ j, j < k → nc_pv A (j + 1) ≠ 0) → nc_pv A k ≠ 0 → nc_T0 A m k ta → wX_determinant_85 post (nI m) (d + 1) (nc_l (nc_pv A k)) (nI k) (nI n) fs fd fb ft fw (nc_g w) pa ta ro tp := by
  intro d
  induction d with
  | zero =>
    intro k ta hk hj hpv hT
    obtain rfl : k = m := by omega
    exact br_t (nI_le (by omega) (by omega)) (h ta _ (Or.inr ⟨rfl, hj⟩))
  | succ d ih =>
    intro k ta hk hj hpv hT
    have hb := nc_pv_b5 hA (k := k + 1) (by omega)
    refine br_f (nI_ge (by omega) (by omega)) ⟨nc_tin (by omega) (by omega), nm_r (e' := nc_l (nc_pv A (k + 1))) ?_ ?_⟩
    · rw [nc_tcl (by omega) (by omega), hT k k (by omega) (by omega) (by omega) (by omega)]; rfl
    by_cases c : nc_pv A (k + 1) = 0
    · refine br_t ((nc_l_z (by omega)).mpr c) ?_
      have h1 := h ta 0 (Or.inl ⟨rfl, k, by omega, c⟩)
      rw [nc_l_0] at h1
      exact h1
    · refine br_f (fun e => c ((nc_l_z (by omega)).mp e)) (nm_r (nI_1 k) ⟨m - (k + 1) + 1, ?_⟩)
      refine xx_det121 hA hm (by omega) hpv (fun ta' hT' => ih (k + 1) ta' (by omega) (fun j hj' => ?_) c ?_) (m - (k + 1)) (k + 1) ta (by omega) (by omega) ?_
      · by_cases e : j = k
        · rw [e]; exact c
        · exact hj j (by omega)
      · intro r c hr1 hr2 hc1 hc2
        rw [hT' r c (by omega) hr2 (by omega) hc2, if_pos (by omega)]
      · intro r c hr1 hr2 hc1 hc2
        rw [hT r c hr1 hr2 hc1 hc2, if_neg (by omega)]
end
end
section
/-! X's determinant: the table filled, then reduced -/
theorem nc_lpd {n p : Nat} {w : Nat → Nat} (hok : nc_ok n w) (hp : p < 6) : nc_lp n (nc_w w) p p = nc_sg n (nc_w w p) := by
  unfold nc_lp
  rw [if_pos rfl]
  have h : nc_w w p p = 0 := by
    show ((w (6 * p + p) : Int)) = 0
    rw [hok.2.2.2.1 p hp]; rfl
  rw [h]; omega
theorem nc_lpo {n p q : Nat} {w : Nat → Nat} (h : p ≠ q) : nc_lp n (nc_w w) p q = -(w (6 * p + q) : Int) := by
  unfold nc_lp
  rw [if_neg h]
  show 0 - (w (6 * p + q) : Int) = _
  omega
theorem nc_ti (i c : Nat) : ((7 * (nI (i + 1) - 1)) + nI (c + 1)) - 1 = nI (7 * i + c) := by
  rw [nI_pred, nc_7, pk_mul, nI_add, show 7 * i + (c + 1) = 7 * i + c + 1 from by omega, nI_pred]
def nc_F (n : Nat) (w : Nat → Nat) (i c : Nat) (ta : Nat → Int64) : Prop :=
  ∀ r s, r < n - 1 → s < n - 1 → (r < i ∨ (r = i ∧ s < c)) → ta (7 * r + s) = nc_l (nc_tA n w r s)
theorem nc_Fs {n i c : Nat} {w : Nat → Nat} {ta : Nat → Int64} (h : nc_F n w i c ta) (hn : n ≤ 6) (hc : c < n - 1) (hi : i < n - 1) : nc_F n w i (c + 1) (vp_updL ta (7 * i + c) (nc_l (nc_tA n w i c))) := by
  intro r s hr hs hrs
  by_cases e : r = i ∧ s = c
  · rw [e.1, e.2]; exact pk_uLs
  · rw [pk_uLn (by omega)]; exact h r s hr hs (by omega)
section
variable {n : Nat} {fs fd : Int32} {fb ft fw : Int64} {w : Nat → Nat} {pa ro : Nat → Int32} {tp : Nat → Int64}
theorem xx_det19 {post : Int64 → SX → Prop} {J : Int32 → (Nat → Int32) → (Nat → Int32) → (Nat → Int64) → (Nat → Int32) → (Nat → Int64) → Prop} {x1 : Int32} {i : Nat} (hok : nc_ok n w) (hi : i < n - 1)
    (hJ : ∀ ta, nc_F n w (i + 1) 0 ta → J (nI (i + 1 + 1)) (nc_g w) pa ta ro tp) :
    ∀ d c ta, c + 1 + d = n → nc_F n w i c ta → wX_determinant_19 post J x1 (nI (i + 1)) (nI n) fs fd fb ft fw (d + 1) (nI (c + 1)) (nc_g w) pa ta ro tp := by
  have hn := hok.1.2
  intro d
  induction d with
  | zero =>
    intro c ta hc hF
    refine br_t (nI_le (by omega) (by omega)) (nm_r (nI_1 (i + 1)) (hJ ta (fun r s hr hs hrs => hF r s hr hs (by omega))))
  | succ d ih =>
    intro c ta hc hF
    refine br_f (nI_ge (by omega) (by omega)) (pk_eq (i + 1) (c + 1) (fun e => ?_) (fun e => ?_) rfl rfl (by omega) (by omega))
    · refine xx_dg hok (by omega) ⟨by rw [nc_ti]; exact vp_in_nI (by omega) (by omega), nm_r (e' := vp_updL ta (7 * i + c) (nc_l (nc_tA n w i c))) ?_ (nm_r (nI_1 (c + 1)) (ih (c + 1) _ (by omega) (nc_Fs hF hn (by omega) hi)))⟩
      rw [nc_ti, nI_clamp (by omega)]
      have e2 : nc_tA n w i c = nc_sg n (nc_w w (i + 1)) := by
        show nc_lp n (nc_w w) (i + 1) (c + 1) = _
        rw [← e]; exact nc_lpd hok (by omega)
      rw [e2]
    · refine ⟨nc_inI (by omega) (by omega), by rw [nc_ti]; exact vp_in_nI (by omega) (by omega), nm_r (e' := vp_updL ta (7 * i + c) (nc_l (nc_tA n w i c))) ?_ (nm_r (nI_1 (c + 1)) (ih (c + 1) _ (by omega) (nc_Fs hF hn (by omega) hi)))⟩
      rw [nc_ti, nI_clamp (by omega), nc_cl (by omega) (by omega)]
      rw [show nc_g w (6 * (i + 1) + (c + 1)) = nI (w (6 * (i + 1) + (c + 1))) from rfl, nc_l_g (hok.2.1 _)]
      rw [show nc_tA n w i c = nc_lp n (nc_w w) (i + 1) (c + 1) from rfl, nc_lpo e]
theorem xx_det9 {post : Int64 → SX → Prop} (hok : nc_ok n w) (h : ∀ ta, post (nc_l (nc_tv n w)) (nI n, fs, fd, fb, ft, fw, nc_g w, pa, ta, ro, tp)) :
    ∀ d i ta, i + 1 + d = n → nc_F n w i 0 ta → wX_determinant_9 post (nI (n - 1)) (nI n) fs fd fb ft fw (d + 1) (nI (i + 1)) (nc_g w) pa ta ro tp := by
  have hn := hok.1.2
  have hn1 := hok.1.1
  intro d
  induction d with
  | zero =>
    intro i ta hi hF
    refine br_t (nI_le (by omega) (by omega)) ⟨n - 1 + 1, ?_⟩
    have h1 := xx_det85 (fs := fs) (fd := fd) (fb := fb) (ft := ft) (fw := fw) (pa := pa) (ro := ro) (tp := tp) (n := n) (w := w) (post := post) (A := nc_tA n w) (m := n - 1) (fun r c => nc_lp_b hok _ _) (by omega)
      (fun ta z hz => by rw [nc_tvx hok hz]; exact h ta) (n - 1) 0 ta (by omega) (fun j hj => by omega) (by show (1 : Int) ≠ 0; decide) (fun r c _ hr _ hc => hF r c hr hc (by omega))
    rw [show nc_l (nc_pv (nc_tA n w) 0) = 1 from nc_l_1] at h1
    exact h1
  | succ d ih =>
    intro i ta hi hF
    refine br_f (nI_ge (by omega) (by omega)) ⟨n - 1 + 1, ?_⟩
    exact xx_det19 hok (by omega) (fun ta' hF' => ih (i + 1) ta' (by omega) hF') (n - 1) 0 ta (by omega) hF
theorem xx_det {post : Int64 → SX → Prop} {ta : Nat → Int64} (hok : nc_ok n w) (h : ∀ ta, post (nc_l (nc_tv n w)) (nI n, fs, fd, fb, ft, fw, nc_g w, pa, ta, ro, tp)) : wpX_determinant post (nI n, fs, fd, fb, ft, fw, nc_g w, pa, ta, ro, tp) := by
  have hn1 := hok.1.1
  unfold wpX_determinant
  refine nm_r (e' := nI (n - 1)) ?_ ⟨n - 1 + 1, xx_det9 hok h (n - 1) 0 ta (by omega) (fun r s _ _ hrs => by omega)⟩
  obtain ⟨k, rfl⟩ : ∃ k, n = k + 1 := ⟨n - 1, by omega⟩
  rw [nI_pred]; rfl
end
end
section
/-! X's solve -/
noncomputable def nc_P (n : Nat) (w : Nat → Nat) (s d : Nat) : Nat → Bool := fun p => decide (nc_lab n w p = nc_lab n w s ∧ p ≠ s ∧ p ≠ d)
noncomputable def nc_M (n : Nat) (w : Nat → Nat) (s d : Nat) : Nat := nc_cn (nc_P n w s d) n
noncomputable def nc_sA (n : Nat) (w : Nat → Nat) (s d : Nat) : Nat → Nat → Int := fun i c =>
  if c < nc_M n w s d then nc_lp n (nc_w w) (nc_pt (nc_P n w s d) n i) (nc_pt (nc_P n w s d) n c) else nc_w w (nc_pt (nc_P n w s d) n i) s
noncomputable def nc_wh (n : Nat) (w : Nat → Nat) (s d : Nat) : Int := nc_pv (nc_sA n w s d) (nc_M n w s d)
noncomputable def nc_vo (n : Nat) (w : Nat → Nat) (s d q : Nat) : Int :=
  if q = s then nc_wh n w s d else if nc_P n w s d q = true then nc_rk (nc_sA n w s d) (nc_M n w s d) (nc_cn (nc_P n w s d) q) (nc_M n w s d) else 0
theorem nc_Ps (n : Nat) (w : Nat → Nat) (s d : Nat) : ¬ nc_P n w s d s = true := fun h => (of_decide_eq_true h).2.1 rfl
theorem nc_Pd (n : Nat) (w : Nat → Nat) (s d : Nat) : ¬ nc_P n w s d d = true := fun h => (of_decide_eq_true h).2.2 rfl
theorem nc_M2 {n : Nat} {w : Nat → Nat} {s d : Nat} (hs : s < n) (hd : d < n) (hsd : s ≠ d) : nc_M n w s d + 2 ≤ n := nc_cn_w2 hs hd hsd (nc_Ps n w s d) (nc_Pd n w s d)
theorem nc_sA_b {n : Nat} {w : Nat → Nat} {s d : Nat} (hok : nc_ok n w) (r c : Nat) : (nc_sA n w s d r c).natAbs ≤ 54 := by
  unfold nc_sA
  by_cases e : c < nc_M n w s d
  · rw [if_pos e]; exact nc_lp_b hok _ _
  · rw [if_neg e]
    have := hok.2.1 (6 * nc_pt (nc_P n w s d) n r + s)
    show ((w (6 * nc_pt (nc_P n w s d) n r + s) : Int)).natAbs ≤ 54
    omega
/-- the minors of the table of solve are greater than 0 -/
theorem nc_sA_p {n : Nat} {w : Nat → Nat} {s d : Nat} (hok : nc_ok n w) (hs : s < n) (hd : d < n) (hsd : s ≠ d) (hj : nc_lab n w s = nc_lab n w d) : ∀ k, k ≤ nc_M n w s d → 0 < nc_pv (nc_sA n w s d) k := by
  have hn := hok.1.2
  have hL := nc_lab_ok n w
  have hM := nc_M2 (w := w) hs hd hsd
  have hpt : ∀ i, i < nc_M n w s d → nc_P n w s d (nc_pt (nc_P n w s d) n i) = true ∧ nc_pt (nc_P n w s d) n i < n ∧ nc_cn (nc_P n w s d) (nc_pt (nc_P n w s d) n i) = i := fun i hi => nc_pt_ok hi
  have hpos := nc_pos (n := n) (m := nc_M n w s d) (d := d) (g := nc_w w) (ap := nc_pt (nc_P n w s d) n) (nc_ws hok) (fun p q _ _ => nc_wp w p q) (by omega) (fun i hi => (hpt i hi).2.1)
    (fun i j hi hj e => nc_pt_inj hi hj e) (fun i hi e => by
      have h1 := (hpt i hi).1
      rw [e] at h1
      exact nc_Pd n w s d h1) (fun f hf i hi => by
      have h1 := (of_decide_eq_true (hpt i hi).1).1
      have h2 := hL.2.2 f (nc_inv hf) _ (hpt i hi).2.1
      have h3 := hL.2.2 f (nc_inv hf) d hd
      rw [h1, hj] at h2
      rw [← h2, h3])
  intro k hk
  have h1 := hpos k hk
  rw [nc_pv_c (A := nc_sA n w s d) (B := fun i j => nc_lp n (nc_w w) (nc_pt (nc_P n w s d) n i) (nc_pt (nc_P n w s d) n j)) (by omega) (fun r c hr hc => if_pos (by omega))]
  exact h1
section
variable {n s d : Nat} {fs fd : Int32} {fb ft fw : Int64} {w : Nat → Nat} {pa : Nat → Int32}
theorem xx_fr18 {post : SX → Prop} {p i : Nat} {ro : Nat → Int32} {tp ta0 : Nat → Int64} (hok : nc_ok n w) (hs : s < n) (hp : p < n) (hP : nc_P n w s d p = true) (hi : nc_cn (nc_P n w s d) p = i)
    (hro : ∀ q, q < n → ro q = if nc_P n w s d q = true then nI (nc_cn (nc_P n w s d) q) else -1)
    (h : ∀ ta, (∀ c, c ≤ nc_M n w s d → ta (7 * i + c) = nc_l (nc_sA n w s d i c)) → (∀ j, (j < 7 * i ∨ 7 * i + 7 ≤ j) → ta j = ta0 j) → post (nI n, fs, fd, fb, ft, fw, nc_g w, pa, ta, ro, tp)) :
    ∀ e q ta, q + e = n → (∀ r, r < q → nc_P n w s d r = true → ta (7 * i + nc_cn (nc_P n w s d) r) = nc_l (nc_lp n (nc_w w) p r)) → (∀ j, (j < 7 * i ∨ 7 * i + 7 ≤ j) → ta j = ta0 j) →
      wX_fillRow_18 post (nI p) (nI s) (nI (nc_M n w s d)) (nI i) (nI n) fs fd fb ft fw (e + 1) (nI q) (nc_g w) pa ta ro tp := by
  have hn := hok.1.2
  have hi6 : i < 6 := by have := nc_cn_le (nc_P n w s d) p; omega
  have hM6 : nc_M n w s d ≤ 6 := by have := nc_cn_le (nc_P n w s d) n; unfold nc_M; omega
  have hpti : nc_pt (nc_P n w s d) n i = p := by rw [← hi]; exact nc_pt_of hP hp
  intro e
  induction e with
  | zero =>
    intro q ta hq h1 h2
    refine br_t (nI_le (by omega) (by omega)) ⟨nc_inI (by omega) (by omega), nc_tin hi6 (by omega), nm_r (e' := vp_updL ta (7 * i + nc_M n w s d) (nc_l (nc_w w p s))) ?_ (h _ (fun c hc => ?_) (fun j hj => ?_))⟩
    · rw [nc_tcl hi6 (by omega), nc_cl (by omega) (by omega), show nc_g w (6 * p + s) = nI (w (6 * p + s)) from rfl, nc_l_i (by have := hok.2.1 (6 * p + s); omega)]; rfl
    · unfold nc_sA
      by_cases e : c < nc_M n w s d
      · rw [if_pos e, pk_uLn (by omega), hpti]
        obtain ⟨a1, a2, a3⟩ := nc_pt_ok (P := nc_P n w s d) (n := n) (i := c) e
        have h3 := h1 _ (by omega) a1
        rw [a3] at h3
        exact h3
      · have ec : c = nc_M n w s d := by omega
        rw [if_neg e, ec, hpti]; exact pk_uLs
    · rw [pk_uLn (by omega)]; exact h2 j hj
  | succ e ih =>
    intro q ta hq h1 h2
    have hr := hro q (by omega)
    refine br_f (nI_ge (by omega) (by omega)) ⟨vp_in_nI (by omega) (by omega), ?_⟩
    rw [nI_clamp (by omega), hr]
    by_cases hPq : nc_P n w s d q = true
    · rw [if_pos hPq]
      have hc6 := nc_cn_le (nc_P n w s d) q
      have hst : ∀ r, r < q + 1 → nc_P n w s d r = true → vp_updL ta (7 * i + nc_cn (nc_P n w s d) q) (nc_l (nc_lp n (nc_w w) p q)) (7 * i + nc_cn (nc_P n w s d) r) = nc_l (nc_lp n (nc_w w) p r) := by
        intro r hr1 hr2
        by_cases er : r = q
        · rw [er]; exact pk_uLs
        · rw [pk_uLn (fun ec => er (nc_cn_inj hr2 hPq (by omega)))]
          exact h1 r (by omega) hr2
      have hst2 : ∀ j, (j < 7 * i ∨ 7 * i + 7 ≤ j) → vp_updL ta (7 * i + nc_cn (nc_P n w s d) q) (nc_l (nc_lp n (nc_w w) p q)) j = ta0 j := fun j hj => by
        rw [pk_uLn (by omega)]; exact h2 j hj
      have hne : ¬ nI (nc_cn (nc_P n w s d) q) = -1 := fun e => by
        have := congrArg Int32.toInt e
        rw [nI_toInt (by omega)] at this
        have h3 : ((-1 : Int32)).toInt = -1 := by decide
        rw [h3] at this
        omega
      refine br_f hne ⟨vp_in_nI (by omega) (by omega), pk_eq p q (fun epq => ?_) (fun epq => ?_) rfl rfl (by omega) (by omega)⟩
      · refine xx_dg hok (by omega) ⟨nc_tin hi6 (by omega), nm_r (e' := vp_updL ta (7 * i + nc_cn (nc_P n w s d) q) (nc_l (nc_lp n (nc_w w) p q))) ?_ (nm_r (nI_1 q) (ih (q + 1) _ (by omega) hst hst2))⟩
        rw [nc_tcl hi6 (by omega), ← epq, nc_lpd hok (by omega)]
      · refine ⟨nc_inI (by omega) (by omega), nc_tin hi6 (by omega), nm_r (e' := vp_updL ta (7 * i + nc_cn (nc_P n w s d) q) (nc_l (nc_lp n (nc_w w) p q))) ?_ (nm_r (nI_1 q) (ih (q + 1) _ (by omega) hst hst2))⟩
        rw [nc_tcl hi6 (by omega), nc_cl (by omega) (by omega), show nc_g w (6 * p + q) = nI (w (6 * p + q)) from rfl, nc_l_g (hok.2.1 _), nc_lpo epq]
    · rw [if_neg hPq]
      refine br_t rfl (nm_r (nI_1 q) (ih (q + 1) ta (by omega) (fun r hr1 hr2 => ?_) h2))
      have : r ≠ q := fun er => hPq (er ▸ hr2)
      exact h1 r (by omega) hr2
theorem xx_fr {post : SX → Prop} {p : Nat} {ro : Nat → Int32} {tp ta0 : Nat → Int64} (hok : nc_ok n w) (hs : s < n) (hp : p < n)
    (hro : ∀ q, q < n → ro q = if nc_P n w s d q = true then nI (nc_cn (nc_P n w s d) q) else -1)
    (hf : ¬ nc_P n w s d p = true → post (nI n, fs, fd, fb, ft, fw, nc_g w, pa, ta0, ro, tp))
    (h : nc_P n w s d p = true → ∀ ta, (∀ c, c ≤ nc_M n w s d → ta (7 * nc_cn (nc_P n w s d) p + c) = nc_l (nc_sA n w s d (nc_cn (nc_P n w s d) p) c)) → (∀ j, (j < 7 * nc_cn (nc_P n w s d) p ∨ 7 * nc_cn (nc_P n w s d) p + 7 ≤ j) → ta j = ta0 j) → post (nI n, fs, fd, fb, ft, fw, nc_g w, pa, ta, ro, tp)) :
    wpX_fillRow post (nI n, fs, fd, fb, ft, fw, nc_g w, pa, ta0, ro, tp) (nI p) (nI s) (nI (nc_M n w s d)) := by
  have hn := hok.1.2
  unfold wpX_fillRow
  refine ⟨vp_in_nI (by omega) (by omega), ?_⟩
  by_cases hP : nc_P n w s d p = true
  · have hc6 := nc_cn_le (nc_P n w s d) p
    refine nm_r (e' := nI (nc_cn (nc_P n w s d) p)) (by rw [nI_clamp (by omega), hro p hp, if_pos hP]) (br_f (fun e => ?_) ⟨n + 1, xx_fr18 hok hs hp hP rfl hro (h hP) n 0 ta0 (by omega) (fun r hr => by omega) (fun _ _ => rfl)⟩)
    have := congrArg Int32.toInt e
    rw [nI_toInt (by omega)] at this
    have h3 : ((-1 : Int32)).toInt = -1 := by decide
    rw [h3] at this
    omega
  · exact nm_r (e' := -1) (by rw [nI_clamp (by omega), hro p hp, if_neg hP]) (br_t rfl (hf hP))
end
end
section
/-! X's solve: elimination, voltages -/
/-- rows below i are one step on -/
def nc_T2 (A : Nat → Nat → Int) (m k i : Nat) (ta : Nat → Int64) : Prop :=
  ∀ r c, r < m → c ≤ m → ta (7 * r + c) = nc_l (if r < i then nc_gt A (k + 1) r c else nc_gt A k r c)
theorem nc_gtk (A : Nat → Nat → Int) {k : Nat} (hk : k ≤ 4) (i c : Nat) : (if k < i then nc_gt A (k + 1) k c else nc_gt A k k c) = nc_mk A k k c := by
  by_cases e : k < i
  · rw [if_pos e]; exact nc_gtd A hk c
  · rw [if_neg e]; exact nc_gt0 A k c
section
variable {n s d : Nat} {fs fd : Int32} {ft fw : Int64} {w : Nat → Nat} {pa : Nat → Int32}
theorem xx_so144 {fb : Int64} {ro : Nat → Int32} {tp : Nat → Int64} {post : Int32 → SX → Prop} {J : Int64 → Int32 → Int32 → Int32 → Int32 → Int64 → Int64 → Int64 → (Nat → Int32) → (Nat → Int32) → (Nat → Int64) → (Nat → Int32) → (Nat → Int64) → Prop}
    {A : Nat → Nat → Int} {m k : Nat} {x1 : Int32} {x7 : Int64} (hA : ∀ r c, (A r c).natAbs ≤ 54) (hm : m ≤ 4) (hk : k < m) (hpv : 0 < nc_pv A k)
    (hJ : ∀ ta, nc_T2 A m k m ta → J x7 (nI (k + 1)) (nI n) fs fd fb ft fw (nc_g w) pa ta ro tp) :
    ∀ e i ta, i + e = m → nc_T2 A m k i ta → wX_solve_144 post J x1 (nI m) (nc_l (nc_pv A k)) (nI k) x7 (e + 1) (nI i) (nI n) fs fd fb ft fw (nc_g w) pa ta ro tp := by
  intro e
  induction e with
  | zero =>
    intro i ta hi hT
    obtain rfl : i = m := by omega
    exact br_t (nI_le (by omega) (by omega)) (nm_r (nI_1 k) (hJ ta hT))
  | succ e ih =>
    intro i ta hi hT
    have hk3 : k ≤ 3 := by omega
    have hb := nc_pv_b4 hA (k := k) (by omega)
    refine br_f (nI_ge (by omega) (by omega)) (pk_eq i k (fun eik => ?_) (fun eik => ?_) rfl rfl (by omega) (by omega))
    · refine nm_r (nI_1 i) (ih (i + 1) ta (by omega) (fun r c hr hc => ?_))
      rw [hT r c hr hc]
      by_cases e1 : r < i
      · rw [if_pos e1, if_pos (by omega)]
      · by_cases e2 : r = i
        · rw [if_neg e1, if_pos (by omega), e2, eik, nc_gt0, nc_gtd A (by omega)]
        · rw [if_neg e1, if_neg (by omega)]
    · rw [nI_1 m]
      refine xx_rr (fr := 0) (by omega) (by omega) eik (by omega) (by omega) (fun e => by have := (nc_l_z (by omega)).mp e; omega) (fun ta' h1 h2 => nm_r (nI_1 i) (ih (i + 1) ta' (by omega) ?_))
      intro r c hr hc
      by_cases er : r = i
      · subst er
        rw [h1 c (by omega) (by omega), hT k k (by omega) (by omega), hT r c (by omega) (by omega), hT r k (by omega) (by omega), hT k c (by omega) (by omega)]
        rw [nc_gtk A (by omega), nc_gtk A (by omega), if_neg (by omega), if_neg (by omega), if_pos (by omega)]
        exact nc_dv (nc_mk_b3 hA hk3 _ _) (nc_gt_b hA hk3 _ _) (nc_gt_b hA hk3 _ _) (nc_mk_b3 hA hk3 _ _) hb (by omega) (nc_gjs A hk3 eik c)
      · rw [h2 (7 * r + c) (by omega), hT r c hr hc]
        by_cases e1 : r < i
        · rw [if_pos e1, if_pos (by omega)]
        · rw [if_neg e1, if_neg (by omega)]
theorem xx_so196 {ro : Nat → Int32} {ta : Nat → Int64} {post : Int32 → SX → Prop} (hok : nc_ok n w) (hs : s < n) (hd : d < n) (hsd : s ≠ d)
    (hro : ∀ q, q < n → ro q = if nc_P n w s d q = true then nI (nc_cn (nc_P n w s d) q) else -1)
    (hta : ∀ i, i < nc_M n w s d → ta (7 * i + nc_M n w s d) = nc_l (nc_rk (nc_sA n w s d) (nc_M n w s d) i (nc_M n w s d)))
    (h : ∀ tp, (∀ q, q < n → tp q = nc_l (nc_vo n w s d q)) → post 1 (nI n, fs, fd, nc_l (nc_wh n w s d), ft, fw, nc_g w, pa, ta, ro, tp)) :
    ∀ e q tp, q + e = n → (∀ r, r < q → r ≠ s → tp r = nc_l (nc_vo n w s d r)) → wX_solve_196 post (nI s) (nI (nc_M n w s d)) (nI n) fs fd (nc_l (nc_wh n w s d)) ft fw (e + 1) (nI q) (nc_g w) pa ta ro tp := by
  have hn := hok.1.2
  have hM := nc_M2 (w := w) hs hd hsd
  intro e
  induction e with
  | zero =>
    intro q tp hq htp
    refine br_t (nI_le (by omega) (by omega)) ⟨vp_in_nI (by omega) (by omega), nm_r (e' := vp_updL tp s (nc_l (nc_wh n w s d))) (by rw [nI_clamp (by omega)]) (h _ (fun r hr => ?_))⟩
    by_cases e : r = s
    · rw [e, pk_uLs]
      unfold nc_vo
      rw [if_pos rfl]
    · rw [pk_uLn e]; exact htp r (by omega) e
  | succ e ih =>
    intro q tp hq htp
    have hr := hro q (by omega)
    refine br_f (nI_ge (by omega) (by omega)) ⟨vp_in_nI (by omega) (by omega), ?_⟩
    rw [nI_clamp (by omega), hr]
    have hst : ∀ z, (q ≠ s → z = nc_l (nc_vo n w s d q)) → ∀ r, r < q + 1 → r ≠ s → vp_updL tp q z r = nc_l (nc_vo n w s d r) := by
      intro z hz r hr1 hr2
      by_cases e : r = q
      · rw [e, pk_uLs]; exact hz (fun c => hr2 (e.trans c))
      · rw [pk_uLn e]; exact htp r (by omega) hr2
    by_cases hP : nc_P n w s d q = true
    · rw [if_pos hP]
      have hc6 := nc_cn_le (nc_P n w s d) q
      have hcM : nc_cn (nc_P n w s d) q < nc_M n w s d := nc_cn_lt hP (by omega)
      have hne : ¬ nI (nc_cn (nc_P n w s d) q) = -1 := fun e => by
        have := congrArg Int32.toInt e
        rw [nI_toInt (by omega)] at this
        have h3 : ((-1 : Int32)).toInt = -1 := by decide
        rw [h3] at this
        omega
      refine br_f hne ⟨vp_in_nI (by omega) (by omega), nc_tin (by omega) (by omega), vp_in_nI (by omega) (by omega), nm_r (e' := vp_updL tp q (nc_l (nc_rk (nc_sA n w s d) (nc_M n w s d) (nc_cn (nc_P n w s d) q) (nc_M n w s d)))) ?_ (nm_r (nI_1 q) (ih (q + 1) _ (by omega) (hst _ (fun hqs => ?_))))⟩
      · rw [nc_tcl (by omega) (by omega), hta _ hcM]
      · unfold nc_vo
        rw [if_neg hqs, if_pos hP]
    · rw [if_neg hP]
      refine br_t rfl ⟨vp_in_nI (by omega) (by omega), nm_r (e' := vp_updL tp q (nc_l 0)) (by rw [nc_l_0]) (nm_r (nI_1 q) (ih (q + 1) _ (by omega) (hst _ (fun hqs => ?_))))⟩
      unfold nc_vo
      rw [if_neg hqs, if_neg hP]
theorem xx_so120 {fb : Int64} {ro : Nat → Int32} {tp : Nat → Int64} {post : Int32 → SX → Prop} (hok : nc_ok n w) (hs : s < n) (hd : d < n) (hsd : s ≠ d) (hj : nc_lab n w s = nc_lab n w d)
    (hro : ∀ q, q < n → ro q = if nc_P n w s d q = true then nI (nc_cn (nc_P n w s d) q) else -1)
    (h : ∀ ta tp, (∀ q, q < n → tp q = nc_l (nc_vo n w s d q)) → post 1 (nI n, fs, fd, nc_l (nc_wh n w s d), ft, fw, nc_g w, pa, ta, ro, tp)) :
    ∀ e k ta, k + e = nc_M n w s d → (∀ r c, r < nc_M n w s d → c ≤ nc_M n w s d → ta (7 * r + c) = nc_l (nc_gt (nc_sA n w s d) k r c)) →
      wX_solve_120 post (nI s) (nI (nc_M n w s d)) (e + 1) (nc_l (nc_pv (nc_sA n w s d) k)) (nI k) (nI n) fs fd fb ft fw (nc_g w) pa ta ro tp := by
  have hn := hok.1.2
  have hM := nc_M2 (w := w) hs hd hsd
  intro e
  induction e with
  | zero =>
    intro k ta hk hT
    have ek : k = nc_M n w s d := by omega
    refine br_t (nI_le (by omega) (by omega)) ⟨n + 1, ?_⟩
    rw [ek]
    refine xx_so196 hok hs hd hsd hro (fun i hi => ?_) (h ta) n 0 tp (by omega) (fun r hr => by omega)
    rw [hT i (nc_M n w s d) hi (Nat.le_refl _), ek]
    exact congrArg nc_l (if_pos hi)
  | succ e ih =>
    intro k ta hk hT
    refine br_f (nI_ge (by omega) (by omega)) ⟨nc_tin (by omega) (by omega), nm_r (e' := nc_l (nc_pv (nc_sA n w s d) (k + 1))) ?_ ⟨nc_M n w s d + 1, ?_⟩⟩
    · rw [nc_tcl (by omega) (by omega), hT k k (by omega) (by omega), nc_gt0]; rfl
    · refine xx_so144 (fun r c => nc_sA_b hok r c) (by omega) (by omega) (nc_sA_p hok hs hd hsd hj k (by omega)) (fun ta' hT' => ih (k + 1) ta' (by omega) (fun r c hr hc => ?_)) (nc_M n w s d) 0 ta (by omega) (fun r c hr hc => ?_)
      · rw [hT' r c hr hc, if_pos hr]
      · rw [hT r c hr hc, if_neg (by omega)]
theorem xx_so91 {fb : Int64} {ro : Nat → Int32} {tp : Nat → Int64} {post : Int32 → SX → Prop} (hok : nc_ok n w) (hs : s < n) (hd : d < n) (hsd : s ≠ d) (hj : nc_lab n w s = nc_lab n w d)
    (hro : ∀ q, q < n → ro q = if nc_P n w s d q = true then nI (nc_cn (nc_P n w s d) q) else -1)
    (h : ∀ ta tp, (∀ q, q < n → tp q = nc_l (nc_vo n w s d q)) → post 1 (nI n, fs, fd, nc_l (nc_wh n w s d), ft, fw, nc_g w, pa, ta, ro, tp)) :
    ∀ e p ta, p + e = n → (∀ r c, r < p → nc_P n w s d r = true → c ≤ nc_M n w s d → ta (7 * nc_cn (nc_P n w s d) r + c) = nc_l (nc_sA n w s d (nc_cn (nc_P n w s d) r) c)) →
      wX_solve_91 post (nI s) (nI (nc_M n w s d)) (e + 1) (nI p) (nI n) fs fd fb ft fw (nc_g w) pa ta ro tp := by
  have hn := hok.1.2
  have hM := nc_M2 (w := w) hs hd hsd
  intro e
  induction e with
  | zero =>
    intro p ta hp hT
    refine br_t (nI_le (by omega) (by omega)) ⟨nc_M n w s d + 1, ?_⟩
    have h1 := xx_so120 (fs := fs) (fd := fd) (fb := fb) (ft := ft) (fw := fw) (pa := pa) (ro := ro) (tp := tp) hok hs hd hsd hj hro h (nc_M n w s d) 0 ta (by omega) (fun r c hr hc => by
      obtain ⟨a1, a2, a3⟩ := nc_pt_ok (P := nc_P n w s d) (n := n) (i := r) hr
      have h2 := hT _ c (by omega) a1 hc
      rw [a3] at h2
      exact h2)
    rw [show nc_l (nc_pv (nc_sA n w s d) 0) = 1 from nc_l_1] at h1
    exact h1
  | succ e ih =>
    intro p ta hp hT
    refine br_f (nI_ge (by omega) (by omega)) ?_
    refine xx_fr hok hs (by omega) hro (fun hP => nm_r (nI_1 p) (ih (p + 1) ta (by omega) (fun r c hr hPr hc => ?_))) (fun hP ta' h1 h2 => nm_r (nI_1 p) (ih (p + 1) ta' (by omega) (fun r c hr hPr hc => ?_)))
    · have : r ≠ p := fun er => hP (er ▸ hPr)
      exact hT r c (by omega) hPr hc
    · by_cases er : r = p
      · rw [er]; exact h1 c hc
      · have hcn : nc_cn (nc_P n w s d) r ≠ nc_cn (nc_P n w s d) p := fun ec => er (nc_cn_inj hPr hP ec)
        rw [h2 _ (by omega)]
        exact hT r c (by omega) hPr hc
theorem xx_so26 {fb : Int64} {ta tp : Nat → Int64} {post : Int32 → SX → Prop} (hok : nc_ok n w) (hs : s < n) (hd : d < n) (hsd : s ≠ d) (hj : nc_lab n w s = nc_lab n w d)
    (hpa : ∀ p, p < n → pa p = nI (nc_lab n w p))
    (h : ∀ ta ro tp, (∀ q, q < n → tp q = nc_l (nc_vo n w s d q)) → post 1 (nI n, fs, fd, nc_l (nc_wh n w s d), ft, fw, nc_g w, pa, ta, ro, tp)) :
    ∀ e p ro, p + e = n → (∀ q, q < p → ro q = if nc_P n w s d q = true then nI (nc_cn (nc_P n w s d) q) else -1) →
      wX_solve_26 post (nI s) (nI d) (nI n) fs fd fb ft fw (e + 1) (nI (nc_cn (nc_P n w s d) p)) (nI p) (nc_g w) pa ta ro tp := by
  have hn := hok.1.2
  have hL := nc_lab_ok n w
  intro e
  induction e with
  | zero =>
    intro p ro hp hro
    obtain rfl : p = n := by omega
    refine br_t (nI_le (by omega) (by omega)) ⟨p + 1, ?_⟩
    exact xx_so91 hok hs hd hsd hj hro (fun ta tp htp => h ta ro tp htp) p 0 ta (by omega) (fun r c hr => by omega)
  | succ e ih =>
    intro p ro hp hro
    have hlp := hL.1 p (by omega)
    have hls := hL.1 s hs
    have hst : ∀ z, z = (if nc_P n w s d p = true then nI (nc_cn (nc_P n w s d) p) else -1) → ∀ q, q < p + 1 → upd ro p z q = if nc_P n w s d q = true then nI (nc_cn (nc_P n w s d) q) else -1 := by
      intro z hz q hq
      by_cases e : q = p
      · rw [e, pk_us]; exact hz
      · rw [pk_un e]; exact hro q (by omega)
    have hno : ¬ nc_P n w s d p = true → wX_solve_26 post (nI s) (nI d) (nI n) fs fd fb ft fw (e + 1) (nI (nc_cn (nc_P n w s d) p)) (nI (p + 1)) (nc_g w) pa ta (upd ro p (-1)) tp := by
      intro hP
      have h1 := ih (p + 1) (upd ro p (-1)) (by omega) (hst _ (by rw [if_neg hP]))
      rw [nc_cn_f hP] at h1
      exact h1
    refine br_f (nI_ge (by omega) (by omega)) ⟨vp_in_nI (by omega) (by omega), nm_r (e' := upd ro p (-1)) (by rw [nI_clamp (by omega)]) ⟨vp_in_nI (by omega) (by omega), vp_in_nI (by omega) (by omega), ?_⟩⟩
    refine pk_eq (nc_lab n w p) (nc_lab n w s) (fun e1 => ?_) (fun e1 => ?_) (by rw [nI_clamp (by omega)]; exact hpa p (by omega)) (by rw [nI_clamp (by omega)]; exact hpa s hs) (by omega) (by omega)
    · refine pk_eq p s (fun e2 => nm_r (nI_1 p) (hno (fun c => (of_decide_eq_true c).2.1 e2))) (fun e2 => ?_) rfl rfl (by omega) (by omega)
      refine pk_eq p d (fun e3 => nm_r (nI_1 p) (hno (fun c => (of_decide_eq_true c).2.2 e3))) (fun e3 => ?_) rfl rfl (by omega) (by omega)
      have hP : nc_P n w s d p = true := decide_eq_true ⟨e1, e2, e3⟩
      refine ⟨vp_in_nI (by omega) (by omega), nm_r (e' := upd ro p (nI (nc_cn (nc_P n w s d) p))) ?_ (nm_r (nI_1 _) (nm_r (nI_1 p) ?_))⟩
      · rw [nI_clamp (by omega)]
        funext j
        unfold upd
        by_cases e : j = p
        · rw [if_pos e, if_pos e]
        · rw [if_neg e, if_neg e, if_neg e]
      · have h1 := ih (p + 1) (upd ro p (nI (nc_cn (nc_P n w s d) p))) (by omega) (hst _ (by rw [if_pos hP]))
        rw [nc_cn_t hP] at h1
        exact h1
    · exact nm_r (nI_1 p) (hno (fun c => e1 (of_decide_eq_true c).1))
theorem xx_solve {fb : Int64} {ro : Nat → Int32} {ta tp : Nat → Int64} {post : Int32 → SX → Prop} (hok : nc_ok n w) (hs : s < n) (hd : d < n) (hsd : s ≠ d)
    (hf : ¬ nc_lab n w s = nc_lab n w d → ∀ pa, (∀ p, p < n → pa p = nI (nc_lab n w p)) → post 0 (nI n, fs, fd, fb, ft, fw, nc_g w, pa, ta, ro, tp))
    (h : nc_lab n w s = nc_lab n w d → ∀ pa ta ro tp, (∀ p, p < n → pa p = nI (nc_lab n w p)) → (∀ q, q < n → tp q = nc_l (nc_vo n w s d q)) → post 1 (nI n, fs, fd, nc_l (nc_wh n w s d), ft, fw, nc_g w, pa, ta, ro, tp)) :
    wpX_solve post (nI n, fs, fd, fb, ft, fw, nc_g w, pa, ta, ro, tp) (nI s) (nI d) := by
  have hn := hok.1.2
  have hL := nc_lab_ok n w
  have hls := hL.1 s hs
  have hld := hL.1 d hd
  unfold wpX_solve
  refine xx_fp hok (fun pa' hpa => ?_)
  refine ⟨vp_in_nI (by omega) (by omega), vp_in_nI (by omega) (by omega), pk_eq (nc_lab n w s) (nc_lab n w d) (fun e => ⟨n + 1, ?_⟩) (fun e => hf e pa' hpa) (by rw [nI_clamp (by omega)]; exact hpa s hs) (by rw [nI_clamp (by omega)]; exact hpa d hd) (by omega) (by omega)⟩
  exact xx_so26 hok hs hd hsd e hpa (fun ta ro tp htp => h e pa' ta ro tp hpa htp) n 0 ro (by omega) (fun q hq => by omega)
end
end
section
/-! Y's entry, product, determinant -/
def nc_me (n : Nat) (w : Nat → Nat) (sp : Int32) (t p q : Nat) : Int := if nI q = sp then nc_w w p t else nc_lp n (nc_w w) p q
theorem nc_s6 {n p : Nat} {w : Nat → Nat} (hok : nc_ok n w) (hp : p < 6) : nc_sg 6 (nc_w w p) = nc_sg n (nc_w w p) := by
  refine nc_sg_t hok.1.2 (fun i h1 h2 => ?_)
  show ((w (6 * p + i) : Int)) = 0
  rw [hok.2.2.2.2 p i hp h2 h1]; rfl
theorem nc_bt : ∀ u, u < 64 → ∀ d, d < 6 → ((nI u >>> (nI d &&& 31)) &&& 1) = if Nat.testBit u d = true then 1 else 0 := by decide +kernel
theorem nc_bo : ∀ u, u < 64 → ∀ d, d < 6 → (nI u ||| ((1 : Int32) <<< (nI d &&& 31))) = nI (u ||| 2 ^ d) := by decide +kernel
theorem nc_p6 : ∀ d, d < 6 → 2 ^ d < 2 ^ 6 := by decide
theorem nc_dg_lt {k : Nat} (c i : Nat) (hk : 0 < k) : nc_dg k c i < k := Nat.mod_lt _ hk
theorem nc_us_lt {k c : Nat} (hk : 0 < k) (hk5 : k ≤ 5) : ∀ i, nc_us k c i < 64 := by
  intro i
  induction i with
  | zero => exact (by decide : 0 < 64)
  | succ i ih =>
    have h := nc_dg_lt (k := k) c i hk
    exact Nat.or_lt_two_pow (n := 6) ih (nc_p6 _ (by omega))
theorem nc_ds (k c i : Nat) : c / k ^ i / k = c / k ^ (i + 1) := by rw [Nat.div_div_eq_div_mul, Nat.pow_succ]
def nc_ob (o : Bool) : Int32 := if o = true then 1 else 0
section
variable {n m t : Nat} {fs fd sp : Int32} {w ap : Nat → Nat} {la aa : Nat → Int32}
theorem yy_en44 {sz : Int32} {pe : Nat → Int32} {post : Int64 → Prop} {p : Nat} (hok : nc_ok n w) (hp : p < 6) (h : post (nc_l (nc_sg n (nc_w w p)))) :
    ∀ d q, q + d = 6 → wY_entry_44 post (nI p) (nI n) fs fd sz (nc_g w) la aa pe (d + 1) (nc_l (nc_sg q (nc_w w p))) (nI q) := by
  intro d
  induction d with
  | zero =>
    intro q hq
    obtain rfl : q = 6 := by omega
    rw [nc_s6 hok hp]
    exact br_t (nI_le (a := 6) (b := 6) (by omega) (by omega)) h
  | succ d ih =>
    intro q hq
    refine br_f (nI_ge (a := q) (b := 6) (by omega) (by omega)) ⟨nc_inI hp (by omega), nm_r (e' := nc_l (nc_sg (q + 1) (nc_w w p))) ?_ (nm_r (nI_1 q) (ih (q + 1) (by omega)))⟩
    rw [nc_cl hp (by omega), show nc_g w (6 * p + q) = nI (w (6 * p + q)) from rfl, nc_l_i (by have := hok.2.1 (6 * p + q); omega), nc_l_a]
    rfl
theorem yy_en {sz : Int32} {pe : Nat → Int32} {post : Int64 → Prop} {p q : Nat} (hok : nc_ok n w) (hp : p < 6) (hq : q < 6) (ht : t < 6) (h : post (nc_l (nc_me n w sp t p q))) : wpY_entry post (nI n, fs, fd, sz, nc_g w, la, aa, pe) (nI p) (nI q) sp (nI t) := by
  unfold wpY_entry
  by_cases e : nI q = sp
  · refine br_t e ⟨nc_inI hp ht, ?_⟩
    unfold nc_me at h
    rw [if_pos e] at h
    rw [nc_cl hp ht, show nc_g w (6 * p + t) = nI (w (6 * p + t)) from rfl, nc_l_i (by have := hok.2.1 (6 * p + t); omega)]
    exact h
  · unfold nc_me at h
    rw [if_neg e] at h
    refine br_f e (pk_eq p q (fun e2 => ⟨7, ?_⟩) (fun e2 => ⟨nc_inI hp hq, ?_⟩) rfl rfl (by omega) (by omega))
    · rw [← e2, nc_lpd hok hp] at h
      have h1 := yy_en44 (fs := fs) (fd := fd) (sz := sz) (la := la) (aa := aa) (pe := pe) hok hp h 6 0 (by omega)
      rw [show nc_l (nc_sg 0 (nc_w w p)) = 0 from nc_l_0] at h1
      exact h1
    · rw [nc_cl hp hq, show nc_g w (6 * p + q) = nI (w (6 * p + q)) from rfl, nc_l_g (hok.2.1 _)]
      rw [nc_lpo e2] at h
      exact h
theorem yy_pr145 {pe : Nat → Int32} {post : Int64 → SY → Prop} {k c : Nat} {s : Int} (hok : nc_ok n w) (hm : m ≤ 5) (ht : t < 6) (hk : 0 < k) (hkm : k ≤ m ∨ m = 0) (hap : ∀ i, i < m → ap i < 6) (haa : ∀ i, i < m → aa i = nI (ap i))
    (hpe : ∀ i, i < m → pe i = nI (nc_dg k c i)) (h : post (nc_l (nc_pd (fun i => nc_me n w sp t (ap i) (ap (nc_dg k c i))) s m)) (nI n, fs, fd, nI m, nc_g w, la, aa, pe)) :
    ∀ d i, i + d = m → wY_product_145 post sp (nI t) (nI n) fs fd (nI m) (nc_g w) la aa pe (d + 1) (nc_l (nc_pd (fun i => nc_me n w sp t (ap i) (ap (nc_dg k c i))) s i)) (nI i) := by
  intro d
  induction d with
  | zero =>
    intro i hi
    obtain rfl : i = m := by omega
    exact br_t (nI_le (by omega) (by omega)) h
  | succ d ih =>
    intro i hi
    have hdg := nc_dg_lt (k := k) c i hk
    refine br_f (nI_ge (by omega) (by omega)) (br_f (nI_ge (a := i) (b := 6) (by omega) (by omega)) ⟨vp_in_nI (by omega) (by omega), vp_in_nI (by omega) (by omega), ?_⟩)
    rw [nI_clamp (by omega), hpe i (by omega), nI_clamp (by omega), haa i (by omega), haa (nc_dg k c i) (by omega)]
    refine ⟨vp_in_nI (by omega) (by omega), yy_en hok (hap i (by omega)) (hap _ (by omega)) ht (nm_r (nc_l_m _ _) (nm_r (nI_1 i) (ih (i + 1) (by omega))))⟩
theorem yy_pr80 {pe : Nat → Int32} {post : Int64 → SY → Prop} {J : Int32 → Int32 → Int32 → Int32 → (Nat → Int32) → (Nat → Int32) → (Nat → Int32) → (Nat → Int32) → Prop} {x2 x3 x4 x5 x6 : Int32} {k c i : Nat} {o : Bool} {sz : Int32}
    (hk : 0 < k) (hk5 : k ≤ 5) (hi : i < 6) (hpe : ∀ j, j ≤ i → pe j = nI (nc_dg k c j)) (hJ : J x5 x6 (nc_ob (nc_tg k c i o i)) (nI (i + 1)) (nc_g w) la aa pe) :
    ∀ d j, j + d = i → wY_product_80 post J x2 x3 x4 x5 x6 (nI i) (nI n) fs fd sz (nc_g w) la aa pe (d + 1) (nc_ob (nc_tg k c i o j)) (nI j) := by
  intro d
  induction d with
  | zero =>
    intro j hj
    obtain rfl : j = i := by omega
    exact br_t (nI_le (by omega) (by omega)) (nm_r (nI_1 j) hJ)
  | succ d ih =>
    intro j hj
    have h1 := nc_dg_lt (k := k) c j hk
    have h2 := nc_dg_lt (k := k) c i hk
    have h3 := ih (j + 1) (by omega)
    refine br_f (nI_ge (by omega) (by omega)) ⟨vp_in_nI (by omega) (by omega), vp_in_nI (by omega) (by omega), ?_⟩
    rw [nI_clamp (by omega), nI_clamp (by omega), hpe j (by omega), hpe i (by omega)]
    rw [nc_tg] at h3
    refine pk_le (nc_dg k c j) (nc_dg k c i) (fun h4 => ?_) (fun h4 => ?_) rfl rfl (by omega) (by omega)
    · rw [if_neg (by omega)] at h3
      exact nm_r (nI_1 j) h3
    · rw [if_pos h4] at h3
      by_cases e : nc_tg k c i o j = true
      · rw [e] at h3 ⊢
        exact br_f (by decide) (nm_r (nI_1 j) h3)
      · have e' : nc_tg k c i o j = false := by
          cases hb : nc_tg k c i o j with
          | true => exact absurd hb e
          | false => rfl
        rw [e'] at h3 ⊢
        exact br_t (by decide) (nm_r (nI_1 j) h3)
theorem yy_pr12 {post : Int64 → SY → Prop} {k c : Nat} (hok : nc_ok n w) (hm : m ≤ 5) (ht : t < 6) (hk : 0 < k) (hk5 : k ≤ 5) (hkm : k ≤ m ∨ m = 0) (hc : c < 2 ^ 30) (hap : ∀ i, i < m → ap i < 6) (haa : ∀ i, i < m → aa i = nI (ap i))
    (h : ∀ pe, post (nc_l (nc_cd k m (fun i j => nc_me n w sp t (ap i) (ap j)) c)) (nI n, fs, fd, nI m, nc_g w, la, aa, pe)) :
    ∀ d i pe, i + d = m → (∀ j, j < i → pe j = nI (nc_dg k c j)) → nc_di k c i = true →
      wY_product_12 post (nI k) sp (nI t) (nI n) fs fd (nI m) (d + 1) (nI (c / k ^ i)) (nI (nc_us k c i)) (nc_ob (nc_od k c i)) (nI i) (nc_g w) la aa pe := by
  intro d
  induction d with
  | zero =>
    intro i pe hi hpe hdi
    obtain rfl : i = m := by omega
    refine br_t (nI_le (by omega) (by omega)) ?_
    have hv : nc_cd k i (fun i j => nc_me n w sp t (ap i) (ap j)) c = nc_pd (fun j => nc_me n w sp t (ap j) (ap (nc_dg k c j))) (nc_sn (nc_od k c i)) i := if_pos hdi
    have h1 := h pe
    rw [hv] at h1
    by_cases e : nc_od k c i = true
    · rw [e] at h1 ⊢
      refine br_f (by decide) ⟨i + 1, ?_⟩
      have h2 := yy_pr145 (fs := fs) (fd := fd) (la := la) hok hm ht hk hkm hap haa hpe h1 i 0 (by omega)
      rw [show nc_l (nc_pd (fun j => nc_me n w sp t (ap j) (ap (nc_dg k c j))) (nc_sn true) 0) = -1 from nc_l_m1] at h2
      exact h2
    · have e' : nc_od k c i = false := by
        cases hb : nc_od k c i with
        | true => exact absurd hb e
        | false => rfl
      rw [e'] at h1 ⊢
      refine br_t (by decide) ⟨i + 1, ?_⟩
      have h2 := yy_pr145 (fs := fs) (fd := fd) (la := la) hok hm ht hk hkm hap haa hpe h1 i 0 (by omega)
      rw [show nc_l (nc_pd (fun j => nc_me n w sp t (ap j) (ap (nc_dg k c j))) (nc_sn false) 0) = 1 from nc_l_1] at h2
      exact h2
  | succ d ih =>
    intro i pe hi hpe hdi
    have hdg := nc_dg_lt (k := k) c i hk
    have hus := nc_us_lt (c := c) hk hk5 i
    have hk0 : ¬ nI k = 0 := nI_ne0 hk (by omega)
    have hcl : c / k ^ i < 2 ^ 31 := Nat.lt_of_le_of_lt (Nat.div_le_self _ _) (by omega)
    have hpe' : ∀ j, j ≤ i → upd pe i (nI (nc_dg k c i)) j = nI (nc_dg k c j) := by
      intro j hj
      by_cases e : j = i
      · rw [e]; exact pk_us
      · rw [pk_un e]; exact hpe j (by omega)
    refine br_f (nI_ge (by omega) (by omega)) (br_f (nI_ge (a := i) (b := 6) (by omega) (by omega)) ⟨hk0, vp_in_nI (by omega) (by omega), nm_r (e' := upd pe i (nI (nc_dg k c i))) ?_ ⟨hk0, nm_r (e' := nI (c / k ^ (i + 1))) ?_ ⟨vp_in_nI (by omega) (by omega), ?_⟩⟩⟩)
    · rw [nI_clamp (by omega), pk_rem hcl hk (by omega)]; rfl
    · rw [pk_div hcl hk (by omega), nc_ds]
    rw [nI_clamp (by omega), hpe' i (Nat.le_refl i), nc_bt _ hus _ (by omega)]
    by_cases hb : Nat.testBit (nc_us k c i) (nc_dg k c i) = true
    · rw [if_pos hb]
      refine br_t rfl ?_
      have hno : ¬ nc_di k c m = true := by
        have h1 : ∀ e, ¬ nc_di k c (i + 1 + e) = true := by
          intro e
          induction e with
          | zero =>
            show ¬ (nc_di k c i && !(Nat.testBit (nc_us k c i) (nc_dg k c i))) = true
            rw [hb, hdi]; decide
          | succ e ihe =>
            show ¬ (nc_di k c (i + 1 + e) && !(Nat.testBit (nc_us k c (i + 1 + e)) (nc_dg k c (i + 1 + e)))) = true
            intro hh
            rw [Bool.and_eq_true] at hh
            exact ihe hh.1
        rw [show m = i + 1 + d from by omega]
        exact h1 d
      have h2 := h (upd pe i (nI (nc_dg k c i)))
      rw [show nc_cd k m (fun i j => nc_me n w sp t (ap i) (ap j)) c = 0 from if_neg hno, nc_l_0] at h2
      exact h2
    · rw [if_neg hb]
      refine br_f (by decide) ⟨vp_in_nI (by omega) (by omega), nm_r (e' := nI (nc_us k c (i + 1))) (nc_bo _ hus _ (by omega)) ⟨i + 1, ?_⟩⟩
      have hdi' : nc_di k c (i + 1) = true := by
        show (nc_di k c i && !(Nat.testBit (nc_us k c i) (nc_dg k c i))) = true
        have hb' : Nat.testBit (nc_us k c i) (nc_dg k c i) = false := by
          cases hbb : Nat.testBit (nc_us k c i) (nc_dg k c i) with
          | true => exact absurd hbb hb
          | false => rfl
        rw [hdi, hb']; rfl
      exact yy_pr80 (o := nc_od k c i) hk hk5 (by omega) hpe' (ih (i + 1) _ (by omega) (fun j hj => hpe' j (by omega)) hdi') i 0 (by omega)
theorem yy_pr {pe : Nat → Int32} {post : Int64 → SY → Prop} {k c : Nat} (hok : nc_ok n w) (hm : m ≤ 5) (ht : t < 6) (hk : 0 < k) (hk5 : k ≤ 5) (hkm : k ≤ m ∨ m = 0) (hc : c < 2 ^ 30) (hap : ∀ i, i < m → ap i < 6) (haa : ∀ i, i < m → aa i = nI (ap i))
    (h : ∀ pe, post (nc_l (nc_cd k m (fun i j => nc_me n w sp t (ap i) (ap j)) c)) (nI n, fs, fd, nI m, nc_g w, la, aa, pe)) : wpY_product post (nI n, fs, fd, nI m, nc_g w, la, aa, pe) (nI c) (nI k) sp (nI t) := by
  unfold wpY_product
  refine ⟨m + 1, ?_⟩
  have h1 := yy_pr12 (fs := fs) (fd := fd) (la := la) hok hm ht hk hk5 hkm hc hap haa h m 0 pe (by omega) (fun j hj => by omega) rfl
  rw [Nat.pow_zero, Nat.div_one] at h1
  exact h1
theorem yy_de50 {post : Int64 → SY → Prop} {k N : Nat} (hok : nc_ok n w) (hm : m ≤ 5) (ht : t < 6) (hk : 0 < k) (hk5 : k ≤ 5) (hkm : k ≤ m ∨ m = 0) (hN : N < 2 ^ 30) (hap : ∀ i, i < m → ap i < 6) (haa : ∀ i, i < m → aa i = nI (ap i))
    (h : ∀ pe, post (nc_l (nc_sg N (nc_cd k m (fun i j => nc_me n w sp t (ap i) (ap j))))) (nI n, fs, fd, nI m, nc_g w, la, aa, pe)) :
    ∀ d c pe, c + d = N → wY_determinant_50 post sp (nI t) (nI k) (nI N) (d + 1) (nc_l (nc_sg c (nc_cd k m (fun i j => nc_me n w sp t (ap i) (ap j))))) (nI c) (nI n) fs fd (nI m) (nc_g w) la aa pe := by
  intro d
  induction d with
  | zero =>
    intro c pe hc
    obtain rfl : c = N := by omega
    exact br_t (nI_le (by omega) (by omega)) (h pe)
  | succ d ih =>
    intro c pe hc
    refine br_f (nI_ge (by omega) (by omega)) (yy_pr hok hm ht hk hk5 hkm (by omega) hap haa (fun pe' => nm_r (nc_l_a _ _) (nm_r (nI_1 c) (ih (c + 1) pe' (by omega)))))
theorem nc_kkp : ∀ m, m < 6 → ∀ i, i < 6 → nc_kk m ^ i < 2 ^ 20 := by decide
theorem yy_de23 {pe : Nat → Int32} {post : Int64 → SY → Prop} (hok : nc_ok n w) (hm : m ≤ 5) (ht : t < 6) (hap : ∀ i, i < m → ap i < 6) (haa : ∀ i, i < m → aa i = nI (ap i))
    (h : ∀ pe, post (nc_l (nc_pv (fun i j => nc_me n w sp t (ap i) (ap j)) m)) (nI n, fs, fd, nI m, nc_g w, la, aa, pe)) :
    ∀ d i, i + d = m → wY_determinant_23 post sp (nI t) (nI (nc_kk m)) (nI n) fs fd (nI m) (nc_g w) la aa pe (d + 1) (nI (nc_kk m ^ i)) (nI i) := by
  have hk : 0 < nc_kk m ∧ nc_kk m ≤ 5 ∧ (nc_kk m ≤ m ∨ m = 0) := by
    unfold nc_kk
    by_cases e : 1 ≤ m
    · rw [if_pos e]; omega
    · rw [if_neg e]; omega
  intro d
  induction d with
  | zero =>
    intro i hi
    obtain rfl : i = m := by omega
    refine br_t (nI_le (by omega) (by omega)) ⟨nc_kk i ^ i + 1, ?_⟩
    have hN := nc_kkp i (by omega) i (by omega)
    have h1 := yy_de50 (fs := fs) (fd := fd) (la := la) (N := nc_kk i ^ i) hok hm ht hk.1 hk.2.1 hk.2.2 (by omega) hap haa (post := post) (fun pe => by rw [nc_codes _ hm]; exact h pe) (nc_kk i ^ i) 0 pe (by omega)
    rw [show nc_l (nc_sg 0 (nc_cd (nc_kk i) i (fun i j => nc_me n w sp t (ap i) (ap j)))) = 0 from nc_l_0] at h1
    exact h1
  | succ d ih =>
    intro i hi
    refine br_f (nI_ge (by omega) (by omega)) (nm_r (e' := nI (nc_kk m ^ (i + 1))) (by rw [pk_mul, Nat.pow_succ]) (nm_r (nI_1 i) (ih (i + 1) (by omega))))
theorem yy_de {pe : Nat → Int32} {post : Int64 → SY → Prop} (hok : nc_ok n w) (hm : m ≤ 5) (ht : t < 6) (hap : ∀ i, i < m → ap i < 6) (haa : ∀ i, i < m → aa i = nI (ap i))
    (h : ∀ pe, post (nc_l (nc_pv (fun i j => nc_me n w sp t (ap i) (ap j)) m)) (nI n, fs, fd, nI m, nc_g w, la, aa, pe)) : wpY_determinant post (nI n, fs, fd, nI m, nc_g w, la, aa, pe) sp (nI t) := by
  unfold wpY_determinant
  have h1 := yy_de23 (fs := fs) (fd := fd) (la := la) (pe := pe) hok hm ht hap haa h m 0 (by omega)
  rw [Nat.pow_zero] at h1
  refine pk_le 1 m (fun e => ⟨m + 1, ?_⟩) (fun e => ⟨m + 1, ?_⟩) rfl rfl (by omega) (by omega)
  · rw [show nc_kk m = m from if_pos e] at h1; exact h1
  · rw [show nc_kk m = 1 from if_neg (by omega)] at h1; exact h1
end
end
section
/-! Y's take, allTrees -/
noncomputable def nc_P3 (n : Nat) (w : Nat → Nat) (p a b : Nat) : Nat → Bool := fun q => decide (nc_lab n w q = nc_lab n w p ∧ q ≠ a ∧ q ≠ b)
theorem nc_nm1 {q : Nat} (hq : q < 6) : ¬ nI q = -1 := fun e => by
  have := congrArg Int32.toInt e
  rw [nI_toInt (by omega)] at this
  have h3 : ((-1 : Int32)).toInt = -1 := by decide
  rw [h3] at this
  omega
theorem nc_me1 {n t p q : Nat} {w : Nat → Nat} (hq : q < 6) : nc_me n w (-1) t p q = nc_lp n (nc_w w) p q := if_neg (nc_nm1 hq)
section
variable {n p a b : Nat} {fs fd : Int32} {w : Nat → Nat} {pe : Nat → Int32}
theorem yy_ta12 {la : Nat → Int32} {post : SY → Prop} (hok : nc_ok n w) (hp : p < n) (ha : a < 6) (hb : b < 6) (hla : ∀ p, p < n → la p = nI (nc_lab n w p))
    (h : ∀ aa, (∀ i, i < nc_cn (nc_P3 n w p a b) n → aa i = nI (nc_pt (nc_P3 n w p a b) n i)) → post (nI n, fs, fd, nI (nc_cn (nc_P3 n w p a b) n), nc_g w, la, aa, pe)) :
    ∀ e q aa, q + e = n → (∀ r, r < q → nc_P3 n w p a b r = true → aa (nc_cn (nc_P3 n w p a b) r) = nI r) →
      wY_take_12 post (nI p) (nI a) (nI b) (nI n) fs fd (e + 1) (nI q) (nI (nc_cn (nc_P3 n w p a b) q)) (nc_g w) la aa pe := by
  have hn := hok.1.2
  have hL := nc_lab_ok n w
  intro e
  induction e with
  | zero =>
    intro q aa hq haa
    obtain rfl : q = n := by omega
    refine br_t (nI_le (by omega) (by omega)) (h aa (fun i hi => ?_))
    obtain ⟨a1, a2, a3⟩ := nc_pt_ok (P := nc_P3 q w p a b) (n := q) (i := i) hi
    have h1 := haa _ a2 a1
    rw [a3] at h1
    exact h1
  | succ e ih =>
    intro q aa hq haa
    have hlq := hL.1 q (by omega)
    have hlp := hL.1 p hp
    have hno : ¬ nc_P3 n w p a b q = true → wY_take_12 post (nI p) (nI a) (nI b) (nI n) fs fd (e + 1) (nI (q + 1)) (nI (nc_cn (nc_P3 n w p a b) q)) (nc_g w) la aa pe := by
      intro hP
      have h1 := ih (q + 1) aa (by omega) (fun r hr hPr => haa r (by
        have : r ≠ q := fun er => hP (er ▸ hPr)
        omega) hPr)
      rw [nc_cn_f hP] at h1
      exact h1
    refine br_f (nI_ge (by omega) (by omega)) (br_f (nI_ge (a := q) (b := 6) (by omega) (by omega)) ⟨vp_in_nI (by omega) (by omega), vp_in_nI (by omega) (by omega), ?_⟩)
    refine pk_eq (nc_lab n w q) (nc_lab n w p) (fun e1 => ?_) (fun e1 => ?_) (by rw [nI_clamp (by omega)]; exact hla q (by omega)) (by rw [nI_clamp (by omega)]; exact hla p hp) (by omega) (by omega)
    · refine pk_eq q a (fun e2 => nm_r (nI_1 q) (hno (fun c => (of_decide_eq_true c).2.1 e2))) (fun e2 => ?_) rfl rfl (by omega) (by omega)
      refine pk_eq q b (fun e3 => nm_r (nI_1 q) (hno (fun c => (of_decide_eq_true c).2.2 e3))) (fun e3 => ?_) rfl rfl (by omega) (by omega)
      have hP : nc_P3 n w p a b q = true := decide_eq_true ⟨e1, e2, e3⟩
      have hc6 := nc_cn_le (nc_P3 n w p a b) q
      refine ⟨vp_in_nI (by omega) (by omega), nm_r (e' := upd aa (nc_cn (nc_P3 n w p a b) q) (nI q)) (by rw [nI_clamp (by omega)]) (nm_r (nI_1 _) (nm_r (nI_1 q) ?_))⟩
      have h1 := ih (q + 1) (upd aa (nc_cn (nc_P3 n w p a b) q) (nI q)) (by omega) (fun r hr hPr => by
        by_cases er : r = q
        · rw [er]; exact pk_us
        · rw [pk_un (fun ec => er (nc_cn_inj hPr hP ec))]
          exact haa r (by omega) hPr)
      rw [nc_cn_t hP] at h1
      exact h1
    · exact nm_r (nI_1 q) (hno (fun c => e1 (of_decide_eq_true c).1))
theorem yy_ta {sz : Int32} {la aa : Nat → Int32} {post : SY → Prop} (hok : nc_ok n w) (hp : p < n) (ha : a < 6) (hb : b < 6)
    (h : ∀ la aa, (∀ i, i < nc_cn (nc_P3 n w p a b) n → aa i = nI (nc_pt (nc_P3 n w p a b) n i)) → post (nI n, fs, fd, nI (nc_cn (nc_P3 n w p a b) n), nc_g w, la, aa, pe)) : wpY_take post (nI n, fs, fd, sz, nc_g w, la, aa, pe) (nI p) (nI a) (nI b) := by
  unfold wpY_take
  refine yy_gr hok (fun la' hla' => ⟨n + 1, ?_⟩)
  exact yy_ta12 hok hp ha hb hla' (h la') n 0 aa (by omega) (fun r hr => by omega)
/-- take, then determinant -/
theorem yy_td {sz sp : Int32} {t : Nat} {la aa : Nat → Int32} {post : Int64 → SY → Prop} (hok : nc_ok n w) (hp : p < n) (ha : a < 6) (hb : b < 6) (ht : t < 6) (hm : nc_cn (nc_P3 n w p a b) n ≤ 5)
    (h : ∀ sz la aa pe, post (nc_l (nc_pv (fun i j => nc_me n w sp t (nc_pt (nc_P3 n w p a b) n i) (nc_pt (nc_P3 n w p a b) n j)) (nc_cn (nc_P3 n w p a b) n))) (nI n, fs, fd, sz, nc_g w, la, aa, pe)) :
    wpY_take (fun u => wpY_determinant post u sp (nI t)) (nI n, fs, fd, sz, nc_g w, la, aa, pe) (nI p) (nI a) (nI b) := by
  have hn := hok.1.2
  refine yy_ta hok hp ha hb (fun la' aa' haa => ?_)
  exact yy_de hok hm ht (fun i hi => by have := (nc_pt_ok (P := nc_P3 n w p a b) (n := n) (i := i) hi).2.1; omega) haa (fun pe' => h _ _ _ _)
end
theorem nc_t1 {n : Nat} {w : Nat → Nat} (hall : ∀ p, p < n → nc_lab n w p = 0) : ∀ q, q ≤ n → nc_cn (nc_P3 n w 0 0 0) q = q - 1 := by
  intro q
  induction q with
  | zero => intro _; rfl
  | succ q ih =>
    intro hq
    have h1 := ih (by omega)
    by_cases e : q = 0
    · rw [nc_cn_f (fun c => (of_decide_eq_true c).2.1 e), h1]; omega
    · rw [nc_cn_t (decide_eq_true ⟨by rw [hall q (by omega), hall 0 (by omega)], e, e⟩), h1]; omega
theorem nc_tvY {n : Nat} {w : Nat → Nat} (hok : nc_ok n w) (c : nc_pc n w ≤ 1) :
    nc_pv (fun i j => nc_me n w (-1) 0 (nc_pt (nc_P3 n w 0 0 0) n i) (nc_pt (nc_P3 n w 0 0 0) n j)) (nc_cn (nc_P3 n w 0 0 0) n) = nc_tv n w := by
  have hn := hok.1.2
  have hn1 := hok.1.1
  have hall := (nc_pc1 (n := n) (w := w) (by omega)).mp c
  have hpt : ∀ i, i < n - 1 → nc_pt (nc_P3 n w 0 0 0) n i = i + 1 := by
    intro i hi
    have hP : nc_P3 n w 0 0 0 (i + 1) = true := decide_eq_true ⟨by rw [hall (i + 1) (by omega), hall 0 (by omega)], by omega, by omega⟩
    have h1 := nc_pt_of hP (n := n) (by omega)
    rw [nc_t1 hall (i + 1) (by omega)] at h1
    exact h1
  unfold nc_tv
  rw [if_pos c, nc_t1 hall n (Nat.le_refl n)]
  refine nc_pv_c (by omega) (fun r s hr hs => ?_)
  show nc_me n w (-1) 0 (nc_pt (nc_P3 n w 0 0 0) n r) (nc_pt (nc_P3 n w 0 0 0) n s) = nc_lp n (nc_w w) (r + 1) (s + 1)
  rw [hpt r hr, hpt s hs]
  exact nc_me1 (by omega)
section
variable {n : Nat} {fs fd : Int32} {w : Nat → Nat}
theorem yy_at {sz : Int32} {la aa pe : Nat → Int32} {post : Int64 → SY → Prop} (hok : nc_ok n w) (h : ∀ sz la aa pe, post (nc_l (nc_tv n w)) (nI n, fs, fd, sz, nc_g w, la, aa, pe)) : wpY_allTrees post (nI n, fs, fd, sz, nc_g w, la, aa, pe) := by
  have hn := hok.1.2
  have hn1 := hok.1.1
  unfold wpY_allTrees
  refine yy_gs hok (fun la' => ?_)
  have hpc : nc_pc n w ≤ n := nc_cn_le _ _
  refine pk_le (nc_pc n w) 1 (fun c => ?_) (fun c => ?_) rfl rfl (by omega) (by omega)
  · have hall := (nc_pc1 (n := n) (w := w) (by omega)).mp c
    refine yy_td (p := 0) (a := 0) (b := 0) (t := 0) hok (by omega) (by omega) (by omega) (by omega) (by rw [nc_t1 hall n (Nat.le_refl n)]; omega) (fun sz' la' aa' pe' => ?_)
    rw [nc_tvY hok c]
    exact h sz' la' aa' pe'
  · have h1 := h sz la' aa pe
    rw [show nc_tv n w = 0 from if_neg (by omega), nc_l_0] at h1
    exact h1
end
end
section
/-! a column negated -/
theorem nc_ng2_0 (a00 a01 a10 a11 : Int) : nc_2 (-a00) a01 (-a10) a11 = -nc_2 a00 a01 a10 a11 := by
  simp only [nc_2]
  grind
theorem nc_ng2_1 (a00 a01 a10 a11 : Int) : nc_2 a00 (-a01) a10 (-a11) = -nc_2 a00 a01 a10 a11 := by
  simp only [nc_2]
  grind
theorem nc_ng3_0 (a00 a01 a02 a10 a11 a12 a20 a21 a22 : Int) : nc_3 (-a00) a01 a02 (-a10) a11 a12 (-a20) a21 a22 = -nc_3 a00 a01 a02 a10 a11 a12 a20 a21 a22 := by
  simp only [nc_3, nc_2]
  grind
theorem nc_ng3_1 (a00 a01 a02 a10 a11 a12 a20 a21 a22 : Int) : nc_3 a00 (-a01) a02 a10 (-a11) a12 a20 (-a21) a22 = -nc_3 a00 a01 a02 a10 a11 a12 a20 a21 a22 := by
  simp only [nc_3, nc_2]
  grind
theorem nc_ng3_2 (a00 a01 a02 a10 a11 a12 a20 a21 a22 : Int) : nc_3 a00 a01 (-a02) a10 a11 (-a12) a20 a21 (-a22) = -nc_3 a00 a01 a02 a10 a11 a12 a20 a21 a22 := by
  simp only [nc_3, nc_2]
  grind
theorem nc_ng4_0 (a00 a01 a02 a03 a10 a11 a12 a13 a20 a21 a22 a23 a30 a31 a32 a33 : Int) : nc_4 (-a00) a01 a02 a03 (-a10) a11 a12 a13 (-a20) a21 a22 a23 (-a30) a31 a32 a33 = -nc_4 a00 a01 a02 a03 a10 a11 a12 a13 a20 a21 a22 a23 a30 a31 a32 a33 := by
  simp only [nc_4, nc_3, nc_2]
  grind
theorem nc_ng4_1 (a00 a01 a02 a03 a10 a11 a12 a13 a20 a21 a22 a23 a30 a31 a32 a33 : Int) : nc_4 a00 (-a01) a02 a03 a10 (-a11) a12 a13 a20 (-a21) a22 a23 a30 (-a31) a32 a33 = -nc_4 a00 a01 a02 a03 a10 a11 a12 a13 a20 a21 a22 a23 a30 a31 a32 a33 := by
  simp only [nc_4, nc_3, nc_2]
  grind
theorem nc_ng4_2 (a00 a01 a02 a03 a10 a11 a12 a13 a20 a21 a22 a23 a30 a31 a32 a33 : Int) : nc_4 a00 a01 (-a02) a03 a10 a11 (-a12) a13 a20 a21 (-a22) a23 a30 a31 (-a32) a33 = -nc_4 a00 a01 a02 a03 a10 a11 a12 a13 a20 a21 a22 a23 a30 a31 a32 a33 := by
  simp only [nc_4, nc_3, nc_2]
  grind
theorem nc_ng4_3 (a00 a01 a02 a03 a10 a11 a12 a13 a20 a21 a22 a23 a30 a31 a32 a33 : Int) : nc_4 a00 a01 a02 (-a03) a10 a11 a12 (-a13) a20 a21 a22 (-a23) a30 a31 a32 (-a33) = -nc_4 a00 a01 a02 a03 a10 a11 a12 a13 a20 a21 a22 a23 a30 a31 a32 a33 := by
  simp only [nc_4, nc_3, nc_2]
  grind
theorem nc_rk_n {A B : Nat → Nat → Int} {m i : Nat} (hm : m ≤ 4) (hi : i < m) (h : ∀ r c, r < m → c < m → B r c = A r c) (hc : ∀ r, r < m → B r m = -A r m) : nc_rk B m i m = -nc_rk A m i m := by
  have e : nc_rk B m i m = nc_pv (fun r j => if j = i then -A r m else A r j) m := nc_pv_c (by omega) (fun r j hr hj => by
    show B r (if j = i then m else j) = if j = i then -A r m else A r j
    by_cases e : j = i
    · rw [if_pos e, if_pos e]; exact hc r hr
    · rw [if_neg e, if_neg e]; exact h r j hr hj)
  rw [e]
  rcases (by omega : m = 1 ∨ m = 2 ∨ m = 3 ∨ m = 4) with rfl | rfl | rfl | rfl
  · obtain rfl : i = 0 := by omega
    rfl
  · rcases (by omega : i = 0 ∨ i = 1) with rfl | rfl
    · exact nc_ng2_0 (A 0 2) (A 0 1) (A 1 2) (A 1 1)
    · exact nc_ng2_1 (A 0 0) (A 0 2) (A 1 0) (A 1 2)
  · rcases (by omega : i = 0 ∨ i = 1 ∨ i = 2) with rfl | rfl | rfl
    · exact nc_ng3_0 (A 0 3) (A 0 1) (A 0 2) (A 1 3) (A 1 1) (A 1 2) (A 2 3) (A 2 1) (A 2 2)
    · exact nc_ng3_1 (A 0 0) (A 0 3) (A 0 2) (A 1 0) (A 1 3) (A 1 2) (A 2 0) (A 2 3) (A 2 2)
    · exact nc_ng3_2 (A 0 0) (A 0 1) (A 0 3) (A 1 0) (A 1 1) (A 1 3) (A 2 0) (A 2 1) (A 2 3)
  · rcases (by omega : i = 0 ∨ i = 1 ∨ i = 2 ∨ i = 3) with rfl | rfl | rfl | rfl
    · exact nc_ng4_0 (A 0 4) (A 0 1) (A 0 2) (A 0 3) (A 1 4) (A 1 1) (A 1 2) (A 1 3) (A 2 4) (A 2 1) (A 2 2) (A 2 3) (A 3 4) (A 3 1) (A 3 2) (A 3 3)
    · exact nc_ng4_1 (A 0 0) (A 0 4) (A 0 2) (A 0 3) (A 1 0) (A 1 4) (A 1 2) (A 1 3) (A 2 0) (A 2 4) (A 2 2) (A 2 3) (A 3 0) (A 3 4) (A 3 2) (A 3 3)
    · exact nc_ng4_2 (A 0 0) (A 0 1) (A 0 4) (A 0 3) (A 1 0) (A 1 1) (A 1 4) (A 1 3) (A 2 0) (A 2 1) (A 2 4) (A 2 3) (A 3 0) (A 3 1) (A 3 4) (A 3 3)
    · exact nc_ng4_3 (A 0 0) (A 0 1) (A 0 2) (A 0 4) (A 1 0) (A 1 1) (A 1 2) (A 1 4) (A 2 0) (A 2 1) (A 2 2) (A 2 4) (A 3 0) (A 3 1) (A 3 2) (A 3 4)
end
section
/-! the values of whole and share against solve and currentFrom -/
theorem nc_sg_re (P : Nat → Bool) (F : Nat → Int) : ∀ n, (∀ q, q < n → ¬ P q = true → F q = 0) → nc_sg n F = nc_sg (nc_cn P n) (fun i => F (nc_pt P n i)) := by
  intro n
  induction n with
  | zero => intro _; rfl
  | succ n ih =>
    intro h
    have h1 := ih (fun q hq => h q (by omega))
    by_cases hP : P n = true
    · rw [nc_sg_s, nc_cn_t hP, nc_sg_s, h1]
      have e1 : nc_pt P (n + 1) (nc_cn P n) = n := nc_pt_of hP (by omega)
      rw [e1]
      rw [nc_sg_c (f := fun i => F (nc_pt P (n + 1) i)) (g := fun i => F (nc_pt P n i)) (fun i hi => by
        show F (nc_pt P (n + 1) i) = F (nc_pt P n i)
        rw [nc_pt_s, if_neg (fun c => by omega)])]
    · rw [nc_sg_s, nc_cn_f hP, h1, h n (by omega) hP]
      rw [nc_sg_c (f := fun i => F (nc_pt P (n + 1) i)) (g := fun i => F (nc_pt P n i)) (fun i hi => by
        show F (nc_pt P (n + 1) i) = F (nc_pt P n i)
        rw [nc_pt_s, if_neg (fun c => hP c.1)])]
      omega
section
variable {n s d : Nat} {w : Nat → Nat}
theorem nc_ptn {i : Nat} (hi : i < nc_M n w s d) : nc_pt (nc_P n w s d) n i < n := (nc_pt_ok (P := nc_P n w s d) (n := n) hi).2.1
theorem nc_whY (hok : nc_ok n w) (hs : s < n) (hd : d < n) (hsd : s ≠ d) :
    nc_pv (fun i j => nc_me n w (-1) 0 (nc_pt (nc_P3 n w s s d) n i) (nc_pt (nc_P3 n w s s d) n j)) (nc_cn (nc_P3 n w s s d) n) = nc_wh n w s d := by
  have hn := hok.1.2
  have hM := nc_M2 (w := w) hs hd hsd
  show nc_pv _ (nc_M n w s d) = _
  refine nc_pv_c (by omega) (fun r c hr hc => ?_)
  show nc_me n w (-1) 0 (nc_pt (nc_P n w s d) n r) (nc_pt (nc_P n w s d) n c) = nc_sA n w s d r c
  have h1 := nc_ptn hc
  rw [nc_me1 (by omega)]
  exact (if_pos hc).symm
theorem nc_shY {p : Nat} (hok : nc_ok n w) (hs : s < n) (hd : d < n) (hsd : s ≠ d) (hp : p < n) (hP : nc_P n w s d p = true) :
    nc_pv (fun i j => nc_me n w (nI p) s (nc_pt (nc_P3 n w s s d) n i) (nc_pt (nc_P3 n w s s d) n j)) (nc_cn (nc_P3 n w s s d) n) = nc_vo n w s d p := by
  have hn := hok.1.2
  have hM := nc_M2 (w := w) hs hd hsd
  unfold nc_vo
  rw [if_neg (of_decide_eq_true hP).2.1, if_pos hP]
  show nc_pv _ (nc_M n w s d) = _
  refine nc_pv_c (by omega) (fun r c hr hc => ?_)
  show nc_me n w (nI p) s (nc_pt (nc_P n w s d) n r) (nc_pt (nc_P n w s d) n c) = nc_sA n w s d r (if c = nc_cn (nc_P n w s d) p then nc_M n w s d else c)
  obtain ⟨a1, a2, a3⟩ := nc_pt_ok (P := nc_P n w s d) (n := n) hc
  unfold nc_me
  by_cases e : c = nc_cn (nc_P n w s d) p
  · have e2 : nc_pt (nc_P n w s d) n c = p := by rw [e]; exact nc_pt_of hP hp
    rw [if_pos e, e2, if_pos rfl]
    exact (if_neg (by omega)).symm
  · have e2 : ¬ nI (nc_pt (nc_P n w s d) n c) = nI p := fun h => by
      have := (nI_eq (by omega) (by omega)).mp h
      rw [this] at a3
      exact e a3.symm
    rw [if_neg e, if_neg e2]
    exact (if_pos hc).symm
theorem nc_vod (hsd : s ≠ d) : nc_vo n w s d d = 0 := by
  unfold nc_vo
  rw [if_neg (fun e => hsd e.symm), if_neg (nc_Pd n w s d)]
theorem nc_vos : nc_vo n w s d s = nc_wh n w s d := if_pos rfl
noncomputable def nc_lo (n : Nat) (w : Nat → Nat) (s d : Nat) : Int :=
  nc_pv (fun i j => nc_lp n (nc_w w) (nc_pt (nc_P3 n w s d d) n i) (nc_pt (nc_P3 n w s d d) n j)) (nc_cn (nc_P3 n w s d d) n)
noncomputable def nc_cu (n : Nat) (w : Nat → Nat) (s d : Nat) : Int := nc_sg n (fun q => nc_w w s q * (nc_wh n w s d - nc_vo n w s d q))
theorem nc_lM (hd : d < n) : nc_cn (nc_P3 n w s d d) n + 1 ≤ n := nc_cn_w1 hd (fun c => (of_decide_eq_true c).2.1 rfl)
theorem nc_loY (hok : nc_ok n w) (hd : d < n) :
    nc_pv (fun i j => nc_me n w (-1) 0 (nc_pt (nc_P3 n w s d d) n i) (nc_pt (nc_P3 n w s d d) n j)) (nc_cn (nc_P3 n w s d d) n) = nc_lo n w s d := by
  have hn := hok.1.2
  have hM := nc_lM (w := w) (s := s) hd
  refine nc_pv_c (by omega) (fun r c hr hc => ?_)
  have h1 := (nc_pt_ok (P := nc_P3 n w s d d) (n := n) hc).2.1
  exact nc_me1 (by omega)
theorem nc_cn3 (hsd : s ≠ d) : ∀ q, nc_cn (nc_P3 n w s d d) q = nc_cn (nc_P n w s d) q + (if s < q then 1 else 0) := by
  intro q
  induction q with
  | zero => rfl
  | succ q ih =>
    by_cases e : q = s
    · have h1 : nc_P3 n w s d d q = true := decide_eq_true ⟨by rw [e], by rw [e]; exact hsd, by rw [e]; exact hsd⟩
      have h2 : ¬ nc_P n w s d q = true := by rw [e]; exact nc_Ps n w s d
      rw [nc_cn_t h1, nc_cn_f h2, ih, if_neg (by omega), if_pos (by omega)]
    · have h3 : (if s < q + 1 then 1 else 0) = (if s < q then 1 else 0) := by
        by_cases c : s < q
        · rw [if_pos c, if_pos (by omega)]
        · rw [if_neg c, if_neg (by omega)]
      by_cases hP : nc_P n w s d q = true
      · have h0 := of_decide_eq_true hP
        have h1 : nc_P3 n w s d d q = true := decide_eq_true ⟨h0.1, h0.2.2, h0.2.2⟩
        rw [nc_cn_t h1, nc_cn_t hP, ih, h3]; omega
      · have h1 : ¬ nc_P3 n w s d d q = true := fun c => by
          have h0 := of_decide_eq_true c
          exact hP (decide_eq_true ⟨h0.1, e, h0.2.1⟩)
        rw [nc_cn_f h1, nc_cn_f hP, ih, h3]
theorem nc_pt3 (hsd : s ≠ d) {i : Nat} (hi : i < nc_M n w s d) : nc_pt (nc_P3 n w s d d) n (nc_sk (nc_cn (nc_P n w s d) s) i) = nc_pt (nc_P n w s d) n i := by
  obtain ⟨a1, a2, a3⟩ := nc_pt_ok (P := nc_P n w s d) (n := n) hi
  have h0 := of_decide_eq_true a1
  have h1 : nc_P3 n w s d d (nc_pt (nc_P n w s d) n i) = true := decide_eq_true ⟨h0.1, h0.2.2, h0.2.2⟩
  have h2 := nc_cn3 (n := n) (w := w) hsd (nc_pt (nc_P n w s d) n i)
  rw [a3] at h2
  have h3 := nc_pt_of h1 a2
  have h4 : nc_sk (nc_cn (nc_P n w s d) s) i = nc_cn (nc_P3 n w s d d) (nc_pt (nc_P n w s d) n i) := by
    rw [h2]
    unfold nc_sk
    by_cases c : s < nc_pt (nc_P n w s d) n i
    · have h5 := nc_cn_mo (nc_P n w s d) (a := s) (b := nc_pt (nc_P n w s d) n i) (by omega)
      rw [if_pos c, if_neg (by omega)]
    · have h5 : nc_pt (nc_P n w s d) n i < s := by
        have := h0.2.1
        omega
      have h6 := nc_cn_lt a1 h5
      rw [if_neg c, if_pos (by omega)]
      omega
  rw [h4]; exact h3
theorem nc_pt3s (hs : s < n) (hsd : s ≠ d) : nc_pt (nc_P3 n w s d d) n (nc_cn (nc_P n w s d) s) = s := by
  have h1 : nc_P3 n w s d d s = true := decide_eq_true ⟨rfl, hsd, hsd⟩
  have h2 := nc_cn3 (n := n) (w := w) hsd s
  rw [if_neg (by omega)] at h2
  have h3 := nc_pt_of h1 hs
  rw [h2] at h3
  exact h3
theorem nc_loc (hok : nc_ok n w) (hs : s < n) (hd : d < n) (hsd : s ≠ d) : nc_lo n w s d = nc_cu n w s d := by
  have hn := hok.1.2
  have hM := nc_M2 (w := w) hs hd hsd
  have hm1 : nc_cn (nc_P3 n w s d d) n = nc_M n w s d + 1 := by
    rw [nc_cn3 hsd n, if_pos hs]; rfl
  have hj : nc_cn (nc_P n w s d) s ≤ nc_M n w s d := nc_cn_mo _ (by omega)
  unfold nc_lo
  rw [hm1, nc_bd _ (m := nc_M n w s d) (j := nc_cn (nc_P n w s d) s) (by omega) hj]
  have hss := nc_pt3s (n := n) (w := w) hs hsd
  have eB : ∀ r c, r < nc_M n w s d → c < nc_M n w s d → nc_bB (fun i j => nc_lp n (nc_w w) (nc_pt (nc_P3 n w s d d) n i) (nc_pt (nc_P3 n w s d d) n j)) (nc_M n w s d) (nc_cn (nc_P n w s d) s) r c = nc_sA n w s d r c := by
    intro r c hr hc
    have h1 : nc_bB (fun i j => nc_lp n (nc_w w) (nc_pt (nc_P3 n w s d d) n i) (nc_pt (nc_P3 n w s d d) n j)) (nc_M n w s d) (nc_cn (nc_P n w s d) s) r c = nc_lp n (nc_w w) (nc_pt (nc_P3 n w s d d) n (nc_sk (nc_cn (nc_P n w s d) s) r)) (nc_pt (nc_P3 n w s d d) n (nc_sk (nc_cn (nc_P n w s d) s) c)) := if_pos hc
    rw [h1, nc_pt3 hsd hr, nc_pt3 hsd hc]
    exact (if_pos hc).symm
  have eb : ∀ r, r < nc_M n w s d → nc_bB (fun i j => nc_lp n (nc_w w) (nc_pt (nc_P3 n w s d d) n i) (nc_pt (nc_P3 n w s d d) n j)) (nc_M n w s d) (nc_cn (nc_P n w s d) s) r (nc_M n w s d) = -nc_sA n w s d r (nc_M n w s d) := by
    intro r hr
    have h1 : nc_bB (fun i j => nc_lp n (nc_w w) (nc_pt (nc_P3 n w s d d) n i) (nc_pt (nc_P3 n w s d d) n j)) (nc_M n w s d) (nc_cn (nc_P n w s d) s) r (nc_M n w s d) = nc_lp n (nc_w w) (nc_pt (nc_P3 n w s d d) n (nc_sk (nc_cn (nc_P n w s d) s) r)) (nc_pt (nc_P3 n w s d d) n (nc_cn (nc_P n w s d) s)) := if_neg (by omega)
    have h2 : nc_sA n w s d r (nc_M n w s d) = nc_w w (nc_pt (nc_P n w s d) n r) s := if_neg (by omega)
    rw [h1, h2, nc_pt3 hsd hr, hss, nc_lpo (fun e => by
      have h3 := (nc_pt_ok (P := nc_P n w s d) (n := n) hr).1
      rw [e] at h3
      exact nc_Ps n w s d h3)]
    rfl
  rw [nc_pv_c (by omega) eB]
  have eS : nc_sg (nc_M n w s d) (fun i => (fun i j => nc_lp n (nc_w w) (nc_pt (nc_P3 n w s d d) n i) (nc_pt (nc_P3 n w s d d) n j)) (nc_cn (nc_P n w s d) s) (nc_sk (nc_cn (nc_P n w s d) s) i) * nc_rk (nc_bB (fun i j => nc_lp n (nc_w w) (nc_pt (nc_P3 n w s d d) n i) (nc_pt (nc_P3 n w s d d) n j)) (nc_M n w s d) (nc_cn (nc_P n w s d) s)) (nc_M n w s d) i (nc_M n w s d))
      = nc_sg n (fun q => nc_w w s q * nc_vo n w s d q) := by
    rw [nc_sg_re (nc_P n w s d) (fun q => nc_w w s q * nc_vo n w s d q) n (fun q hq hP => by
      show nc_w w s q * nc_vo n w s d q = 0
      by_cases e : q = s
      · have : nc_w w s q = 0 := by
          rw [e]
          show ((w (6 * s + s) : Int)) = 0
          rw [hok.2.2.2.1 s (by omega)]; rfl
        rw [this, Int.zero_mul]
      · have : nc_vo n w s d q = 0 := by
          unfold nc_vo
          rw [if_neg e, if_neg hP]
        rw [this, Int.mul_zero])]
    refine nc_sg_c (fun i hi => ?_)
    show nc_lp n (nc_w w) (nc_pt (nc_P3 n w s d d) n (nc_cn (nc_P n w s d) s)) (nc_pt (nc_P3 n w s d d) n (nc_sk (nc_cn (nc_P n w s d) s) i)) * nc_rk (nc_bB (fun i j => nc_lp n (nc_w w) (nc_pt (nc_P3 n w s d d) n i) (nc_pt (nc_P3 n w s d d) n j)) (nc_M n w s d) (nc_cn (nc_P n w s d) s)) (nc_M n w s d) i (nc_M n w s d) = nc_w w s (nc_pt (nc_P n w s d) n i) * nc_vo n w s d (nc_pt (nc_P n w s d) n i)
    obtain ⟨a1, a2, a3⟩ := nc_pt_ok (P := nc_P n w s d) (n := n) (i := i) hi
    have hne : nc_pt (nc_P n w s d) n i ≠ s := (of_decide_eq_true a1).2.1
    have hv : nc_vo n w s d (nc_pt (nc_P n w s d) n i) = nc_rk (nc_sA n w s d) (nc_M n w s d) i (nc_M n w s d) := by
      unfold nc_vo
      rw [if_neg hne, if_pos a1, a3]
    rw [hv, nc_rk_n (by omega) hi eB eb, nc_pt3 hsd hi, hss, nc_lpo (fun e => hne e.symm), Int.neg_mul_neg]
    rfl
  rw [eS]
  show nc_lp n (nc_w w) (nc_pt (nc_P3 n w s d d) n (nc_cn (nc_P n w s d) s)) (nc_pt (nc_P3 n w s d d) n (nc_cn (nc_P n w s d) s)) * nc_wh n w s d - _ = _
  rw [hss, nc_lpd hok (by omega)]
  unfold nc_cu
  rw [← nc_sg_mr, ← nc_sg_d]
  exact nc_sg_c (fun q _ => (Int.mul_sub _ _ _).symm)
theorem nc_lop (hok : nc_ok n w) (hd : d < n) (hj : nc_lab n w s = nc_lab n w d) : 0 < nc_lo n w s d := by
  have hn := hok.1.2
  have hL := nc_lab_ok n w
  have hM := nc_lM (w := w) (s := s) hd
  have hpt : ∀ i, i < nc_cn (nc_P3 n w s d d) n → nc_P3 n w s d d (nc_pt (nc_P3 n w s d d) n i) = true ∧ nc_pt (nc_P3 n w s d d) n i < n ∧ nc_cn (nc_P3 n w s d d) (nc_pt (nc_P3 n w s d d) n i) = i := fun i hi => nc_pt_ok hi
  exact nc_pos (n := n) (m := nc_cn (nc_P3 n w s d d) n) (d := d) (g := nc_w w) (ap := nc_pt (nc_P3 n w s d d) n) (nc_ws hok) (fun p q _ _ => nc_wp w p q) (by omega) (fun i hi => (hpt i hi).2.1)
    (fun i j hi hj e => nc_pt_inj hi hj e) (fun i hi e => (of_decide_eq_true (hpt i hi).1).2.1 e) (fun f hf i hi => by
      have h1 := (of_decide_eq_true (hpt i hi).1).1
      have h2 := hL.2.2 f (nc_inv hf) _ (hpt i hi).2.1
      have h3 := hL.2.2 f (nc_inv hf) d hd
      rw [h1, hj] at h2
      rw [← h2, h3]) _ (Nat.le_refl _)
theorem nc_whp (hok : nc_ok n w) (hs : s < n) (hd : d < n) (hsd : s ≠ d) (hj : nc_lab n w s = nc_lab n w d) : 0 < nc_wh n w s d := nc_sA_p hok hs hd hsd hj _ (Nat.le_refl _)
theorem nc_wh_b (hok : nc_ok n w) (hs : s < n) (hd : d < n) (hsd : s ≠ d) : (nc_wh n w s d).natAbs ≤ 204073344 := by
  have hn := hok.1.2
  have hM := nc_M2 (w := w) hs hd hsd
  exact nc_pv_b4 (fun r c => nc_sA_b hok r c) (by omega)
theorem nc_vo_b (hok : nc_ok n w) (hs : s < n) (hd : d < n) (hsd : s ≠ d) (q : Nat) : (nc_vo n w s d q).natAbs ≤ 204073344 := by
  have hn := hok.1.2
  have hM := nc_M2 (w := w) hs hd hsd
  unfold nc_vo
  by_cases e : q = s
  · rw [if_pos e]; exact nc_wh_b hok hs hd hsd
  · rw [if_neg e]
    by_cases e2 : nc_P n w s d q = true
    · rw [if_pos e2]; exact nc_rk_b (fun r c => nc_sA_b hok r c) (by omega) _ _
    · rw [if_neg e2]; decide
theorem nc_lo_b (hok : nc_ok n w) (hd : d < n) : (nc_lo n w s d).natAbs ≤ 55099802880 := by
  have hn := hok.1.2
  have hM := nc_lM (w := w) (s := s) hd
  exact nc_pv_b5 (fun r c => nc_lp_b hok _ _) (by omega)
end
end
section
/-! lowest terms: X's show, Y's common, top, bottom -/
theorem nc_hf {a r : Nat} (h0 : 0 < r) (h : r ≤ a) : 2 * (a % r) < a := by
  have h1 := Nat.mod_lt a h0
  have h2 := Nat.div_add_mod a r
  have h3 : 1 ≤ a / r := (Nat.le_div_iff_mul_le h0).mpr (by omega)
  have h4 : r * 1 ≤ r * (a / r) := Nat.mul_le_mul_left r h3
  omega
def nc_G (z y : Int) : Int64 := lN (Nat.gcd z.natAbs y.natAbs)
theorem nc_labs {z : Int} (h : z.natAbs < 2 ^ 63) (h0 : 0 ≤ z) : nc_l z = lN z.natAbs := by
  rw [← nc_l_N]
  exact congrArg nc_l (by omega)
theorem nc_labn {z : Int} (h : z.natAbs < 2 ^ 63) (h0 : ¬ 0 ≤ z) : -nc_l z = lN z.natAbs := by
  rw [← nc_l_N, nc_l_n]
  exact congrArg nc_l (by omega)
theorem nc_lz {a : Nat} (h : a < 2 ^ 63) : lN a = 0 ↔ a = 0 := pk_lEQ (b := 0) h (by omega)
section
variable {n : Nat} {fs fd : Int32} {fb ft fw : Int64} {w : Nat → Nat} {pa ro : Nat → Int32} {ta tp : Nat → Int64}
variable {sz : Int32} {la aa pe : Nat → Int32}
theorem xx_sh20 {post : SX → Prop} {x1 x3 : Int64} : ∀ j a b k, a < 2 ^ j → k + 2 * j ≤ 100 → a < 2 ^ 63 → b < 2 ^ 63 → wX_show_55 post x1 x3 (lN (Nat.gcd a b)) (nI n) fs fd fb ft fw (nc_g w) pa ta ro tp →
    wX_show_20 post x1 x3 (nI n) fs fd fb ft fw (nc_g w) pa ta ro tp (2 * j + 1) (lN a) (lN b) (nI k) := by
  intro j
  induction j with
  | zero =>
    intro a b k ha hk ha6 hb6 h
    obtain rfl : a = 0 := by have : 2 ^ 0 = 1 := rfl; omega
    rw [Nat.gcd_zero_left] at h
    exact br_c (fun _ => h) (fun _ => br_t rfl h)
  | succ j ih =>
    intro a b k ha hk ha6 hb6 h
    by_cases c : a = 0
    · subst c
      rw [Nat.gcd_zero_left] at h
      exact br_c (fun _ => h) (fun _ => br_t rfl h)
    · have hb := Nat.mod_lt b (Nat.pos_of_ne_zero c)
      rw [Nat.gcd_rec] at h
      have hne : ¬ lN a = 0 := fun e => c ((nc_lz ha6).mp e)
      refine br_f (nI_ge (a := k) (b := 100) (by omega) (by omega)) (br_f hne ⟨hne, nm_r (pk_lRem hb6 (by omega) ha6) (nm_r (nI_1 k) ?_)⟩)
      show wX_show_20 post x1 x3 (nI n) fs fd fb ft fw (nc_g w) pa ta ro tp (2 * j + 1 + 1) (lN (b % a)) (lN a) (nI (k + 1))
      by_cases c2 : b % a = 0
      · rw [c2, Nat.gcd_zero_left] at h
        rw [c2]
        exact br_c (fun _ => h) (fun _ => br_t rfl h)
      · rw [Nat.gcd_rec] at h
        have hne2 : ¬ lN (b % a) = 0 := fun e => c2 ((nc_lz (by omega)).mp e)
        have hh := nc_hf (a := a) (r := b % a) (by omega) (by omega)
        refine br_f (nI_ge (a := k + 1) (b := 100) (by omega) (by omega)) (br_f hne2 ⟨hne2, nm_r (pk_lRem ha6 (by omega) (by omega)) (nm_r (nI_1 (k + 1)) (ih _ _ (k + 1 + 1) ?_ (by omega) (by omega) (by omega) h))⟩)
        have : 2 ^ (j + 1) = 2 * 2 ^ j := by rw [Nat.pow_succ, Nat.mul_comm]
        omega
theorem xx_show {post : SX → Prop} {z y : Int} (hz : z.natAbs < 2 ^ 49) (hy : 0 < y) (hy6 : y.natAbs < 2 ^ 63) (h : post (nI n, fs, fd, fb, nc_l z / nc_G z y, nc_l y / nc_G z y, nc_g w, pa, ta, ro, tp)) : wpX_show post (nI n, fs, fd, fb, ft, fw, nc_g w, pa, ta, ro, tp) (nc_l z) (nc_l y) := by
  have hg : 0 < Nat.gcd z.natAbs y.natAbs := Nat.gcd_pos_of_pos_right _ (by omega)
  have hg6 : Nat.gcd z.natAbs y.natAbs < 2 ^ 63 := Nat.lt_of_le_of_lt (Nat.le_of_dvd (by omega) (Nat.gcd_dvd_right z.natAbs y.natAbs)) hy6
  have hne : ¬ lN (Nat.gcd z.natAbs y.natAbs) = 0 := fun e => by have := (nc_lz hg6).mp e; omega
  have h55 : wX_show_55 post (nc_l z) (nc_l y) (lN (Nat.gcd z.natAbs y.natAbs)) (nI n) fs fd fb ft fw (nc_g w) pa ta ro tp := by
    unfold wX_show_55
    refine br_f (fun e => ?_) ?_
    · have := (pk_lLE hg6 (b := 0) (by omega)).mp e
      omega
    · unfold wX_show_68
      exact ⟨hne, nm_e ⟨hne, nm_e h⟩⟩
  have h20 : wX_show_20 post (nc_l z) (nc_l y) (nI n) fs fd fb ft fw (nc_g w) pa ta ro tp (2 * 49 + 1) (lN z.natAbs) (lN y.natAbs) (nI 0) := xx_sh20 49 _ _ 0 hz (by omega) (by omega) hy6 h55
  rw [← nc_labs hy6 (by omega)] at h20
  unfold wpX_show
  by_cases c : 0 ≤ z
  · refine br_t ((nc_l_le (by omega)).mpr c) ⟨2 * 49 + 1, ?_⟩
    rw [← nc_labs (by omega) c] at h20
    exact h20
  · refine br_f (fun e => c ((nc_l_le (by omega)).mp e)) (nm_r (nc_labn (by omega) c) ⟨2 * 49 + 1, h20⟩)
theorem yy_co0 {post : Int64 → Prop} {a : Nat} (ha : 1 ≤ a) (ha6 : a < 2 ^ 63) (h : post (lN a)) : ∀ e k, k + e = 120 → wY_common_20 post (nI n) fs fd sz (nc_g w) la aa pe (e + 1) (lN a) (lN 0) (nI k) := by
  intro e
  induction e with
  | zero =>
    intro k hk
    exact br_t (nI_le (a := 120) (b := k) (by omega) (by omega)) (br_t ((pk_lLE (a := 1) (by omega) ha6).mpr ha) h)
  | succ e ih =>
    intro k hk
    exact br_f (nI_ge (a := k) (b := 120) (by omega) (by omega)) (br_t ((pk_lLE (a := 0) (b := 0) (by omega) (by omega)).mpr (by omega)) (nm_r (nI_1 k) (ih (k + 1) (by omega))))
theorem yy_co20 {post : Int64 → Prop} : ∀ j e k a b, b < 2 ^ j → 2 * j ≤ e → k + e = 120 → a < 2 ^ 63 → b < 2 ^ 63 → 0 < Nat.gcd b a → post (lN (Nat.gcd b a)) → wY_common_20 post (nI n) fs fd sz (nc_g w) la aa pe (e + 1) (lN a) (lN b) (nI k) := by
  intro j
  induction j with
  | zero =>
    intro e k a b hb he hk ha6 hb6 hg h
    obtain rfl : b = 0 := by have : 2 ^ 0 = 1 := rfl; omega
    rw [Nat.gcd_zero_left] at h hg
    exact yy_co0 hg ha6 h e k hk
  | succ j ih =>
    intro e k a b hb he hk ha6 hb6 hg h
    by_cases c : b = 0
    · subst c
      rw [Nat.gcd_zero_left] at h hg
      exact yy_co0 hg ha6 h e k hk
    · obtain ⟨e', rfl⟩ : ∃ e', e = e' + 1 + 1 := ⟨e - 2, by omega⟩
      have hm := Nat.mod_lt a (Nat.pos_of_ne_zero c)
      rw [Nat.gcd_rec] at h hg
      have hne : ¬ lN b = 0 := fun e => c ((nc_lz hb6).mp e)
      refine br_f (nI_ge (a := k) (b := 120) (by omega) (by omega)) (br_f (fun e => ?_) ⟨hne, nm_r (pk_lRem ha6 (by omega) hb6) (nm_r (nI_1 k) ?_)⟩)
      · have := (pk_lLE hb6 (b := 0) (by omega)).mp e
        omega
      by_cases c2 : a % b = 0
      · rw [c2, Nat.gcd_zero_left] at h
        rw [c2]
        exact yy_co0 (by omega) hb6 h (e' + 1) (k + 1) (by omega)
      · rw [Nat.gcd_rec] at h hg
        have hne2 : ¬ lN (a % b) = 0 := fun e => c2 ((nc_lz (by omega)).mp e)
        have hh := nc_hf (a := b) (r := a % b) (by omega) (by omega)
        refine br_f (nI_ge (a := k + 1) (b := 120) (by omega) (by omega)) (br_f (fun e => ?_) ⟨hne2, nm_r (pk_lRem hb6 (by omega) (by omega)) (nm_r (nI_1 (k + 1)) (ih e' (k + 1 + 1) _ _ ?_ (by omega) (by omega) (by omega) (by omega) hg h))⟩)
        · have := (pk_lLE (a := a % b) (b := 0) (by omega) (by omega)).mp e
          omega
        · have : 2 ^ (j + 1) = 2 * 2 ^ j := by rw [Nat.pow_succ, Nat.mul_comm]
          omega
theorem yy_com {post : Int64 → Prop} {z y : Int} (hz : z.natAbs < 2 ^ 63) (hy : 0 < y) (hy6 : y.natAbs < 2 ^ 59) (h : post (nc_G z y)) : wpY_common post (nI n, fs, fd, sz, nc_g w, la, aa, pe) (nc_l z) (nc_l y) := by
  have hg : 0 < Nat.gcd z.natAbs y.natAbs := Nat.gcd_pos_of_pos_right _ (by omega)
  have h20 : wY_common_20 post (nI n) fs fd sz (nc_g w) la aa pe (120 + 1) (lN z.natAbs) (lN y.natAbs) (nI 0) := yy_co20 59 120 0 _ _ hy6 (by omega) (by omega) hz (by omega) (by rw [Nat.gcd_comm]; exact hg) (by rw [Nat.gcd_comm]; exact h)
  rw [← nc_labs (z := y) (by omega) (by omega)] at h20
  unfold wpY_common
  by_cases c : 0 ≤ z
  · refine br_t ((nc_l_le hz).mpr c) ⟨120 + 1, ?_⟩
    rw [← nc_labs hz c] at h20
    exact h20
  · exact br_f (fun e => c ((nc_l_le hz).mp e)) (nm_r (nc_labn hz c) ⟨120 + 1, h20⟩)
theorem nc_G1 {z y : Int} (hy : 0 < y) (hy6 : y.natAbs < 2 ^ 63) : 1 ≤ nc_G z y ∧ ¬ nc_G z y = 0 := by
  have hg : 0 < Nat.gcd z.natAbs y.natAbs := Nat.gcd_pos_of_pos_right _ (by omega)
  have hg6 : Nat.gcd z.natAbs y.natAbs < 2 ^ 63 := Nat.lt_of_le_of_lt (Nat.le_of_dvd (by omega) (Nat.gcd_dvd_right z.natAbs y.natAbs)) hy6
  exact ⟨(pk_lLE (a := 1) (by omega) hg6).mpr hg, fun e => by have := (nc_lz hg6).mp e; omega⟩
theorem yy_top {post : Int64 → Prop} {z y : Int} (hz : z.natAbs < 2 ^ 63) (hy : 0 < y) (hy6 : y.natAbs < 2 ^ 59) (h : post (nc_l z / nc_G z y)) : wpY_top post (nI n, fs, fd, sz, nc_g w, la, aa, pe) (nc_l z) (nc_l y) := by
  have hG := nc_G1 (z := z) hy (by omega)
  unfold wpY_top
  exact yy_com hz hy hy6 (br_t hG.1 ⟨hG.2, h⟩)
theorem yy_bot {post : Int64 → Prop} {z y : Int} (hz : z.natAbs < 2 ^ 63) (hy : 0 < y) (hy6 : y.natAbs < 2 ^ 59) (h : post (nc_l y / nc_G z y)) : wpY_bottom post (nI n, fs, fd, sz, nc_g w, la, aa, pe) (nc_l z) (nc_l y) := by
  have hG := nc_G1 (z := z) hy (by omega)
  unfold wpY_bottom
  exact yy_com hz hy hy6 (br_t hG.1 ⟨hG.2, h⟩)
end
end
section
/-! currentFrom, voltage, current, resistance, flow: X; live, whole, share, refusal: Y -/
theorem nc_i10 : ¬ (1 : Int32) = 0 := by decide
section
variable {n s d : Nat} {w : Nat → Nat}
theorem xx_cf5 {fs fd : Int32} {ft fw : Int64} {pa ro : Nat → Int32} {ta tp : Nat → Int64} {post : Int64 → Prop} (hok : nc_ok n w) (hs : s < n) (htp : ∀ q, q < n → tp q = nc_l (nc_vo n w s d q)) (h : post (nc_l (nc_cu n w s d))) :
    ∀ e q, q + e = n → wX_currentFrom_5 post (nI s) (nI n) fs fd (nc_l (nc_wh n w s d)) ft fw (nc_g w) pa ta ro tp (e + 1) (nc_l (nc_sg q (fun q => nc_w w s q * (nc_wh n w s d - nc_vo n w s d q)))) (nI q) := by
  have hn := hok.1.2
  intro e
  induction e with
  | zero =>
    intro q hq
    obtain rfl : q = n := by omega
    exact br_t (nI_le (by omega) (by omega)) h
  | succ e ih =>
    intro q hq
    refine br_f (nI_ge (by omega) (by omega)) ⟨nc_inI (by omega) (by omega), vp_in_nI (by omega) (by omega), nm_r (e' := nc_l (nc_sg (q + 1) (fun q => nc_w w s q * (nc_wh n w s d - nc_vo n w s d q)))) ?_ (nm_r (nI_1 q) (ih (q + 1) (by omega)))⟩
    rw [nc_cl (by omega) (by omega), nI_clamp (by omega), htp q (by omega), show nc_g w (6 * s + q) = nI (w (6 * s + q)) from rfl, nc_l_i (by have := hok.2.1 (6 * s + q); omega), nc_l_s, nc_l_m, nc_l_a]
    rfl
theorem xx_cf {fs fd : Int32} {ft fw : Int64} {pa ro : Nat → Int32} {ta tp : Nat → Int64} {post : Int64 → Prop} (hok : nc_ok n w) (hs : s < n) (hd : d < n) (hsd : s ≠ d) (htp : ∀ q, q < n → tp q = nc_l (nc_vo n w s d q)) (h : post (nc_l (nc_lo n w s d))) :
    wpX_currentFrom post (nI n, fs, fd, nc_l (nc_wh n w s d), ft, fw, nc_g w, pa, ta, ro, tp) (nI s) := by
  unfold wpX_currentFrom
  rw [nc_loc hok hs hd hsd] at h
  refine ⟨n + 1, ?_⟩
  have h1 := xx_cf5 (fs := fs) (fd := fd) (ft := ft) (fw := fw) (pa := pa) (ro := ro) (ta := ta) hok hs htp h n 0 (by omega)
  rw [show nc_l (nc_sg 0 (fun q => nc_w w s q * (nc_wh n w s d - nc_vo n w s d q))) = 0 from nc_l_0] at h1
  exact h1
theorem xx_voltage {fb ft fw : Int64} {pa ro : Nat → Int32} {ta tp : Nat → Int64} {v : Int32} {post : Int32 → SX → Prop} (hok : nc_ok n w) (hs : s < n) (hd : d < n) (hsd : s ≠ d)
    (h1 : (¬ ∃ p, p < n ∧ v = nI p) → ∀ fb ft fw pa ta ro tp, post (-1) (nI n, nI s, nI d, fb, ft, fw, nc_g w, pa, ta, ro, tp))
    (h2 : ∀ p, p < n → v = nI p → ¬ nc_lab n w s = nc_lab n w d → ∀ fb ft fw pa ta ro tp, post (-2) (nI n, nI s, nI d, fb, ft, fw, nc_g w, pa, ta, ro, tp))
    (h3 : ∀ p, p < n → v = nI p → nc_lab n w s = nc_lab n w d → ¬ nc_lab n w p = nc_lab n w s → ∀ fb ft fw pa ta ro tp, post (-3) (nI n, nI s, nI d, fb, ft, fw, nc_g w, pa, ta, ro, tp))
    (h4 : ∀ p, p < n → v = nI p → nc_lab n w s = nc_lab n w d → nc_lab n w p = nc_lab n w s → ∀ fb pa ta ro tp, post 0 (nI n, nI s, nI d, fb, nc_l (nc_vo n w s d p) / nc_G (nc_vo n w s d p) (nc_wh n w s d), nc_l (nc_wh n w s d) / nc_G (nc_vo n w s d p) (nc_wh n w s d), nc_g w, pa, ta, ro, tp)) :
    wpX_voltage post (nI n, nI s, nI d, fb, ft, fw, nc_g w, pa, ta, ro, tp) v := by
  have hn := hok.1.2
  have hL := nc_lab_ok n w
  unfold wpX_voltage
  by_cases hv : ∃ p, p < n ∧ v = nI p
  · obtain ⟨p, hp, rfl⟩ := hv
    have hlp := hL.1 p hp
    have hls := hL.1 s hs
    refine xx_pt_t hn hp (br_f nc_i10 ?_)
    refine xx_solve hok hs hd hsd (fun e pa' hpa' => br_t rfl (h2 p hp rfl e _ _ _ _ _ _ _)) (fun e pa' ta' ro' tp' hpa' htp' => br_f nc_i10 ?_)
    refine ⟨vp_in_nI (by omega) (by omega), vp_in_nI (by omega) (by omega), pk_eq (nc_lab n w p) (nc_lab n w s) (fun e2 => ⟨vp_in_nI (by omega) (by omega), ?_⟩) (fun e2 => h3 p hp rfl e e2 _ _ _ _ _ _ _) (by rw [nI_clamp (by omega)]; exact hpa' p hp) (by rw [nI_clamp (by omega)]; exact hpa' s hs) (by omega) (by omega)⟩
    have b1 := nc_vo_b hok hs hd hsd p
    have b2 := nc_wh_b hok hs hd hsd
    rw [nI_clamp (by omega), htp' p hp]
    exact xx_show (by omega) (nc_whp hok hs hd hsd e) (by omega) (h4 p hp rfl e e2 _ _ _ _ _)
  · exact xx_pt_f hn hv (br_t rfl (h1 hv _ _ _ _ _ _ _))
theorem xx_current {fb ft fw : Int64} {pa ro : Nat → Int32} {ta tp : Nat → Int64} {post : SX → Prop} (hok : nc_ok n w) (hs : s < n) (hd : d < n) (hsd : s ≠ d)
    (h1 : ¬ nc_lab n w s = nc_lab n w d → ∀ fb pa ta ro tp, post (nI n, nI s, nI d, fb, 0, 1, nc_g w, pa, ta, ro, tp))
    (h2 : nc_lab n w s = nc_lab n w d → ∀ fb pa ta ro tp, post (nI n, nI s, nI d, fb, nc_l (nc_lo n w s d) / nc_G (nc_lo n w s d) (nc_wh n w s d), nc_l (nc_wh n w s d) / nc_G (nc_lo n w s d) (nc_wh n w s d), nc_g w, pa, ta, ro, tp)) :
    wpX_current post (nI n, nI s, nI d, fb, ft, fw, nc_g w, pa, ta, ro, tp) := by
  unfold wpX_current
  refine xx_solve hok hs hd hsd (fun e pa' _ => br_t rfl (h1 e _ _ _ _ _)) (fun e pa' ta' ro' tp' _ htp' => br_f nc_i10 ?_)
  have b1 := nc_lo_b (w := w) (s := s) hok hd
  have b2 := nc_wh_b hok hs hd hsd
  exact xx_cf hok hs hd hsd htp' (xx_show (by omega) (nc_whp hok hs hd hsd e) (by omega) (h2 e _ _ _ _ _))
theorem xx_resistance {fs fd : Int32} {fb ft fw : Int64} {pa ro : Nat → Int32} {ta tp : Nat → Int64} {v1 v2 : Int32} {post : Int32 → SX → Prop} (hok : nc_ok n w)
    (h1 : ¬ ((∃ p, p < n ∧ v1 = nI p) ∧ (∃ p, p < n ∧ v2 = nI p)) → ∀ fb ft fw pa ta ro tp, post (-1) (nI n, fs, fd, fb, ft, fw, nc_g w, pa, ta, ro, tp))
    (h2 : ∀ p, p < n → v1 = nI p → v2 = nI p → ∀ fb pa ta ro tp, post 0 (nI n, fs, fd, fb, 0, 1, nc_g w, pa, ta, ro, tp))
    (h3 : ∀ p q, p < n → q < n → v1 = nI p → v2 = nI q → p ≠ q → ¬ nc_lab n w p = nc_lab n w q → ∀ fb ft fw pa ta ro tp, post (-2) (nI n, fs, fd, fb, ft, fw, nc_g w, pa, ta, ro, tp))
    (h4 : ∀ p q, p < n → q < n → v1 = nI p → v2 = nI q → p ≠ q → nc_lab n w p = nc_lab n w q → ∀ fb pa ta ro tp, post 0 (nI n, fs, fd, fb, nc_l (nc_wh n w p q) / nc_G (nc_wh n w p q) (nc_lo n w p q), nc_l (nc_lo n w p q) / nc_G (nc_wh n w p q) (nc_lo n w p q), nc_g w, pa, ta, ro, tp)) :
    wpX_resistance post (nI n, fs, fd, fb, ft, fw, nc_g w, pa, ta, ro, tp) v1 v2 := by
  have hn := hok.1.2
  unfold wpX_resistance
  by_cases hv : ∃ p, p < n ∧ v1 = nI p
  · obtain ⟨p, hp, rfl⟩ := hv
    refine xx_pt_t hn hp (br_f nc_i10 ?_)
    by_cases hv2 : ∃ p, p < n ∧ v2 = nI p
    · obtain ⟨q, hq, rfl⟩ := hv2
      refine xx_pt_t hn hq (br_f nc_i10 (pk_eq p q (fun e => ?_) (fun e => ?_) rfl rfl (by omega) (by omega)))
      · exact h2 p hp rfl (by rw [e]) _ _ _ _ _
      · refine xx_solve hok hp hq e (fun e2 pa' _ => br_t rfl (h3 p q hp hq rfl rfl e e2 _ _ _ _ _ _ _)) (fun e2 pa' ta' ro' tp' _ htp' => br_f nc_i10 ?_)
        have b1 := nc_lo_b (w := w) (s := p) hok hq
        have b2 := nc_wh_b hok hp hq e
        exact xx_cf hok hp hq e htp' (xx_show (by omega) (nc_lop hok hq e2) (by omega) (h4 p q hp hq rfl rfl e e2 _ _ _ _ _))
    · exact xx_pt_f hn hv2 (br_t rfl (h1 (fun c => hv2 c.2) _ _ _ _ _ _ _))
  · exact xx_pt_f hn hv (br_t rfl (h1 (fun c => hv c.1) _ _ _ _ _ _ _))
def nc_fl (n : Nat) (w : Nat → Nat) (s d p q : Nat) (V : Nat → Int) : Int := nc_w w p q * (V p - V q)
theorem nc_fl_b {p q : Nat} (hok : nc_ok n w) (hs : s < n) (hd : d < n) (hsd : s ≠ d) : (nc_fl n w s d p q (nc_vo n w s d)).natAbs < 2 ^ 49 := by
  have b1 := nc_vo_b hok hs hd hsd p
  have b2 := nc_vo_b hok hs hd hsd q
  have h1 : (nc_w w p q).natAbs ≤ 54 := by
    have := hok.2.1 (6 * p + q)
    show ((w (6 * p + q) : Int)).natAbs ≤ 54
    omega
  have h2 := nc_mb (b := nc_vo n w s d p - nc_vo n w s d q) (B := 408146688) h1 (by omega)
  unfold nc_fl
  omega
theorem xx_flow {fb ft fw : Int64} {pa ro : Nat → Int32} {ta tp : Nat → Int64} {v1 v2 : Int32} {post : SX → Prop} (hok : nc_ok n w) (hs : s < n) (hd : d < n) (hsd : s ≠ d)
    (h1 : ¬ (∃ p q, p < n ∧ q < n ∧ v1 = nI p ∧ v2 = nI q ∧ nc_lab n w s = nc_lab n w d ∧ nc_lab n w p = nc_lab n w s ∧ nc_lab n w q = nc_lab n w s) → ∀ fb pa ta ro tp, post (nI n, nI s, nI d, fb, 0, 1, nc_g w, pa, ta, ro, tp))
    (h2 : ∀ p q, p < n → q < n → v1 = nI p → v2 = nI q → nc_lab n w s = nc_lab n w d → nc_lab n w p = nc_lab n w s → nc_lab n w q = nc_lab n w s →
      ∀ fb pa ta ro tp, post (nI n, nI s, nI d, fb, nc_l (nc_fl n w s d p q (nc_vo n w s d)) / nc_G (nc_fl n w s d p q (nc_vo n w s d)) (nc_wh n w s d), nc_l (nc_wh n w s d) / nc_G (nc_fl n w s d p q (nc_vo n w s d)) (nc_wh n w s d), nc_g w, pa, ta, ro, tp)) :
    wpX_flow post (nI n, nI s, nI d, fb, ft, fw, nc_g w, pa, ta, ro, tp) v1 v2 := by
  have hn := hok.1.2
  have hL := nc_lab_ok n w
  unfold wpX_flow
  by_cases hv : ∃ p, p < n ∧ v1 = nI p
  · obtain ⟨p, hp, rfl⟩ := hv
    refine xx_pt_t hn hp (br_f nc_i10 ?_)
    by_cases hv2 : ∃ p, p < n ∧ v2 = nI p
    · obtain ⟨q, hq, rfl⟩ := hv2
      have hlp := hL.1 p hp
      have hlq := hL.1 q hq
      have hls := hL.1 s hs
      have inj : ∀ a b : Nat, a < n → b < n → nI a = nI b → a = b := fun a b ha hb e => (nI_eq (by omega) (by omega)).mp e
      refine xx_pt_t hn hq (br_f nc_i10 ?_)
      refine xx_solve hok hs hd hsd (fun e pa' _ => br_t rfl (h1 (fun ⟨_, _, _, _, _, _, c, _, _⟩ => e c) _ _ _ _ _)) (fun e pa' ta' ro' tp' hpa' htp' => br_f nc_i10 ?_)
      refine ⟨vp_in_nI (by omega) (by omega), vp_in_nI (by omega) (by omega), pk_eq (nc_lab n w p) (nc_lab n w s) (fun e2 => ?_) (fun e2 => h1 (fun ⟨a, b, ha, hb, ea, eb, _, c, _⟩ => e2 (by rw [inj p a hp ha ea]; exact c)) _ _ _ _ _) (by rw [nI_clamp (by omega)]; exact hpa' p hp) (by rw [nI_clamp (by omega)]; exact hpa' s hs) (by omega) (by omega)⟩
      refine ⟨vp_in_nI (by omega) (by omega), vp_in_nI (by omega) (by omega), pk_eq (nc_lab n w q) (nc_lab n w s) (fun e3 => ?_) (fun e3 => h1 (fun ⟨a, b, ha, hb, ea, eb, _, _, c⟩ => e3 (by rw [inj q b hq hb eb]; exact c)) _ _ _ _ _) (by rw [nI_clamp (by omega)]; exact hpa' q hq) (by rw [nI_clamp (by omega)]; exact hpa' s hs) (by omega) (by omega)⟩
      have b1 := nc_fl_b (p := p) (q := q) hok hs hd hsd
      have b2 := nc_wh_b hok hs hd hsd
      refine ⟨nc_inI (by omega) (by omega), vp_in_nI (by omega) (by omega), vp_in_nI (by omega) (by omega), nm_r (e' := nc_l (nc_fl n w s d p q (nc_vo n w s d))) ?_ (xx_show b1 (nc_whp hok hs hd hsd e) (by omega) (h2 p q hp hq rfl rfl e e2 e3 _ _ _ _ _))⟩
      rw [nc_cl (by omega) (by omega), nI_clamp (by omega), nI_clamp (by omega), htp' p hp, htp' q hq, show nc_g w (6 * p + q) = nI (w (6 * p + q)) from rfl, nc_l_i (by have := hok.2.1 (6 * p + q); omega), nc_l_s, nc_l_m]
      rfl
    · exact xx_pt_f hn hv2 (br_t rfl (h1 (fun ⟨_, b, _, hb, _, eb, _⟩ => hv2 ⟨b, hb, eb⟩) _ _ _ _ _))
  · exact xx_pt_f hn hv (br_t rfl (h1 (fun ⟨a, _, ha, _, ea, _⟩ => hv ⟨a, ha, ea⟩) _ _ _ _ _))
/-! Y -/
theorem yy_live {sz : Int32} {la aa pe : Nat → Int32} {post : Int32 → SY → Prop} (hok : nc_ok n w) (hs : s < n) (hd : d < n)
    (h1 : ¬ nc_lab n w s = nc_lab n w d → ∀ la, post 0 (nI n, nI s, nI d, sz, nc_g w, la, aa, pe))
    (h2 : nc_lab n w s = nc_lab n w d → ∀ la, (∀ p, p < n → la p = nI (nc_lab n w p)) → post 1 (nI n, nI s, nI d, sz, nc_g w, la, aa, pe)) : wpY_live post (nI n, nI s, nI d, sz, nc_g w, la, aa, pe) := by
  have hn := hok.1.2
  have hL := nc_lab_ok n w
  have hls := hL.1 s hs
  have hld := hL.1 d hd
  unfold wpY_live
  refine yy_gr hok (fun la' hla' => ?_)
  exact ⟨vp_in_nI (by omega) (by omega), vp_in_nI (by omega) (by omega), pk_eq (nc_lab n w s) (nc_lab n w d) (fun e => h2 e la' hla') (fun e => h1 e la') (by rw [nI_clamp (by omega)]; exact hla' s hs) (by rw [nI_clamp (by omega)]; exact hla' d hd) (by omega) (by omega)⟩
theorem yy_whole {sz : Int32} {la aa pe : Nat → Int32} {post : Int64 → SY → Prop} (hok : nc_ok n w) (hs : s < n) (hd : d < n) (hsd : s ≠ d)
    (h : ∀ sz la aa pe, post (nc_l (nc_wh n w s d)) (nI n, nI s, nI d, sz, nc_g w, la, aa, pe)) : wpY_whole post (nI n, nI s, nI d, sz, nc_g w, la, aa, pe) := by
  have hn := hok.1.2
  have hM := nc_M2 (w := w) hs hd hsd
  have hM' : nc_cn (nc_P3 n w s s d) n ≤ 5 := by
    have : nc_cn (nc_P3 n w s s d) n = nc_M n w s d := rfl
    omega
  unfold wpY_whole
  refine yy_td (t := 0) hok hs (by omega) (by omega) (by omega) hM' (fun sz' la' aa' pe' => ?_)
  rw [nc_whY hok hs hd hsd]
  exact h _ _ _ _
theorem yy_local {sz : Int32} {la aa pe : Nat → Int32} {post : Int64 → SY → Prop} (hok : nc_ok n w) (hs : s < n) (hd : d < n)
    (h : ∀ sz la aa pe, post (nc_l (nc_lo n w s d)) (nI n, nI s, nI d, sz, nc_g w, la, aa, pe)) : wpY_local post (nI n, nI s, nI d, sz, nc_g w, la, aa, pe) := by
  have hn := hok.1.2
  have hM := nc_lM (w := w) (s := s) hd
  unfold wpY_local
  refine yy_td (t := 0) hok hs (by omega) (by omega) (by omega) (by omega) (fun sz' la' aa' pe' => ?_)
  rw [nc_loY hok hd]
  exact h _ _ _ _
theorem yy_share {sz : Int32} {la aa pe : Nat → Int32} {post : Int64 → SY → Prop} {p : Nat} (hok : nc_ok n w) (hs : s < n) (hd : d < n) (hsd : s ≠ d) (hp : p < n) (hl : nc_lab n w p = nc_lab n w s)
    (h : ∀ sz la aa pe, post (nc_l (nc_vo n w s d p)) (nI n, nI s, nI d, sz, nc_g w, la, aa, pe)) : wpY_share post (nI n, nI s, nI d, sz, nc_g w, la, aa, pe) (nI p) := by
  have hn := hok.1.2
  have hM := nc_M2 (w := w) hs hd hsd
  have hM' : nc_cn (nc_P3 n w s s d) n ≤ 5 := by
    have : nc_cn (nc_P3 n w s s d) n = nc_M n w s d := rfl
    omega
  unfold wpY_share
  refine pk_eq p d (fun e => ?_) (fun e => ?_) rfl rfl (by omega) (by omega)
  · have h1 := h sz la aa pe
    rw [e, nc_vod hsd, nc_l_0] at h1
    exact h1
  · refine yy_ta hok hs (by omega) (by omega) (fun la' aa' haa => ?_)
    have hpt : ∀ i, i < nc_cn (nc_P3 n w s s d) n → nc_pt (nc_P3 n w s s d) n i < 6 := fun i hi => by
      have := (nc_pt_ok (P := nc_P3 n w s s d) (n := n) (i := i) hi).2.1
      omega
    refine pk_eq p s (fun e2 => ?_) (fun e2 => ?_) rfl rfl (by omega) (by omega)
    · refine yy_de (t := 0) hok hM' (by omega) hpt haa (fun pe' => ?_)
      rw [nc_whY hok hs hd hsd]
      have h1 := h (nI (nc_cn (nc_P3 n w s s d) n)) la' aa' pe'
      rw [e2, nc_vos] at h1
      exact h1
    · refine yy_de (t := s) hok hM' (by omega) hpt haa (fun pe' => ?_)
      rw [nc_shY hok hs hd hsd hp (decide_eq_true ⟨hl, e2, e⟩)]
      exact h _ _ _ _
theorem yy_refusal {sz : Int32} {la aa pe : Nat → Int32} {v : Int32} {post : Int64 → SY → Prop} (hok : nc_ok n w) (hs : s < n) (hd : d < n)
    (h1 : (¬ ∃ p, p < n ∧ v = nI p) → ∀ sz la aa pe, post (-1) (nI n, nI s, nI d, sz, nc_g w, la, aa, pe))
    (h2 : ∀ p, p < n → v = nI p → ¬ nc_lab n w s = nc_lab n w d → ∀ sz la aa pe, post (-2) (nI n, nI s, nI d, sz, nc_g w, la, aa, pe))
    (h3 : ∀ p, p < n → v = nI p → nc_lab n w s = nc_lab n w d → ¬ nc_lab n w p = nc_lab n w s → ∀ sz la aa pe, post (-3) (nI n, nI s, nI d, sz, nc_g w, la, aa, pe))
    (h4 : ∀ p, p < n → v = nI p → nc_lab n w s = nc_lab n w d → nc_lab n w p = nc_lab n w s → ∀ sz la aa pe, post 0 (nI n, nI s, nI d, sz, nc_g w, la, aa, pe)) :
    wpY_refusal post (nI n, nI s, nI d, sz, nc_g w, la, aa, pe) v := by
  have hn := hok.1.2
  have hL := nc_lab_ok n w
  unfold wpY_refusal
  by_cases hv : ∃ p, p < n ∧ v = nI p
  · obtain ⟨p, hp, rfl⟩ := hv
    have hlp := hL.1 p hp
    have hls := hL.1 s hs
    refine yy_bd_t hn hp (br_t rfl ?_)
    refine yy_live hok hs hd (fun e la' => br_t rfl (h2 p hp rfl e _ _ _ _)) (fun e la' hla' => br_f nc_i10 ?_)
    exact ⟨vp_in_nI (by omega) (by omega), vp_in_nI (by omega) (by omega), pk_eq (nc_lab n w p) (nc_lab n w s) (fun e2 => h4 p hp rfl e e2 _ _ _ _) (fun e2 => h3 p hp rfl e e2 _ _ _ _) (by rw [nI_clamp (by omega)]; exact hla' p hp) (by rw [nI_clamp (by omega)]; exact hla' s hs) (by omega) (by omega)⟩
  · exact yy_bd_f hn hv (br_f nc_i10 (h1 hv _ _ _ _))
end
end
section
/-! chain, bridges: both sides -/
def nc_nx (n a : Nat) : Nat := if a + 1 < n then a + 1 else 0
def nc_ca (n p : Nat) : Nat → Nat
  | 0 => p
  | k + 1 => nc_nx n (nc_ca n p k)
def nc_cw (n : Nat) (w : Nat → Nat) (p v : Nat) : Nat → (Nat → Nat)
  | 0 => w
  | k + 1 => nc_put (nc_cw n w p v k) (nc_ca n p k) (nc_ca n p (k + 1)) v
theorem nc_nx_lt {n a : Nat} (hn : 2 ≤ n) (ha : a < n) : nc_nx n a < n ∧ a ≠ nc_nx n a := by
  unfold nc_nx
  by_cases e : a + 1 < n
  · rw [if_pos e]; omega
  · rw [if_neg e]; omega
theorem nc_ca_lt {n p : Nat} (hn : 2 ≤ n) (hp : p < n) : ∀ k, nc_ca n p k < n := by
  intro k
  induction k with
  | zero => exact hp
  | succ k ih => exact (nc_nx_lt hn ih).1
theorem nc_ca_m {n p : Nat} (hn : 2 ≤ n) (hn6 : n ≤ 6) (hp : p < n) : ∀ k, nc_ca n p k = (p + k) % n := by
  intro k
  induction k with
  | zero => exact (Nat.mod_eq_of_lt hp).symm
  | succ k ih =>
    show nc_nx n (nc_ca n p k) = _
    rw [ih, show p + (k + 1) = p + k + 1 from by omega]
    unfold nc_nx
    generalize p + k = x
    by_cases e : x % n + 1 < n
    · rw [if_pos e]
      rcases (by omega : n = 2 ∨ n = 3 ∨ n = 4 ∨ n = 5 ∨ n = 6) with rfl | rfl | rfl | rfl | rfl <;> omega
    · rw [if_neg e]
      rcases (by omega : n = 2 ∨ n = 3 ∨ n = 4 ∨ n = 5 ∨ n = 6) with rfl | rfl | rfl | rfl | rfl <;> omega
theorem nc_cw_ok {n p v : Nat} {w : Nat → Nat} (hok : nc_ok n w) (hp : p < n) (hv : v ≤ 9) : ∀ k, nc_ok n (nc_cw n w p v k) := by
  intro k
  induction k with
  | zero => exact hok
  | succ k ih =>
    have h1 := nc_ca_lt hok.1.1 hp k
    have h2 := nc_nx_lt hok.1.1 h1
    exact nc_put_ok ih h1 h2.1 h2.2 hv
section
variable {n : Nat} {fs fd : Int32} {fb ft fw : Int64} {w : Nat → Nat} {pa ro : Nat → Int32} {ta tp : Nat → Int64}
variable {sz : Int32} {la aa pe : Nat → Int32}
theorem xx_ch43 {post : Int32 → SX → Prop} {p v c : Nat} (hok : nc_ok n w) (hp : p < n) (hc : c ≤ 6) (h : post 0 (nI n, fs, fd, fb, ft, fw, nc_g (nc_cw n w p v c), pa, ta, ro, tp)) :
    ∀ e k, k + e = c → wX_chain_43 post (nI c) (nI v) (e + 1) (nI (nc_ca n p k)) (nI k) (nI n) fs fd fb ft fw (nc_g (nc_cw n w p v k)) pa ta ro tp := by
  have hn := hok.1.2
  intro e
  induction e with
  | zero =>
    intro k hk
    obtain rfl : k = c := by omega
    exact br_t (nI_le (by omega) (by omega)) h
  | succ e ih =>
    intro k hk
    have h1 := nc_ca_lt hok.1.1 hp k
    have h2 := nc_nx_lt hok.1.1 h1
    have hi := ih (k + 1) (by omega)
    refine br_f (nI_ge (by omega) (by omega)) (pk_le n (nc_ca n p k + 1) (fun h3 => ?_) (fun h3 => ?_) rfl (nI_1 _) (by omega) (by omega))
    · have e1 : nc_ca n p (k + 1) = 0 := by
        show nc_nx n (nc_ca n p k) = 0
        exact if_neg (by omega)
      unfold wX_chain_68
      refine xx_set (q := 0) (by omega) (by omega) (by
        have : nc_nx n (nc_ca n p k) = 0 := e1
        omega) (nm_r (nI_1 k) ?_)
      have e2 : nc_cw n w p v (k + 1) = nc_put (nc_cw n w p v k) (nc_ca n p k) 0 v := by
        show nc_put (nc_cw n w p v k) (nc_ca n p k) (nc_ca n p (k + 1)) v = _
        rw [e1]
      rw [e1, e2] at hi
      exact hi
    · have e1 : nc_ca n p (k + 1) = nc_ca n p k + 1 := by
        show nc_nx n (nc_ca n p k) = _
        exact if_pos (by omega)
      unfold wX_chain_68
      rw [nI_1 (nc_ca n p k)]
      refine xx_set (by omega) (by omega) (by omega) (nm_r (nI_1 k) ?_)
      have e2 : nc_cw n w p v (k + 1) = nc_put (nc_cw n w p v k) (nc_ca n p k) (nc_ca n p k + 1) v := by
        show nc_put (nc_cw n w p v k) (nc_ca n p k) (nc_ca n p (k + 1)) v = _
        rw [e1]
      rw [e1, e2] at hi
      exact hi
theorem yy_ch40 {post : Int32 → SY → Prop} {p v c : Nat} (hok : nc_ok n w) (hp : p < n) (hc : c ≤ 6) (h : post 0 (nI n, fs, fd, sz, nc_g (nc_cw n w p v c), la, aa, pe)) :
    ∀ e k, k + e = c → wY_chain_40 post (nI p) (nI c) (nI v) (e + 1) (nI k) (nI n) fs fd sz (nc_g (nc_cw n w p v k)) la aa pe := by
  have hn := hok.1.2
  have hn1 := hok.1.1
  intro e
  induction e with
  | zero =>
    intro k hk
    obtain rfl : k = c := by omega
    exact br_t (nI_le (by omega) (by omega)) h
  | succ e ih =>
    intro k hk
    have h1 := nc_ca_lt hok.1.1 hp k
    have h2 := nc_nx_lt hok.1.1 h1
    have hi := ih (k + 1) (by omega)
    have hn0 : ¬ nI n = 0 := nI_ne0 (by omega) (by omega)
    have h1n : (1 : Int32) ≤ nI n := nI_le (a := 1) (b := n) (by omega) (by omega)
    refine br_f (nI_ge (by omega) (by omega)) (br_t h1n ⟨hn0, ?_⟩)
    rw [nI_add, pk_rem (by omega) (by omega) (by omega), ← nc_ca_m hn1 hn hp k]
    unfold wY_chain_67
    refine br_t h1n ⟨hn0, ?_⟩
    rw [nI_add, nI_1, pk_rem (by omega) (by omega) (by omega), show p + k + 1 = p + (k + 1) from by omega, ← nc_ca_m hn1 hn hp (k + 1)]
    unfold wY_chain_92
    have h3 : nc_ca n p (k + 1) < n := h2.1
    have h4 : nc_ca n p k ≠ nc_ca n p (k + 1) := h2.2
    exact br_f (fun e => h4 ((nI_eq (by omega) (by omega)).mp e)) (yy_put (by omega) (by omega) (nm_r (nI_1 k) hi))
end
/-! bridges -/
def nc_sN : Nat → (Nat → Nat) → Nat
  | 0, _ => 0
  | n + 1, f => nc_sN n f + f n
theorem nc_sN_t {m n : Nat} {f : Nat → Nat} (h : m ≤ n) (hz : ∀ i, m ≤ i → i < n → f i = 0) : nc_sN n f = nc_sN m f := by
  induction n with
  | zero =>
    have : m = 0 := by omega
    subst this; rfl
  | succ n ih =>
    by_cases e : m = n + 1
    · subst e; rfl
    · show nc_sN n f + f n = _
      rw [ih (by omega) (fun i hi hn => hz i hi (by omega)), hz n (by omega) (by omega)]; rfl
theorem nc_sN_z {n : Nat} {f : Nat → Nat} (hz : ∀ i, i < n → f i = 0) : nc_sN n f = 0 := nc_sN_t (m := 0) (Nat.zero_le n) (fun i _ hi => hz i hi)
noncomputable def nc_br (n : Nat) (w : Nat → Nat) (p q : Nat) : Nat := if 0 < w (6 * p + q) ∧ nc_pc n w < nc_pc n (nc_put w p q 0) then 1 else 0
noncomputable def nc_bX (n : Nat) (w : Nat → Nat) (k : Nat) : Nat := if k / 6 < k % 6 then nc_br n w (k / 6) (k % 6) else 0
theorem nc_b36 (F : Nat → Nat → Nat) : nc_sN 36 (fun k => if k / 6 < k % 6 then F (k / 6) (k % 6) else 0) = F 0 1 + F 0 2 + F 0 3 + F 0 4 + F 0 5 + F 1 2 + F 1 3 + F 1 4 + F 1 5 + F 2 3 + F 2 4 + F 2 5 + F 3 4 + F 3 5 + F 4 5 := by
  have e : nc_sN 36 (fun k => if k / 6 < k % 6 then F (k / 6) (k % 6) else 0) = 0 + 0 + F 0 1 + F 0 2 + F 0 3 + F 0 4 + F 0 5 + 0 + 0 + F 1 2 + F 1 3 + F 1 4 + F 1 5 + 0 + 0 + 0 + F 2 3 + F 2 4 + F 2 5 + 0 + 0 + 0 + 0 + F 3 4 + F 3 5 + 0 + 0 + 0 + 0 + 0 + F 4 5 + 0 + 0 + 0 + 0 + 0 + 0 := rfl
  rw [e]; omega
theorem nc_b6 (F : Nat → Nat → Nat) : nc_sN 6 (fun p => nc_sN p (fun q => F p q)) = F 1 0 + F 2 0 + F 2 1 + F 3 0 + F 3 1 + F 3 2 + F 4 0 + F 4 1 + F 4 2 + F 4 3 + F 5 0 + F 5 1 + F 5 2 + F 5 3 + F 5 4 := by
  have e : nc_sN 6 (fun p => nc_sN p (fun q => F p q)) = 0 + (0) + (0 + F 1 0) + (0 + F 2 0 + F 2 1) + (0 + F 3 0 + F 3 1 + F 3 2) + (0 + F 4 0 + F 4 1 + F 4 2 + F 4 3) + (0 + F 5 0 + F 5 1 + F 5 2 + F 5 3 + F 5 4) := rfl
  rw [e]; omega
theorem nc_bXY {n : Nat} {w : Nat → Nat} (hok : nc_ok n w) : nc_sN 36 (nc_bX n w) = nc_sN n (fun p => nc_sN p (fun q => nc_br n w p q)) := by
  have hn := hok.1.2
  have hsy : ∀ p q, p < 6 → q < 6 → nc_br n w p q = nc_br n w q p := by
    intro p q hp hq
    unfold nc_br
    rw [hok.2.2.1 p q hp hq, nc_put_sy w p q 0]
  have h1 : nc_sN n (fun p => nc_sN p (fun q => nc_br n w p q)) = nc_sN 6 (fun p => nc_sN p (fun q => nc_br n w p q)) := by
    refine (nc_sN_t hn (fun p hp1 hp2 => nc_sN_z (fun q hq => ?_))).symm
    unfold nc_br
    rw [if_neg (fun c => by
      have h2 := nc_ge hok hp2 (by omega) c.1
      omega)]
  rw [h1, nc_b6]
  refine (nc_b36 (nc_br n w)).trans ?_
  have s01 := hsy 0 1 (by omega) (by omega)
  have s02 := hsy 0 2 (by omega) (by omega)
  have s03 := hsy 0 3 (by omega) (by omega)
  have s04 := hsy 0 4 (by omega) (by omega)
  have s05 := hsy 0 5 (by omega) (by omega)
  have s12 := hsy 1 2 (by omega) (by omega)
  have s13 := hsy 1 3 (by omega) (by omega)
  have s14 := hsy 1 4 (by omega) (by omega)
  have s15 := hsy 1 5 (by omega) (by omega)
  have s23 := hsy 2 3 (by omega) (by omega)
  have s24 := hsy 2 4 (by omega) (by omega)
  have s25 := hsy 2 5 (by omega) (by omega)
  have s34 := hsy 3 4 (by omega) (by omega)
  have s35 := hsy 3 5 (by omega) (by omega)
  have s45 := hsy 4 5 (by omega) (by omega)
  omega
section
variable {n : Nat} {fs fd : Int32} {w : Nat → Nat}
theorem xx_br9 {fb ft fw : Int64} {ro : Nat → Int32} {ta tp : Nat → Int64} {post : Int32 → SX → Prop} (hok : nc_ok n w) (h : ∀ pa, post (nI (nc_sN 36 (nc_bX n w))) (nI n, fs, fd, fb, ft, fw, nc_g w, pa, ta, ro, tp)) :
    ∀ e k pa, k + e = 36 → wX_bridges_9 post (nI (nc_pc n w)) (e + 1) (nI (nc_sN k (nc_bX n w))) (nI k) (nI n) fs fd fb ft fw (nc_g w) pa ta ro tp := by
  have hn := hok.1.2
  intro e
  induction e with
  | zero =>
    intro k pa hk
    obtain rfl : k = 36 := by omega
    exact br_t (nI_le (a := 36) (b := 36) (by omega) (by omega)) (h pa)
  | succ e ih =>
    intro k pa hk
    have h6 : ¬ (6 : Int32) = 0 := by decide
    have hp6 : k / 6 < 6 := by omega
    have hq6 : k % 6 < 6 := by omega
    have hkk : 6 * (k / 6) + k % 6 = k := by omega
    have hw9 := hok.2.1 k
    have hs : nc_sN (k + 1) (nc_bX n w) = nc_sN k (nc_bX n w) + nc_bX n w k := rfl
    refine br_f (nI_ge (a := k) (b := 36) (by omega) (by omega)) ⟨h6, nm_r (pk_div (a := k) (d := 6) (by omega) (by omega) (by omega)) ⟨h6, nm_r (pk_rem (a := k) (d := 6) (by omega) (by omega) (by omega)) ⟨vp_in_nI (by omega) (by omega), nm_r (nc_gc (by omega)) ?_⟩⟩⟩
    have hz : nc_bX n w k = 0 → wX_bridges_9 post (nI (nc_pc n w)) (e + 1) (nI (nc_sN k (nc_bX n w))) (nI (k + 1)) (nI n) fs fd fb ft fw (nc_g w) pa ta ro tp := by
      intro z
      have h1 := ih (k + 1) pa (by omega)
      rw [hs, z] at h1
      exact h1
    refine pk_le (k % 6) (k / 6) (fun c1 => nm_r (nI_1 k) (hz (if_neg (by omega)))) (fun c1 => ?_) rfl rfl (by omega) (by omega)
    refine pk_le (w k) 0 (fun c2 => nm_r (nI_1 k) (hz ?_)) (fun c2 => ?_) rfl rfl (by omega) (by omega)
    · unfold nc_bX nc_br
      rw [if_pos c1, if_neg (fun c => by
        have := c.1
        rw [hkk] at this
        omega)]
    · have hpq := nc_ge hok hp6 hq6 (by rw [hkk]; exact c2)
      have hok' : nc_ok n (nc_put w (k / 6) (k % 6) 0) := nc_put_ok hok hpq.1 hpq.2 (by omega) (by omega)
      have hpc1 : nc_pc n w ≤ n := nc_cn_le _ _
      have hpc2 : nc_pc n (nc_put w (k / 6) (k % 6) 0) ≤ n := nc_cn_le _ _
      have hbk := nc_put_back hok hp6 hq6
      rw [hkk] at hbk
      refine xx_set (v := 0) hp6 hq6 (by omega) (xx_cp hok' (fun pa' => xx_set hp6 hq6 (by omega) ?_))
      rw [hbk]
      have h1 := ih (k + 1) pa' (by omega)
      refine pk_le (nc_pc n (nc_put w (k / 6) (k % 6) 0)) (nc_pc n w) (fun c3 => ?_) (fun c3 => ?_) rfl rfl (by omega) (by omega)
      · have z : nc_bX n w k = 0 := by
          unfold nc_bX nc_br
          rw [if_pos c1, if_neg (fun c => by
            have := c.2
            omega)]
        rw [hs, z] at h1
        exact nm_r (e' := nI (nc_sN k (nc_bX n w))) (Int32.add_zero _) (nm_r (nI_1 k) h1)
      · have z : nc_bX n w k = 1 := by
          unfold nc_bX nc_br
          rw [if_pos c1, if_pos ⟨by rw [hkk]; exact c2, c3⟩]
        rw [hs, z] at h1
        exact nm_r (nI_1 _) (nm_r (nI_1 k) h1)
theorem yy_br26 {sz : Int32} {aa pe : Nat → Int32} {post : Int32 → SY → Prop} {J : Int32 → Int32 → Int32 → Int32 → Int32 → Int32 → (Nat → Int32) → (Nat → Int32) → (Nat → Int32) → (Nat → Int32) → Prop} {p S : Nat} (hok : nc_ok n w) (hp : p < n)
    (hJ : ∀ la, J (nI (S + nc_sN p (fun q => nc_br n w p q))) (nI (p + 1)) (nI n) fs fd sz (nc_g w) la aa pe) :
    ∀ e q la, q + e = p → wY_bridges_26 post J (nI (nc_pc n w)) (nI p) (e + 1) (nI (S + nc_sN q (fun q => nc_br n w p q))) (nI q) (nI n) fs fd sz (nc_g w) la aa pe := by
  have hn := hok.1.2
  intro e
  induction e with
  | zero =>
    intro q la hq
    obtain rfl : q = p := by omega
    exact br_t (nI_le (by omega) (by omega)) (nm_r (nI_1 q) (hJ la))
  | succ e ih =>
    intro q la hq
    have hw9 := hok.2.1 (6 * p + q)
    have hbk := nc_put_back hok (p := p) (q := q) (by omega) (by omega)
    have hs : S + nc_sN (q + 1) (fun q => nc_br n w p q) = S + nc_sN q (fun q => nc_br n w p q) + nc_br n w p q := (Nat.add_assoc _ _ _).symm
    have hpc1 : nc_pc n w ≤ n := nc_cn_le _ _
    have hpc2 : nc_pc n (nc_put w p q 0) ≤ n := nc_cn_le _ _
    have hend : ∀ (la' : Nat → Int32) (z : Nat), nc_br n w p q = z → wY_bridges_70 post J (wY_bridges_26 post J (nI (nc_pc n w)) (nI p) (e + 1)) (nI (nc_pc n w)) (nI (S + nc_sN q (fun q => nc_br n w p q) + z)) (nI p) (nI q) (nI (w (6 * p + q))) (nI n) fs fd sz (nc_g (nc_put w p q 0)) la' aa pe := by
      intro la' z hz
      unfold wY_bridges_70
      refine yy_put (by omega) (by omega) (nm_r (nI_1 q) ?_)
      rw [hbk]
      have h1 := ih (q + 1) la' (by omega)
      rw [hs, hz] at h1
      exact h1
    refine br_f (nI_ge (by omega) (by omega)) ⟨nc_inI (by omega) (by omega), nm_r (e' := nI (w (6 * p + q))) (by rw [nc_cl (by omega) (by omega)]; rfl) ?_⟩
    refine yy_put (v := 0) (by omega) (by omega) ?_
    refine pk_le (w (6 * p + q)) 0 (fun c => ?_) (fun c => ?_) rfl rfl (by omega) (by omega)
    · exact hend la 0 (if_neg (fun h => by
        have := h.1
        omega))
    · have hok' : nc_ok n (nc_put w p q 0) := nc_put_ok hok hp (by omega) (by omega) (by omega)
      refine yy_gs hok' (fun la' => ?_)
      refine pk_le (nc_pc n (nc_put w p q 0)) (nc_pc n w) (fun c3 => ?_) (fun c3 => ?_) rfl rfl (by omega) (by omega)
      · exact hend la' 0 (if_neg (fun h => by
          have := h.2
          omega))
      · exact nm_r (nI_1 _) (hend la' 1 (if_pos ⟨c, c3⟩))
theorem yy_br9 {sz : Int32} {aa pe : Nat → Int32} {post : Int32 → SY → Prop} (hok : nc_ok n w) (h : ∀ la, post (nI (nc_sN n (fun p => nc_sN p (fun q => nc_br n w p q)))) (nI n, fs, fd, sz, nc_g w, la, aa, pe)) :
    ∀ e p la, p + e = n → wY_bridges_9 post (nI (nc_pc n w)) (e + 1) (nI (nc_sN p (fun p => nc_sN p (fun q => nc_br n w p q)))) (nI p) (nI n) fs fd sz (nc_g w) la aa pe := by
  have hn := hok.1.2
  intro e
  induction e with
  | zero =>
    intro p la hp
    obtain rfl : p = n := by omega
    exact br_t (nI_le (by omega) (by omega)) (h la)
  | succ e ih =>
    intro p la hp
    refine br_f (nI_ge (by omega) (by omega)) (br_f (nI_ge (a := p) (b := 6) (by omega) (by omega)) ⟨p + 1, ?_⟩)
    exact yy_br26 hok (by omega) (fun la' => ih (p + 1) la' (by omega)) p 0 la (by omega)
theorem xx_bridges {fb ft fw : Int64} {pa ro : Nat → Int32} {ta tp : Nat → Int64} {post : Int32 → SX → Prop} (hok : nc_ok n w) (h : ∀ pa, post (nI (nc_sN 36 (nc_bX n w))) (nI n, fs, fd, fb, ft, fw, nc_g w, pa, ta, ro, tp)) : wpX_bridges post (nI n, fs, fd, fb, ft, fw, nc_g w, pa, ta, ro, tp) := by
  unfold wpX_bridges
  exact xx_cp hok (fun pa' => ⟨37, xx_br9 hok h 36 0 pa' (by omega)⟩)
theorem yy_bridges {sz : Int32} {la aa pe : Nat → Int32} {post : Int32 → SY → Prop} (hok : nc_ok n w) (h : ∀ la, post (nI (nc_sN 36 (nc_bX n w))) (nI n, fs, fd, sz, nc_g w, la, aa, pe)) : wpY_bridges post (nI n, fs, fd, sz, nc_g w, la, aa, pe) := by
  unfold wpY_bridges
  rw [nc_bXY hok] at h
  exact yy_gs hok (fun la' => ⟨n + 1, yy_br9 hok h n 0 la' (by omega)⟩)
end
end
section
/-! resistance, flow: Y -/
theorem nc_nj {n p q : Nat} (hn : n ≤ 6) (hp : p < n) (hq : q < n) (e : nI p = nI q) : p = q := (nI_eq (by omega) (by omega)).mp e
section
variable {n s d : Nat} {w : Nat → Nat}
theorem yy_resistance {fs fd sz v1 v2 up : Int32} {la aa pe : Nat → Int32} {post : Int64 → SY → Prop} (hok : nc_ok n w)
    (h1 : ¬ ((∃ p, p < n ∧ v1 = nI p) ∧ (∃ p, p < n ∧ v2 = nI p)) → ∀ sz la aa pe, post (-1) (nI n, fs, fd, sz, nc_g w, la, aa, pe))
    (h2 : ∀ p, p < n → v1 = nI p → v2 = nI p → ∀ sz la aa pe, (up = 0 → post 1 (nI n, fs, fd, sz, nc_g w, la, aa, pe)) ∧ (¬ up = 0 → post 0 (nI n, fs, fd, sz, nc_g w, la, aa, pe)))
    (h3 : ∀ p q, p < n → q < n → v1 = nI p → v2 = nI q → p ≠ q → ¬ nc_lab n w p = nc_lab n w q → ∀ sz la aa pe, post (-2) (nI n, fs, fd, sz, nc_g w, la, aa, pe))
    (h4 : ∀ p q, p < n → q < n → v1 = nI p → v2 = nI q → p ≠ q → nc_lab n w p = nc_lab n w q → ∀ sz la aa pe, (up = 0 → post (nc_l (nc_lo n w p q) / nc_G (nc_wh n w p q) (nc_lo n w p q)) (nI n, fs, fd, sz, nc_g w, la, aa, pe)) ∧ (¬ up = 0 → post (nc_l (nc_wh n w p q) / nc_G (nc_wh n w p q) (nc_lo n w p q)) (nI n, fs, fd, sz, nc_g w, la, aa, pe))) :
    wpY_resistance post (nI n, fs, fd, sz, nc_g w, la, aa, pe) v1 v2 up := by
  have hn := hok.1.2
  have hL := nc_lab_ok n w
  unfold wpY_resistance
  by_cases hv : ∃ p, p < n ∧ v1 = nI p
  · obtain ⟨p, hp, rfl⟩ := hv
    have hlp := hL.1 p hp
    refine yy_bd_t hn hp (br_t rfl ?_)
    by_cases hv2 : ∃ p, p < n ∧ v2 = nI p
    · obtain ⟨q, hq, rfl⟩ := hv2
      have hlq := hL.1 q hq
      refine yy_bd_t hn hq (br_t rfl ?_)
      refine yy_gr hok (fun la' hla' => ?_)
      refine ⟨vp_in_nI (by omega) (by omega), vp_in_nI (by omega) (by omega), pk_eq (nc_lab n w p) (nc_lab n w q) (fun e => ?_) (fun e => ?_) (by rw [nI_clamp (by omega)]; exact hla' p hp) (by rw [nI_clamp (by omega)]; exact hla' q hq) (by omega) (by omega)⟩
      · refine pk_eq p q (fun e2 => ?_) (fun e2 => ?_) rfl rfl (by omega) (by omega)
        · exact h2 p hp rfl (by rw [e2]) _ _ _ _
        · have hM1 := nc_lM (w := w) (s := p) hq
          have hM2 := nc_M2 (w := w) hp hq e2
          have hM2' : nc_cn (nc_P3 n w p p q) n ≤ 5 := by
            have : nc_cn (nc_P3 n w p p q) n = nc_M n w p q := rfl
            omega
          have b1 := nc_lo_b (w := w) (s := p) hok hq
          have b2 := nc_wh_b hok hp hq e2
          refine yy_td (t := 0) hok hp (by omega) (by omega) (by omega) (by omega) (fun sz1 la1 aa1 pe1 => ?_)
          rw [nc_loY hok hq]
          refine yy_td (t := 0) hok hp (by omega) (by omega) (by omega) hM2' (fun sz2 la2 aa2 pe2 => ?_)
          rw [nc_whY hok hp hq e2]
          have h5 := h4 p q hp hq rfl rfl e2 e sz2 la2 aa2 pe2
          refine br_c (fun c => ?_) (fun c => ?_)
          · exact yy_bot (by omega) (nc_lop hok hq e) (by omega) (h5.1 c)
          · exact yy_top (by omega) (nc_lop hok hq e) (by omega) (h5.2 c)
      · exact h3 p q hp hq rfl rfl (fun c => e (by rw [c])) e _ _ _ _
    · exact yy_bd_f hn hv2 (br_f nc_i10 (h1 (fun c => hv2 c.2) _ _ _ _))
  · exact yy_bd_f hn hv (br_f nc_i10 (h1 (fun c => hv c.1) _ _ _ _))
theorem yy_flow9 {sz v1 v2 up : Int32} {z0 : Int64} {la aa pe : Nat → Int32} {post : Int64 → SY → Prop} (hok : nc_ok n w) (hs : s < n) (hd : d < n) (hsd : s ≠ d)
    (h1 : ¬ (∃ p q, p < n ∧ q < n ∧ v1 = nI p ∧ v2 = nI q ∧ nc_lab n w s = nc_lab n w d ∧ nc_lab n w p = nc_lab n w s ∧ nc_lab n w q = nc_lab n w s) → ∀ sz la aa pe, post z0 (nI n, nI s, nI d, sz, nc_g w, la, aa, pe))
    (h2 : ∀ p q, p < n → q < n → v1 = nI p → v2 = nI q → nc_lab n w s = nc_lab n w d → nc_lab n w p = nc_lab n w s → nc_lab n w q = nc_lab n w s → ∀ sz la aa pe,
      (up = 0 → post (nc_l (nc_wh n w s d) / nc_G (nc_fl n w s d p q (nc_vo n w s d)) (nc_wh n w s d)) (nI n, nI s, nI d, sz, nc_g w, la, aa, pe)) ∧ (¬ up = 0 → post (nc_l (nc_fl n w s d p q (nc_vo n w s d)) / nc_G (nc_fl n w s d p q (nc_vo n w s d)) (nc_wh n w s d)) (nI n, nI s, nI d, sz, nc_g w, la, aa, pe))) :
    wY_flow_9 post v1 v2 up z0 (nI n) (nI s) (nI d) sz (nc_g w) la aa pe := by
  have hn := hok.1.2
  have hL := nc_lab_ok n w
  unfold wY_flow_9
  by_cases hv : ∃ p, p < n ∧ v1 = nI p
  · obtain ⟨p, hp, rfl⟩ := hv
    refine yy_bd_t hn hp (br_t rfl ?_)
    by_cases hv2 : ∃ p, p < n ∧ v2 = nI p
    · obtain ⟨q, hq, rfl⟩ := hv2
      have hlp := hL.1 p hp
      have hlq := hL.1 q hq
      have hls := hL.1 s hs
      refine yy_bd_t hn hq (br_t rfl ?_)
      refine yy_live hok hs hd (fun e la' => br_t rfl (h1 (fun ⟨_, _, _, _, _, _, c, _, _⟩ => e c) _ _ _ _)) (fun e la' hla' => br_f nc_i10 ?_)
      refine ⟨vp_in_nI (by omega) (by omega), vp_in_nI (by omega) (by omega), pk_eq (nc_lab n w p) (nc_lab n w s) (fun e2 => ?_) (fun e2 => h1 (fun ⟨a, b, ha, hb, ea, eb, _, c, _⟩ => e2 (by rw [nc_nj hn hp ha ea]; exact c)) _ _ _ _) (by rw [nI_clamp (by omega)]; exact hla' p hp) (by rw [nI_clamp (by omega)]; exact hla' s hs) (by omega) (by omega)⟩
      refine ⟨vp_in_nI (by omega) (by omega), vp_in_nI (by omega) (by omega), pk_eq (nc_lab n w q) (nc_lab n w s) (fun e3 => ?_) (fun e3 => h1 (fun ⟨a, b, ha, hb, ea, eb, _, _, c⟩ => e3 (by rw [nc_nj hn hq hb eb]; exact c)) _ _ _ _) (by rw [nI_clamp (by omega)]; exact hla' q hq) (by rw [nI_clamp (by omega)]; exact hla' s hs) (by omega) (by omega)⟩
      have b1 := nc_fl_b (p := p) (q := q) hok hs hd hsd
      have b2 := nc_wh_b hok hs hd hsd
      refine yy_share hok hs hd hsd hp e2 (fun sz1 la1 aa1 pe1 => yy_share hok hs hd hsd hq e3 (fun sz2 la2 aa2 pe2 => yy_whole hok hs hd hsd (fun sz3 la3 aa3 pe3 => ?_)))
      have h5 := h2 p q hp hq rfl rfl e e2 e3 sz3 la3 aa3 pe3
      refine ⟨nc_inI (by omega) (by omega), nm_r (e' := nc_l (nc_fl n w s d p q (nc_vo n w s d))) ?_ (br_c (fun c => ?_) (fun c => ?_))⟩
      · rw [nc_cl (by omega) (by omega), show nc_g w (6 * p + q) = nI (w (6 * p + q)) from rfl, nc_l_i (by have := hok.2.1 (6 * p + q); omega), nc_l_s, nc_l_m]
        rfl
      · exact yy_bot (by omega) (nc_whp hok hs hd hsd e) (by omega) (h5.1 c)
      · exact yy_top (by omega) (nc_whp hok hs hd hsd e) (by omega) (h5.2 c)
    · exact yy_bd_f hn hv2 (br_f nc_i10 (h1 (fun ⟨_, b, _, hb, _, eb, _⟩ => hv2 ⟨b, hb, eb⟩) _ _ _ _))
  · exact yy_bd_f hn hv (br_f nc_i10 (h1 (fun ⟨a, _, ha, _, ea, _⟩ => hv ⟨a, ha, ea⟩) _ _ _ _))
end
/-! the relation -/
def i_Rel (_ : Nat) (u : SX) (v : SY) : Prop := ∃ (n s d : Nat) (w : Nat → Nat) (fb ft fw : Int64) (pa : Nat → Int32) (ta : Nat → Int64) (ro : Nat → Int32) (tp : Nat → Int64) (sz : Int32) (la aa pe : Nat → Int32),
  u = (nI n, nI s, nI d, fb, ft, fw, nc_g w, pa, ta, ro, tp) ∧ v = (nI n, nI s, nI d, sz, nc_g w, la, aa, pe) ∧ nc_ok n w ∧ s < n ∧ d < n ∧ s ≠ d
theorem nc_mkR {k n s d : Nat} {w : Nat → Nat} {fb ft fw : Int64} {pa : Nat → Int32} {ta : Nat → Int64} {ro : Nat → Int32} {tp : Nat → Int64} {sz : Int32} {la aa pe : Nat → Int32} (hok : nc_ok n w) (hs : s < n) (hd : d < n) (hsd : s ≠ d) :
    i_Rel k (nI n, nI s, nI d, fb, ft, fw, nc_g w, pa, ta, ro, tp) (nI n, nI s, nI d, sz, nc_g w, la, aa, pe) := ⟨n, s, d, w, fb, ft, fw, pa, ta, ro, tp, sz, la, aa, pe, rfl, rfl, hok, hs, hd, hsd⟩
theorem nc_el {k : Nat} {u : SX} {v : SY} {P : SX → SY → Prop}
    (h : ∀ (n s d : Nat) (w : Nat → Nat) (fb ft fw : Int64) (pa : Nat → Int32) (ta : Nat → Int64) (ro : Nat → Int32) (tp : Nat → Int64) (sz : Int32) (la aa pe : Nat → Int32), nc_ok n w → s < n → d < n → s ≠ d → P (nI n, nI s, nI d, fb, ft, fw, nc_g w, pa, ta, ro, tp) (nI n, nI s, nI d, sz, nc_g w, la, aa, pe))
    (I : i_Rel k u v) : P u v := by
  obtain ⟨n, s, d, w, fb, ft, fw, pa, ta, ro, tp, sz, la, aa, pe, hu, hv, hok, hs, hd, hsd⟩ := I
  rw [hu, hv]
  exact h n s d w fb ft fw pa ta ro tp sz la aa pe hok hs hd hsd
theorem i_up {k : Nat} {u : SX} {v : SY} (h : i_Rel k u v) : i_Rel (k + 4) u v := h
end
section
/-! what is owed -/
theorem nc_ok0 {n : Nat} (h2 : 2 ≤ n) (h6 : n ≤ 6) : nc_ok n (fun _ => 0) := ⟨⟨h2, h6⟩, fun _ => Nat.zero_le 9, fun _ _ _ _ => rfl, fun _ _ => rfl, fun _ _ _ _ _ => rfl⟩
theorem nc_init {n : Nat} (h2 : 2 ≤ n) (h6 : n ≤ 6) : i_Rel 1 (nI n, 0, 1, 0, 0, 0, (fun _ => 0), (fun _ => 0), (fun _ => 0), (fun _ => 0), (fun _ => 0)) (nI n, 0, 1, 0, (fun _ => 0), (fun _ => 0), (fun _ => 0), (fun _ => 0)) :=
  nc_mkR (s := 0) (d := 1) (nc_ok0 h2 h6) (by omega) (by omega) (by omega)
theorem i_vc0 (k0 : Int32) : wpX_init (fun u => wpY_init (fun v => i_Rel 1 u v) k0) k0 := by
  unfold wpX_init wpY_init
  by_cases h2 : 2 ≤ k0
  · refine br_t h2 ?_
    unfold wX_init_55
    by_cases h6 : k0 ≤ 6
    · have h0 : ¬ k0 < 0 := fun c => by
        have a1 := Int32.lt_iff_toInt_lt.mp c
        have a2 := Int32.le_iff_toInt_le.mp h2
        have a3 : (0 : Int32).toInt = 0 := by decide
        have a4 : (2 : Int32).toInt = 2 := by decide
        omega
      obtain ⟨j, hj, rfl⟩ := nI_of2 (x := k0) (M := 6) (n := 6) (by decide) h0 h6
      have hj2 : 2 ≤ j := (nI_leI (a := 2) (b := j) (by omega) (by omega)).mp h2
      exact br_t h6 (br_t h2 (br_t h6 (nc_init hj2 hj)))
    · exact br_f h6 (br_t h2 (br_f h6 (nc_init (n := 6) (by omega) (by omega))))
  · refine br_f h2 ?_
    unfold wX_init_55
    exact br_t (by decide) (br_f h2 (nc_init (n := 2) (by omega) (by omega)))
theorem i_vc_points {k : Nat} {u : SX} {v : SY} (I : i_Rel k u v) (hk : k + 4 ≤ 2049) : wpX_points (fun r => wpY_points (fun r' => r' = r ∧ i_Rel (k + 4) u v) v) u := by
  refine nc_el (P := fun u v => wpX_points (fun r => wpY_points (fun r' => r' = r ∧ i_Rel (k + 4) u v) v) u) ?_ I
  intro n s d w fb ft fw pa ta ro tp sz la aa pe hok hs hd hsd
  have hn := hok.1.2
  have hn1 := hok.1.1
  have hL := nc_lab_ok n w
  unfold wpX_points wpY_points
  exact ⟨rfl, nc_mkR hok hs hd hsd⟩
theorem i_vc_join {k : Nat} {u : SX} {v : SY} (I : i_Rel k u v) (hk : k + 4 ≤ 2049) (v1 : Int32) (v2 : Int32) (v3 : Int32) : wpX_join (fun r u' => wpY_join (fun r' v' => r' = r ∧ i_Rel (k + 4) u' v') v v1 v2 v3) u v1 v2 v3 := by
  refine nc_el (P := fun u v => wpX_join (fun r u' => wpY_join (fun r' v' => r' = r ∧ i_Rel (k + 4) u' v') v v1 v2 v3) u v1 v2 v3) ?_ I
  intro n s d w fb ft fw pa ta ro tp sz la aa pe hok hs hd hsd
  have hn := hok.1.2
  have hn1 := hok.1.1
  have hL := nc_lab_ok n w
  unfold wpX_join
  by_cases hv1 : ∃ p, p < n ∧ v1 = nI p
  · obtain ⟨p, hp, rfl⟩ := hv1
    refine xx_pt_t hn hp (br_f nc_i10 ?_)
    by_cases hv2 : ∃ p, p < n ∧ v2 = nI p
    · obtain ⟨q, hq, rfl⟩ := hv2
      refine xx_pt_t hn hq (br_f nc_i10 ?_)
      have hY : ∀ post : Int32 → SY → Prop, ((nI p = nI q → post (-2) (nI n, nI s, nI d, sz, nc_g w, la, aa, pe)) ∧ (¬ nI p = nI q → ((v3 < 0 → post (-3) (nI n, nI s, nI d, sz, nc_g w, la, aa, pe)) ∧ (¬ v3 < 0 → ((v3 ≤ 9 → post (nI (w (6 * p + q))) (nI n, nI s, nI d, sz, nc_g (nc_put w p q v3.toNatClampNeg), la, aa, pe)) ∧ (¬ v3 ≤ 9 → post (-3) (nI n, nI s, nI d, sz, nc_g w, la, aa, pe))))))) →
          wpY_join post (nI n, nI s, nI d, sz, nc_g w, la, aa, pe) (nI p) (nI q) v3 := by
        intro post h
        unfold wpY_join
        refine yy_bd_t hn hp (br_t rfl (yy_bd_t hn hq (br_t rfl ⟨h.1, fun e => ⟨(h.2 e).1, fun h0 => ⟨fun h9 => ⟨nc_inI (by omega) (by omega), nm_r (e' := nI (w (6 * p + q))) (by rw [nc_cl (by omega) (by omega)]; rfl) ?_⟩, ((h.2 e).2 h0).2⟩⟩⟩)))
        obtain ⟨v, hv, rfl⟩ := nI_of2 (x := v3) (M := 9) (n := 9) (by decide) h0 h9
        have h5 := ((h.2 e).2 h0).1 h9
        rw [nI_clamp (by omega)] at h5
        exact yy_put (by omega) (by omega) h5
      by_cases e : nI p = nI q
      · exact br_t e (hY _ (br_t e ⟨rfl, nc_mkR hok hs hd hsd⟩))
      · have hpq : p ≠ q := fun c => e (by rw [c])
        refine br_f e ?_
        by_cases h0 : v3 < 0
        · exact br_t h0 (hY _ (br_f e (br_t h0 ⟨rfl, nc_mkR hok hs hd hsd⟩)))
        · refine br_f h0 ?_
          by_cases h9 : v3 ≤ 9
          · obtain ⟨v, hv, rfl⟩ := nI_of2 (x := v3) (M := 9) (n := 9) (by decide) h0 h9
            refine br_t h9 ⟨nc_inI (by omega) (by omega), nm_r (e' := nI (w (6 * p + q))) (by rw [nc_cl (by omega) (by omega)]; rfl) (xx_set (by omega) (by omega) hpq (hY _ (br_f e (br_f h0 (br_t h9 ?_)))))⟩
            rw [nI_clamp (by omega)]
            exact ⟨rfl, nc_mkR (nc_put_ok hok hp hq hpq hv) hs hd hsd⟩
          · exact br_f h9 (hY _ (br_f e (br_f h0 (br_f h9 ⟨rfl, nc_mkR hok hs hd hsd⟩))))
    · refine xx_pt_f hn hv2 (br_t rfl ?_)
      unfold wpY_join
      exact yy_bd_t hn hp (br_t rfl (yy_bd_f hn hv2 (br_f nc_i10 ⟨rfl, nc_mkR hok hs hd hsd⟩)))
  · refine xx_pt_f hn hv1 (br_t rfl ?_)
    unfold wpY_join
    exact yy_bd_f hn hv1 (br_f nc_i10 ⟨rfl, nc_mkR hok hs hd hsd⟩)
theorem i_vc_chain {k : Nat} {u : SX} {v : SY} (I : i_Rel k u v) (hk : k + 4 ≤ 2049) (v1 : Int32) (v2 : Int32) (v3 : Int32) : wpX_chain (fun r u' => wpY_chain (fun r' v' => r' = r ∧ i_Rel (k + 4) u' v') v v1 v2 v3) u v1 v2 v3 := by
  refine nc_el (P := fun u v => wpX_chain (fun r u' => wpY_chain (fun r' v' => r' = r ∧ i_Rel (k + 4) u' v') v v1 v2 v3) u v1 v2 v3) ?_ I
  intro n s d w fb ft fw pa ta ro tp sz la aa pe hok hs hd hsd
  have hn := hok.1.2
  have hn1 := hok.1.1
  have hL := nc_lab_ok n w
  unfold wpX_chain
  by_cases hv1 : ∃ p, p < n ∧ v1 = nI p
  · obtain ⟨p, hp, rfl⟩ := hv1
    refine xx_pt_t hn hp (br_f nc_i10 ?_)
    by_cases h1 : v2 < 1
    · refine br_t h1 ?_
      unfold wpY_chain
      exact yy_bd_t hn hp (br_t rfl (br_t h1 ⟨rfl, nc_mkR hok hs hd hsd⟩))
    · refine br_f h1 ?_
      by_cases h6 : v2 ≤ 6
      · refine br_t h6 ?_
        by_cases h0 : v3 < 0
        · refine br_t h0 ?_
          unfold wpY_chain
          exact yy_bd_t hn hp (br_t rfl (br_f h1 (br_t h6 (br_t h0 ⟨rfl, nc_mkR hok hs hd hsd⟩))))
        · refine br_f h0 ?_
          by_cases h9 : v3 ≤ 9
          · have h20 : ¬ v2 < 0 := fun c => h1 (Int32.lt_of_lt_of_le c (by decide))
            obtain ⟨c, hc, rfl⟩ := nI_of2 (x := v2) (M := 6) (n := 6) (by decide) h20 h6
            obtain ⟨v, hv, rfl⟩ := nI_of2 (x := v3) (M := 9) (n := 9) (by decide) h0 h9
            refine br_t h9 ⟨c + 1, xx_ch43 (p := p) (v := v) (c := c) hok hp hc ?_ c 0 (by omega)⟩
            unfold wpY_chain
            refine yy_bd_t hn hp (br_t rfl (br_f h1 (br_t h6 (br_f h0 (br_t h9 ⟨c + 1, yy_ch40 (p := p) (v := v) (c := c) hok hp hc ?_ c 0 (by omega)⟩)))))
            exact ⟨rfl, nc_mkR (nc_cw_ok hok hp hv c) hs hd hsd⟩
          · refine br_f h9 ?_
            unfold wpY_chain
            exact yy_bd_t hn hp (br_t rfl (br_f h1 (br_t h6 (br_f h0 (br_f h9 ⟨rfl, nc_mkR hok hs hd hsd⟩)))))
      · refine br_f h6 ?_
        unfold wpY_chain
        exact yy_bd_t hn hp (br_t rfl (br_f h1 (br_f h6 ⟨rfl, nc_mkR hok hs hd hsd⟩)))
  · refine xx_pt_f hn hv1 (br_t rfl ?_)
    unfold wpY_chain
    exact yy_bd_f hn hv1 (br_f nc_i10 ⟨rfl, nc_mkR hok hs hd hsd⟩)
theorem i_vc_probe {k : Nat} {u : SX} {v : SY} (I : i_Rel k u v) (hk : k + 4 ≤ 2049) (v1 : Int32) (v2 : Int32) : wpX_probe (fun r u' => wpY_probe (fun r' v' => r' = r ∧ i_Rel (k + 4) u' v') v v1 v2) u v1 v2 := by
  refine nc_el (P := fun u v => wpX_probe (fun r u' => wpY_probe (fun r' v' => r' = r ∧ i_Rel (k + 4) u' v') v v1 v2) u v1 v2) ?_ I
  intro n s d w fb ft fw pa ta ro tp sz la aa pe hok hs hd hsd
  have hn := hok.1.2
  have hn1 := hok.1.1
  have hL := nc_lab_ok n w
  unfold wpX_probe
  by_cases hv1 : ∃ p, p < n ∧ v1 = nI p
  · obtain ⟨p, hp, rfl⟩ := hv1
    refine xx_pt_t hn hp (br_f nc_i10 ?_)
    by_cases hv2 : ∃ p, p < n ∧ v2 = nI p
    · obtain ⟨q, hq, rfl⟩ := hv2
      refine xx_pt_t hn hq (br_f nc_i10 ?_)
      by_cases e : nI p = nI q
      · refine br_t e ?_
        unfold wpY_probe
        exact yy_bd_t hn hp (br_t rfl (yy_bd_t hn hq (br_t rfl (br_t e ⟨rfl, nc_mkR hok hs hd hsd⟩))))
      · refine br_f e ?_
        unfold wpY_probe
        exact yy_bd_t hn hp (br_t rfl (yy_bd_t hn hq (br_t rfl (br_f e ⟨rfl, nc_mkR hok hp hq (fun c => e (by rw [c]))⟩))))
    · refine xx_pt_f hn hv2 (br_t rfl ?_)
      unfold wpY_probe
      exact yy_bd_t hn hp (br_t rfl (yy_bd_f hn hv2 (br_f nc_i10 ⟨rfl, nc_mkR hok hs hd hsd⟩)))
  · refine xx_pt_f hn hv1 (br_t rfl ?_)
    unfold wpY_probe
    exact yy_bd_f hn hv1 (br_f nc_i10 ⟨rfl, nc_mkR hok hs hd hsd⟩)
theorem i_vc_conductance {k : Nat} {u : SX} {v : SY} (I : i_Rel k u v) (hk : k + 4 ≤ 2049) (v1 : Int32) (v2 : Int32) : wpX_conductance (fun r => wpY_conductance (fun r' => r' = r ∧ i_Rel (k + 4) u v) v v1 v2) u v1 v2 := by
  refine nc_el (P := fun u v => wpX_conductance (fun r => wpY_conductance (fun r' => r' = r ∧ i_Rel (k + 4) u v) v v1 v2) u v1 v2) ?_ I
  intro n s d w fb ft fw pa ta ro tp sz la aa pe hok hs hd hsd
  have hn := hok.1.2
  have hn1 := hok.1.1
  have hL := nc_lab_ok n w
  unfold wpX_conductance
  by_cases hv1 : ∃ p, p < n ∧ v1 = nI p
  · obtain ⟨p, hp, rfl⟩ := hv1
    refine xx_pt_t hn hp (br_f nc_i10 ?_)
    by_cases hv2 : ∃ p, p < n ∧ v2 = nI p
    · obtain ⟨q, hq, rfl⟩ := hv2
      refine xx_pt_t hn hq (br_f nc_i10 ?_)
      refine ⟨nc_inI (by omega) (by omega), ?_⟩
      unfold wpY_conductance
      exact yy_bd_t hn hp (br_t rfl (yy_bd_t hn hq (br_t rfl ⟨nc_inI (by omega) (by omega), ⟨rfl, nc_mkR hok hs hd hsd⟩⟩)))
    · refine xx_pt_f hn hv2 (br_t rfl ?_)
      unfold wpY_conductance
      exact yy_bd_t hn hp (br_t rfl (yy_bd_f hn hv2 (br_f nc_i10 ⟨rfl, nc_mkR hok hs hd hsd⟩)))
  · refine xx_pt_f hn hv1 (br_t rfl ?_)
    unfold wpY_conductance
    exact yy_bd_f hn hv1 (br_f nc_i10 ⟨rfl, nc_mkR hok hs hd hsd⟩)
theorem i_vc_joined {k : Nat} {u : SX} {v : SY} (I : i_Rel k u v) (hk : k + 4 ≤ 2049) (v1 : Int32) (v2 : Int32) : wpX_joined (fun r u' => wpY_joined (fun r' v' => r' = r ∧ i_Rel (k + 4) u' v') v v1 v2) u v1 v2 := by
  refine nc_el (P := fun u v => wpX_joined (fun r u' => wpY_joined (fun r' v' => r' = r ∧ i_Rel (k + 4) u' v') v v1 v2) u v1 v2) ?_ I
  intro n s d w fb ft fw pa ta ro tp sz la aa pe hok hs hd hsd
  have hn := hok.1.2
  have hn1 := hok.1.1
  have hL := nc_lab_ok n w
  unfold wpX_joined
  by_cases hv1 : ∃ p, p < n ∧ v1 = nI p
  · obtain ⟨p, hp, rfl⟩ := hv1
    refine xx_pt_t hn hp (br_f nc_i10 ?_)
    by_cases hv2 : ∃ p, p < n ∧ v2 = nI p
    · obtain ⟨q, hq, rfl⟩ := hv2
      refine xx_pt_t hn hq (br_f nc_i10 ?_)
      have hlp := hL.1 p hp
      have hlq := hL.1 q hq
      refine xx_fp hok (fun pa' hpa => ⟨vp_in_nI (by omega) (by omega), vp_in_nI (by omega) (by omega), ?_⟩)
      refine pk_eq (nc_lab n w p) (nc_lab n w q) (fun e => ?_) (fun e => ?_) (by rw [nI_clamp (by omega)]; exact hpa p hp) (by rw [nI_clamp (by omega)]; exact hpa q hq) (by omega) (by omega)
      · unfold wpY_joined
        refine yy_bd_t hn hp (br_t rfl (yy_bd_t hn hq (br_t rfl (yy_gr hok (fun la' hla => ⟨vp_in_nI (by omega) (by omega), vp_in_nI (by omega) (by omega), br_t ?_ ⟨rfl, nc_mkR hok hs hd hsd⟩⟩)))))
        rw [nI_clamp (by omega), nI_clamp (by omega), hla p hp, hla q hq, e]
      · unfold wpY_joined
        refine yy_bd_t hn hp (br_t rfl (yy_bd_t hn hq (br_t rfl (yy_gr hok (fun la' hla => ⟨vp_in_nI (by omega) (by omega), vp_in_nI (by omega) (by omega), br_f ?_ ⟨rfl, nc_mkR hok hs hd hsd⟩⟩)))))
        rw [nI_clamp (by omega), nI_clamp (by omega), hla p hp, hla q hq]
        exact fun c => e ((nI_eq (by omega) (by omega)).mp c)
    · refine xx_pt_f hn hv2 (br_t rfl ?_)
      unfold wpY_joined
      exact yy_bd_t hn hp (br_t rfl (yy_bd_f hn hv2 (br_f nc_i10 ⟨rfl, nc_mkR hok hs hd hsd⟩)))
  · refine xx_pt_f hn hv1 (br_t rfl ?_)
    unfold wpY_joined
    exact yy_bd_f hn hv1 (br_f nc_i10 ⟨rfl, nc_mkR hok hs hd hsd⟩)
theorem i_vc_parts {k : Nat} {u : SX} {v : SY} (I : i_Rel k u v) (hk : k + 4 ≤ 2049) : wpX_parts (fun r u' => wpY_parts (fun r' v' => r' = r ∧ i_Rel (k + 4) u' v') v) u := by
  refine nc_el (P := fun u v => wpX_parts (fun r u' => wpY_parts (fun r' v' => r' = r ∧ i_Rel (k + 4) u' v') v) u) ?_ I
  intro n s d w fb ft fw pa ta ro tp sz la aa pe hok hs hd hsd
  have hn := hok.1.2
  have hn1 := hok.1.1
  have hL := nc_lab_ok n w
  unfold wpX_parts
  refine xx_cp hok (fun pa' => ?_)
  unfold wpY_parts
  exact yy_gs hok (fun la' => ⟨rfl, nc_mkR hok hs hd hsd⟩)
theorem i_vc_trees {k : Nat} {u : SX} {v : SY} (I : i_Rel k u v) (hk : k + 4 ≤ 2049) : wpX_trees (fun r u' => wpY_trees (fun r' v' => r' = r ∧ i_Rel (k + 4) u' v') v) u := by
  refine nc_el (P := fun u v => wpX_trees (fun r u' => wpY_trees (fun r' v' => r' = r ∧ i_Rel (k + 4) u' v') v) u) ?_ I
  intro n s d w fb ft fw pa ta ro tp sz la aa pe hok hs hd hsd
  have hn := hok.1.2
  have hn1 := hok.1.1
  have hL := nc_lab_ok n w
  unfold wpX_trees
  refine xx_det hok (fun ta' => ?_)
  unfold wpY_trees
  exact yy_at hok (fun sz' la' aa' pe' => ⟨rfl, nc_mkR hok hs hd hsd⟩)
theorem i_vc_voltageTop {k : Nat} {u : SX} {v : SY} (I : i_Rel k u v) (hk : k + 4 ≤ 2049) (v1 : Int32) : wpX_voltageTop (fun r u' => wpY_voltageTop (fun r' v' => r' = r ∧ i_Rel (k + 4) u' v') v v1) u v1 := by
  refine nc_el (P := fun u v => wpX_voltageTop (fun r u' => wpY_voltageTop (fun r' v' => r' = r ∧ i_Rel (k + 4) u' v') v v1) u v1) ?_ I
  intro n s d w fb ft fw pa ta ro tp sz la aa pe hok hs hd hsd
  have hn := hok.1.2
  have hn1 := hok.1.1
  have hL := nc_lab_ok n w
  unfold wpX_voltageTop
  refine xx_voltage hok hs hd hsd (fun hv fb ft fw pa ta ro tp => br_f (by decide) ?_) (fun p hp hv e fb ft fw pa ta ro tp => br_f (by decide) ?_) (fun p hp hv e e2 fb ft fw pa ta ro tp => br_f (by decide) ?_) (fun p hp hv e e2 fb pa ta ro tp => br_t (by decide) ?_)
  · unfold wpY_voltageTop
    exact yy_refusal hok hs hd (fun _ sz la aa pe => br_f (by decide) ⟨rfl, nc_mkR hok hs hd hsd⟩) (fun p hp c => absurd ⟨p, hp, c⟩ hv) (fun p hp c => absurd ⟨p, hp, c⟩ hv) (fun p hp c => absurd ⟨p, hp, c⟩ hv)
  · unfold wpY_voltageTop
    exact yy_refusal hok hs hd (fun c => absurd ⟨p, hp, hv⟩ c) (fun _ _ _ _ sz la aa pe => br_f (by decide) ⟨rfl, nc_mkR hok hs hd hsd⟩) (fun _ _ _ c => absurd c e) (fun _ _ _ c => absurd c e)
  · unfold wpY_voltageTop
    exact yy_refusal hok hs hd (fun c => absurd ⟨p, hp, hv⟩ c) (fun _ _ _ c => absurd e c) (fun _ _ _ _ _ sz la aa pe => br_f (by decide) ⟨rfl, nc_mkR hok hs hd hsd⟩) (fun q hq c _ c2 => absurd (by rw [nc_nj hn hp hq (hv.symm.trans c)]; exact c2) e2)
  · unfold wpY_voltageTop
    have b1 := nc_vo_b hok hs hd hsd p
    have b2 := nc_wh_b hok hs hd hsd
    subst hv
    exact yy_refusal hok hs hd (fun c => absurd ⟨p, hp, rfl⟩ c) (fun _ _ _ c => absurd e c) (fun q hq c _ c2 => absurd (by rw [← nc_nj hn hp hq c]; exact e2) c2) (fun q hq c _ _ sz la aa pe => br_t (by decide) (yy_share hok hs hd hsd hp e2 (fun sz la aa pe => yy_whole hok hs hd hsd (fun sz la aa pe => yy_top (by omega) (nc_whp hok hs hd hsd e) (by omega) ⟨rfl, nc_mkR hok hs hd hsd⟩))))
theorem i_vc_voltageBottom {k : Nat} {u : SX} {v : SY} (I : i_Rel k u v) (hk : k + 4 ≤ 2049) (v1 : Int32) : wpX_voltageBottom (fun r u' => wpY_voltageBottom (fun r' v' => r' = r ∧ i_Rel (k + 4) u' v') v v1) u v1 := by
  refine nc_el (P := fun u v => wpX_voltageBottom (fun r u' => wpY_voltageBottom (fun r' v' => r' = r ∧ i_Rel (k + 4) u' v') v v1) u v1) ?_ I
  intro n s d w fb ft fw pa ta ro tp sz la aa pe hok hs hd hsd
  have hn := hok.1.2
  have hn1 := hok.1.1
  have hL := nc_lab_ok n w
  unfold wpX_voltageBottom
  refine xx_voltage hok hs hd hsd (fun hv fb ft fw pa ta ro tp => br_f (by decide) ?_) (fun p hp hv e fb ft fw pa ta ro tp => br_f (by decide) ?_) (fun p hp hv e e2 fb ft fw pa ta ro tp => br_f (by decide) ?_) (fun p hp hv e e2 fb pa ta ro tp => br_t (by decide) ?_)
  · unfold wpY_voltageBottom
    exact yy_refusal hok hs hd (fun _ sz la aa pe => br_f (by decide) ⟨rfl, nc_mkR hok hs hd hsd⟩) (fun p hp c => absurd ⟨p, hp, c⟩ hv) (fun p hp c => absurd ⟨p, hp, c⟩ hv) (fun p hp c => absurd ⟨p, hp, c⟩ hv)
  · unfold wpY_voltageBottom
    exact yy_refusal hok hs hd (fun c => absurd ⟨p, hp, hv⟩ c) (fun _ _ _ _ sz la aa pe => br_f (by decide) ⟨rfl, nc_mkR hok hs hd hsd⟩) (fun _ _ _ c => absurd c e) (fun _ _ _ c => absurd c e)
  · unfold wpY_voltageBottom
    exact yy_refusal hok hs hd (fun c => absurd ⟨p, hp, hv⟩ c) (fun _ _ _ c => absurd e c) (fun _ _ _ _ _ sz la aa pe => br_f (by decide) ⟨rfl, nc_mkR hok hs hd hsd⟩) (fun q hq c _ c2 => absurd (by rw [nc_nj hn hp hq (hv.symm.trans c)]; exact c2) e2)
  · unfold wpY_voltageBottom
    have b1 := nc_vo_b hok hs hd hsd p
    have b2 := nc_wh_b hok hs hd hsd
    subst hv
    exact yy_refusal hok hs hd (fun c => absurd ⟨p, hp, rfl⟩ c) (fun _ _ _ c => absurd e c) (fun q hq c _ c2 => absurd (by rw [← nc_nj hn hp hq c]; exact e2) c2) (fun q hq c _ _ sz la aa pe => br_t (by decide) (yy_share hok hs hd hsd hp e2 (fun sz la aa pe => yy_whole hok hs hd hsd (fun sz la aa pe => yy_bot (by omega) (nc_whp hok hs hd hsd e) (by omega) ⟨rfl, nc_mkR hok hs hd hsd⟩))))
theorem i_vc_currentTop {k : Nat} {u : SX} {v : SY} (I : i_Rel k u v) (hk : k + 4 ≤ 2049) : wpX_currentTop (fun r u' => wpY_currentTop (fun r' v' => r' = r ∧ i_Rel (k + 4) u' v') v) u := by
  refine nc_el (P := fun u v => wpX_currentTop (fun r u' => wpY_currentTop (fun r' v' => r' = r ∧ i_Rel (k + 4) u' v') v) u) ?_ I
  intro n s d w fb ft fw pa ta ro tp sz la aa pe hok hs hd hsd
  have hn := hok.1.2
  have hn1 := hok.1.1
  have hL := nc_lab_ok n w
  unfold wpX_currentTop
  refine xx_current hok hs hd hsd (fun e fb pa ta ro tp => ?_) (fun e fb pa ta ro tp => ?_)
  · unfold wpY_currentTop
    exact yy_live hok hs hd (fun _ la => br_t rfl ⟨rfl, nc_mkR hok hs hd hsd⟩) (fun c => absurd c e)
  · unfold wpY_currentTop
    have b1 := nc_lo_b (w := w) (s := s) hok hd
    have b2 := nc_wh_b hok hs hd hsd
    exact yy_live hok hs hd (fun c => absurd e c) (fun _ la _ => br_f nc_i10 (yy_local hok hs hd (fun sz la aa pe => yy_whole hok hs hd hsd (fun sz la aa pe => yy_top (by omega) (nc_whp hok hs hd hsd e) (by omega) ⟨rfl, nc_mkR hok hs hd hsd⟩))))
theorem i_vc_currentBottom {k : Nat} {u : SX} {v : SY} (I : i_Rel k u v) (hk : k + 4 ≤ 2049) : wpX_currentBottom (fun r u' => wpY_currentBottom (fun r' v' => r' = r ∧ i_Rel (k + 4) u' v') v) u := by
  refine nc_el (P := fun u v => wpX_currentBottom (fun r u' => wpY_currentBottom (fun r' v' => r' = r ∧ i_Rel (k + 4) u' v') v) u) ?_ I
  intro n s d w fb ft fw pa ta ro tp sz la aa pe hok hs hd hsd
  have hn := hok.1.2
  have hn1 := hok.1.1
  have hL := nc_lab_ok n w
  unfold wpX_currentBottom
  refine xx_current hok hs hd hsd (fun e fb pa ta ro tp => ?_) (fun e fb pa ta ro tp => ?_)
  · unfold wpY_currentBottom
    exact yy_live hok hs hd (fun _ la => br_t rfl ⟨rfl, nc_mkR hok hs hd hsd⟩) (fun c => absurd c e)
  · unfold wpY_currentBottom
    have b1 := nc_lo_b (w := w) (s := s) hok hd
    have b2 := nc_wh_b hok hs hd hsd
    exact yy_live hok hs hd (fun c => absurd e c) (fun _ la _ => br_f nc_i10 (yy_local hok hs hd (fun sz la aa pe => yy_whole hok hs hd hsd (fun sz la aa pe => yy_bot (by omega) (nc_whp hok hs hd hsd e) (by omega) ⟨rfl, nc_mkR hok hs hd hsd⟩))))
theorem i_vc_resistanceTop {k : Nat} {u : SX} {v : SY} (I : i_Rel k u v) (hk : k + 4 ≤ 2049) (v1 : Int32) (v2 : Int32) : wpX_resistanceTop (fun r u' => wpY_resistanceTop (fun r' v' => r' = r ∧ i_Rel (k + 4) u' v') v v1 v2) u v1 v2 := by
  refine nc_el (P := fun u v => wpX_resistanceTop (fun r u' => wpY_resistanceTop (fun r' v' => r' = r ∧ i_Rel (k + 4) u' v') v v1 v2) u v1 v2) ?_ I
  intro n s d w fb ft fw pa ta ro tp sz la aa pe hok hs hd hsd
  have hn := hok.1.2
  have hn1 := hok.1.1
  have hL := nc_lab_ok n w
  unfold wpX_resistanceTop
  refine xx_resistance hok (fun hv fb ft fw pa ta ro tp => br_f (by decide) ?_) (fun p hp e1 e2 fb pa ta ro tp => br_t (by decide) ?_) (fun p q hp hq e1 e2 hne e fb ft fw pa ta ro tp => br_f (by decide) ?_) (fun p q hp hq e1 e2 hne e fb pa ta ro tp => br_t (by decide) ?_)
  · unfold wpY_resistanceTop
    exact yy_resistance hok (fun _ sz la aa pe => ⟨rfl, nc_mkR hok hs hd hsd⟩) (fun p hp c1 c2 => absurd ⟨⟨p, hp, c1⟩, ⟨p, hp, c2⟩⟩ hv) (fun p q hp hq c1 c2 => absurd ⟨⟨p, hp, c1⟩, ⟨q, hq, c2⟩⟩ hv) (fun p q hp hq c1 c2 => absurd ⟨⟨p, hp, c1⟩, ⟨q, hq, c2⟩⟩ hv)
  · unfold wpY_resistanceTop
    exact yy_resistance hok (fun c => absurd ⟨⟨p, hp, e1⟩, ⟨p, hp, e2⟩⟩ c) (fun _ _ _ _ sz la aa pe => br_f nc_i10 ⟨rfl, nc_mkR hok hs hd hsd⟩) (fun a b ha hb c1 c2 c3 => absurd ((nc_nj hn hp ha (e1.symm.trans c1)).symm.trans (nc_nj hn hp hb (e2.symm.trans c2))) c3) (fun a b ha hb c1 c2 c3 => absurd ((nc_nj hn hp ha (e1.symm.trans c1)).symm.trans (nc_nj hn hp hb (e2.symm.trans c2))) c3)
  · unfold wpY_resistanceTop
    exact yy_resistance hok (fun c => absurd ⟨⟨p, hp, e1⟩, ⟨q, hq, e2⟩⟩ c) (fun a ha c1 c2 => absurd ((nc_nj hn hp ha (e1.symm.trans c1)).trans (nc_nj hn hq ha (e2.symm.trans c2)).symm) hne) (fun _ _ _ _ _ _ _ _ sz la aa pe => ⟨rfl, nc_mkR hok hs hd hsd⟩) (fun a b ha hb c1 c2 _ c => absurd (by rw [nc_nj hn hp ha (e1.symm.trans c1), nc_nj hn hq hb (e2.symm.trans c2)]; exact c) e)
  · unfold wpY_resistanceTop
    subst e1 e2
    exact yy_resistance hok (fun c => absurd ⟨⟨p, hp, rfl⟩, ⟨q, hq, rfl⟩⟩ c) (fun a ha c1 c2 => absurd ((nc_nj hn hp ha c1).trans (nc_nj hn hq ha c2).symm) hne) (fun a b ha hb c1 c2 _ c => absurd (by rw [← nc_nj hn hp ha c1, ← nc_nj hn hq hb c2]; exact e) c) (fun a b ha hb c1 c2 _ _ sz la aa pe => by
      rw [← nc_nj hn hp ha c1, ← nc_nj hn hq hb c2]
      exact br_f nc_i10 ⟨rfl, nc_mkR hok hs hd hsd⟩)
theorem i_vc_resistanceBottom {k : Nat} {u : SX} {v : SY} (I : i_Rel k u v) (hk : k + 4 ≤ 2049) (v1 : Int32) (v2 : Int32) : wpX_resistanceBottom (fun r u' => wpY_resistanceBottom (fun r' v' => r' = r ∧ i_Rel (k + 4) u' v') v v1 v2) u v1 v2 := by
  refine nc_el (P := fun u v => wpX_resistanceBottom (fun r u' => wpY_resistanceBottom (fun r' v' => r' = r ∧ i_Rel (k + 4) u' v') v v1 v2) u v1 v2) ?_ I
  intro n s d w fb ft fw pa ta ro tp sz la aa pe hok hs hd hsd
  have hn := hok.1.2
  have hn1 := hok.1.1
  have hL := nc_lab_ok n w
  unfold wpX_resistanceBottom
  refine xx_resistance hok (fun hv fb ft fw pa ta ro tp => br_f (by decide) ?_) (fun p hp e1 e2 fb pa ta ro tp => br_t (by decide) ?_) (fun p q hp hq e1 e2 hne e fb ft fw pa ta ro tp => br_f (by decide) ?_) (fun p q hp hq e1 e2 hne e fb pa ta ro tp => br_t (by decide) ?_)
  · unfold wpY_resistanceBottom
    exact yy_resistance hok (fun _ sz la aa pe => ⟨rfl, nc_mkR hok hs hd hsd⟩) (fun p hp c1 c2 => absurd ⟨⟨p, hp, c1⟩, ⟨p, hp, c2⟩⟩ hv) (fun p q hp hq c1 c2 => absurd ⟨⟨p, hp, c1⟩, ⟨q, hq, c2⟩⟩ hv) (fun p q hp hq c1 c2 => absurd ⟨⟨p, hp, c1⟩, ⟨q, hq, c2⟩⟩ hv)
  · unfold wpY_resistanceBottom
    exact yy_resistance hok (fun c => absurd ⟨⟨p, hp, e1⟩, ⟨p, hp, e2⟩⟩ c) (fun _ _ _ _ sz la aa pe => br_t rfl ⟨rfl, nc_mkR hok hs hd hsd⟩) (fun a b ha hb c1 c2 c3 => absurd ((nc_nj hn hp ha (e1.symm.trans c1)).symm.trans (nc_nj hn hp hb (e2.symm.trans c2))) c3) (fun a b ha hb c1 c2 c3 => absurd ((nc_nj hn hp ha (e1.symm.trans c1)).symm.trans (nc_nj hn hp hb (e2.symm.trans c2))) c3)
  · unfold wpY_resistanceBottom
    exact yy_resistance hok (fun c => absurd ⟨⟨p, hp, e1⟩, ⟨q, hq, e2⟩⟩ c) (fun a ha c1 c2 => absurd ((nc_nj hn hp ha (e1.symm.trans c1)).trans (nc_nj hn hq ha (e2.symm.trans c2)).symm) hne) (fun _ _ _ _ _ _ _ _ sz la aa pe => ⟨rfl, nc_mkR hok hs hd hsd⟩) (fun a b ha hb c1 c2 _ c => absurd (by rw [nc_nj hn hp ha (e1.symm.trans c1), nc_nj hn hq hb (e2.symm.trans c2)]; exact c) e)
  · unfold wpY_resistanceBottom
    subst e1 e2
    exact yy_resistance hok (fun c => absurd ⟨⟨p, hp, rfl⟩, ⟨q, hq, rfl⟩⟩ c) (fun a ha c1 c2 => absurd ((nc_nj hn hp ha c1).trans (nc_nj hn hq ha c2).symm) hne) (fun a b ha hb c1 c2 _ c => absurd (by rw [← nc_nj hn hp ha c1, ← nc_nj hn hq hb c2]; exact e) c) (fun a b ha hb c1 c2 _ _ sz la aa pe => by
      rw [← nc_nj hn hp ha c1, ← nc_nj hn hq hb c2]
      exact br_t rfl ⟨rfl, nc_mkR hok hs hd hsd⟩)
theorem i_vc_flowTop {k : Nat} {u : SX} {v : SY} (I : i_Rel k u v) (hk : k + 4 ≤ 2049) (v1 : Int32) (v2 : Int32) : wpX_flowTop (fun r u' => wpY_flowTop (fun r' v' => r' = r ∧ i_Rel (k + 4) u' v') v v1 v2) u v1 v2 := by
  refine nc_el (P := fun u v => wpX_flowTop (fun r u' => wpY_flowTop (fun r' v' => r' = r ∧ i_Rel (k + 4) u' v') v v1 v2) u v1 v2) ?_ I
  intro n s d w fb ft fw pa ta ro tp sz la aa pe hok hs hd hsd
  have hn := hok.1.2
  have hn1 := hok.1.1
  have hL := nc_lab_ok n w
  unfold wpX_flowTop
  refine xx_flow hok hs hd hsd (fun hv fb pa ta ro tp => ?_) (fun p q hp hq e1 e2 e3 e4 e5 fb pa ta ro tp => ?_)
  · unfold wpY_flowTop wpY_flow
    exact br_f nc_i10 (yy_flow9 hok hs hd hsd (fun _ sz la aa pe => ⟨rfl, nc_mkR hok hs hd hsd⟩) (fun p q hp hq e1 e2 e3 e4 e5 => absurd ⟨p, q, hp, hq, e1, e2, e3, e4, e5⟩ hv))
  · unfold wpY_flowTop wpY_flow
    subst e1 e2
    exact br_f nc_i10 (yy_flow9 hok hs hd hsd (fun c => absurd ⟨p, q, hp, hq, rfl, rfl, e3, e4, e5⟩ c) (fun a b ha hb c1 c2 _ _ _ sz la aa pe => by
      rw [← nc_nj hn hp ha c1, ← nc_nj hn hq hb c2]
      exact br_f nc_i10 ⟨rfl, nc_mkR hok hs hd hsd⟩))
theorem i_vc_flowBottom {k : Nat} {u : SX} {v : SY} (I : i_Rel k u v) (hk : k + 4 ≤ 2049) (v1 : Int32) (v2 : Int32) : wpX_flowBottom (fun r u' => wpY_flowBottom (fun r' v' => r' = r ∧ i_Rel (k + 4) u' v') v v1 v2) u v1 v2 := by
  refine nc_el (P := fun u v => wpX_flowBottom (fun r u' => wpY_flowBottom (fun r' v' => r' = r ∧ i_Rel (k + 4) u' v') v v1 v2) u v1 v2) ?_ I
  intro n s d w fb ft fw pa ta ro tp sz la aa pe hok hs hd hsd
  have hn := hok.1.2
  have hn1 := hok.1.1
  have hL := nc_lab_ok n w
  unfold wpX_flowBottom
  refine xx_flow hok hs hd hsd (fun hv fb pa ta ro tp => ?_) (fun p q hp hq e1 e2 e3 e4 e5 fb pa ta ro tp => ?_)
  · unfold wpY_flowBottom wpY_flow
    exact br_t rfl (yy_flow9 hok hs hd hsd (fun _ sz la aa pe => ⟨rfl, nc_mkR hok hs hd hsd⟩) (fun p q hp hq e1 e2 e3 e4 e5 => absurd ⟨p, q, hp, hq, e1, e2, e3, e4, e5⟩ hv))
  · unfold wpY_flowBottom wpY_flow
    subst e1 e2
    exact br_t rfl (yy_flow9 hok hs hd hsd (fun c => absurd ⟨p, q, hp, hq, rfl, rfl, e3, e4, e5⟩ c) (fun a b ha hb c1 c2 _ _ _ sz la aa pe => by
      rw [← nc_nj hn hp ha c1, ← nc_nj hn hq hb c2]
      exact br_t rfl ⟨rfl, nc_mkR hok hs hd hsd⟩))
theorem i_vc_treesWith {k : Nat} {u : SX} {v : SY} (I : i_Rel k u v) (hk : k + 4 ≤ 2049) (v1 : Int32) (v2 : Int32) : wpX_treesWith (fun r u' => wpY_treesWith (fun r' v' => r' = r ∧ i_Rel (k + 4) u' v') v v1 v2) u v1 v2 := by
  refine nc_el (P := fun u v => wpX_treesWith (fun r u' => wpY_treesWith (fun r' v' => r' = r ∧ i_Rel (k + 4) u' v') v v1 v2) u v1 v2) ?_ I
  intro n s d w fb ft fw pa ta ro tp sz la aa pe hok hs hd hsd
  have hn := hok.1.2
  have hn1 := hok.1.1
  have hL := nc_lab_ok n w
  unfold wpX_treesWith
  by_cases hv1 : ∃ p, p < n ∧ v1 = nI p
  · obtain ⟨p, hp, rfl⟩ := hv1
    refine xx_pt_t hn hp (br_f nc_i10 ?_)
    by_cases hv2 : ∃ p, p < n ∧ v2 = nI p
    · obtain ⟨q, hq, rfl⟩ := hv2
      refine xx_pt_t hn hq (br_f nc_i10 ?_)
      by_cases e : nI p = nI q
      · refine br_t e ?_
        unfold wpY_treesWith
        exact yy_bd_t hn hp (br_t rfl (yy_bd_t hn hq (br_t rfl (br_t e ⟨rfl, nc_mkR hok hs hd hsd⟩))))
      · have hpq : p ≠ q := fun c => e (by rw [c])
        have hw9 := hok.2.1 (6 * p + q)
        have hok' : nc_ok n (nc_put w p q 0) := nc_put_ok hok hp hq hpq (by omega)
        have hbk := nc_put_back hok (p := p) (q := q) (by omega) (by omega)
        refine br_f e (xx_det hok (fun ta1 => ⟨nc_inI (by omega) (by omega), nm_r (e' := nI (w (6 * p + q))) (by rw [nc_cl (by omega) (by omega)]; rfl) (xx_set (v := 0) (by omega) (by omega) hpq (xx_det hok' (fun ta2 => xx_set (by omega) (by omega) hpq ?_)))⟩))
        rw [hbk]
        unfold wpY_treesWith
        refine yy_bd_t hn hp (br_t rfl (yy_bd_t hn hq (br_t rfl (br_f e (yy_at hok (fun sz1 la1 aa1 pe1 => ⟨nc_inI (by omega) (by omega), nm_r (e' := nI (w (6 * p + q))) (by rw [nc_cl (by omega) (by omega)]; rfl) (yy_put (v := 0) (by omega) (by omega) (yy_at hok' (fun sz2 la2 aa2 pe2 => yy_put (by omega) (by omega) ?_)))⟩))))))
        rw [hbk]
        exact ⟨rfl, nc_mkR hok hs hd hsd⟩
    · refine xx_pt_f hn hv2 (br_t rfl ?_)
      unfold wpY_treesWith
      exact yy_bd_t hn hp (br_t rfl (yy_bd_f hn hv2 (br_f nc_i10 ⟨rfl, nc_mkR hok hs hd hsd⟩)))
  · refine xx_pt_f hn hv1 (br_t rfl ?_)
    unfold wpY_treesWith
    exact yy_bd_f hn hv1 (br_f nc_i10 ⟨rfl, nc_mkR hok hs hd hsd⟩)
theorem i_vc_bridges {k : Nat} {u : SX} {v : SY} (I : i_Rel k u v) (hk : k + 4 ≤ 2049) : wpX_bridges (fun r u' => wpY_bridges (fun r' v' => r' = r ∧ i_Rel (k + 4) u' v') v) u := by
  refine nc_el (P := fun u v => wpX_bridges (fun r u' => wpY_bridges (fun r' v' => r' = r ∧ i_Rel (k + 4) u' v') v) u) ?_ I
  intro n s d w fb ft fw pa ta ro tp sz la aa pe hok hs hd hsd
  have hn := hok.1.2
  have hn1 := hok.1.1
  have hL := nc_lab_ok n w
  exact xx_bridges hok (fun pa' => yy_bridges hok (fun la' => ⟨rfl, nc_mkR hok hs hd hsd⟩))
end
