section
theorem pk_us {f : Nat → Int32} {k : Nat} {x : Int32} : upd f k x k = x := if_pos rfl
theorem pk_un {f : Nat → Int32} {k j : Nat} {x : Int32} (h : j ≠ k) : upd f k x j = f j := if_neg h
theorem pk_sub {a b : Nat} (h : b ≤ a) : nI a - nI b = nI (a - b) := by
  obtain ⟨c, rfl⟩ : ∃ c, a = c + b := ⟨a - b, by omega⟩
  rw [← nI_add, Int32.add_sub_cancel, Nat.add_sub_cancel]
theorem pk_m1 (n : Nat) : nI (n + 1) + (-1) = nI n := by
  rw [← nI_1, Int32.add_assoc, show (1 : Int32) + (-1) = 0 from rfl, Int32.add_zero]
theorem pk_mul (a b : Nat) : nI a * nI b = nI (a * b) := (Int32.ofNat_mul a b).symm
theorem pk_sub_toInt {a b : Nat} (ha : a < 2 ^ 30) (hb : b < 2 ^ 30) : (nI a - nI b).toInt = (a : Int) - b := by
  rw [Int32.toInt_sub, nI_toInt (by omega), nI_toInt (by omega)]
  exact Int.bmod_eq_of_le (by omega) (by omega)
theorem pk_sneg {a b : Nat} (hb : b < 2 ^ 30) (h : a < b) : nI a - nI b < 0 := by
  rw [Int32.lt_iff_toInt_lt, pk_sub_toInt (by omega) hb, show (0 : Int32).toInt = 0 from by decide]
  omega
theorem pk_ix (x : Int32) {n : Nat} (hn : n < 2 ^ 31) : x < 0 ∨ nI n ≤ x ∨ ∃ j : Nat, j < n ∧ x = nI j := by
  by_cases h : x < 0
  · exact Or.inl h
  · obtain ⟨j, hj, rfl⟩ := nI_of h
    by_cases h2 : j < n
    · exact Or.inr (Or.inr ⟨j, h2, rfl⟩)
    · exact Or.inr (Or.inl (nI_le (by omega) hj))
theorem pk_le {x y : Int32} {A B : Prop} (a b : Nat) (f : a ≤ b → A) (g : b < a → B) (hx : x = nI a := by rfl) (hy : y = nI b := by rfl) (ha : a < 2 ^ 31 := by omega) (hb : b < 2 ^ 31 := by omega) : (x ≤ y → A) ∧ (¬ x ≤ y → B) := by
  subst hx hy
  rw [nI_leI ha hb]
  exact ⟨f, fun z => g (by omega)⟩
theorem pk_lt {x y : Int32} {A B : Prop} (a b : Nat) (f : a < b → A) (g : b ≤ a → B) (hx : x = nI a := by rfl) (hy : y = nI b := by rfl) (ha : a < 2 ^ 31 := by omega) (hb : b < 2 ^ 31 := by omega) : (x < y → A) ∧ (¬ x < y → B) := by
  subst hx hy
  rw [nI_ltI ha hb]
  exact ⟨f, fun z => g (by omega)⟩
theorem pk_eq {x y : Int32} {A B : Prop} (a b : Nat) (f : a = b → A) (g : a ≠ b → B) (hx : x = nI a := by rfl) (hy : y = nI b := by rfl) (ha : a < 2 ^ 31 := by omega) (hb : b < 2 ^ 31 := by omega) : (x = y → A) ∧ (¬ x = y → B) := by
  subst hx hy
  rw [nI_eq ha hb]
  exact ⟨f, g⟩
theorem pk_in {x : Int32} (n N : Nat) (h : n < N) (hx : x = nI n := by rfl) (hN : N < 2 ^ 31 := by omega) : vp_in x N := by
  subst hx
  exact vp_in_nI h hN
theorem pk_cl {x : Int32} (n : Nat) (hx : x = nI n := by rfl) (h : n < 2 ^ 31 := by omega) : x.toNatClampNeg = n := by
  subst hx
  exact nI_clamp h
end
section
/-! pure rows: sums, counts, fills, the relation and how it is kept -/
/-- the sum of the first n lengths -/
def bs_S (f : Nat → Int32) : Nat → Nat
  | 0 => 0
  | n + 1 => bs_S f n + (f n).toNatClampNeg
theorem bs_S_s (f : Nat → Int32) (n : Nat) : bs_S f (n + 1) = bs_S f n + (f n).toNatClampNeg := rfl
theorem bs_S_mono {f : Nat → Int32} {a b : Nat} (h : a ≤ b) : bs_S f a ≤ bs_S f b := by
  induction b with
  | zero => have : a = 0 := by omega
            subst this; exact Nat.le_refl _
  | succ b ih =>
    by_cases e : a = b + 1
    · subst e; exact Nat.le_refl _
    · have := ih (by omega)
      rw [bs_S_s]; omega
theorem bs_S_congr {f g : Nat → Int32} (n : Nat) (h : ∀ d, d < n → f d = g d) : bs_S f n = bs_S g n := by
  induction n with
  | zero => rfl
  | succ n ih => rw [bs_S_s, bs_S_s, ih (fun d hd => h d (by omega)), h n (by omega)]
theorem bs_S_ge {f : Nat → Int32} {t : Nat} {x : Int32} (n : Nat) (h : n ≤ t) : bs_S (upd f t x) n = bs_S f n :=
  bs_S_congr n (fun d hd => pk_un (by omega))
theorem bs_S_upd {f : Nat → Int32} {t : Nat} {x : Int32} (n : Nat) (h : t < n) : bs_S (upd f t x) n + (f t).toNatClampNeg = bs_S f n + x.toNatClampNeg := by
  induction n with
  | zero => omega
  | succ n ih =>
    rw [bs_S_s, bs_S_s]
    by_cases e : t = n
    · subst e
      rw [bs_S_ge t (Nat.le_refl _), pk_us]; omega
    · have := ih (by omega)
      rw [pk_un (f := f) (k := t) (j := n) (x := x) (by omega)]; omega
/-- how many of the first n cells are marked -/
def bs_C (w : Nat → Int32) : Nat → Nat
  | 0 => 0
  | n + 1 => bs_C w n + (if w n = 0 then 0 else 1)
theorem bs_C_s (w : Nat → Int32) (n : Nat) : bs_C w (n + 1) = bs_C w n + (if w n = 0 then 0 else 1) := rfl
theorem bs_C_z {w : Nat → Int32} {n : Nat} (h : w n = 0) : bs_C w (n + 1) = bs_C w n := by
  rw [bs_C_s, if_pos h]; rfl
theorem bs_C_n {w : Nat → Int32} {n : Nat} (h : ¬ w n = 0) : bs_C w (n + 1) = bs_C w n + 1 := by
  rw [bs_C_s, if_neg h]
theorem bs_C_step (w : Nat → Int32) (n : Nat) : bs_C w n ≤ bs_C w (n + 1) ∧ bs_C w (n + 1) ≤ bs_C w n + 1 := by
  by_cases h : w n = 0
  · rw [bs_C_z h]; omega
  · rw [bs_C_n h]; omega
theorem bs_C_mono {w : Nat → Int32} {a b : Nat} (h : a ≤ b) : bs_C w a ≤ bs_C w b ∧ bs_C w b ≤ bs_C w a + (b - a) := by
  induction b with
  | zero => have : a = 0 := by omega
            subst this; omega
  | succ b ih =>
    by_cases e : a = b + 1
    · subst e; omega
    · have h1 := ih (by omega)
      have h2 := bs_C_step w b
      omega
theorem bs_C_congr {f g : Nat → Int32} (n : Nat) (h : ∀ d, d < n → f d = g d) : bs_C f n = bs_C g n := by
  induction n with
  | zero => rfl
  | succ n ih => rw [bs_C_s, bs_C_s, ih (fun d hd => h d (by omega)), h n (by omega)]
theorem bs_C_upd {w : Nat → Int32} {k : Nat} {x : Int32} (n : Nat) : bs_C (upd w k x) n ≤ bs_C w n + 1 := by
  induction n with
  | zero => exact Nat.zero_le _
  | succ n ih =>
    by_cases e : n = k
    · have h1 := bs_C_step (upd w k x) n
      have h2 := bs_C_step w n
      have h3 : bs_C (upd w k x) n = bs_C w n := bs_C_congr n (fun d hd => pk_un (by omega))
      omega
    · have h3 : upd w k x n = w n := pk_un e
      rw [bs_C_s, bs_C_s, h3]; omega
theorem bs_C_run {w : Nat → Int32} {m l : Nat} (h : ∀ i, m ≤ i → i < m + l → ¬ w i = 0) (i : Nat) (hi : i ≤ l) : bs_C w (m + i) = bs_C w m + i := by
  induction i with
  | zero => rfl
  | succ i ih =>
    have h1 := ih (by omega)
    have h2 : bs_C w (m + i + 1) = bs_C w (m + i) + 1 := bs_C_n (h (m + i) (by omega) (by omega))
    show bs_C w (m + i + 1) = _
    omega
/-- a' is a with the i cells from t on filled by f -/
def bs_F (t i : Nat) (f a a' : Nat → Int32) : Prop := (∀ k, k < i → a' (t + k) = f k) ∧ ∀ j, (j < t ∨ t + i ≤ j) → a' j = a j
theorem bs_F_0 {t : Nat} {f a : Nat → Int32} : bs_F t 0 f a a := ⟨fun k hk => absurd hk (Nat.not_lt_zero k), fun _ _ => rfl⟩
theorem bs_F_s {t i : Nat} {f a a' : Nat → Int32} (h : bs_F t i f a a') {x : Int32} (hx : x = f i) : bs_F t (i + 1) f a (upd a' (t + i) x) := by
  refine ⟨fun k hk => ?_, fun j hj => ?_⟩
  · by_cases e : k = i
    · subst e; rw [pk_us]; exact hx
    · rw [pk_un (by omega)]; exact h.1 k (by omega)
  · rw [pk_un (by omega)]; exact h.2 j (by omega)
/-- string d has l characters and begins at m in the store -/
def bs_D (b : Nat) (len bd st ch le : Nat → Int32) (d l m : Nat) : Prop :=
  len d = nI l ∧ le d = nI l ∧ bd d = nI m ∧ l ≤ 40 ∧ m ≤ 144 ∧ (0 < l → b ≤ m ∧ m + l ≤ 144) ∧ ∀ i, i < l → ch (40 * d + i) = st (m + i)
def bs_R (q p b : Nat) (ln len bd st ch le : Nat → Int32) : Prop :=
  q ≤ 40 ∧ p ≤ 4 ∧ b ≤ 144 ∧ le 10 = nI q ∧ (∀ i, i < q → ch (400 + i) = ln i) ∧ bs_S len (6 + p) ≤ 100 ∧ ∀ d, d < 6 + p → ∃ l m, bs_D b len bd st ch le d l m
theorem bs_D_keep {b b' : Nat} {len bd st ch le len' bd' st' ch' le' : Nat → Int32} {d l m : Nat} (h : bs_D b len bd st ch le d l m) (h1 : len' d = len d) (h2 : le' d = le d) (h3 : bd' d = bd d) (hb : b' ≤ b) (h4 : ∀ i, i < l → ch' (40 * d + i) = ch (40 * d + i)) (h5 : ∀ i, i < l → 0 < l → st' (m + i) = st (m + i)) : bs_D b' len' bd' st' ch' le' d l m := by
  obtain ⟨a1, a2, a3, a4, a5, a6, a7⟩ := h
  refine ⟨h1.trans a1, h2.trans a2, h3.trans a3, a4, a5, fun z => ?_, fun i hi => ?_⟩
  · have := a6 z; omega
  · rw [h4 i hi, a7 i hi, h5 i hi (by omega)]
theorem bs_D_len {b : Nat} {len bd st ch le : Nat → Int32} {d l m : Nat} (h : bs_D b len bd st ch le d l m) : (len d).toNatClampNeg = l := by
  rw [h.1]; have := h.2.2.2.1; exact nI_clamp (by omega)
theorem bs_D_uniq {b : Nat} {len bd st ch le : Nat → Int32} {d l m l' m' : Nat} (h : bs_D b len bd st ch le d l m) (h' : bs_D b len bd st ch le d l' m') : l = l' ∧ m = m' := by
  obtain ⟨a1, _, a3, a4, a5, _⟩ := h
  obtain ⟨b1, _, b3, b4, b5, _⟩ := h'
  exact ⟨(nI_eq (by omega) (by omega)).mp (a1.symm.trans b1), (nI_eq (by omega) (by omega)).mp (a3.symm.trans b3)⟩
/-- the sums of the two sides are one -/
theorem bs_R_sum {q p b : Nat} {ln len bd st ch le : Nat → Int32} (R : bs_R q p b ln len bd st ch le) : bs_S le (6 + p) = bs_S len (6 + p) := by
  refine bs_S_congr _ (fun d hd => ?_)
  obtain ⟨l, m, h⟩ := R.2.2.2.2.2.2 d hd
  exact h.2.1.trans h.1.symm
/-- the store may change below the bottom; the bottom may sink -/
theorem bs_R_st {q p b b' : Nat} {ln len bd st st' ch le : Nat → Int32} (R : bs_R q p b ln len bd st ch le) (hb : b' ≤ b) (h : ∀ j, b ≤ j → st' j = st j) : bs_R q p b' ln len bd st' ch le := by
  obtain ⟨r1, r2, r3, r4, r5, r6, r7⟩ := R
  refine ⟨r1, r2, by omega, r4, r5, r6, fun d hd => ?_⟩
  obtain ⟨l, m, D⟩ := r7 d hd
  refine ⟨l, m, bs_D_keep D rfl rfl rfl hb (fun _ _ => rfl) (fun i _ h0 => h _ ?_)⟩
  have := D.2.2.2.2.2.1 h0
  omega
/-- the pile's top may go -/
theorem bs_R_drop {q p p' b : Nat} {ln len bd st ch le : Nat → Int32} (R : bs_R q p b ln len bd st ch le) (hp : p' ≤ p) : bs_R q p' b ln len bd st ch le := by
  obtain ⟨r1, r2, r3, r4, r5, r6, r7⟩ := R
  exact ⟨r1, by omega, r3, r4, r5, Nat.le_trans (bs_S_mono (by omega)) r6, fun d hd => r7 d (by omega)⟩
/-- one string is set -/
theorem bs_R_set {q p p' b : Nat} {ln len bd st ch le len' bd' ch' le' : Nat → Int32} (R : bs_R q p b ln len bd st ch le) (t l m : Nat) (hp : p' ≤ 4) (ht : t < 6 + p') (hd : ∀ d, d < 6 + p' → d ≠ t → d < 6 + p)
    (e1 : len' t = nI l) (n1 : ∀ d, d ≠ t → len' d = len d) (e2 : le' t = nI l) (n2 : ∀ d, d ≠ t → le' d = le d) (e3 : bd' t = nI m) (n3 : ∀ d, d ≠ t → bd' d = bd d)
    (hl : l ≤ 40) (hm : m ≤ 144) (hlm : 0 < l → b ≤ m ∧ m + l ≤ 144) (hc : ∀ i, i < l → ch' (40 * t + i) = st (m + i)) (nc : ∀ j, (j < 40 * t ∨ 40 * t + 40 ≤ j) → ch' j = ch j)
    (hS : bs_S len' (6 + p') ≤ 100) : bs_R q p' b ln len' bd' st ch' le' := by
  obtain ⟨r1, r2, r3, r4, r5, r6, r7⟩ := R
  refine ⟨r1, hp, r3, ?_, fun i hi => ?_, hS, fun d hdd => ?_⟩
  · rw [n2 10 (by omega)]; exact r4
  · rw [nc (400 + i) (by omega)]; exact r5 i hi
  · by_cases e : d = t
    · subst e
      exact ⟨l, m, e1, e2, e3, hl, hm, hlm, hc⟩
    · obtain ⟨l1, m1, D⟩ := r7 d (hd d hdd e)
      have := D.2.2.2.1
      exact ⟨l1, m1, bs_D_keep D (n1 d e) (n2 d e) (n3 d e) (Nat.le_refl _) (fun i hi => nc _ (by omega)) (fun _ _ _ => rfl)⟩
/-- a string that shares nothing is changed in place -/
theorem bs_R_mid {q p b v l m s n : Nat} {ln len bd st st' ch ch' le : Nat → Int32} (R : bs_R q p b ln len bd st ch le) (hv : v < 6) (D : bs_D b len bd st ch le v l m) (hs : s + n ≤ l) (hn : 0 < n)
    (hx : ∀ d l' m', d < 6 + p → d ≠ v → bs_D b len bd st ch le d l' m' → 0 < l' → m' + l' ≤ m ∨ m + l ≤ m')
    (h1 : ∀ k, k < n → ch' (40 * v + s + k) = st' (m + s + k)) (h2 : ∀ j, (j < 40 * v + s ∨ 40 * v + s + n ≤ j) → ch' j = ch j) (h3 : ∀ j, (j < m + s ∨ m + s + n ≤ j) → st' j = st j) : bs_R q p b ln len bd st' ch' le := by
  obtain ⟨r1, r2, r3, r4, r5, r6, r7⟩ := R
  have hl := D.2.2.2.1
  refine ⟨r1, r2, r3, r4, fun i hi => ?_, r6, fun d hd => ?_⟩
  · rw [h2 (400 + i) (by omega)]; exact r5 i hi
  · by_cases e : d = v
    · subst e
      obtain ⟨a1, a2, a3, a4, a5, a6, a7⟩ := D
      refine ⟨l, m, a1, a2, a3, a4, a5, a6, fun i hi => ?_⟩
      by_cases c : i < s
      · rw [h2 _ (by omega), h3 _ (by omega)]; exact a7 i hi
      · by_cases c2 : s + n ≤ i
        · rw [h2 _ (by omega), h3 _ (by omega)]; exact a7 i hi
        · have := h1 (i - s) (by omega)
          rw [show 40 * d + s + (i - s) = 40 * d + i by omega, show m + s + (i - s) = m + i by omega] at this
          exact this
    · obtain ⟨l1, m1, D1⟩ := r7 d hd
      have hl1 := D1.2.2.2.1
      refine ⟨l1, m1, bs_D_keep D1 rfl rfl rfl (Nat.le_refl _) (fun i hi => h2 _ (by omega)) (fun i hi h0 => h3 _ ?_)⟩
      have := hx d l1 m1 hd e D1 h0
      omega
end
section
/-! the component's small methods -/
theorem bs_var (x : Int32) : (x < 0 ∨ nI 6 ≤ x) ∨ ∃ j : Nat, j < 6 ∧ x = nI j := by
  rcases pk_ix x (n := 6) (by decide) with h | h | h
  · exact Or.inl (Or.inl h)
  · exact Or.inl (Or.inr h)
  · exact Or.inr h
theorem bs_byte (x : Int32) : (x < 0 ∨ nI 256 ≤ x) ∨ ∃ j : Nat, j < 256 ∧ x = nI j := by
  rcases pk_ix x (n := 256) (by decide) with h | h | h
  · exact Or.inl (Or.inl h)
  · exact Or.inl (Or.inr h)
  · exact Or.inr h
/-- a number from 1 to 255 -/
theorem bs_one (x : Int32) : (x < 1 ∨ (¬ x < 1 ∧ 255 < x)) ∨ ∃ j : Nat, j < 255 ∧ x = nI (j + 1) ∧ ¬ x < 1 ∧ ¬ 255 < x ∧ x ≤ 255 := by
  rcases pk_ix x (n := 256) (by decide) with h | h | ⟨j, hj, rfl⟩
  · refine Or.inl (Or.inl ?_)
    rw [Int32.lt_iff_toInt_lt] at h ⊢
    rw [show (0 : Int32).toInt = 0 from by decide] at h
    rw [show (1 : Int32).toInt = 1 from by decide]
    omega
  · refine Or.inl (Or.inr ?_)
    rw [Int32.le_iff_toInt_le, show (nI 256).toInt = 256 from by decide] at h
    rw [Int32.lt_iff_toInt_lt, Int32.lt_iff_toInt_lt, show (1 : Int32).toInt = 1 from by decide, show (255 : Int32).toInt = 255 from by decide]
    omega
  · by_cases h0 : j = 0
    · subst h0; exact Or.inl (Or.inl (by decide))
    · refine Or.inr ⟨j - 1, by omega, by rw [show j - 1 + 1 = j by omega], ?_, ?_, ?_⟩
      · exact nI_nlt (a := j) (b := 1) (by omega) (by omega)
      · exact nI_nlt (a := 255) (b := j) (by omega) (by omega)
      · exact nI_le (a := j) (b := 255) (by omega) (by omega)
theorem bs_ge6 {x : Int32} (h : nI 6 ≤ x) : ¬ x < 0 ∧ ¬ x < 6 ∧ 5 < x := by
  rw [Int32.le_iff_toInt_le, show (nI 6).toInt = 6 from by decide] at h
  rw [Int32.lt_iff_toInt_lt, Int32.lt_iff_toInt_lt, Int32.lt_iff_toInt_lt, show (0 : Int32).toInt = 0 from by decide, show (6 : Int32).toInt = 6 from by decide, show (5 : Int32).toInt = 5 from by decide]
  omega
theorem bs_ge256 {x : Int32} (h : nI 256 ≤ x) : ¬ x < 0 ∧ ¬ x ≤ 255 ∧ 255 < x := by
  rw [Int32.le_iff_toInt_le, show (nI 256).toInt = 256 from by decide] at h
  rw [Int32.lt_iff_toInt_lt, Int32.le_iff_toInt_le, Int32.lt_iff_toInt_lt, show (0 : Int32).toInt = 0 from by decide, show (255 : Int32).toInt = 255 from by decide]
  omega
theorem bs_6 (p : Nat) : (6 : Int32) + nI p = nI (6 + p) := nI_add 6 p
theorem bs_5 (p : Nat) : (5 : Int32) + nI (p + 1) = nI (6 + p) := (nI_add 5 (p + 1)).trans (congrArg nI (by omega))
theorem bs_7 (p : Nat) : (7 : Int32) + nI p = nI (7 + p) := nI_add 7 p
theorem bs_40 (a : Nat) : (40 : Int32) * nI a = nI (40 * a) := pk_mul 40 a
theorem bs_40i (a i : Nat) : (40 : Int32) * nI a + nI i = nI (40 * a + i) := by rw [bs_40, nI_add]
theorem bs_40s (a s i : Nat) : (40 : Int32) * nI a + nI s + nI i = nI (40 * a + s + i) := by rw [bs_40, nI_add, nI_add]
theorem bs_tp (p : Nat) : (6 : Int32) + nI (p + 1) - 1 = nI (6 + p) := by
  rw [bs_6, show 6 + (p + 1) = 6 + p + 1 by omega, nI_pred]
section
variable {fk fp fb : Int32} {ln len bd st wt tg : Nat → Int32} {p : Nat}
theorem bs_bv_t {post : Int32 → Prop} {j : Nat} (h : j < 6) (H : post 0) : wpX_badVariable post (fk, fp, fb, ln, len, bd, st, wt, tg) (nI j) :=
  br_f (nI_pos (by omega)) (br_t (nI_lt (b := 6) h (by decide)) H)
theorem bs_bv_f {post : Int32 → Prop} {x : Int32} (h : x < 0 ∨ nI 6 ≤ x) (H : post 1) : wpX_badVariable post (fk, fp, fb, ln, len, bd, st, wt, tg) x := by
  rcases h with h | h
  · exact br_t h H
  · exact br_f (bs_ge6 h).1 (br_f (bs_ge6 h).2.1 H)
theorem bs_bb_t {post : Int32 → Prop} {j : Nat} (h : j < 256) (H : post 0) : wpX_badByte post (fk, fp, fb, ln, len, bd, st, wt, tg) (nI j) :=
  br_f (nI_pos (by omega)) (br_t (nI_le (b := 255) (by omega) (by decide)) H)
theorem bs_bb_f {post : Int32 → Prop} {x : Int32} (h : x < 0 ∨ nI 256 ≤ x) (H : post 1) : wpX_badByte post (fk, fp, fb, ln, len, bd, st, wt, tg) x := by
  rcases h with h | h
  · exact br_t h H
  · exact br_f (bs_ge256 h).1 (br_f (bs_ge256 h).2.1 H)
theorem bs_top {post : Int32 → Prop} (H : post (nI (6 + p))) : wpX_top post (fk, nI (p + 1), fb, ln, len, bd, st, wt, tg) := by
  show post ((6 + nI (p + 1)) - 1)
  rw [bs_tp]; exact H
theorem bs_usedX_4 {post : Int32 → Prop} (hp : p ≤ 4) (hl : ∀ d, d < 6 + p → ∃ l, l ≤ 40 ∧ len d = nI l) (H : post (nI (bs_S len (6 + p)))) (n : Nat) : ∀ i, i ≤ 6 + p → 6 + p - i < n → wX_used_4 post fk (nI p) fb ln len bd st wt tg n (nI (bs_S len i)) (nI i) := by
  induction n with
  | zero => intro i _ h2; omega
  | succ n ih =>
    intro i h1 h2
    unfold wX_used_4
    show ((6 + nI p ≤ nI i → _) ∧ (¬ 6 + nI p ≤ nI i → _))
    rw [bs_6]
    refine pk_le (6 + p) i (fun h => ?_) (fun h => ?_)
    · have e : i = 6 + p := by omega
      subst e; exact H
    · obtain ⟨l, hl1, hl2⟩ := hl i h
      have e : nI (bs_S len i) + len (nI i).toNatClampNeg = nI (bs_S len (i + 1)) := by
        rw [nI_clamp (by omega), bs_S_s, hl2, nI_add, nI_clamp (by omega)]
      exact ⟨vp_in_nI (by omega) (by omega), nm_r e (nm_r (nI_1 i) (ih (i + 1) (by omega) (by omega)))⟩
theorem bs_usedX {post : Int32 → Prop} (hp : p ≤ 4) (hl : ∀ d, d < 6 + p → ∃ l, l ≤ 40 ∧ len d = nI l) (H : post (nI (bs_S len (6 + p)))) : wpX_used post (fk, nI p, fb, ln, len, bd, st, wt, tg) :=
  Exists.intro (6 + p + 1) (bs_usedX_4 hp hl H (6 + p + 1) 0 (by omega) (by omega))
theorem bs_refuse {post : Int32 → Prop} {n : Nat} (hp : p ≤ 4) (hl : ∀ d, d < 6 + p → ∃ l, l ≤ 40 ∧ len d = nI l) (hS : bs_S len (6 + p) ≤ 100) (hn : n < 1000)
    (H1 : p = 4 → post (-2)) (H2 : p ≠ 4 → 40 < n → post (-5)) (H3 : p ≠ 4 → n ≤ 40 → bs_S len (6 + p) + n ≤ 100 → post 0) (H4 : p ≠ 4 → n ≤ 40 → 100 < bs_S len (6 + p) + n → post (-2)) :
    wpX_refuse post (fk, nI p, fb, ln, len, bd, st, wt, tg) (nI n) := by
  unfold wpX_refuse
  try dsimp only
  refine pk_eq p 4 H1 (fun h => ?_)
  refine pk_le n 40 (fun h2 => ?_) (H2 h)
  refine bs_usedX hp hl ?_
  try dsimp only
  rw [nI_add]
  exact pk_le (bs_S len (6 + p) + n) 100 (H3 h h2) (H4 h h2)
theorem bs_pushBody {post : SX → Prop} {m l : Nat} (hp : p < 4) (hl : l ≤ 40)
    (H : post (fk, nI (p + 1), fb, ln, upd len (6 + p) (nI l), upd bd (6 + p) (nI (if l = 0 then 0 else m)), st, wt, tg)) : wpX_pushBody post (fk, nI p, fb, ln, len, bd, st, wt, tg) (nI m) (nI l) := by
  unfold wpX_pushBody
  try dsimp only
  refine nm_r (nI_1 p) ?_
  refine bs_top ?_
  try dsimp only
  rw [nI_clamp (by omega)]
  have hi : vp_in (nI (6 + p)) 10 := vp_in_nI (by omega) (by omega)
  refine pk_eq l 0 (fun h => ?_) (fun h => ?_)
  · refine ⟨hi, nm_e ⟨hi, nm_e ?_⟩⟩
    rw [if_pos h] at H; exact H
  · refine ⟨hi, nm_e ⟨hi, nm_e ?_⟩⟩
    rw [if_neg h] at H; exact H
theorem bs_copy3 {post : SX → Prop} {a t m : Nat} {st0 : Nat → Int32} (ha : a + m ≤ 144) (ht : t + m ≤ 144) (hd : a + m ≤ t ∨ t + m ≤ a)
    (H : ∀ st', bs_F t m (fun k => st0 (a + k)) st0 st' → post (fk, fp, fb, ln, len, bd, st', wt, tg)) (n : Nat) :
    ∀ i st, i ≤ m → m - i < n → bs_F t i (fun k => st0 (a + k)) st0 st → wX_copy_3 post (nI a) (nI t) (nI m) fk fp fb n (nI i) ln len bd st wt tg := by
  induction n with
  | zero => intro i st _ h2; omega
  | succ n ih =>
    intro i st h1 h2 hF
    unfold wX_copy_3
    rw [nI_add, nI_add]
    refine pk_le m i (fun h => ?_) (fun h => ?_)
    · have e : i = m := by omega
      subst e; exact H st hF
    · rw [nI_clamp (by omega), nI_clamp (by omega)]
      refine ⟨vp_in_nI (by omega) (by omega), vp_in_nI (by omega) (by omega), nm_e (nm_r (nI_1 i) (ih (i + 1) _ (by omega) (by omega) (bs_F_s hF ?_)))⟩
      exact hF.2 _ (by omega)
theorem bs_copyX {post : SX → Prop} {a t m : Nat} (ha : a + m ≤ 144) (ht : t + m ≤ 144) (hd : a + m ≤ t ∨ t + m ≤ a)
    (H : ∀ st', bs_F t m (fun k => st (a + k)) st st' → post (fk, fp, fb, ln, len, bd, st', wt, tg)) : wpX_copy post (fk, fp, fb, ln, len, bd, st, wt, tg) (nI a) (nI t) (nI m) :=
  Exists.intro (m + 1) (bs_copy3 ha ht hd H (m + 1) 0 st (by omega) (by omega) bs_F_0)
end
end
section
/-! the component: sharing, marking, sliding, taking room -/
section
variable {fk fp fb : Int32} {ln len bd st wt tg : Nat → Int32} {p : Nat}
def bs_G (p : Nat) (len bd : Nat → Int32) : Prop := ∀ d, d < 6 + p → ∃ l m, len d = nI l ∧ bd d = nI m ∧ l ≤ 40 ∧ m ≤ 144 ∧ (0 < l → m + l ≤ 144)
theorem bs_R_G {q b : Nat} {ch le : Nat → Int32} (R : bs_R q p b ln len bd st ch le) : bs_G p len bd := by
  intro d hd
  obtain ⟨l, m, D⟩ := R.2.2.2.2.2.2 d hd
  exact ⟨l, m, D.1, D.2.2.1, D.2.2.2.1, D.2.2.2.2.1, fun h => (D.2.2.2.2.2.1 h).2⟩
theorem bs_G_l (hG : bs_G p len bd) : ∀ d, d < 6 + p → ∃ l, l ≤ 40 ∧ len d = nI l := by
  intro d hd
  obtain ⟨l, m, h1, _, h2, _⟩ := hG d hd
  exact ⟨l, h2, h1⟩
/-- the places of strings d and v lie apart -/
def bs_A (len bd : Nat → Int32) (v d : Nat) : Prop := (bd v).toNatClampNeg + (len v).toNatClampNeg ≤ (bd d).toNatClampNeg ∨ (bd d).toNatClampNeg + (len d).toNatClampNeg ≤ (bd v).toNatClampNeg
def bs_AA (p : Nat) (len bd : Nat → Int32) (v i : Nat) : Prop := ∀ d, d < i → d < 6 + p → d ≠ v → 0 < (len d).toNatClampNeg → bs_A len bd v d
theorem bs_AA_s {v i : Nat} (h : bs_AA p len bd v i) (h' : i < 6 + p → i ≠ v → 0 < (len i).toNatClampNeg → bs_A len bd v i) : bs_AA p len bd v (i + 1) := by
  intro d h1 h2 h3 h4
  by_cases e : d = i
  · subst e; exact h' h2 h3 h4
  · exact h d (by omega) h2 h3 h4
theorem bs_shared4 {post : Int32 → Prop} {v : Nat} (hp : p ≤ 4) (hv : v < 6) (hG : bs_G p len bd) (H : ∀ r, (r = 0 → bs_AA p len bd v 10) → post r) (n : Nat) :
    ∀ i x, i ≤ 10 → 10 - i < n → (x = 0 ∨ x = 1) → (x = 0 → bs_AA p len bd v i) → wX_shared_4 post (nI v) fk (nI p) fb ln len bd st wt tg n x (nI i) := by
  induction n with
  | zero => intro i x _ h2; omega
  | succ n ih =>
    intro i x h1 h2 hx hA
    unfold wX_shared_4
    refine pk_le 10 i (fun h => ?_) (fun h => ?_)
    · have e : i = 10 := by omega
      subst e
      refine ⟨?_, H x hA⟩
      rcases hx with rfl | rfl <;> rfl
    · have K : ∀ y, (y = 0 ∨ y = 1) → (y = 0 → bs_AA p len bd v (i + 1)) → wX_shared_4 post (nI v) fk (nI p) fb ln len bd st wt tg n y (nI i + 1) := by
        intro y hy hB
        rw [nI_1]
        exact ih (i + 1) y (by omega) (by omega) hy hB
      have Z : (i < 6 + p → i ≠ v → 0 < (len i).toNatClampNeg → bs_A len bd v i) → wX_shared_39 post (wX_shared_4 post (nI v) fk (nI p) fb ln len bd st wt tg n) (nI v) x (nI i) fk (nI p) fb ln len bd st wt tg := by
        intro hi
        exact br_t rfl (nm_e (K x hx (fun h0 => bs_AA_s (hA h0) hi)))
      refine pk_eq i v (fun e => Z (fun _ hn => absurd e hn)) (fun e => ?_)
      rw [bs_6]
      refine pk_le (6 + p) i (fun h3 => Z (fun h4 => by omega)) (fun h3 => ?_)
      obtain ⟨l, m, e1, e2, hl, hm, _⟩ := hG i h3
      obtain ⟨l', m', e1', e2', hl', hm', _⟩ := hG v (by omega)
      have ci : (nI i).toNatClampNeg = i := nI_clamp (by omega)
      have cv : (nI v).toNatClampNeg = v := nI_clamp (by omega)
      have vi : vp_in (nI i) 10 := vp_in_nI h (by decide)
      have vv : vp_in (nI v) 10 := vp_in_nI (by omega) (by decide)
      have cl : (len i).toNatClampNeg = l := by rw [e1]; exact nI_clamp (by omega)
      have cm : (bd i).toNatClampNeg = m := by rw [e2]; exact nI_clamp (by omega)
      have cl' : (len v).toNatClampNeg = l' := by rw [e1']; exact nI_clamp (by omega)
      have cm' : (bd v).toNatClampNeg = m' := by rw [e2']; exact nI_clamp (by omega)
      refine ⟨vi, ?_⟩
      rw [ci]
      refine pk_le l 0 (fun h4 => Z (fun _ _ h5 => by omega)) (fun h4 => ?_) e1
      refine br_f (by decide) ?_
      rw [ci, cv]
      refine ⟨vi, vv, vv, ?_⟩
      refine pk_le (m' + l') m (fun h5 => ?_) (fun h5 => ?_) (by rw [e1', e2', nI_add]) e2
      · exact nm_e (K x hx (fun h0 => bs_AA_s (hA h0) (fun _ _ _ => Or.inl (by omega))))
      · refine ⟨vv, vi, vi, ?_⟩
        refine pk_le (m + l) m' (fun h6 => ?_) (fun h6 => ?_) (by rw [e1, e2, nI_add]) e2'
        · exact nm_e (K x hx (fun h0 => bs_AA_s (hA h0) (fun _ _ _ => Or.inr (by omega))))
        · exact nm_e (K 1 (Or.inr rfl) (fun h0 => absurd h0 (by decide)))
theorem bs_shared {post : Int32 → Prop} {v : Nat} (hp : p ≤ 4) (hv : v < 6) (hG : bs_G p len bd) (H : ∀ r, (r = 0 → bs_AA p len bd v 10) → post r) : wpX_shared post (fk, nI p, fb, ln, len, bd, st, wt, tg) (nI v) :=
  Exists.intro 11 (bs_shared4 hp hv hG H 11 0 0 (by omega) (by omega) (Or.inl rfl) (fun _ d hd => absurd hd (Nat.not_lt_zero d)))
theorem bs_mark48 {post : SX → Prop} {J : Int32 → (Nat → Int32) → (Nat → Int32) → (Nat → Int32) → (Nat → Int32) → (Nat → Int32) → (Nat → Int32) → Prop} {d l m : Nat} (hd : d < 10) (e1 : len d = nI l) (e2 : bd d = nI m) (hl : l ≤ 40) (hm : m ≤ 144) (hlm : 0 < l → m + l ≤ 144) (n : Nat) :
    ∀ j wt, m ≤ j → j ≤ m + l → m + l - j < n → (∀ wt', (∀ i, ¬ wt i = 0 → ¬ wt' i = 0) → (∀ i, j ≤ i → i < m + l → ¬ wt' i = 0) → bs_C wt' 144 ≤ bs_C wt 144 + (m + l - j) → J (nI (d + 1)) ln len bd st wt' tg) →
    wX_mark_48 post J (nI d) fk fp fb n (nI j) ln len bd st wt tg := by
  induction n with
  | zero => intro j wt _ _ h; omega
  | succ n ih =>
    intro j wt h1 h2 h3 H
    unfold wX_mark_48
    have vd : vp_in (nI d) 10 := vp_in_nI hd (by decide)
    refine ⟨vd, vd, ?_⟩
    rw [nI_clamp (n := d) (by omega)]
    refine pk_le (m + l) j (fun h => ?_) (fun h => ?_) (by rw [e1, e2, nI_add]) rfl
    · refine nm_r (nI_1 d) (H wt (fun _ h => h) (fun i a b => by omega) (by omega))
    · have hj : j < 144 := by have := hlm (by omega); omega
      rw [nI_clamp (n := j) (by omega)]
      refine ⟨vp_in_nI hj (by decide), nm_e (nm_r (nI_1 j) (ih (j + 1) _ (by omega) (by omega) (by omega) (fun wt' a b c => ?_)))⟩
      have hu : ∀ i, ¬ wt i = 0 → ¬ upd wt j (vp_nar .boolean 1) i = 0 := by
        intro i hi
        by_cases e : i = j
        · subst e; rw [pk_us]; exact (by decide : ¬ (1 : Int32) = 0)
        · rw [pk_un e]; exact hi
      have h0 : ¬ upd wt j (vp_nar .boolean 1) j = 0 := by rw [pk_us]; exact (by decide : ¬ (1 : Int32) = 0)
      have hc := bs_C_upd (w := wt) (k := j) (x := vp_nar .boolean 1) 144
      refine H wt' (fun i hi => a i (hu i hi)) (fun i hi1 hi2 => ?_) (by omega)
      by_cases e : i = j
      · subst e; exact a i h0
      · exact b i (by omega) hi2
/-- every cell of a live string from d on is marked -/
def bs_M (p : Nat) (len bd wt : Nat → Int32) (d : Nat) : Prop := ∀ d' l m i, d ≤ d' → d' < 6 + p → len d' = nI l → bd d' = nI m → l ≤ 40 → m ≤ 144 → m ≤ i → i < m + l → ¬ wt i = 0
theorem bs_mark24 {post : SX → Prop} (hp : p ≤ 4) (hG : bs_G p len bd) (n : Nat) :
    ∀ d wt, d ≤ 10 → 10 - d < n → (∀ wt', (∀ i, ¬ wt i = 0 → ¬ wt' i = 0) → bs_M p len bd wt' d → bs_C wt' 144 ≤ bs_C wt 144 + (bs_S len (6 + p) - bs_S len d) → post (fk, nI p, fb, ln, len, bd, st, wt', tg)) →
    wX_mark_24 post fk (nI p) fb n (nI d) ln len bd st wt tg := by
  induction n with
  | zero => intro d wt _ h; omega
  | succ n ih =>
    intro d wt h1 h2 H
    unfold wX_mark_24
    rw [bs_6]
    refine pk_le 10 d (fun h => ?_) (fun h => ?_)
    · exact H wt (fun _ h => h) (fun d' l m i a b => by omega) (by omega)
    · refine pk_le (6 + p) d (fun h3 => ?_) (fun h3 => ?_)
      · refine nm_r (nI_1 d) (ih (d + 1) wt (by omega) (by omega) (fun wt' a b c => H wt' a (fun d' l m i x y => by omega) ?_))
        have := bs_S_s len d
        omega
      · obtain ⟨l, m, e1, e2, hl, hm, hlm⟩ := hG d h3
        rw [nI_clamp (n := d) (by omega)]
        refine ⟨vp_in_nI h (by decide), nm_r e2 ⟨m + l + 1, ?_⟩⟩
        refine bs_mark48 (l := l) (m := m) (by omega) e1 e2 hl hm hlm (m + l + 1) m wt (Nat.le_refl _) (by omega) (by omega) (fun w1 a1 b1 c1 => ?_)
        refine ih (d + 1) w1 (by omega) (by omega) (fun wt' a b c => H wt' (fun i hi => a i (a1 i hi)) ?_ ?_)
        · intro d' l' m' i x1 x2 x3 x4 x5 x6 x7 x8
          by_cases e : d' = d
          · subst e
            have y1 : l' = l := (nI_eq (by omega) (by omega)).mp (x3.symm.trans e1)
            have y2 : m' = m := (nI_eq (by omega) (by omega)).mp (x4.symm.trans e2)
            subst y1 y2
            exact a i (b1 i x7 x8)
          · exact b d' l' m' i (by omega) x2 x3 x4 x5 x6 x7 x8
        · have y1 := bs_S_s len d
          rw [e1, nI_clamp (by omega)] at y1
          have y2 : bs_S len (d + 1) ≤ bs_S len (6 + p) := bs_S_mono (by omega)
          omega
theorem bs_mark2 {post : SX → Prop} (H : ∀ wt', bs_C wt' 144 = 0 → ∃ n24, wX_mark_24 post fk fp fb n24 0 ln len bd st wt' tg) (n : Nat) :
    ∀ i wt, i ≤ 144 → 144 - i < n → bs_C wt i = 0 → wX_mark_2 post fk fp fb n (nI i) ln len bd st wt tg := by
  induction n with
  | zero => intro i wt _ h; omega
  | succ n ih =>
    intro i wt h1 h2 h3
    unfold wX_mark_2
    refine pk_le 144 i (fun h => ?_) (fun h => ?_)
    · have e : i = 144 := by omega
      subst e; exact H wt h3
    · rw [nI_clamp (n := i) (by omega)]
      refine ⟨vp_in_nI h (by decide), nm_e (nm_r (nI_1 i) (ih (i + 1) _ (by omega) (by omega) ?_))⟩
      have e : upd wt i (vp_nar .boolean 0) i = 0 := by rw [pk_us]; rfl
      rw [bs_C_z e, ← h3]
      exact bs_C_congr i (fun d hd => pk_un (by omega))
theorem bs_mark {post : SX → Prop} (hp : p ≤ 4) (hG : bs_G p len bd) (H : ∀ wt', bs_M p len bd wt' 0 → bs_C wt' 144 ≤ bs_S len (6 + p) → post (fk, nI p, fb, ln, len, bd, st, wt', tg)) : wpX_mark post (fk, nI p, fb, ln, len, bd, st, wt, tg) := by
  refine Exists.intro 145 (bs_mark2 (fun w hw => ⟨11, ?_⟩) 145 0 wt (by omega) (by omega) rfl)
  refine bs_mark24 hp hG 11 0 w (by omega) (by omega) (fun wt' _ b c => H wt' b ?_)
  rw [hw] at c
  have : bs_S len 0 = 0 := rfl
  omega
theorem bs_coll60 {post : SX → Prop} {bd0 : Nat → Int32} (hp : p ≤ 4) (hG : bs_G p len bd0)
    (H : ∀ bd', (∀ d, d < 6 + p → bd' d = if len d = 0 then bd0 d else tg (bd0 d).toNatClampNeg) → post (fk, nI p, fb, ln, len, bd', st, wt, tg)) (n : Nat) :
    ∀ d bd, d ≤ 10 → 10 - d < n → (∀ d', d' < d → d' < 6 + p → bd d' = if len d' = 0 then bd0 d' else tg (bd0 d').toNatClampNeg) → (∀ d', d ≤ d' → bd d' = bd0 d') → wX_collect_60 post fk (nI p) fb n (nI d) ln len bd st wt tg := by
  induction n with
  | zero => intro d bd _ h; omega
  | succ n ih =>
    intro d bd h1 h2 h3 h4
    unfold wX_collect_60
    rw [bs_6]
    refine pk_le 10 d (fun h => ?_) (fun h => ?_)
    · exact H bd (fun d' hd => h3 d' (by omega) hd)
    · refine pk_le (6 + p) d (fun h5 => ?_) (fun h5 => ?_)
      · exact nm_r (nI_1 d) (ih (d + 1) bd (by omega) (by omega) (fun d' a b => h3 d' (by omega) b) (fun d' a => h4 d' (by omega)))
      · obtain ⟨l, m, e1, e2, hl, hm, hlm⟩ := hG d h5
        have cd : (nI d).toNatClampNeg = d := nI_clamp (by omega)
        have vd : vp_in (nI d) 10 := vp_in_nI h (by decide)
        have e3 : bd d = nI m := (h4 d (Nat.le_refl _)).trans e2
        rw [cd, e3, nI_clamp (n := m) (by omega)]
        refine ⟨vd, ?_⟩
        refine pk_le l 0 (fun h6 => ?_) (fun h6 => ?_) e1 rfl
        · refine nm_r (nI_1 d) (ih (d + 1) bd (by omega) (by omega) (fun d' a b => ?_) (fun d' a => h4 d' (by omega)))
          by_cases e : d' = d
          · subst e
            have : l = 0 := by omega
            subst this
            rw [if_pos (e1.trans nI_0)]
            exact h4 d' (Nat.le_refl _)
          · exact h3 d' (by omega) b
        · have hm2 := hlm h6
          refine ⟨vd, vp_in_nI (by omega) (by decide), vd, nm_e (nm_r (nI_1 d) (ih (d + 1) _ (by omega) (by omega) (fun d' a b => ?_) (fun d' a => ?_)))⟩
          · by_cases e : d' = d
            · subst e
              rw [pk_us, if_neg (by rw [e1]; exact nI_ne0 h6 (by omega)), e2, nI_clamp (n := m) (by omega)]
            · rw [pk_un e]; exact h3 d' (by omega) b
          · rw [pk_un (by omega)]; exact h4 d' (by omega)
theorem bs_coll12 {post : SX → Prop} {w st0 : Nat → Int32} {K : Nat} (hK : K + bs_C w 144 = 144)
    (H : ∀ st' tg', (∀ j, j < 144 → ¬ w j = 0 → st' (K + bs_C w j) = st0 j ∧ tg' j = nI (K + bs_C w j)) → ∃ n60, wX_collect_60 post fk fp (nI K) n60 0 ln len bd st' w tg') (n : Nat) :
    ∀ i st tg, i ≤ 144 → i < n → (∀ j, j < K + bs_C w i → st j = st0 j) → (∀ j, i ≤ j → j < 144 → ¬ w j = 0 → st (K + bs_C w j) = st0 j ∧ tg j = nI (K + bs_C w j)) →
    wX_collect_12 post fk fp fb n (nI (K + bs_C w i)) (nI i + (-1)) ln len bd st w tg := by
  induction n with
  | zero => intro i st tg _ h; omega
  | succ n ih =>
    intro i st tg h1 h2 h3 h4
    unfold wX_collect_12
    cases i with
    | zero => exact br_t (by decide) (H st tg (fun j hj hw => h4 j (by omega) hj hw))
    | succ i =>
      rw [pk_m1]
      refine br_f (nI_pos (by omega)) ?_
      have ci : (nI i).toNatClampNeg = i := nI_clamp (by omega)
      have vi : vp_in (nI i) 144 := vp_in_nI (by omega) (by decide)
      rw [ci]
      refine ⟨vi, br_c (fun z => ?_) (fun z => ?_)⟩
      · have e := bs_C_z z
        rw [e] at h3 ⊢
        refine nm_e (ih i st tg (by omega) (by omega) h3 (fun j a b c => ?_))
        by_cases e2 : j = i
        · subst e2; exact absurd z c
        · exact h4 j (by omega) b c
      · have e := bs_C_n z
        have hc := (bs_C_mono (w := w) (a := i + 1) (b := 144) h1).2
        have hc2 := (bs_C_mono (w := w) (a := i + 1) (b := 144) h1).1
        have e3 : nI (K + bs_C w (i + 1)) + (-1) = nI (K + bs_C w i) := by
          rw [e, show K + (bs_C w i + 1) = K + bs_C w i + 1 by omega, pk_m1]
        refine nm_r e3 ?_
        rw [nI_clamp (n := K + bs_C w i) (by omega)]
        refine ⟨vi, vp_in_nI (by omega) (by decide), nm_e ⟨vi, nm_e (nm_e (ih i _ _ (by omega) (by omega) (fun j a => ?_) (fun j a b c => ?_)))⟩⟩
        · rw [pk_un (by omega)]; exact h3 j (by omega)
        · by_cases e2 : j = i
          · subst e2
            rw [pk_us, pk_us]
            exact ⟨h3 j (by omega), rfl⟩
          · have h5 := h4 j (by omega) b c
            have h6 := (bs_C_mono (w := w) (a := i + 1) (b := j) (by omega)).1
            rw [pk_un (by omega), pk_un e2]
            exact h5
theorem bs_slid {q b K : Nat} {ch le bd' st' tg' w : Nat → Int32} (R : bs_R q p b ln len bd st ch le) (hK : K + bs_C w 144 = 144) (hM : bs_M p len bd w 0)
    (h : ∀ j, j < 144 → ¬ w j = 0 → st' (K + bs_C w j) = st j ∧ tg' j = nI (K + bs_C w j)) (hb : ∀ d, d < 6 + p → bd' d = if len d = 0 then bd d else tg' (bd d).toNatClampNeg) : bs_R q p K ln len bd' st' ch le := by
  obtain ⟨r1, r2, r3, r4, r5, r6, r7⟩ := R
  refine ⟨r1, r2, by omega, r4, r5, r6, fun d hd => ?_⟩
  obtain ⟨l, m, D⟩ := r7 d hd
  obtain ⟨a1, a2, a3, a4, a5, a6, a7⟩ := D
  have hbd := hb d hd
  by_cases hl : l = 0
  · subst hl
    rw [if_pos (a1.trans nI_0)] at hbd
    exact ⟨0, m, a1, a2, hbd.trans a3, by omega, a5, fun z => by omega, fun i hi => by omega⟩
  · have hw : ∀ i, m ≤ i → i < m + l → ¬ w i = 0 := fun i x y => hM d l m i (by omega) hd a1 a3 a4 a5 x y
    have hml := a6 (by omega)
    rw [if_neg (by rw [a1]; exact nI_ne0 (by omega) (by omega)), a3, nI_clamp (n := m) (by omega), (h m (by omega) (hw m (by omega) (by omega))).2] at hbd
    have hrun := bs_C_run hw
    have hle := (bs_C_mono (w := w) (a := m + l) (b := 144) (by omega)).1
    have hrl := hrun l (Nat.le_refl _)
    refine ⟨l, K + bs_C w m, a1, a2, hbd, a4, by omega, fun _ => ⟨by omega, by omega⟩, fun i hi => ?_⟩
    rw [a7 i hi, ← (h (m + i) (by omega) (hw (m + i) (by omega) (by omega))).1, hrun i (by omega)]
    exact congrArg st' (by omega)
theorem bs_collect {post : SX → Prop} {q b : Nat} {ch le : Nat → Int32} (R : bs_R q p b ln len bd st ch le)
    (H : ∀ b' bd' st' wt' tg', 44 ≤ b' → bs_R q p b' ln len bd' st' ch le → post (fk, nI p, nI b', ln, len, bd', st', wt', tg')) : wpX_collect post (fk, nI p, fb, ln, len, bd, st, wt, tg) := by
  unfold wpX_collect
  try dsimp only
  have hG := bs_R_G R
  have hp := R.2.1
  refine bs_mark hp hG (fun w hM hC => ?_)
  try dsimp only
  have hS := R.2.2.2.2.2.1
  have hK : (144 - bs_C w 144) + bs_C w 144 = 144 := by omega
  have hK4 : 44 ≤ 144 - bs_C w 144 := by omega
  generalize 144 - bs_C w 144 = K at hK hK4
  refine ⟨145, ?_⟩
  have key := bs_coll12 (post := post) (fk := fk) (fp := nI p) (fb := fb) (ln := ln) (len := len) (bd := bd) (w := w) (st0 := st) hK
    (fun st' tg' h => ⟨11, bs_coll60 (bd0 := bd) hp hG (fun bd' hb => H K bd' st' w tg' hK4 (bs_slid R hK hM h hb)) 11 0 bd (by omega) (by omega) (fun d' a => absurd a (Nat.not_lt_zero _)) (fun _ _ => rfl)⟩)
    145 144 st tg (by omega) (by omega) (fun _ _ => rfl) (fun j a b => by omega)
  rw [hK, show nI 144 + (-1) = 143 by decide, show nI 144 = 144 by decide] at key
  exact key
theorem bs_take {post : Int32 → SX → Prop} {q b n : Nat} {ch le : Nat → Int32} (hn : n ≤ 40) (R : bs_R q p b ln len bd st ch le)
    (H : ∀ b' bd' st' wt' tg', b' + n ≤ 144 → bs_R q p (b' + n) ln len bd' st' ch le → post (nI b') (fk, nI p, nI b', ln, len, bd', st', wt', tg')) : wpX_take post (fk, nI p, nI b, ln, len, bd, st, wt, tg) (nI n) := by
  have T : ∀ b' bd' st' wt' tg', n ≤ b' → bs_R q p b' ln len bd' st' ch le → wX_take_12 post (nI n) fk (nI p) (nI b') ln len bd' st' wt' tg' := by
    intro b' bd' st' wt' tg' h R'
    have hb := R'.2.2.1
    refine nm_r (pk_sub h) (H (b' - n) bd' st' wt' tg' (by omega) ?_)
    rw [show b' - n + n = b' by omega]
    exact R'
  have hb := R.2.2.1
  unfold wpX_take
  try dsimp only
  refine pk_le n b (fun h => T b bd st wt tg h R) (fun h => ?_)
  refine bs_collect R (fun b' bd' st' wt' tg' h1 R' => ?_)
  exact T b' bd' st' wt' tg' (by omega) R'
end
end
section
/-! the reference's methods and loops -/
section
variable {fp : Int32} {ch le : Nat → Int32} {p : Nat}
theorem bs_iv_t {post : Int32 → Prop} {j : Nat} (h : j < 6) (H : post 1) : wpY_isVariable post (fp, ch, le) (nI j) :=
  br_f (nI_pos (by omega)) (br_f (nI_nlt (a := 5) (b := j) (by omega) (by omega)) H)
theorem bs_iv_f {post : Int32 → Prop} {x : Int32} (h : x < 0 ∨ nI 6 ≤ x) (H : post 0) : wpY_isVariable post (fp, ch, le) x := by
  rcases h with h | h
  · exact br_t h H
  · exact br_f (bs_ge6 h).1 (br_t (bs_ge6 h).2.2 H)
theorem bs_is_t {post : Int32 → Prop} {j : Nat} (h : j < 256) (H : post 1) : wpY_isSmall post (fp, ch, le) (nI j) :=
  br_f (nI_pos (by omega)) (br_f (nI_nlt (a := 255) (b := j) (by omega) (by omega)) H)
theorem bs_is_f {post : Int32 → Prop} {x : Int32} (h : x < 0 ∨ nI 256 ≤ x) (H : post 0) : wpY_isSmall post (fp, ch, le) x := by
  rcases h with h | h
  · exact br_t h H
  · exact br_f (bs_ge256 h).1 (br_t (bs_ge256 h).2.2 H)
theorem bs_usedY_4 {post : Int32 → Prop} (hp : p ≤ 4) (hl : ∀ d, d < 6 + p → ∃ l, l ≤ 40 ∧ le d = nI l) (H : post (nI (bs_S le (6 + p)))) (n : Nat) : ∀ i, i ≤ 6 + p → 6 + p - i < n → wY_used_4 post (nI p) ch le n (nI (bs_S le i)) (nI i) := by
  induction n with
  | zero => intro i _ h2; omega
  | succ n ih =>
    intro i h1 h2
    unfold wY_used_4
    rw [bs_6]
    refine pk_le (6 + p) i (fun h => ?_) (fun h => ?_)
    · have e : i = 6 + p := by omega
      subst e; exact H
    · obtain ⟨l, hl1, hl2⟩ := hl i h
      have e : nI (bs_S le i) + le (nI i).toNatClampNeg = nI (bs_S le (i + 1)) := by
        rw [nI_clamp (by omega), bs_S_s, hl2, nI_add, nI_clamp (by omega)]
      exact ⟨vp_in_nI (by omega) (by omega), nm_r e (nm_r (nI_1 i) (ih (i + 1) (by omega) (by omega)))⟩
theorem bs_usedY {post : Int32 → Prop} (hp : p ≤ 4) (hl : ∀ d, d < 6 + p → ∃ l, l ≤ 40 ∧ le d = nI l) (H : post (nI (bs_S le (6 + p)))) : wpY_used post (nI p, ch, le) :=
  Exists.intro (6 + p + 1) (bs_usedY_4 hp hl H (6 + p + 1) 0 (by omega) (by omega))
theorem bs_copyY2 {post : SY → Prop} {a t l : Nat} {ch0 : Nat → Int32} (ha : a < 11) (ht : t < 11) (hl : l ≤ 40) (e : le a = nI l) (hne : a ≠ t)
    (H : ∀ ch', bs_F (40 * t) l (fun k => ch0 (40 * a + k)) ch0 ch' → post (fp, ch', upd le t (nI l))) (n : Nat) :
    ∀ i ch, i ≤ l → l - i < n → bs_F (40 * t) i (fun k => ch0 (40 * a + k)) ch0 ch → wY_copy_2 post (nI a) (nI t) fp n (nI i) ch le := by
  induction n with
  | zero => intro i ch _ h2; omega
  | succ n ih =>
    intro i ch h1 h2 hF
    unfold wY_copy_2
    have va : vp_in (nI a) 11 := vp_in_nI ha (by decide)
    have vt : vp_in (nI t) 11 := vp_in_nI ht (by decide)
    rw [bs_40i, bs_40i, nI_clamp (n := a) (by omega), nI_clamp (n := t) (by omega), e]
    refine ⟨va, ?_⟩
    refine pk_le l i (fun h => ?_) (fun h => ?_)
    · have e : i = l := by omega
      subst e; exact ⟨va, vt, nm_e (H ch hF)⟩
    · rw [nI_clamp (by omega), nI_clamp (by omega)]
      refine ⟨vp_in_nI (by omega) (by omega), vp_in_nI (by omega) (by omega), nm_e (nm_r (nI_1 i) (ih (i + 1) _ (by omega) (by omega) (bs_F_s hF ?_)))⟩
      exact hF.2 _ (by omega)
theorem bs_copyY {post : SY → Prop} {a t l : Nat} (ha : a < 11) (ht : t < 11) (hl : l ≤ 40) (e : le a = nI l) (hne : a ≠ t)
    (H : ∀ ch', bs_F (40 * t) l (fun k => ch (40 * a + k)) ch ch' → post (fp, ch', upd le t (nI l))) : wpY_copy post (fp, ch, le) (nI a) (nI t) :=
  Exists.intro (l + 1) (bs_copyY2 ha ht hl e hne H (l + 1) 0 ch (by omega) (by omega) bs_F_0)
theorem bs_pushCopy {post : Int32 → SY → Prop} {a l : Nat} (hp : p ≤ 4) (hl : ∀ d, d < 6 + p → ∃ l, l ≤ 40 ∧ le d = nI l) (hS : bs_S le (6 + p) ≤ 100) (ha : a < 11) (ha2 : a < 6 ∨ a = 10) (hla : l ≤ 40) (e : le a = nI l)
    (H1 : p = 4 → post (-2) (nI p, ch, le)) (H2 : p ≠ 4 → 100 < bs_S le (6 + p) + l → post (-2) (nI p, ch, le))
    (H3 : p ≠ 4 → bs_S le (6 + p) + l ≤ 100 → ∀ ch', bs_F (40 * (6 + p)) l (fun k => ch (40 * a + k)) ch ch' → post (nI l) (nI (p + 1), ch', upd le (6 + p) (nI l))) : wpY_pushCopy post (nI p, ch, le) (nI a) := by
  unfold wpY_pushCopy
  try dsimp only
  have va : vp_in (nI a) 11 := vp_in_nI ha (by decide)
  refine pk_eq p 4 H1 (fun h => ?_)
  refine bs_usedY hp hl ?_
  try dsimp only
  rw [nI_clamp (n := a) (by omega), e, nI_add]
  refine ⟨va, ?_⟩
  refine pk_le (bs_S le (6 + p) + l) 100 (fun h2 => ?_) (H2 h)
  rw [bs_6]
  refine bs_copyY ha (by omega) hla e (by omega) (fun ch' hF => ?_)
  try dsimp only
  refine nm_r (nI_1 p) ⟨va, ?_⟩
  rw [pk_un (by omega), e]
  exact H3 h h2 ch' hF
theorem bs_joinY {post : Int32 → SY → Prop} {a t l1 l2 : Nat} {x3 : Int32} {ch0 : Nat → Int32} (ha : a < 11) (ht : t < a) (e1 : le t = nI l1) (e2 : le a = nI l2) (hs : l1 + l2 ≤ 40)
    (H : ∀ ch', bs_F (40 * t + l1) l2 (fun k => ch0 (40 * a + k)) ch0 ch' → post x3 (fp - 1, ch', upd le t x3)) (n : Nat) :
    ∀ i ch, i ≤ l2 → l2 - i < n → bs_F (40 * t + l1) i (fun k => ch0 (40 * a + k)) ch0 ch → wY_join_48 post (nI a) (nI t) x3 fp n (nI i) ch le := by
  induction n with
  | zero => intro i ch _ h2; omega
  | succ n ih =>
    intro i ch h1 h2 hF
    unfold wY_join_48
    have va : vp_in (nI a) 11 := vp_in_nI ha (by decide)
    have vt : vp_in (nI t) 11 := vp_in_nI (by omega) (by decide)
    rw [nI_clamp (n := a) (by omega), nI_clamp (n := t) (by omega), e1, e2, bs_40s, bs_40i]
    refine ⟨va, ?_⟩
    refine pk_le l2 i (fun h => ?_) (fun h => ?_)
    · have e : i = l2 := by omega
      subst e; exact ⟨vt, nm_e (nm_e (H ch hF))⟩
    · rw [nI_clamp (by omega), nI_clamp (by omega)]
      refine ⟨vt, vp_in_nI (by omega) (by omega), vp_in_nI (by omega) (by omega), nm_e (nm_r (nI_1 i) (ih (i + 1) _ (by omega) (by omega) (bs_F_s hF ?_)))⟩
      exact hF.2 _ (by omega)
theorem bs_cutY3 {post : Int32 → SY → Prop} {t s z : Nat} {ch0 : Nat → Int32} (ht : t < 11) (hs : s + z ≤ 40 ∨ z = 0) (hz : z ≤ 40)
    (H : ∀ ch', bs_F (40 * t) z (fun k => ch0 (40 * t + s + k)) ch0 ch' → post (nI z) (fp, ch', upd le t (nI z))) (n : Nat) :
    ∀ i ch, i ≤ z → z - i < n → bs_F (40 * t) i (fun k => ch0 (40 * t + s + k)) ch0 ch → wY_cut_43 post (nI s) (nI t) (nI z) fp n (nI i) ch le := by
  induction n with
  | zero => intro i ch _ h2; omega
  | succ n ih =>
    intro i ch h1 h2 hF
    unfold wY_cut_43
    have vt : vp_in (nI t) 11 := vp_in_nI ht (by decide)
    rw [bs_40s, bs_40i, nI_clamp (n := t) (by omega)]
    refine pk_le z i (fun h => ?_) (fun h => ?_)
    · have e : i = z := by omega
      subst e; exact ⟨vt, nm_e (H ch hF)⟩
    · rw [nI_clamp (by omega), nI_clamp (by omega)]
      refine ⟨vp_in_nI (by omega) (by omega), vp_in_nI (by omega) (by omega), nm_e (nm_r (nI_1 i) (ih (i + 1) _ (by omega) (by omega) (bs_F_s hF ?_)))⟩
      exact hF.2 _ (by omega)
theorem bs_cutY {post : Int32 → SY → Prop} {l s c : Nat} (hp : p < 4) (hl : l ≤ 40) (hs : s < 256) (hc : c < 256) (e : le (6 + p) = nI l)
    (H : ∀ z ch', z ≤ c → z ≤ l - s → (z = c ∨ z = l - s) → bs_F (40 * (6 + p)) z (fun k => ch (40 * (6 + p) + s + k)) ch ch' → post (nI z) (nI (p + 1), ch', upd le (6 + p) (nI z))) : wpY_cut post (nI (p + 1), ch, le) (nI s) (nI c) := by
  unfold wpY_cut
  try dsimp only
  refine nm_r (bs_5 p) ?_
  have vt : vp_in (nI (6 + p)) 11 := vp_in_nI (by omega) (by decide)
  rw [nI_clamp (by omega), e]
  refine ⟨vt, ?_⟩
  by_cases h : s ≤ l
  · refine nm_r (pk_sub h) ?_
    refine pk_le 0 (l - s) (fun _ => ?_) (fun h2 => by omega)
    refine pk_le c (l - s) (fun h2 => ?_) (fun h2 => ?_)
    · exact ⟨c + 1, bs_cutY3 (by omega) (by omega) (by omega) (fun ch' hF => H c ch' (by omega) (by omega) (Or.inl rfl) hF) (c + 1) 0 ch (by omega) (by omega) bs_F_0⟩
    · exact ⟨l - s + 1, bs_cutY3 (by omega) (by omega) (by omega) (fun ch' hF => H (l - s) ch' (by omega) (by omega) (Or.inr rfl) hF) (l - s + 1) 0 ch (by omega) (by omega) bs_F_0⟩
  · refine nm_e ?_
    have hn : ¬ (0 : Int32) ≤ nI l - nI s := Int32.not_le.mpr (pk_sneg (by omega) (by omega))
    refine br_f hn ?_
    exact ⟨1, bs_cutY3 (z := 0) (by omega) (by omega) (by omega) (fun ch' hF => H 0 ch' (by omega) (by omega) (Or.inr (by omega)) hF) 1 0 ch (by omega) (by omega) bs_F_0⟩
theorem bs_repeatY {post : Int32 → SY → Prop} {t z : Nat} {c : Int32} {ch0 : Nat → Int32} (ht : t < 11) (hz : z ≤ 40)
    (H : ∀ ch', bs_F (40 * t) z (fun _ => c) ch0 ch' → post (nI z) (nI (p + 1), ch', upd le t (nI z))) (n : Nat) :
    ∀ i ch, i ≤ z → z - i < n → bs_F (40 * t) i (fun _ => c) ch0 ch → wY_repeat_63 post (nI z) c (nI t) (nI p) n (nI i) ch le := by
  induction n with
  | zero => intro i ch _ h2; omega
  | succ n ih =>
    intro i ch h1 h2 hF
    unfold wY_repeat_63
    have vt : vp_in (nI t) 11 := vp_in_nI ht (by decide)
    rw [bs_40i, nI_clamp (n := t) (by omega)]
    refine pk_le z i (fun h => ?_) (fun h => ?_)
    · have e : i = z := by omega
      subst e; exact ⟨vt, nm_e (nm_r (nI_1 p) (H ch hF))⟩
    · rw [nI_clamp (by omega)]
      exact ⟨vp_in_nI (by omega) (by omega), nm_e (nm_r (nI_1 i) (ih (i + 1) _ (by omega) (by omega) (bs_F_s hF rfl)))⟩
theorem bs_midY {post : Int32 → SY → Prop} {v a s la lv z : Nat} {ch0 : Nat → Int32} (hv : v < 6) (ha : a < 11) (hva : v < a) (hs : s < 255) (hla : la ≤ 40) (hlv : lv ≤ 40) (e1 : le a = nI la) (e2 : le v = nI lv)
    (hz1 : z ≤ la) (hz2 : z = 0 ∨ s + z ≤ lv) (hz3 : z = la ∨ lv ≤ s + z)
    (H : ∀ ch', bs_F (40 * v + s) z (fun k => ch0 (40 * a + k)) ch0 ch' → post (nI z) (nI p, ch', le)) (n : Nat) :
    ∀ i ch, i ≤ z → z - i < n → bs_F (40 * v + s) i (fun k => ch0 (40 * a + k)) ch0 ch → wY_setMid_45 post (nI v) (nI (s + 1)) (nI a) (nI (p + 1)) n (nI i) (nI i) ch le := by
  induction n with
  | zero => intro i ch _ h2; omega
  | succ n ih =>
    intro i ch h1 h2 hF
    unfold wY_setMid_45
    have va : vp_in (nI a) 11 := vp_in_nI ha (by decide)
    have vv : vp_in (nI v) 11 := vp_in_nI (by omega) (by decide)
    have q1 : nI (s + 1) - 1 + nI i = nI (s + i) := by rw [nI_pred, nI_add]
    have q2 : (40 : Int32) * nI v + nI (s + 1) - 1 + nI i = nI (40 * v + s + i) := by
      rw [bs_40i, show 40 * v + (s + 1) = 40 * v + s + 1 by omega, nI_pred, nI_add]
    have E : i = z → wY_setMid_108 post (nI i) (nI (p + 1)) ch le := by
      intro e
      subst e
      exact nm_r (nI_pred p) (H ch hF)
    rw [nI_clamp (n := a) (by omega), nI_clamp (n := v) (by omega), e1, e2, q1, q2, bs_40i]
    refine ⟨va, ?_⟩
    refine pk_le la i (fun h => E (by omega)) (fun h => ⟨vv, ?_⟩)
    refine pk_le lv (s + i) (fun h3 => E (by omega)) (fun h3 => ?_)
    rw [nI_clamp (by omega), nI_clamp (by omega)]
    refine ⟨vp_in_nI (by omega) (by omega), vp_in_nI (by omega) (by omega), nm_e (nm_r (nI_1 i) (nm_r (nI_1 i) (ih (i + 1) _ (by omega) (by omega) (bs_F_s hF ?_))))⟩
    exact hF.2 _ (by omega)
/-- the first i characters of u and v are exchanged -/
def bs_X (u v i : Nat) (a a' : Nat → Int32) : Prop := (∀ k, k < i → a' (40 * u + k) = a (40 * v + k) ∧ a' (40 * v + k) = a (40 * u + k)) ∧ ∀ j, (∀ k, k < i → j ≠ 40 * u + k ∧ j ≠ 40 * v + k) → a' j = a j
theorem bs_X_s {u v i : Nat} {a a' : Nat → Int32} (hi : i < 40) (h : bs_X u v i a a') : bs_X u v (i + 1) a (upd (upd a' (40 * u + i) (a' (40 * v + i))) (40 * v + i) (a' (40 * u + i))) := by
  have h1 : a' (40 * u + i) = a (40 * u + i) := h.2 _ (fun k hk => by omega)
  have h2 : a' (40 * v + i) = a (40 * v + i) := h.2 _ (fun k hk => by omega)
  refine ⟨fun k hk => ?_, fun j hj => ?_⟩
  · by_cases e : k = i
    · subst e
      rw [pk_us]
      refine ⟨?_, h1⟩
      by_cases e2 : u = v
      · subst e2; rw [pk_us]; exact h1
      · rw [pk_un (by omega), pk_us]; exact h2
    · have := h.1 k (by omega)
      rw [pk_un (by omega), pk_un (by omega), pk_un (by omega), pk_un (by omega)]
      exact this
  · have := hj i (by omega)
    rw [pk_un this.2, pk_un this.1]
    exact h.2 j (fun k hk => hj k (by omega))
theorem bs_swapY {post : Int32 → SY → Prop} {u v : Nat} {ch0 : Nat → Int32} (hu : u < 6) (hv : v < 6) (H : ∀ ch', bs_X u v 40 ch0 ch' → post 0 (fp, ch', le)) (n : Nat) :
    ∀ i ch, i ≤ 40 → 40 - i < n → bs_X u v i ch0 ch → wY_swap_47 post (nI u) (nI v) fp n (nI i) ch le := by
  induction n with
  | zero => intro i ch _ h2; omega
  | succ n ih =>
    intro i ch h1 h2 hF
    unfold wY_swap_47
    rw [bs_40i, bs_40i]
    refine pk_le 40 i (fun h => ?_) (fun h => ?_)
    · have e : i = 40 := by omega
      subst e; exact H ch hF
    · have vu : vp_in (nI (40 * u + i)) 440 := vp_in_nI (by omega) (by decide)
      have vv : vp_in (nI (40 * v + i)) 440 := vp_in_nI (by omega) (by decide)
      rw [nI_clamp (n := 40 * u + i) (by omega), nI_clamp (n := 40 * v + i) (by omega)]
      exact ⟨vu, nm_e ⟨vv, vu, nm_e ⟨vv, nm_e (nm_r (nI_1 i) (ih (i + 1) _ (by omega) (by omega) (bs_X_s h hF)))⟩⟩⟩
end
end
section
/-! comparing and searching: one answer for both sides -/
def bs_lc (l1 l2 : Nat) : Int32 := if l1 = l2 then 0 else if l2 ≤ l1 then 2 else 1
def bs_cmp (f g : Nat → Int32) (l1 l2 : Nat) : Nat → Nat → Int32
  | 0, _ => bs_lc l1 l2
  | n + 1, i => if f i = g i then bs_cmp f g l1 l2 n (i + 1) else if g i ≤ f i then 2 else 1
theorem bs_cmp_s (f g : Nat → Int32) (l1 l2 n i : Nat) : bs_cmp f g l1 l2 (n + 1) i = if f i = g i then bs_cmp f g l1 l2 n (i + 1) else if g i ≤ f i then 2 else 1 := rfl
theorem bs_cmp_eq {f g : Nat → Int32} {l1 l2 : Nat} (n : Nat) : ∀ i, (∀ k, k < i + n → f k = g k) → bs_cmp f g l1 l2 n i = bs_lc l1 l2 := by
  induction n with
  | zero => intro i _; rfl
  | succ n ih =>
    intro i h
    rw [bs_cmp_s, if_pos (h i (by omega))]
    exact ih (i + 1) (fun k hk => h k (by omega))
def bs_beg (f g : Nat → Int32) : Nat → Nat → Int32
  | 0, _ => 1
  | n + 1, k => if f k = g k then bs_beg f g n (k + 1) else 0
theorem bs_beg_s (f g : Nat → Int32) (n k : Nat) : bs_beg f g (n + 1) k = if f k = g k then bs_beg f g n (k + 1) else 0 := rfl
section
variable {fk fp fb fq : Int32} {ln len bd st wt tg ch le : Nat → Int32} {b : Nat}
theorem bs_c143 {post : Int32 → SX → Prop} {x y l1 l2 : Nat} (hx : x < 10) (hy : y < 10) (e1 : len x = nI l1) (e2 : len y = nI l2) (h1 : l1 ≤ 40) (h2 : l2 ≤ 40)
    (H : post (bs_lc l1 l2) (fk, fp, fb, ln, len, bd, st, wt, tg)) : wX_compare_143 post (nI y) (nI x) fk fp fb ln len bd st wt tg := by
  unfold wX_compare_143
  have vx : vp_in (nI x) 10 := vp_in_nI hx (by decide)
  have vy : vp_in (nI y) 10 := vp_in_nI hy (by decide)
  rw [nI_clamp (n := x) (by omega), nI_clamp (n := y) (by omega), e1, e2]
  refine ⟨vx, vy, ?_⟩
  refine pk_eq l1 l2 (fun h => ?_) (fun h => ⟨vx, vy, ?_⟩)
  · rw [bs_lc, if_pos h] at H; exact H
  · refine pk_le l2 l1 (fun h3 => ?_) (fun h3 => ?_)
    · rw [bs_lc, if_neg h, if_pos h3] at H; exact H
    · rw [bs_lc, if_neg h, if_neg (by omega)] at H; exact H
theorem bs_c79 {post : Int32 → SX → Prop} {x y l1 l2 m1 m2 z : Nat} (hx : x < 10) (hy : y < 10) (D1 : bs_D b len bd st ch le x l1 m1) (D2 : bs_D b len bd st ch le y l2 m2) (hz1 : z ≤ l1) (hz2 : z ≤ l2) (d : Nat) :
    ∀ i n, i + d = z → d < n → post (bs_cmp (fun k => ch (40 * x + k)) (fun k => ch (40 * y + k)) l1 l2 d i) (fk, fp, fb, ln, len, bd, st, wt, tg) → wX_compare_79 post (nI y) (nI x) (nI z) fk fp fb ln len bd st wt tg n (nI i) := by
  obtain ⟨a1, a2, a3, a4, a5, a6, a7⟩ := D1
  obtain ⟨c1, c2, c3, c4, c5, c6, c7⟩ := D2
  have vx : vp_in (nI x) 10 := vp_in_nI hx (by decide)
  have vy : vp_in (nI y) 10 := vp_in_nI hy (by decide)
  induction d with
  | zero =>
    intro i n hi hn H
    cases n with
    | zero => omega
    | succ n =>
      unfold wX_compare_79
      refine pk_le z i (fun h => ?_) (fun h => by omega)
      exact bs_c143 hx hy a1 c1 a4 c4 H
  | succ d ih =>
    intro i n hi hn H
    cases n with
    | zero => omega
    | succ n =>
      unfold wX_compare_79
      refine pk_le z i (fun h => by omega) (fun h => ?_)
      have q1 := a6 (by omega)
      have q2 := c6 (by omega)
      rw [nI_clamp (n := x) (by omega), nI_clamp (n := y) (by omega), a3, c3, nI_add, nI_add]
      refine ⟨vx, vp_in_nI (by omega) (by decide), ?_⟩
      rw [nI_clamp (by omega), nI_clamp (by omega)]
      refine nm_r (a7 i (by omega)).symm ⟨vy, vp_in_nI (by omega) (by decide), nm_r (c7 i (by omega)).symm ?_⟩
      rw [bs_cmp_s] at H
      refine br_c (fun z1 => ?_) (fun z1 => ?_)
      · rw [if_pos z1] at H
        exact nm_r (nI_1 i) (ih (i + 1) n (by omega) (by omega) H)
      · rw [if_neg z1] at H
        refine br_c (fun z2 => ?_) (fun z2 => ?_)
        · rw [if_pos z2] at H; exact H
        · rw [if_neg z2] at H; exact H
theorem bs_o84 {post : Int32 → Prop} {x y l1 l2 : Nat} (hx : x < 10) (hy : y < 10) (e1 : le x = nI l1) (e2 : le y = nI l2) (h1 : l1 ≤ 40) (h2 : l2 ≤ 40)
    (H : post (bs_lc l1 l2)) : wY_order_84 post (nI x) (nI y) fq ch le := by
  unfold wY_order_84
  have vx : vp_in (nI x) 11 := vp_in_nI (by omega) (by decide)
  have vy : vp_in (nI y) 11 := vp_in_nI (by omega) (by decide)
  rw [nI_clamp (n := x) (by omega), nI_clamp (n := y) (by omega), e1, e2]
  refine ⟨vx, vy, ?_⟩
  refine pk_eq l1 l2 (fun h => ?_) (fun h => ⟨vx, vy, ?_⟩)
  · rw [bs_lc, if_pos h] at H; exact H
  · refine pk_le l2 l1 (fun h3 => ?_) (fun h3 => ?_)
    · rw [bs_lc, if_neg h, if_pos h3] at H; exact H
    · rw [bs_lc, if_neg h, if_neg (by omega)] at H; exact H
theorem bs_o2 {post : Int32 → Prop} {x y l1 l2 z : Nat} (hx : x < 10) (hy : y < 10) (e1 : le x = nI l1) (e2 : le y = nI l2) (h1 : l1 ≤ 40) (h2 : l2 ≤ 40) (hz1 : z ≤ l1) (hz2 : z ≤ l2) (hz3 : z = l1 ∨ z = l2) (d : Nat) :
    ∀ i n, i + d = z → d < n → post (bs_cmp (fun k => ch (40 * x + k)) (fun k => ch (40 * y + k)) l1 l2 d i) → wY_order_2 post (nI x) (nI y) fq ch le n (nI i) := by
  have vx : vp_in (nI x) 11 := vp_in_nI (by omega) (by decide)
  have vy : vp_in (nI y) 11 := vp_in_nI (by omega) (by decide)
  induction d with
  | zero =>
    intro i n hi hn H
    cases n with
    | zero => omega
    | succ n =>
      unfold wY_order_2
      rw [nI_clamp (n := x) (by omega), nI_clamp (n := y) (by omega), e1, e2]
      refine ⟨vx, ?_⟩
      refine pk_le l1 i (fun h => ?_) (fun h => ⟨vy, ?_⟩)
      · exact bs_o84 hx hy e1 e2 h1 h2 H
      · refine pk_le l2 i (fun h => ?_) (fun h => by omega)
        exact bs_o84 hx hy e1 e2 h1 h2 H
  | succ d ih =>
    intro i n hi hn H
    cases n with
    | zero => omega
    | succ n =>
      unfold wY_order_2
      rw [nI_clamp (n := x) (by omega), nI_clamp (n := y) (by omega), e1, e2]
      refine ⟨vx, ?_⟩
      refine pk_le l1 i (fun h => by omega) (fun h => ⟨vy, ?_⟩)
      refine pk_le l2 i (fun h => by omega) (fun h => ?_)
      rw [bs_40i, bs_40i]
      have v1 : vp_in (nI (40 * x + i)) 440 := vp_in_nI (by omega) (by decide)
      have v2 : vp_in (nI (40 * y + i)) 440 := vp_in_nI (by omega) (by decide)
      rw [nI_clamp (n := 40 * x + i) (by omega), nI_clamp (n := 40 * y + i) (by omega)]
      refine ⟨v1, v2, ?_⟩
      rw [bs_cmp_s] at H
      refine br_c (fun z1 => ?_) (fun z1 => ⟨v1, v2, ?_⟩)
      · rw [if_pos z1] at H
        exact nm_r (nI_1 i) (ih (i + 1) n (by omega) (by omega) H)
      · rw [if_neg z1] at H
        refine br_c (fun z2 => ?_) (fun z2 => ?_)
        · rw [if_pos z2] at H; exact H
        · rw [if_neg z2] at H; exact H
theorem bs_begX3 {post : Int32 → Prop} {u v lu lv mu mv s : Nat} (hu : u < 10) (hv : v < 10) (D1 : bs_D b len bd st ch le u lu mu) (D2 : bs_D b len bd st ch le v lv mv) (hs : s + lv ≤ lu) (d : Nat) :
    ∀ k n, k + d = lv → d < n → post (bs_beg (fun k => ch (40 * u + s + k)) (fun k => ch (40 * v + k)) d k) → wX_beginsAt_3 post (nI u) (nI v) (nI s) fk fp fb ln len bd st wt tg n (nI k) := by
  obtain ⟨a1, a2, a3, a4, a5, a6, a7⟩ := D1
  obtain ⟨c1, c2, c3, c4, c5, c6, c7⟩ := D2
  have vu : vp_in (nI u) 10 := vp_in_nI hu (by decide)
  have vv : vp_in (nI v) 10 := vp_in_nI hv (by decide)
  have cu : (nI u).toNatClampNeg = u := nI_clamp (by omega)
  have cv : (nI v).toNatClampNeg = v := nI_clamp (by omega)
  induction d with
  | zero =>
    intro i n hi hn H
    cases n with
    | zero => omega
    | succ n =>
      unfold wX_beginsAt_3
      rw [cv, c1]
      refine ⟨vv, ?_⟩
      exact pk_le lv i (fun h => H) (fun h => by omega)
  | succ d ih =>
    intro i n hi hn H
    cases n with
    | zero => omega
    | succ n =>
      unfold wX_beginsAt_3
      rw [cv, c1]
      refine ⟨vv, ?_⟩
      refine pk_le lv i (fun h => by omega) (fun h => ⟨vu, ?_⟩)
      have q1 := a6 (by omega)
      have q2 := c6 (by omega)
      rw [cu, a3, c3, nI_add, nI_add, nI_add]
      refine ⟨vp_in_nI (by omega) (by decide), vv, vp_in_nI (by omega) (by decide), ?_⟩
      have w1 : st (mu + s + i) = ch (40 * u + s + i) := by
        rw [show mu + s + i = mu + (s + i) by omega, show 40 * u + s + i = 40 * u + (s + i) by omega]
        exact (a7 (s + i) (by omega)).symm
      have w2 : st (mv + i) = ch (40 * v + i) := (c7 i (by omega)).symm
      rw [nI_clamp (by omega), nI_clamp (by omega), w1, w2]
      rw [bs_beg_s] at H
      refine br_c (fun z1 => ?_) (fun z1 => ?_)
      · rw [if_pos z1] at H
        exact nm_r (nI_1 i) (ih (i + 1) n (by omega) (by omega) H)
      · rw [if_neg z1] at H; exact H
theorem bs_begX {post : Int32 → Prop} {u v lu lv mu mv s : Nat} (hu : u < 10) (hv : v < 10) (D1 : bs_D b len bd st ch le u lu mu) (D2 : bs_D b len bd st ch le v lv mv) (hs : s + lv ≤ lu)
    (H : post (bs_beg (fun k => ch (40 * u + s + k)) (fun k => ch (40 * v + k)) lv 0)) : wpX_beginsAt post (fk, fp, fb, ln, len, bd, st, wt, tg) (nI u) (nI v) (nI s) :=
  Exists.intro (lv + 1) (bs_begX3 hu hv D1 D2 hs lv 0 (lv + 1) (by omega) (by omega) H)
theorem bs_begY22 {post : Int32 → Prop} {u v lu lv s : Nat} (hu : u < 10) (hv : v < 10) (e2 : le v = nI lv) (h1 : lu ≤ 40) (hs : s + lv ≤ lu) (d : Nat) :
    ∀ k n, k + d = lv → d < n → post (bs_beg (fun k => ch (40 * u + s + k)) (fun k => ch (40 * v + k)) d k) → wY_begins_22 post (nI u) (nI s) (nI v) fq ch le n (nI k) := by
  have vv : vp_in (nI v) 11 := vp_in_nI (by omega) (by decide)
  have cv : (nI v).toNatClampNeg = v := nI_clamp (by omega)
  induction d with
  | zero =>
    intro i n hi hn H
    cases n with
    | zero => omega
    | succ n =>
      unfold wY_begins_22
      rw [cv, e2]
      refine ⟨vv, ?_⟩
      exact pk_le lv i (fun h => H) (fun h => by omega)
  | succ d ih =>
    intro i n hi hn H
    cases n with
    | zero => omega
    | succ n =>
      unfold wY_begins_22
      rw [cv, e2]
      refine ⟨vv, ?_⟩
      refine pk_le lv i (fun h => by omega) (fun h => ?_)
      rw [bs_40s, bs_40i]
      refine ⟨vp_in_nI (by omega) (by decide), vp_in_nI (by omega) (by decide), ?_⟩
      rw [nI_clamp (by omega), nI_clamp (by omega)]
      rw [bs_beg_s] at H
      refine br_c (fun z1 => ?_) (fun z1 => ?_)
      · rw [if_pos z1] at H
        exact nm_r (nI_1 i) (ih (i + 1) n (by omega) (by omega) H)
      · rw [if_neg z1] at H; exact H
theorem bs_begY {post : Int32 → Prop} {u v lu lv s : Nat} (hu : u < 10) (hv : v < 10) (e1 : le u = nI lu) (e2 : le v = nI lv) (h1 : lu ≤ 40) (hs : s + lv ≤ lu)
    (H : post (bs_beg (fun k => ch (40 * u + s + k)) (fun k => ch (40 * v + k)) lv 0)) : wpY_begins post (fq, ch, le) (nI u) (nI s) (nI v) := by
  unfold wpY_begins
  try dsimp only
  have vu : vp_in (nI u) 11 := vp_in_nI (by omega) (by decide)
  have vv : vp_in (nI v) 11 := vp_in_nI (by omega) (by decide)
  rw [nI_clamp (n := u) (by omega), nI_clamp (n := v) (by omega), e1, e2, nI_add]
  refine ⟨vv, vu, ?_⟩
  refine pk_le (s + lv) lu (fun h => ?_) (fun h => by omega)
  exact ⟨lv + 1, bs_begY22 hu hv e2 h1 hs lv 0 (lv + 1) (by omega) (by omega) H⟩
/-- behind the last fitting place the reference finds nothing -/
theorem bs_findY0 {post : Int32 → Prop} {u v lu lv : Nat} (hu : u < 10) (hv : v < 10) (e1 : le u = nI lu) (e2 : le v = nI lv) (h1 : lu ≤ 40) (h2 : lv ≤ 40) (H : post 0) (n : Nat) :
    ∀ i, lu < i + lv → i ≤ lu → lu - i < n → wY_find_20 post (nI u) (nI v) fq ch le n (nI i) := by
  have vu : vp_in (nI u) 11 := vp_in_nI (by omega) (by decide)
  have vv : vp_in (nI v) 11 := vp_in_nI (by omega) (by decide)
  induction n with
  | zero => intro i _ _ h; omega
  | succ n ih =>
    intro i h3 h4 h5
    unfold wY_find_20
    rw [nI_clamp (n := u) (by omega), e1]
    refine ⟨vu, ?_⟩
    refine pk_le lu i (fun h => H) (fun h => ?_)
    unfold wpY_begins
    try dsimp only
    rw [nI_clamp (n := u) (by omega), nI_clamp (n := v) (by omega), e1, e2, nI_add]
    refine ⟨vv, vu, ?_⟩
    refine pk_le (i + lv) lu (fun h => by omega) (fun h => ?_)
    exact br_t rfl (nm_r (nI_1 i) (ih (i + 1) (by omega) (by omega) (by omega)))
theorem bs_find {u v lu lv mu mv : Nat} (hu : u < 10) (hv : v < 10) (D1 : bs_D b len bd st ch le u lu mu) (D2 : bs_D b len bd st ch le v lv mv) (d : Nat) :
    ∀ i, i + d = lu → (i < lu ∨ 0 < lv) → ∃ r : Int32, (∀ post : Int32 → Prop, post r → wX_find_31 post (nI u) (nI v) fk fp fb ln len bd st wt tg (d + 1) (nI i)) ∧ (∀ post : Int32 → Prop, post r → wY_find_20 post (nI u) (nI v) fq ch le (d + 1) (nI i)) := by
  have a1 := D1.1
  have a2 := D1.2.1
  have a4 := D1.2.2.2.1
  have c1 := D2.1
  have c2 := D2.2.1
  have c4 := D2.2.2.2.1
  have vu : vp_in (nI u) 10 := vp_in_nI hu (by decide)
  have vv : vp_in (nI v) 10 := vp_in_nI hv (by decide)
  have wu : vp_in (nI u) 11 := vp_in_nI (by omega) (by decide)
  have cu : (nI u).toNatClampNeg = u := nI_clamp (by omega)
  have cv : (nI v).toNatClampNeg = v := nI_clamp (by omega)
  have E : ∀ d i, lu < i + lv → i + d = lu → ∃ r : Int32, (∀ post : Int32 → Prop, post r → wX_find_31 post (nI u) (nI v) fk fp fb ln len bd st wt tg (d + 1) (nI i)) ∧ (∀ post : Int32 → Prop, post r → wY_find_20 post (nI u) (nI v) fq ch le (d + 1) (nI i)) := by
    intro d i h1 h2
    refine ⟨0, fun post hP => ?_, fun post hP => bs_findY0 hu hv a2 c2 a4 c4 hP (d + 1) i h1 (by omega) (by omega)⟩
    unfold wX_find_31
    rw [cu, cv, a1, c1, nI_add]
    exact ⟨vv, vu, pk_lt lu (i + lv) (fun _ => hP) (fun h => by omega)⟩
  induction d with
  | zero =>
    intro i h1 h2
    exact E 0 i (by omega) h1
  | succ d ih =>
    intro i h1 h2
    by_cases h3 : lu < i + lv
    · exact E (d + 1) i h3 h1
    · by_cases hr : bs_beg (fun k => ch (40 * u + i + k)) (fun k => ch (40 * v + k)) lv 0 = 0
      · have hlv : 0 < lv := by
          cases lv with
          | zero => exact absurd hr (by decide : ¬ (1 : Int32) = 0)
          | succ _ => omega
        obtain ⟨r, hX, hY⟩ := ih (i + 1) (by omega) (Or.inr hlv)
        refine ⟨r, fun post hP => ?_, fun post hP => ?_⟩
        · unfold wX_find_31
          rw [cu, cv, a1, c1, nI_add]
          refine ⟨vv, vu, pk_lt lu (i + lv) (fun h => by omega) (fun h => ?_)⟩
          refine bs_begX hu hv D1 D2 h ?_
          exact br_t hr (nm_r (nI_1 i) (hX post hP))
        · unfold wY_find_20
          rw [cu, a2]
          refine ⟨wu, pk_le lu i (fun h => by omega) (fun h => ?_)⟩
          refine bs_begY hu hv a2 c2 a4 (by omega) ?_
          exact br_t hr (nm_r (nI_1 i) (hY post hP))
      · refine ⟨nI i + 1, fun post hP => ?_, fun post hP => ?_⟩
        · unfold wX_find_31
          rw [cu, cv, a1, c1, nI_add]
          refine ⟨vv, vu, pk_lt lu (i + lv) (fun h => by omega) (fun h => ?_)⟩
          refine bs_begX hu hv D1 D2 h ?_
          exact br_f hr hP
        · unfold wY_find_20
          rw [cu, a2]
          refine ⟨wu, pk_le lu i (fun h => by omega) (fun h => ?_)⟩
          refine bs_begY hu hv a2 c2 a4 (by omega) ?_
          exact br_f hr hP
end
end
section
/-! the component's storing methods, and the relation behind them -/
section
variable {fk fp fb : Int32} {ln len bd st wt tg ch ch' le : Nat → Int32} {q p b : Nat}
theorem bs_lit26 {post : Int32 → SX → Prop} {t : Nat} {st0 : Nat → Int32} (hq : q ≤ 40) (hp : p < 4) (ht : t + q ≤ 144)
    (H : ∀ st', bs_F t q ln st0 st' → post (nI q) (nI q, nI (p + 1), fb, ln, upd len (6 + p) (nI q), upd bd (6 + p) (nI (if q = 0 then 0 else t)), st', wt, tg)) (n : Nat) :
    ∀ i st, i ≤ q → q - i < n → bs_F t i ln st0 st → wX_literal_26 post (nI t) (nI q) (nI p) fb n (nI i) ln len bd st wt tg := by
  induction n with
  | zero => intro i st _ h2; omega
  | succ n ih =>
    intro i st h1 h2 hF
    unfold wX_literal_26
    refine pk_le q i (fun h => ?_) (fun h => ?_)
    · have e : i = q := by omega
      subst e
      refine bs_pushBody hp hq ?_
      exact H st hF
    · rw [nI_add, nI_clamp (n := i) (by omega), nI_clamp (by omega)]
      exact ⟨vp_in_nI (by omega) (by omega), vp_in_nI (by omega) (by omega), nm_e (nm_r (nI_1 i) (ih (i + 1) _ (by omega) (by omega) (bs_F_s hF rfl)))⟩
theorem bs_rep40 {post : Int32 → SX → Prop} {t z : Nat} {c : Int32} {st0 : Nat → Int32} (hz : z ≤ 40) (hp : p < 4) (ht : t + z ≤ 144)
    (H : ∀ st', bs_F t z (fun _ => c) st0 st' → post (nI z) (fk, nI (p + 1), fb, ln, upd len (6 + p) (nI z), upd bd (6 + p) (nI (if z = 0 then 0 else t)), st', wt, tg)) (n : Nat) :
    ∀ i st, i ≤ z → z - i < n → bs_F t i (fun _ => c) st0 st → wX_repeat_40 post (nI z) c (nI t) fk (nI p) fb n (nI i) ln len bd st wt tg := by
  induction n with
  | zero => intro i st _ h2; omega
  | succ n ih =>
    intro i st h1 h2 hF
    unfold wX_repeat_40
    refine pk_le z i (fun h => ?_) (fun h => ?_)
    · have e : i = z := by omega
      subst e
      refine bs_pushBody hp hz ?_
      exact H st hF
    · rw [nI_add, nI_clamp (by omega)]
      exact ⟨vp_in_nI (by omega) (by omega), nm_e (nm_r (nI_1 i) (ih (i + 1) _ (by omega) (by omega) (bs_F_s hF rfl)))⟩
theorem bs_R_push {l m : Nat} {f : Nat → Int32} (R : bs_R q p b ln len bd st ch le) (hp : p ≠ 4) (hl : l ≤ 40) (hS : bs_S len (6 + p) + l ≤ 100) (hm : m ≤ 144) (hlm : 0 < l → b ≤ m ∧ m + l ≤ 144)
    (hF : bs_F (40 * (6 + p)) l f ch ch') (hf : ∀ i, i < l → f i = st (m + i)) : bs_R q (p + 1) b ln (upd len (6 + p) (nI l)) (upd bd (6 + p) (nI (if l = 0 then 0 else m))) st ch' (upd le (6 + p) (nI l)) := by
  have hp4 := R.2.1
  have key : ∀ m', m' ≤ 144 → (0 < l → m' = m) → bs_R q (p + 1) b ln (upd len (6 + p) (nI l)) (upd bd (6 + p) (nI m')) st ch' (upd le (6 + p) (nI l)) := by
    intro m' hm' he
    refine bs_R_set R (6 + p) l m' (by omega) (by omega) (fun d h1 h2 => by omega) pk_us (fun d h => pk_un h) pk_us (fun d h => pk_un h) pk_us (fun d h => pk_un h) hl hm' (fun h0 => ?_) (fun i hi => ?_) (fun j hj => hF.2 j (by omega)) ?_
    · rw [he h0]; exact hlm h0
    · rw [he (by omega), ← hf i hi]; exact hF.1 i hi
    · show bs_S (upd len (6 + p) (nI l)) (6 + p + 1) ≤ 100
      rw [bs_S_s, bs_S_ge _ (Nat.le_refl _), pk_us, nI_clamp (by omega)]
      exact hS
  by_cases h : l = 0
  · rw [if_pos h]; exact key 0 (by omega) (fun h0 => by omega)
  · rw [if_neg h]; exact key m hm (fun _ => rfl)
theorem bs_R_let {v l m : Nat} (R : bs_R q (p + 1) b ln len bd st ch le) (hv : v < 6) (D : bs_D b len bd st ch le (6 + p) l m) (hF : bs_F (40 * v) l (fun k => ch (40 * (6 + p) + k)) ch ch') :
    bs_R q p b ln (upd len v (nI l)) (upd bd v (nI m)) st ch' (upd le v (nI l)) := by
  have r2 := R.2.1
  have r6 := R.2.2.2.2.2.1
  have hdl := bs_D_len D
  obtain ⟨a1, a2, a3, a4, a5, a6, a7⟩ := D
  refine bs_R_set R v l m (by omega) (by omega) (fun d h1 h2 => by omega) pk_us (fun d h => pk_un h) pk_us (fun d h => pk_un h) pk_us (fun d h => pk_un h) a4 a5 a6 (fun i hi => ?_) (fun j hj => hF.2 j (by omega)) ?_
  · rw [hF.1 i hi]; exact a7 i hi
  · have h1 := bs_S_upd (f := len) (t := v) (x := nI l) (6 + p) (by omega)
    rw [nI_clamp (by omega)] at h1
    have h2 : bs_S len (6 + (p + 1)) = bs_S len (6 + p) + (len (6 + p)).toNatClampNeg := rfl
    omega
theorem bs_cutX {post : Int32 → SX → Prop} {l m s c : Nat} (hp : p < 4) (e1 : len (6 + p) = nI l) (e3 : bd (6 + p) = nI m) (hl : l ≤ 40) (hm : m ≤ 144) (hs : s < 256) (hc : c < 256)
    (H : ∀ z, z ≤ c → z ≤ l - s → (z = c ∨ z = l - s) → post (nI z) (fk, nI (p + 1), fb, ln, upd len (6 + p) (nI z), upd bd (6 + p) (nI (if z = 0 then 0 else m + s)), st, wt, tg)) : wpX_cut post (fk, nI (p + 1), fb, ln, len, bd, st, wt, tg) (nI s) (nI c) := by
  have vt : vp_in (nI (6 + p)) 10 := vp_in_nI (by omega) (by decide)
  have ct : (nI (6 + p)).toNatClampNeg = 6 + p := nI_clamp (by omega)
  have c50 : ∀ z f, z ≤ c → z ≤ l - s → (z = c ∨ z = l - s) → (z ≠ 0 → f = s) → wX_cut_50 post (nI (6 + p)) (nI f) (nI z) fk (nI (p + 1)) fb ln len bd st wt tg := by
    intro z f h1 h2 h3 h4
    have hH := H z h1 h2 h3
    unfold wX_cut_50
    rw [ct, e3, nI_add]
    refine pk_eq z 0 (fun h => ?_) (fun h => ⟨vt, ?_⟩)
    · unfold wX_cut_75
      rw [ct]
      rw [if_pos h] at hH
      exact ⟨vt, nm_e ⟨vt, nm_e hH⟩⟩
    · unfold wX_cut_75
      rw [ct]
      rw [if_neg h] at hH
      rw [h4 h]
      exact ⟨vt, nm_e ⟨vt, nm_e hH⟩⟩
  have c25 : ∀ f, f ≤ l → (f = s ∨ (f = l ∧ l ≤ s)) → wX_cut_25 post (nI c) (nI (6 + p)) (nI f) fk (nI (p + 1)) fb ln len bd st wt tg := by
    intro f h1 h2
    unfold wX_cut_25
    rw [ct, e1]
    refine ⟨vt, nm_r (pk_sub h1) ?_⟩
    refine pk_le (l - f) c (fun h => ?_) (fun h => ?_)
    · exact c50 (l - f) f (by omega) (by omega) (by omega) (by omega)
    · exact c50 c f (by omega) (by omega) (by omega) (by omega)
  unfold wpX_cut
  try dsimp only
  refine bs_top ?_
  try dsimp only
  rw [ct, e1]
  refine ⟨vt, ?_⟩
  refine pk_le s l (fun h => ?_) (fun h => ⟨vt, ?_⟩)
  · exact c25 s h (Or.inl rfl)
  · exact c25 l (Nat.le_refl _) (Or.inr ⟨rfl, by omega⟩)
theorem bs_R_cut {l m s z : Nat} (R : bs_R q (p + 1) b ln len bd st ch le) (D : bs_D b len bd st ch le (6 + p) l m) (hz : z ≤ l - s) (hF : bs_F (40 * (6 + p)) z (fun k => ch (40 * (6 + p) + s + k)) ch ch') :
    bs_R q (p + 1) b ln (upd len (6 + p) (nI z)) (upd bd (6 + p) (nI (if z = 0 then 0 else m + s))) st ch' (upd le (6 + p) (nI z)) := by
  have r2 := R.2.1
  have r6 := R.2.2.2.2.2.1
  have hdl := bs_D_len D
  obtain ⟨a1, a2, a3, a4, a5, a6, a7⟩ := D
  have key : ∀ m', m' ≤ 144 → (0 < z → m' = m + s) → bs_R q (p + 1) b ln (upd len (6 + p) (nI z)) (upd bd (6 + p) (nI m')) st ch' (upd le (6 + p) (nI z)) := by
    intro m' hm' he
    refine bs_R_set R (6 + p) z m' (by omega) (by omega) (fun d h1 h2 => by omega) pk_us (fun d h => pk_un h) pk_us (fun d h => pk_un h) pk_us (fun d h => pk_un h) (by omega) hm' (fun h0 => ?_) (fun i hi => ?_) (fun j hj => hF.2 j (by omega)) ?_
    · have h1 := a6 (by omega)
      have h2 := he h0
      omega
    · rw [he (by omega), hF.1 i hi]
      show ch (40 * (6 + p) + s + i) = _
      rw [show 40 * (6 + p) + s + i = 40 * (6 + p) + (s + i) by omega, show m + s + i = m + (s + i) by omega]
      exact a7 (s + i) (by omega)
    · have h1 := bs_S_upd (f := len) (t := 6 + p) (x := nI z) (6 + (p + 1)) (by omega)
      rw [nI_clamp (by omega)] at h1
      omega
  by_cases h : z = 0
  · rw [if_pos h]; exact key 0 (by omega) (fun h0 => by omega)
  · rw [if_neg h]
    have h1 := a6 (by omega)
    exact key (m + s) (by omega) (fun _ => rfl)
/-- what a join leaves in the component -/
def bs_J (p b l1 l2 m : Nat) (bd bd' st ch : Nat → Int32) : Prop :=
  bd' (6 + p) = nI m ∧ (∀ d, d ≠ 6 + p → bd' d = bd d) ∧ m ≤ 144 ∧ (0 < l1 + l2 → b ≤ m ∧ m + (l1 + l2) ≤ 144) ∧ (∀ i, i < l1 → ch (40 * (6 + p) + i) = st (m + i)) ∧ ∀ i, i < l2 → ch (40 * (6 + (p + 1)) + i) = st (m + l1 + i)
theorem bs_R_join {l1 l2 m m1 m2 : Nat} {bd' : Nat → Int32} (R : bs_R q (p + 2) b ln len bd st ch le) (D1 : bs_D b len bd st ch le (6 + p) l1 m1) (D2 : bs_D b len bd st ch le (6 + (p + 1)) l2 m2) (hl : l1 + l2 ≤ 40) (J : bs_J p b l1 l2 m bd bd' st ch)
    (hF : bs_F (40 * (6 + p) + l1) l2 (fun k => ch (40 * (6 + (p + 1)) + k)) ch ch') : bs_R q (p + 1) b ln (upd len (6 + p) (nI (l1 + l2))) bd' st ch' (upd le (6 + p) (nI (l1 + l2))) := by
  have r2 := R.2.1
  have r6 := R.2.2.2.2.2.1
  have d1 := bs_D_len D1
  have d2 := bs_D_len D2
  obtain ⟨j1, j2, j3, j4, j5, j6⟩ := J
  refine bs_R_set R (6 + p) (l1 + l2) m (by omega) (by omega) (fun d h1 h2 => by omega) pk_us (fun d h => pk_un h) pk_us (fun d h => pk_un h) j1 j2 hl j3 j4 (fun i hi => ?_) (fun j hj => hF.2 j (by omega)) ?_
  · by_cases h : i < l1
    · rw [hF.2 _ (by omega)]; exact j5 i h
    · have h1 := hF.1 (i - l1) (by omega)
      have h2 := j6 (i - l1) (by omega)
      rw [show 40 * (6 + p) + l1 + (i - l1) = 40 * (6 + p) + i by omega] at h1
      rw [show m + l1 + (i - l1) = m + i by omega] at h2
      exact h1.trans h2
  · have h1 := bs_S_upd (f := len) (t := 6 + p) (x := nI (l1 + l2)) (6 + (p + 1)) (by omega)
    rw [nI_clamp (by omega)] at h1
    have h2 : bs_S len (6 + (p + 2)) = bs_S len (6 + (p + 1)) + (len (6 + (p + 1))).toNatClampNeg := rfl
    omega
theorem bs_joinX {post : Int32 → SX → Prop} {l1 l2 m1 m2 : Nat} (R : bs_R q (p + 2) b ln len bd st ch le) (D1 : bs_D b len bd st ch le (6 + p) l1 m1) (D2 : bs_D b len bd st ch le (6 + (p + 1)) l2 m2)
    (H1 : 40 < l1 + l2 → post (-5) (fk, nI (p + 2), nI b, ln, len, bd, st, wt, tg))
    (H2 : l1 + l2 ≤ 40 → ∀ b' m m1 m2 bd' bd'' st' wt' tg', bs_R q (p + 2) b' ln len bd' st' ch le → bs_D b' len bd' st' ch le (6 + p) l1 m1 → bs_D b' len bd' st' ch le (6 + (p + 1)) l2 m2 → bs_J p b' l1 l2 m bd' bd'' st' ch →
      post (nI (l1 + l2)) (fk, nI (p + 1), nI b', ln, upd len (6 + p) (nI (l1 + l2)), bd'', st', wt', tg')) : wpX_join post (fk, nI (p + 2), nI b, ln, len, bd, st, wt, tg) := by
  have r2 := R.2.1
  have a1 := D1.1
  have a3 := D1.2.2.1
  have a4 := D1.2.2.2.1
  have a5 := D1.2.2.2.2.1
  have a6 := D1.2.2.2.2.2.1
  have a7 := D1.2.2.2.2.2.2
  have c1 := D2.1
  have c3 := D2.2.2.1
  have c4 := D2.2.2.2.1
  have c5 := D2.2.2.2.2.1
  have c6 := D2.2.2.2.2.2.1
  have c7 := D2.2.2.2.2.2.2
  have vx : vp_in (nI (6 + p)) 10 := vp_in_nI (by omega) (by decide)
  have vy : vp_in (nI (6 + (p + 1))) 10 := vp_in_nI (by omega) (by decide)
  have cx : (nI (6 + p)).toNatClampNeg = 6 + p := nI_clamp (by omega)
  have cy : (nI (6 + (p + 1))).toNatClampNeg = 6 + (p + 1) := nI_clamp (by omega)
  have J165 : ∀ b' bd'' st' wt' tg', post (nI (l1 + l2)) (fk, nI (p + 1), b', ln, upd len (6 + p) (nI (l1 + l2)), bd'', st', wt', tg') → wX_join_165 post (nI (6 + p)) (nI (l1 + l2)) fk (nI (p + 2)) b' ln len bd'' st' wt' tg' := by
    intro b' bd'' st' wt' tg' hP
    unfold wX_join_165
    rw [cx]
    exact ⟨vx, nm_e (nm_r (nI_pred (p + 1)) hP)⟩
  have J144 : l1 + l2 ≤ 40 → (0 < l1 → 0 < l2 → m1 + l1 = m2) → wX_join_144 post (nI (6 + (p + 1))) (nI (6 + p)) (nI (l1 + l2)) fk (nI (p + 2)) (nI b) ln len bd st wt tg := by
    intro hs hm
    unfold wX_join_144
    rw [cx, cy, a1]
    refine ⟨vx, ?_⟩
    refine pk_eq l1 0 (fun h => ⟨vy, vx, nm_e (J165 _ _ _ _ _ ?_)⟩) (fun h => J165 _ _ _ _ _ ?_)
    · subst h
      refine H2 hs b m2 m1 m2 bd _ st wt tg R D1 D2 ⟨?_, fun d h => pk_un h, c5, fun h0 => ?_, fun i hi => by omega, fun i hi => c7 i hi⟩
      · rw [pk_us]; exact c3
      · have := c6 (by omega); omega
    · refine H2 hs b m1 m1 m2 bd bd st wt tg R D1 D2 ⟨a3, fun d h => rfl, a5, fun h0 => ?_, fun i hi => a7 i hi, fun i hi => ?_⟩
      · have h1 := a6 (by omega)
        by_cases h2 : l2 = 0
        · omega
        · have h3 := hm (by omega) (by omega)
          have h4 := c6 (by omega)
          omega
      · rw [hm (by omega) (by omega)]; exact c7 i hi
  unfold wpX_join
  try dsimp only
  refine br_t (nI_le (a := 2) (by omega) (by omega)) ?_
  refine bs_top (p := p + 1) ?_
  try dsimp only
  refine nm_r (nI_pred (6 + p)) ?_
  rw [cx, cy, a1, c1, a3, c3, nI_add, nI_add]
  refine ⟨vx, vy, nm_e ?_⟩
  refine pk_le (l1 + l2) 40 (fun h => ⟨vx, ?_⟩) H1
  refine pk_le l1 0 (fun h1 => J144 h (fun h2 => by omega)) (fun h1 => ⟨vy, ?_⟩)
  refine pk_le l2 0 (fun h2 => J144 h (fun _ h3 => by omega)) (fun h2 => ⟨vx, vx, vy, ?_⟩)
  refine pk_eq (m1 + l1) m2 (fun h3 => J144 h (fun _ _ => h3)) (fun h3 => ?_)
  refine bs_take h R (fun b' bd' st' wt' tg' hb' R' => ?_)
  try dsimp only
  obtain ⟨l1', m1', E1⟩ := R'.2.2.2.2.2.2 (6 + p) (by omega)
  obtain ⟨l2', m2', E2⟩ := R'.2.2.2.2.2.2 (6 + (p + 1)) (by omega)
  have q1 : l1' = l1 := (bs_D_len E1).symm.trans (bs_D_len D1)
  have q2 : l2' = l2 := (bs_D_len E2).symm.trans (bs_D_len D2)
  subst q1 q2
  have e3 := E1.2.2.1
  have e6 := E1.2.2.2.2.2.1 h1
  have e7 := E1.2.2.2.2.2.2
  have g3 := E2.2.2.1
  have g6 := E2.2.2.2.2.2.1 h2
  have g7 := E2.2.2.2.2.2.2
  rw [e3, a1]
  refine ⟨vx, vx, ?_⟩
  refine bs_copyX (by omega) (by omega) (by omega) (fun st1 F1 => ?_)
  try dsimp only
  rw [g3, a1, c1, nI_add]
  refine ⟨vy, vx, vy, ?_⟩
  refine bs_copyX (by omega) (by omega) (by omega) (fun st2 F2 => ?_)
  try dsimp only
  refine ⟨vx, nm_e (J165 _ _ _ _ _ ?_)⟩
  have R2 : bs_R q (p + 2) b' ln len bd' st2 ch le := bs_R_st R' (by omega) (fun j hj => by rw [F2.2 j (by omega), F1.2 j (by omega)])
  have k1 : bs_D b' len bd' st2 ch le (6 + p) l1' m1' := bs_D_keep E1 rfl rfl rfl (by omega) (fun _ _ => rfl) (fun i hi _ => by rw [F2.2 _ (by omega), F1.2 _ (by omega)])
  have k2 : bs_D b' len bd' st2 ch le (6 + (p + 1)) l2' m2' := bs_D_keep E2 rfl rfl rfl (by omega) (fun _ _ => rfl) (fun i hi _ => by rw [F2.2 _ (by omega), F1.2 _ (by omega)])
  refine H2 h b' b' m1' m2' bd' _ st2 wt' tg' R2 k1 k2 ⟨pk_us, fun d hd => pk_un hd, by omega, fun _ => ⟨by omega, by omega⟩, fun i hi => ?_, fun i hi => ?_⟩
  · rw [F2.2 _ (by omega), F1.1 i hi]; exact e7 i hi
  · rw [F2.1 i hi]
    show _ = st1 (m2' + i)
    rw [F1.2 _ (by omega)]; exact g7 i hi
end
end
section
/-! changing in place -/
section
variable {fk fp fb : Int32} {ln len bd st wt tg ch ch' le : Nat → Int32} {q p b : Nat}
theorem bs_AA_hx {v l m : Nat} (R : bs_R q p b ln len bd st ch le) (hA : bs_AA p len bd v 10) (D : bs_D b len bd st ch le v l m) :
    ∀ d l' m', d < 6 + p → d ≠ v → bs_D b len bd st ch le d l' m' → 0 < l' → m' + l' ≤ m ∨ m + l ≤ m' := by
  intro d l' m' h1 h2 D' h0
  have r2 := R.2.1
  have dl := bs_D_len D
  have dl' := bs_D_len D'
  have dm : (bd v).toNatClampNeg = m := by rw [D.2.2.1]; have := D.2.2.2.2.1; exact nI_clamp (by omega)
  have dm' : (bd d).toNatClampNeg = m' := by rw [D'.2.2.1]; have := D'.2.2.2.2.1; exact nI_clamp (by omega)
  have := hA d (by omega) h1 h2 (by omega)
  unfold bs_A at this
  omega
theorem bs_mid141 {post : Int32 → SX → Prop} {v lv mv la ma s z : Nat} (hv : v < 6) (hz : 0 < z) (hz1 : z ≤ la) (hz2 : s + z ≤ lv) (R : bs_R q (p + 1) b ln len bd st ch le) (D1 : bs_D b len bd st ch le v lv mv) (D2 : bs_D b len bd st ch le (6 + p) la ma)
    (hx : ma + la ≤ mv ∨ mv + lv ≤ ma) (H : ∀ st', bs_F (mv + s) z (fun k => st (ma + k)) st st' → post (nI z) (fk, nI p, fb, ln, len, bd, st', wt, tg)) :
    wX_setMid_141 post (nI v) (nI (s + 1)) (nI (6 + p)) (nI z) fk (nI (p + 1)) fb ln len bd st wt tg := by
  have r2 := R.2.1
  unfold wX_setMid_141
  have vv : vp_in (nI v) 10 := vp_in_nI (by omega) (by decide)
  have va : vp_in (nI (6 + p)) 10 := vp_in_nI (by omega) (by decide)
  have h1 := D1.2.2.2.2.2.1 (by omega)
  have h2 := D2.2.2.2.2.2.1 (by omega)
  have e : nI mv + nI (s + 1) - 1 = nI (mv + s) := by rw [nI_add, show mv + (s + 1) = mv + s + 1 by omega, nI_pred]
  rw [nI_clamp (n := v) (by omega), nI_clamp (n := 6 + p) (by omega), D1.2.2.1, D2.2.2.1, e]
  refine ⟨va, vv, ?_⟩
  refine bs_copyX (by omega) (by omega) (by omega) (fun st' F => ?_)
  try dsimp only
  exact nm_r (nI_pred p) (H st' F)
theorem bs_mid71 {post : Int32 → SX → Prop} {v lv mv la ma s z : Nat} (hv : v < 6) (hz : 0 < z) (hz1 : z ≤ la) (hz2 : s + z ≤ lv) (R : bs_R q (p + 1) b ln len bd st ch le) (D1 : bs_D b len bd st ch le v lv mv) (D2 : bs_D b len bd st ch le (6 + p) la ma)
    (H : ∀ b' bd' st' st'' wt' tg' mv ma, bs_R q (p + 1) b' ln len bd' st' ch le → bs_D b' len bd' st' ch le v lv mv → bs_D b' len bd' st' ch le (6 + p) la ma →
      (∀ d l' m', d < 6 + (p + 1) → d ≠ v → bs_D b' len bd' st' ch le d l' m' → 0 < l' → m' + l' ≤ mv ∨ mv + lv ≤ m') → bs_F (mv + s) z (fun k => st' (ma + k)) st' st'' →
      post (nI z) (fk, nI p, nI b', ln, len, bd', st'', wt', tg')) :
    wX_setMid_71 post (nI v) (nI (s + 1)) (nI (6 + p)) (nI z) fk (nI (p + 1)) (nI b) ln len bd st wt tg := by
  have r2 := R.2.1
  have hG := bs_R_G R
  have vv : vp_in (nI v) 10 := vp_in_nI (by omega) (by decide)
  have cv : (nI v).toNatClampNeg = v := nI_clamp (by omega)
  have l4 := D1.2.2.2.1
  unfold wX_setMid_71
  refine br_t (nI_le (a := 1) (by omega) (by have := D2.2.2.2.1; omega)) ?_
  refine bs_shared r2 hv hG (fun r hr => ?_)
  try dsimp only
  refine br_c (fun h0 => ?_) (fun h0 => ⟨vv, ?_⟩)
  · have hx := bs_AA_hx R (hr h0) D1
    exact bs_mid141 hv hz hz1 hz2 R D1 D2 (hx (6 + p) la ma (by omega) (by omega) D2 (by omega)) (fun st' F => H b bd st st' wt tg mv ma R D1 D2 hx F)
  · rw [cv, D1.1]
    refine bs_take l4 R (fun b' bd' st' wt' tg' hb' R' => ?_)
    try dsimp only
    obtain ⟨l1, m1, E1⟩ := R'.2.2.2.2.2.2 v (by omega)
    have q1 : l1 = lv := (bs_D_len E1).symm.trans (bs_D_len D1)
    subst q1
    have e6 := E1.2.2.2.2.2.1 (by omega)
    have e7 := E1.2.2.2.2.2.2
    rw [E1.2.2.1, D1.1]
    refine ⟨vv, vv, ?_⟩
    refine bs_copyX (by omega) (by omega) (by omega) (fun st1 F1 => ?_)
    try dsimp only
    refine ⟨vv, nm_e ?_⟩
    have R1 : bs_R q (p + 1) b' ln len bd' st1 ch le := bs_R_st R' (by omega) (fun j hj => F1.2 j (by omega))
    have R2 : bs_R q (p + 1) b' ln len (upd bd' v (nI b')) st1 ch le := by
      refine bs_R_set R1 v l1 b' r2 (by omega) (fun d h _ => h) E1.1 (fun _ _ => rfl) E1.2.1 (fun _ _ => rfl) pk_us (fun d h => pk_un h) l4 (by omega) (fun _ => by omega) (fun i hi => ?_) (fun _ _ => rfl) R.2.2.2.2.2.1
      rw [F1.1 i hi]; exact e7 i hi
    have hx : ∀ d l' m', d < 6 + (p + 1) → d ≠ v → bs_D b' len (upd bd' v (nI b')) st1 ch le d l' m' → 0 < l' → m' + l' ≤ b' ∨ b' + l1 ≤ m' := by
      intro d l' m' h1 h2 D' h3
      obtain ⟨l0, m0, D0⟩ := R'.2.2.2.2.2.2 d h1
      have y1 : l0 = l' := (bs_D_len D0).symm.trans (bs_D_len D')
      have y2 : nI m0 = nI m' := by rw [← D0.2.2.1, ← D'.2.2.1, pk_un h2]
      have y3 : m0 = m' := (nI_eq (by have := D0.2.2.2.2.1; omega) (by have := D'.2.2.2.2.1; omega)).mp y2
      have := D0.2.2.2.2.2.1 (by omega)
      omega
    obtain ⟨l2, m2, E2⟩ := R2.2.2.2.2.2.2 v (by omega)
    obtain ⟨l3, m3, E3⟩ := R2.2.2.2.2.2.2 (6 + p) (by omega)
    have y2 : l2 = l1 := (bs_D_len E2).symm.trans (bs_D_len D1)
    have y3 : l3 = la := (bs_D_len E3).symm.trans (bs_D_len D2)
    have y4 : nI m2 = nI b' := by rw [← E2.2.2.1, pk_us]
    have y5 : m2 = b' := (nI_eq (by have := E2.2.2.2.2.1; omega) (by omega)).mp y4
    subst y2 y3 y5
    exact bs_mid141 hv hz hz1 hz2 R2 E2 E3 (hx (6 + p) _ m3 (by omega) (by omega) E3 (by omega)) (fun st' F => H m2 _ st1 st' wt' tg' m2 m3 R2 E2 E3 hx F)
end
end
section
/-! what is owed: the relation, the beginning, the methods that only look or move small things -/
/-- the relation at the head of a turn -/
def i_Rel (k : Nat) (u : SX) (v : SY) : Prop :=
  ∃ (q p b : Nat) (ln len bd st wt tg ch le : Nat → Int32), u = (nI q, nI p, nI b, ln, len, bd, st, wt, tg) ∧ v = (nI p, ch, le) ∧ bs_R q p b ln len bd st ch le
theorem bs_I {k q p b : Nat} {ln len bd st wt tg ch le : Nat → Int32} (R : bs_R q p b ln len bd st ch le) : i_Rel k (nI q, nI p, nI b, ln, len, bd, st, wt, tg) (nI p, ch, le) :=
  ⟨q, p, b, ln, len, bd, st, wt, tg, ch, le, rfl, rfl, R⟩
theorem bs_E {k : Nat} {u : SX} {v : SY} {P : SX → SY → Prop} (h : ∀ (q p b : Nat) (ln len bd st wt tg ch le : Nat → Int32), bs_R q p b ln len bd st ch le → P (nI q, nI p, nI b, ln, len, bd, st, wt, tg) (nI p, ch, le)) (I : i_Rel k u v) : P u v := by
  obtain ⟨q, p, b, ln, len, bd, st, wt, tg, ch, le, rfl, rfl, R⟩ := I
  exact h q p b ln len bd st wt tg ch le R
theorem i_up {k : Nat} {u : SX} {v : SY} (h : i_Rel k u v) : i_Rel (k + 3) u v := h
theorem bs_R0 : bs_R 0 0 144 (fun _ => 0) (fun _ => 0) (fun _ => 0) (fun _ => 0) (fun _ => 0) (fun _ => 0) := by
  refine ⟨by omega, by omega, by omega, rfl, fun i hi => by omega, by decide, fun d hd => ⟨0, 0, rfl, rfl, rfl, by omega, by omega, fun h => by omega, fun i hi => by omega⟩⟩
theorem i_vc0 : wpX_init (fun u => wpY_init (fun v => i_Rel 0 u v)) := bs_I (k := 0) (q := 0) (p := 0) (b := 144) bs_R0
theorem i_vc_key {k : Nat} {u : SX} {v : SY} (I : i_Rel k u v) (hk : k + 3 ≤ 1536) (v1 : Int32) : wpX_key (fun r u' => wpY_key (fun r' v' => r' = r ∧ i_Rel (k + 3) u' v') v v1) u v1 := by
  refine bs_E (P := fun u v => wpX_key (fun r u' => wpY_key (fun r' v' => r' = r ∧ i_Rel (k + 3) u' v') v v1) u v1) ?_ I
  intro q p b ln len bd st wt tg ch le R
  try dsimp only
  unfold wpX_key
  try dsimp only
  rcases bs_byte v1 with h | ⟨j, hj, rfl⟩
  · refine bs_bb_f h (br_f (by decide) ?_)
    unfold wpY_key
    try dsimp only
    exact bs_is_f h (br_t rfl ⟨rfl, bs_I R⟩)
  · refine bs_bb_t hj (br_t rfl ?_)
    have r1 := R.1
    have r4 := R.2.2.2.1
    have hY : ∀ post : Int32 → SY → Prop, (q = 40 → post (-5) (nI p, ch, le)) → (q ≠ 40 → post (nI (q + 1)) (nI p, upd ch (400 + q) (nI j), upd le 10 (nI (q + 1)))) → wpY_key post (nI p, ch, le) (nI j) := by
      intro post H1 H2
      unfold wpY_key
      try dsimp only
      refine bs_is_t hj (br_f (by decide) ?_)
      have e : (400 : Int32) + nI q = nI (400 + q) := nI_add 400 q
      rw [r4, e, nI_1, nI_clamp (by omega)]
      refine pk_eq q 40 H1 (fun h => ⟨vp_in_nI (by omega) (by decide), nm_e (nm_e ?_)⟩)
      rw [pk_us]
      exact H2 h
    refine pk_eq q 40 (fun h => ?_) (fun h => ?_)
    · exact hY _ (fun _ => ⟨rfl, bs_I R⟩) (fun h2 => absurd h h2)
    · rw [nI_clamp (by omega)]
      refine ⟨vp_in_nI (by omega) (by decide), nm_e (nm_r (nI_1 q) ?_)⟩
      refine hY _ (fun h2 => absurd h2 h) (fun _ => ⟨rfl, bs_I ?_⟩)
      obtain ⟨_, r2, r3, _, r5, r6, r7⟩ := R
      refine ⟨by omega, r2, r3, pk_us, fun i hi => ?_, r6, fun d hd => ?_⟩
      · by_cases e : i = q
        · subst e; rw [pk_us, pk_us]
        · rw [pk_un (by omega), pk_un e]; exact r5 i (by omega)
      · obtain ⟨l, m, D⟩ := r7 d hd
        have := D.2.2.2.1
        exact ⟨l, m, bs_D_keep D rfl (pk_un (by omega)) rfl (Nat.le_refl _) (fun i hi => pk_un (by omega)) (fun _ _ _ => rfl)⟩
theorem i_vc_newLine {k : Nat} {u : SX} {v : SY} (I : i_Rel k u v) (hk : k + 3 ≤ 1536) : wpX_newLine (fun u' => wpY_newLine (fun v' => i_Rel (k + 3) u' v') v) u := by
  refine bs_E (P := fun u v => wpX_newLine (fun u' => wpY_newLine (fun v' => i_Rel (k + 3) u' v') v) u) ?_ I
  intro q p b ln len bd st wt tg ch le R
  try dsimp only
  unfold wpX_newLine
  try dsimp only
  unfold wpY_newLine
  try dsimp only
  refine nm_e (bs_I (q := 0) ?_)
  obtain ⟨r1, r2, r3, _, r5, r6, r7⟩ := R
  refine ⟨by omega, r2, r3, pk_us, fun i hi => by omega, r6, fun d hd => ?_⟩
  obtain ⟨l, m, D⟩ := r7 d hd
  exact ⟨l, m, bs_D_keep D rfl (pk_un (by omega)) rfl (Nat.le_refl _) (fun _ _ => rfl) (fun _ _ _ => rfl)⟩
theorem i_vc_drop {k : Nat} {u : SX} {v : SY} (I : i_Rel k u v) (hk : k + 3 ≤ 1536) : wpX_drop (fun r u' => wpY_drop (fun r' v' => r' = r ∧ i_Rel (k + 3) u' v') v) u := by
  refine bs_E (P := fun u v => wpX_drop (fun r u' => wpY_drop (fun r' v' => r' = r ∧ i_Rel (k + 3) u' v') v) u) ?_ I
  intro q p b ln len bd st wt tg ch le R
  try dsimp only
  unfold wpX_drop
  try dsimp only
  have r2 := R.2.1
  refine pk_eq p 0 (fun h => ?_) (fun h => ?_)
  · subst h
    unfold wpY_drop
    try dsimp only
    exact br_t rfl ⟨rfl, bs_I R⟩
  · obtain ⟨p, rfl⟩ : ∃ p', p = p' + 1 := ⟨p - 1, by omega⟩
    obtain ⟨l, m, D⟩ := R.2.2.2.2.2.2 (6 + p) (by omega)
    refine bs_top ?_
    try dsimp only
    rw [nI_clamp (by omega), D.1]
    refine ⟨vp_in_nI (by omega) (by decide), nm_e (nm_r (nI_pred p) ?_)⟩
    unfold wpY_drop
    try dsimp only
    refine br_f (nI_ne0 (by omega) (by omega)) (nm_r (nI_pred p) ?_)
    rw [bs_6, nI_clamp (by omega), D.2.1]
    exact ⟨vp_in_nI (by omega) (by decide), rfl, bs_I (bs_R_drop R (by omega))⟩
theorem i_vc_length {k : Nat} {u : SX} {v : SY} (I : i_Rel k u v) (hk : k + 3 ≤ 1536) (v1 : Int32) : wpX_length (fun r => wpY_length (fun r' => r' = r ∧ i_Rel (k + 3) u v) v v1) u v1 := by
  refine bs_E (P := fun u v => wpX_length (fun r => wpY_length (fun r' => r' = r ∧ i_Rel (k + 3) u v) v v1) u v1) ?_ I
  intro q p b ln len bd st wt tg ch le R
  try dsimp only
  unfold wpX_length
  try dsimp only
  rcases bs_var v1 with h | ⟨j, hj, rfl⟩
  · refine bs_bv_f h (br_f (by decide) ?_)
    unfold wpY_length
    try dsimp only
    exact bs_iv_f h (br_t rfl ⟨rfl, bs_I R⟩)
  · refine bs_bv_t hj (br_t rfl ?_)
    obtain ⟨l, m, D⟩ := R.2.2.2.2.2.2 j (by omega)
    rw [nI_clamp (by omega), D.1]
    refine ⟨vp_in_nI (by omega) (by decide), ?_⟩
    unfold wpY_length
    try dsimp only
    refine bs_iv_t hj (br_f (by decide) ?_)
    rw [nI_clamp (by omega), D.2.1]
    exact ⟨vp_in_nI (by omega) (by decide), rfl, bs_I R⟩
theorem i_vc_pile {k : Nat} {u : SX} {v : SY} (I : i_Rel k u v) (hk : k + 3 ≤ 1536) : wpX_pile (fun r => wpY_pile (fun r' => r' = r ∧ i_Rel (k + 3) u v) v) u := by
  refine bs_E (P := fun u v => wpX_pile (fun r => wpY_pile (fun r' => r' = r ∧ i_Rel (k + 3) u v) v) u) ?_ I
  intro q p b ln len bd st wt tg ch le R
  exact ⟨rfl, bs_I R⟩
theorem i_vc_topLength {k : Nat} {u : SX} {v : SY} (I : i_Rel k u v) (hk : k + 3 ≤ 1536) : wpX_topLength (fun r => wpY_topLength (fun r' => r' = r ∧ i_Rel (k + 3) u v) v) u := by
  refine bs_E (P := fun u v => wpX_topLength (fun r => wpY_topLength (fun r' => r' = r ∧ i_Rel (k + 3) u v) v) u) ?_ I
  intro q p b ln len bd st wt tg ch le R
  try dsimp only
  unfold wpX_topLength
  try dsimp only
  have r2 := R.2.1
  refine pk_eq p 0 (fun h => ?_) (fun h => ?_)
  · subst h
    exact br_t rfl ⟨rfl, bs_I R⟩
  · obtain ⟨p, rfl⟩ : ∃ p', p = p' + 1 := ⟨p - 1, by omega⟩
    obtain ⟨l, m, D⟩ := R.2.2.2.2.2.2 (6 + p) (by omega)
    refine bs_top ?_
    try dsimp only
    rw [nI_clamp (by omega), D.1]
    refine ⟨vp_in_nI (by omega) (by decide), ?_⟩
    unfold wpY_topLength
    try dsimp only
    rw [bs_5, nI_clamp (by omega), D.2.1]
    exact br_f (nI_ne0 (by omega) (by omega)) ⟨vp_in_nI (by omega) (by decide), rfl, bs_I R⟩
theorem i_vc_used {k : Nat} {u : SX} {v : SY} (I : i_Rel k u v) (hk : k + 3 ≤ 1536) : wpX_used (fun r => wpY_used (fun r' => r' = r ∧ i_Rel (k + 3) u v) v) u := by
  refine bs_E (P := fun u v => wpX_used (fun r => wpY_used (fun r' => r' = r ∧ i_Rel (k + 3) u v) v) u) ?_ I
  intro q p b ln len bd st wt tg ch le R
  try dsimp only
  refine bs_usedX R.2.1 (bs_G_l (bs_R_G R)) ?_
  refine bs_usedY R.2.1 (fun d hd => ?_) ⟨?_, bs_I R⟩
  · obtain ⟨l, m, D⟩ := R.2.2.2.2.2.2 d hd
    exact ⟨l, D.2.2.2.1, D.2.1⟩
  · rw [bs_R_sum R]
/-- reading one character on both sides -/
theorem bs_at {b : Nat} {len bd st ch le : Nat → Int32} {d l m : Nat} (D : bs_D b len bd st ch le d l m) (hd : d < 10) (x : Int32) :
    (x < 1 ∨ (¬ x < 1 ∧ ¬ x ≤ nI l ∧ nI l < x)) ∨ ∃ s, s < l ∧ x = nI (s + 1) ∧ ¬ x < 1 ∧ x ≤ nI l ∧ ¬ nI l < x ∧ bd d + x - 1 = nI (m + s) ∧ (40 : Int32) * nI d + x - 1 = nI (40 * d + s) ∧ m + s < 144 ∧ ch (40 * d + s) = st (m + s) := by
  obtain ⟨a1, a2, a3, a4, a5, a6, a7⟩ := D
  by_cases h1 : x < 1
  · exact Or.inl (Or.inl h1)
  · by_cases h2 : x ≤ nI l
    · refine Or.inr ?_
      have h0 : ¬ x < 0 := by
        intro h
        apply h1
        rw [Int32.lt_iff_toInt_lt] at h ⊢
        rw [show (0 : Int32).toInt = 0 from by decide] at h
        rw [show (1 : Int32).toInt = 1 from by decide]
        omega
      obtain ⟨j, hj, rfl⟩ := nI_of h0
      have h3 : ¬ j < 1 := fun h => h1 (nI_lt (b := 1) h (by decide))
      have h4 : j ≤ l := (nI_leI hj (by omega)).mp h2
      have h5 := a6 (by omega)
      obtain ⟨s, rfl⟩ : ∃ s, j = s + 1 := ⟨j - 1, by omega⟩
      refine ⟨s, by omega, rfl, h1, h2, nI_nlt h4 (by omega), ?_, ?_, by omega, a7 s (by omega)⟩
      · rw [a3, nI_add, show m + (s + 1) = m + s + 1 by omega, nI_pred]
      · rw [bs_40i, show 40 * d + (s + 1) = 40 * d + s + 1 by omega, nI_pred]
    · exact Or.inl (Or.inr ⟨h1, h2, Int32.not_le.mp h2⟩)
theorem i_vc_at {k : Nat} {u : SX} {v : SY} (I : i_Rel k u v) (hk : k + 3 ≤ 1536) (v1 : Int32) (v2 : Int32) : wpX_at (fun r => wpY_at (fun r' => r' = r ∧ i_Rel (k + 3) u v) v v1 v2) u v1 v2 := by
  refine bs_E (P := fun u v => wpX_at (fun r => wpY_at (fun r' => r' = r ∧ i_Rel (k + 3) u v) v v1 v2) u v1 v2) ?_ I
  intro q p b ln len bd st wt tg ch le R
  try dsimp only
  unfold wpX_at
  try dsimp only
  rcases bs_var v1 with h | ⟨j, hj, rfl⟩
  · refine bs_bv_f h (br_f (by decide) ?_)
    unfold wpY_at
    try dsimp only
    exact bs_iv_f h (br_t rfl ⟨rfl, bs_I R⟩)
  · refine bs_bv_t hj (br_t rfl ?_)
    obtain ⟨l, m, D⟩ := R.2.2.2.2.2.2 j (by omega)
    have l4 := D.2.2.2.1
    have vj : vp_in (nI j) 10 := vp_in_nI (by omega) (by decide)
    have vj' : vp_in (nI j) 11 := vp_in_nI (by omega) (by decide)
    rw [nI_clamp (n := j) (by omega), D.1]
    have Y : ∀ post : Int32 → Prop, ((v2 < 1 → post 0) ∧ (¬ v2 < 1 → (vp_in (nI j) 11 ∧ ((nI l < v2 → post 0) ∧ (¬ nI l < v2 → vp_in ((40 * nI j + v2) - 1) 440 ∧ post (ch ((40 * nI j + v2) - 1).toNatClampNeg)))))) → wpY_at post (nI p, ch, le) (nI j) v2 := by
      intro post H
      unfold wpY_at
      try dsimp only
      refine bs_iv_t hj (br_f (by decide) ?_)
      rw [nI_clamp (n := j) (by omega), D.2.1]
      exact H
    rcases bs_at D (by omega) v2 with (h1 | ⟨h1, h2, h3⟩) | ⟨s, hs, e, h1, h2, h3, h4, h5, h6, h7⟩
    · exact br_t h1 (Y _ (br_t h1 ⟨rfl, bs_I R⟩))
    · exact br_f h1 ⟨vj, br_f h2 (Y _ (br_f h1 ⟨vj', br_t h3 ⟨rfl, bs_I R⟩⟩))⟩
    · refine br_f h1 ⟨vj, br_t h2 ⟨vj, ?_⟩⟩
      rw [h4, nI_clamp (n := m + s) (by omega)]
      refine ⟨vp_in_nI h6 (by decide), Y _ (br_f h1 ⟨vj', br_f h3 ?_⟩)⟩
      rw [h5, nI_clamp (n := 40 * j + s) (by omega)]
      exact ⟨vp_in_nI (by omega) (by decide), h7, bs_I R⟩
theorem i_vc_topAt {k : Nat} {u : SX} {v : SY} (I : i_Rel k u v) (hk : k + 3 ≤ 1536) (v1 : Int32) : wpX_topAt (fun r => wpY_topAt (fun r' => r' = r ∧ i_Rel (k + 3) u v) v v1) u v1 := by
  refine bs_E (P := fun u v => wpX_topAt (fun r => wpY_topAt (fun r' => r' = r ∧ i_Rel (k + 3) u v) v v1) u v1) ?_ I
  intro q p b ln len bd st wt tg ch le R
  try dsimp only
  unfold wpX_topAt
  try dsimp only
  have r2 := R.2.1
  refine pk_eq p 0 (fun h => ?_) (fun h => ?_)
  · subst h
    unfold wpY_topAt
    try dsimp only
    exact br_t (by decide) ⟨rfl, bs_I R⟩
  · obtain ⟨p, rfl⟩ : ∃ p', p = p' + 1 := ⟨p - 1, by omega⟩
    obtain ⟨l, m, D⟩ := R.2.2.2.2.2.2 (6 + p) (by omega)
    have l4 := D.2.2.2.1
    have vj : vp_in (nI (6 + p)) 10 := vp_in_nI (by omega) (by decide)
    have vj' : vp_in (nI (6 + p)) 11 := vp_in_nI (by omega) (by decide)
    refine bs_top ?_
    try dsimp only
    rw [nI_clamp (n := 6 + p) (by omega), D.1]
    have Y : ∀ post : Int32 → Prop, ((v1 < 1 → post 0) ∧ (¬ v1 < 1 → (vp_in (nI (6 + p)) 11 ∧ ((nI l < v1 → post 0) ∧ (¬ nI l < v1 → vp_in ((40 * nI (6 + p) + v1) - 1) 440 ∧ post (ch ((40 * nI (6 + p) + v1) - 1).toNatClampNeg)))))) → wpY_topAt post (nI (p + 1), ch, le) v1 := by
      intro post H
      unfold wpY_topAt
      try dsimp only
      refine br_f (nI_nle (by omega) (by omega)) ?_
      rw [bs_5, nI_clamp (n := 6 + p) (by omega), D.2.1]
      exact H
    rcases bs_at D (by omega) v1 with (h1 | ⟨h1, h2, h3⟩) | ⟨s, hs, e, h1, h2, h3, h4, h5, h6, h7⟩
    · exact br_t h1 (Y _ (br_t h1 ⟨rfl, bs_I R⟩))
    · exact br_f h1 ⟨vj, br_f h2 (Y _ (br_f h1 ⟨vj', br_t h3 ⟨rfl, bs_I R⟩⟩))⟩
    · refine br_f h1 ⟨vj, br_t h2 ⟨vj, ?_⟩⟩
      rw [h4, nI_clamp (n := m + s) (by omega)]
      refine ⟨vp_in_nI h6 (by decide), Y _ (br_f h1 ⟨vj', br_f h3 ?_⟩)⟩
      rw [h5, nI_clamp (n := 40 * (6 + p) + s) (by omega)]
      exact ⟨vp_in_nI (by omega) (by decide), h7, bs_I R⟩
end
section
/-! what is owed: the methods on strings -/
theorem bs_leL {q p b : Nat} {ln len bd st ch le : Nat → Int32} (R : bs_R q p b ln len bd st ch le) : ∀ d, d < 6 + p → ∃ l, l ≤ 40 ∧ le d = nI l := by
  intro d hd
  obtain ⟨l, m, D⟩ := R.2.2.2.2.2.2 d hd
  exact ⟨l, D.2.2.2.1, D.2.1⟩
theorem i_vc_literal {k : Nat} {u : SX} {v : SY} (I : i_Rel k u v) (hk : k + 3 ≤ 1536) : wpX_literal (fun r u' => wpY_literal (fun r' v' => r' = r ∧ i_Rel (k + 3) u' v') v) u := by
  refine bs_E (P := fun u v => wpX_literal (fun r u' => wpY_literal (fun r' v' => r' = r ∧ i_Rel (k + 3) u' v') v) u) ?_ I
  intro q p b ln len bd st wt tg ch le R
  try dsimp only
  have r1 := R.1
  have r2 := R.2.1
  have r4 := R.2.2.2.1
  have r5 := R.2.2.2.2.1
  have r6 := R.2.2.2.2.2.1
  have hsum := bs_R_sum R
  have Y : ∀ post : Int32 → SY → Prop, (p = 4 → post (-2) (nI p, ch, le)) → (p ≠ 4 → 100 < bs_S len (6 + p) + q → post (-2) (nI p, ch, le)) →
      (p ≠ 4 → bs_S len (6 + p) + q ≤ 100 → ∀ ch', bs_F (40 * (6 + p)) q (fun k => ch (40 * 10 + k)) ch ch' → post (nI q) (nI (p + 1), ch', upd le (6 + p) (nI q))) → wpY_literal post (nI p, ch, le) := by
    intro post H1 H2 H3
    unfold wpY_literal
    try dsimp only
    refine bs_pushCopy (a := 10) (l := q) r2 (bs_leL R) (by omega) (by omega) (by omega) r1 r4 ?_ ?_ ?_
    · exact H1
    · rw [hsum]; exact H2
    · rw [hsum]; exact H3
  unfold wpX_literal
  try dsimp only
  refine bs_refuse r2 (bs_G_l (bs_R_G R)) r6 (by omega) (fun h => ?_) (fun h h2 => ?_) (fun h h2 h3 => ?_) (fun h h2 h3 => ?_)
  · refine br_f (by decide) ?_
    exact Y _ (fun _ => ⟨rfl, bs_I R⟩) (fun h2 => absurd h h2) (fun h2 => absurd h h2)
  · omega
  · refine br_t (by decide) ?_
    refine bs_take r1 R (fun b' bd' st' wt' tg' hb R' => ?_)
    try dsimp only
    refine ⟨q + 1, bs_lit26 r1 (by omega) hb (fun st2 hF => ?_) (q + 1) 0 st' (by omega) (by omega) bs_F_0⟩
    refine Y _ (fun h4 => absurd h4 h) (fun _ h4 => by omega) (fun _ _ ch' hC => ⟨rfl, bs_I ?_⟩)
    refine bs_R_push (bs_R_st R' (by omega) (fun j hj => hF.2 j (by omega))) h r1 h3 (by omega) (fun _ => by omega) hC (fun i hi => ?_)
    rw [hF.1 i hi]; exact r5 i hi
  · refine br_f (by decide) ?_
    exact Y _ (fun h4 => absurd h4 h) (fun _ _ => ⟨rfl, bs_I R⟩) (fun _ h4 => by omega)
theorem i_vc_push {k : Nat} {u : SX} {v : SY} (I : i_Rel k u v) (hk : k + 3 ≤ 1536) (v1 : Int32) : wpX_push (fun r u' => wpY_push (fun r' v' => r' = r ∧ i_Rel (k + 3) u' v') v v1) u v1 := by
  refine bs_E (P := fun u v => wpX_push (fun r u' => wpY_push (fun r' v' => r' = r ∧ i_Rel (k + 3) u' v') v v1) u v1) ?_ I
  intro q p b ln len bd st wt tg ch le R
  try dsimp only
  have r2 := R.2.1
  have r6 := R.2.2.2.2.2.1
  have hsum := bs_R_sum R
  rcases bs_var v1 with h | ⟨j, hj, rfl⟩
  · unfold wpX_push
    try dsimp only
    refine bs_bv_f h (br_f (by decide) ?_)
    unfold wpY_push
    try dsimp only
    exact bs_iv_f h (br_t rfl ⟨rfl, bs_I R⟩)
  · obtain ⟨l, m, D⟩ := R.2.2.2.2.2.2 j (by omega)
    have vj : vp_in (nI j) 10 := vp_in_nI (by omega) (by decide)
    have cj : (nI j).toNatClampNeg = j := nI_clamp (by omega)
    obtain ⟨a1, a2, a3, a4, a5, a6, a7⟩ := D
    have Y : ∀ post : Int32 → SY → Prop, (p = 4 → post (-2) (nI p, ch, le)) → (p ≠ 4 → 100 < bs_S len (6 + p) + l → post (-2) (nI p, ch, le)) →
        (p ≠ 4 → bs_S len (6 + p) + l ≤ 100 → ∀ ch', bs_F (40 * (6 + p)) l (fun k => ch (40 * j + k)) ch ch' → post (nI l) (nI (p + 1), ch', upd le (6 + p) (nI l))) → wpY_push post (nI p, ch, le) (nI j) := by
      intro post H1 H2 H3
      unfold wpY_push
      try dsimp only
      refine bs_iv_t hj (br_f (by decide) ?_)
      refine bs_pushCopy (a := j) (l := l) r2 (bs_leL R) (by omega) (by omega) (by omega) a4 a2 ?_ ?_ ?_
      · exact H1
      · rw [hsum]; exact H2
      · rw [hsum]; exact H3
    unfold wpX_push
    try dsimp only
    refine bs_bv_t hj (br_t rfl ?_)
    rw [cj, a1, a3]
    refine ⟨vj, ?_⟩
    refine bs_refuse r2 (bs_G_l (bs_R_G R)) r6 (by omega) (fun h => ?_) (fun h h2 => ?_) (fun h h2 h3 => ?_) (fun h h2 h3 => ?_)
    · refine br_f (by decide) ?_
      exact Y _ (fun _ => ⟨rfl, bs_I R⟩) (fun h2 => absurd h h2) (fun h2 => absurd h h2)
    · omega
    · refine br_t (by decide) ⟨vj, vj, ?_⟩
      refine bs_pushBody (by omega) a4 ?_
      try dsimp only
      rw [pk_un (by omega), a1]
      refine ⟨vj, ?_⟩
      refine Y _ (fun h4 => absurd h4 h) (fun _ h4 => by omega) (fun _ _ ch' hC => ⟨rfl, bs_I ?_⟩)
      exact bs_R_push R h a4 h3 a5 a6 hC a7
    · refine br_f (by decide) ?_
      exact Y _ (fun h4 => absurd h4 h) (fun _ _ => ⟨rfl, bs_I R⟩) (fun _ h4 => by omega)
theorem i_vc_repeat {k : Nat} {u : SX} {v : SY} (I : i_Rel k u v) (hk : k + 3 ≤ 1536) (v1 : Int32) (v2 : Int32) : wpX_repeat (fun r u' => wpY_repeat (fun r' v' => r' = r ∧ i_Rel (k + 3) u' v') v v1 v2) u v1 v2 := by
  refine bs_E (P := fun u v => wpX_repeat (fun r u' => wpY_repeat (fun r' v' => r' = r ∧ i_Rel (k + 3) u' v') v v1 v2) u v1 v2) ?_ I
  intro q p b ln len bd st wt tg ch le R
  try dsimp only
  have r2 := R.2.1
  have r6 := R.2.2.2.2.2.1
  have hsum := bs_R_sum R
  rcases bs_byte v1 with h | ⟨z, hz, rfl⟩
  · unfold wpX_repeat
    try dsimp only
    refine bs_bb_f h (br_f (by decide) ?_)
    unfold wpY_repeat
    try dsimp only
    exact bs_is_f h (br_t rfl ⟨rfl, bs_I R⟩)
  · rcases bs_byte v2 with h | ⟨c, hc, rfl⟩
    · unfold wpX_repeat
      try dsimp only
      refine bs_bb_t hz (br_t rfl (bs_bb_f h (br_f (by decide) ?_)))
      unfold wpY_repeat
      try dsimp only
      exact bs_is_t hz (br_f (by decide) (bs_is_f h (br_t rfl ⟨rfl, bs_I R⟩)))
    · have Y : ∀ post : Int32 → SY → Prop, (p = 4 → post (-2) (nI p, ch, le)) → (p ≠ 4 → 40 < z → post (-5) (nI p, ch, le)) → (p ≠ 4 → z ≤ 40 → 100 < bs_S len (6 + p) + z → post (-2) (nI p, ch, le)) →
          (p ≠ 4 → z ≤ 40 → bs_S len (6 + p) + z ≤ 100 → ∀ ch', bs_F (40 * (6 + p)) z (fun _ => nI c) ch ch' → post (nI z) (nI (p + 1), ch', upd le (6 + p) (nI z))) → wpY_repeat post (nI p, ch, le) (nI z) (nI c) := by
        intro post H1 H2 H3 H4
        unfold wpY_repeat
        try dsimp only
        refine bs_is_t hz (br_f (by decide) (bs_is_t hc (br_f (by decide) ?_)))
        refine pk_eq p 4 H1 (fun h => ?_)
        refine pk_le z 40 (fun h2 => ?_) (H2 h)
        refine bs_usedY r2 (bs_leL R) ?_
        try dsimp only
        rw [hsum, nI_add]
        refine pk_le (bs_S len (6 + p) + z) 100 (fun h3 => nm_r (bs_6 p) ?_) (H3 h h2)
        exact ⟨z + 1, bs_repeatY (by omega) h2 (fun ch' hF => H4 h h2 h3 ch' hF) (z + 1) 0 ch (by omega) (by omega) bs_F_0⟩
      unfold wpX_repeat
      try dsimp only
      refine bs_bb_t hz (br_t rfl (bs_bb_t hc (br_t rfl ?_)))
      refine bs_refuse r2 (bs_G_l (bs_R_G R)) r6 (by omega) (fun h => ?_) (fun h h2 => ?_) (fun h h2 h3 => ?_) (fun h h2 h3 => ?_)
      · refine br_f (by decide) ?_
        exact Y _ (fun _ => ⟨rfl, bs_I R⟩) (fun h2 => absurd h h2) (fun h2 => absurd h h2) (fun h2 => absurd h h2)
      · refine br_f (by decide) ?_
        exact Y _ (fun h3 => absurd h3 h) (fun _ _ => ⟨rfl, bs_I R⟩) (fun _ h3 => by omega) (fun _ h3 => by omega)
      · refine br_t (by decide) ?_
        refine bs_take h2 R (fun b' bd' st' wt' tg' hb R' => ?_)
        try dsimp only
        refine ⟨z + 1, bs_rep40 h2 (by omega) hb (fun st2 hF => ?_) (z + 1) 0 st' (by omega) (by omega) bs_F_0⟩
        refine Y _ (fun h4 => absurd h4 h) (fun _ h4 => by omega) (fun _ _ h4 => by omega) (fun _ _ _ ch' hC => ⟨rfl, bs_I ?_⟩)
        refine bs_R_push (bs_R_st R' (by omega) (fun j hj => hF.2 j (by omega))) h h2 h3 (by omega) (fun _ => by omega) hC (fun i hi => ?_)
        rw [hF.1 i hi]
      · refine br_f (by decide) ?_
        exact Y _ (fun h4 => absurd h4 h) (fun _ h4 => by omega) (fun _ _ _ => ⟨rfl, bs_I R⟩) (fun _ _ h4 => by omega)
theorem i_vc_let {k : Nat} {u : SX} {v : SY} (I : i_Rel k u v) (hk : k + 3 ≤ 1536) (v1 : Int32) : wpX_let (fun r u' => wpY_let (fun r' v' => r' = r ∧ i_Rel (k + 3) u' v') v v1) u v1 := by
  refine bs_E (P := fun u v => wpX_let (fun r u' => wpY_let (fun r' v' => r' = r ∧ i_Rel (k + 3) u' v') v v1) u v1) ?_ I
  intro q p b ln len bd st wt tg ch le R
  try dsimp only
  have r2 := R.2.1
  unfold wpX_let
  try dsimp only
  rcases bs_var v1 with h | ⟨j, hj, rfl⟩
  · refine bs_bv_f h (br_f (by decide) ?_)
    unfold wpY_let
    try dsimp only
    exact bs_iv_f h (br_t rfl ⟨rfl, bs_I R⟩)
  · refine bs_bv_t hj (br_t rfl ?_)
    refine pk_eq p 0 (fun h => ?_) (fun h => ?_)
    · subst h
      unfold wpY_let
      try dsimp only
      exact bs_iv_t hj (br_f (by decide) (br_t rfl ⟨rfl, bs_I R⟩))
    · obtain ⟨p, rfl⟩ : ∃ p', p = p' + 1 := ⟨p - 1, by omega⟩
      obtain ⟨l, m, D⟩ := R.2.2.2.2.2.2 (6 + p) (by omega)
      have vj : vp_in (nI j) 10 := vp_in_nI (by omega) (by decide)
      have vt : vp_in (nI (6 + p)) 10 := vp_in_nI (by omega) (by decide)
      refine bs_top ?_
      try dsimp only
      rw [nI_clamp (n := j) (by omega), nI_clamp (n := 6 + p) (by omega), D.1, D.2.2.1]
      refine ⟨vt, vj, nm_e ⟨vt, vj, nm_e (nm_r (nI_pred p) ⟨vj, ?_⟩)⟩⟩
      rw [pk_us]
      unfold wpY_let
      try dsimp only
      refine bs_iv_t hj (br_f (by decide) (br_f (nI_ne0 (by omega) (by omega)) ?_))
      rw [bs_5]
      refine bs_copyY (by omega) (by omega) D.2.2.2.1 D.2.1 (by omega) (fun ch' hF => ?_)
      try dsimp only
      refine nm_r (nI_pred p) ⟨vp_in_nI (by omega) (by decide), ?_⟩
      rw [nI_clamp (n := j) (by omega), pk_us]
      exact ⟨rfl, bs_I (bs_R_let R hj D hF)⟩
theorem i_vc_join {k : Nat} {u : SX} {v : SY} (I : i_Rel k u v) (hk : k + 3 ≤ 1536) : wpX_join (fun r u' => wpY_join (fun r' v' => r' = r ∧ i_Rel (k + 3) u' v') v) u := by
  refine bs_E (P := fun u v => wpX_join (fun r u' => wpY_join (fun r' v' => r' = r ∧ i_Rel (k + 3) u' v') v) u) ?_ I
  intro q p b ln len bd st wt tg ch le R
  try dsimp only
  have r2 := R.2.1
  by_cases h : p < 2
  · have h2 : ¬ (2 : Int32) ≤ nI p := nI_ge (b := 2) h (by decide)
    unfold wpX_join
    try dsimp only
    refine br_f h2 ?_
    unfold wpY_join
    try dsimp only
    exact br_f h2 ⟨rfl, bs_I R⟩
  · obtain ⟨p, rfl⟩ : ∃ p', p = p' + 2 := ⟨p - 2, by omega⟩
    obtain ⟨l1, m1, D1⟩ := R.2.2.2.2.2.2 (6 + p) (by omega)
    obtain ⟨l2, m2, D2⟩ := R.2.2.2.2.2.2 (6 + (p + 1)) (by omega)
    have e1 := D1.2.1
    have e2 := D2.2.1
    have k1 := D1.2.2.2.1
    have k2 := D2.2.2.2.1
    have Y : ∀ post : Int32 → SY → Prop, (40 < l1 + l2 → post (-5) (nI (p + 2), ch, le)) →
        (l1 + l2 ≤ 40 → ∀ ch', bs_F (40 * (6 + p) + l1) l2 (fun k => ch (40 * (6 + (p + 1)) + k)) ch ch' → post (nI (l1 + l2)) (nI (p + 1), ch', upd le (6 + p) (nI (l1 + l2)))) → wpY_join post (nI (p + 2), ch, le) := by
      intro post H1 H2
      unfold wpY_join
      try dsimp only
      refine br_t (nI_le (a := 2) (by omega) (by omega)) ?_
      refine nm_r (bs_5 (p + 1)) (nm_r (nI_pred (6 + p)) ?_)
      rw [nI_clamp (n := 6 + p) (by omega), nI_clamp (n := 6 + (p + 1)) (by omega), e1, e2, nI_add]
      refine ⟨vp_in_nI (by omega) (by decide), vp_in_nI (by omega) (by decide), nm_e ?_⟩
      refine pk_le (l1 + l2) 40 (fun h => ?_) H1
      refine ⟨l2 + 1, bs_joinY (by omega) (by omega) e1 e2 h (fun ch' hF => ?_) (l2 + 1) 0 ch (by omega) (by omega) bs_F_0⟩
      rw [show nI (p + 2) - 1 = nI (p + 1) from nI_pred (p + 1)]
      exact H2 h ch' hF
    refine bs_joinX R D1 D2 (fun h => ?_) (fun h b' m m1 m2 bd' bd'' st' wt' tg' R' E1 E2 J => ?_)
    · exact Y _ (fun _ => ⟨rfl, bs_I R⟩) (fun h2 => by omega)
    · exact Y _ (fun h2 => by omega) (fun _ ch' hF => ⟨rfl, bs_I (bs_R_join R' E1 E2 h J hF)⟩)
end
section
/-! what is owed: cutting, comparing, searching, changing in place -/
/-- both cuts of the top string -/
theorem bs_cut2 {post : Int32 → SX → Prop} {q p b s c : Nat} {ln len bd st wt tg ch le : Nat → Int32} (R : bs_R q (p + 1) b ln len bd st ch le) (hs : s < 256) (hc : c < 256)
    (H : ∀ z bd', (∀ PY : Int32 → SY → Prop, (∀ ch', bs_R q (p + 1) b ln (upd len (6 + p) (nI z)) bd' st ch' (upd le (6 + p) (nI z)) → PY (nI z) (nI (p + 1), ch', upd le (6 + p) (nI z))) → wpY_cut PY (nI (p + 1), ch, le) (nI s) (nI c)) →
      post (nI z) (nI q, nI (p + 1), nI b, ln, upd len (6 + p) (nI z), bd', st, wt, tg)) : wpX_cut post (nI q, nI (p + 1), nI b, ln, len, bd, st, wt, tg) (nI s) (nI c) := by
  have r2 := R.2.1
  obtain ⟨l, m, D⟩ := R.2.2.2.2.2.2 (6 + p) (by omega)
  refine bs_cutX (by omega) D.1 D.2.2.1 D.2.2.2.1 D.2.2.2.2.1 hs hc (fun z z1 z2 z3 => H z _ (fun PY hY => ?_))
  refine bs_cutY (by omega) D.2.2.2.1 hs hc D.2.1 (fun z' ch' y1 y2 y3 hF => ?_)
  have e : z' = z := by omega
  subst e
  exact hY ch' (bs_R_cut R D z2 hF)
theorem i_vc_left {k : Nat} {u : SX} {v : SY} (I : i_Rel k u v) (hk : k + 3 ≤ 1536) (v1 : Int32) : wpX_left (fun r u' => wpY_left (fun r' v' => r' = r ∧ i_Rel (k + 3) u' v') v v1) u v1 := by
  refine bs_E (P := fun u v => wpX_left (fun r u' => wpY_left (fun r' v' => r' = r ∧ i_Rel (k + 3) u' v') v v1) u v1) ?_ I
  intro q p b ln len bd st wt tg ch le R
  try dsimp only
  have r2 := R.2.1
  unfold wpX_left
  try dsimp only
  rcases bs_byte v1 with h | ⟨c, hc, rfl⟩
  · refine bs_bb_f h (br_f (by decide) ?_)
    unfold wpY_left
    try dsimp only
    exact bs_is_f h (br_t rfl ⟨rfl, bs_I R⟩)
  · refine bs_bb_t hc (br_t rfl ?_)
    refine pk_eq p 0 (fun h => ?_) (fun h => ?_)
    · subst h
      unfold wpY_left
      try dsimp only
      exact bs_is_t hc (br_f (by decide) (br_t rfl ⟨rfl, bs_I R⟩))
    · obtain ⟨p, rfl⟩ : ∃ p', p = p' + 1 := ⟨p - 1, by omega⟩
      refine bs_cut2 (s := 0) R (by omega) hc (fun z bd' hY => ?_)
      try dsimp only
      unfold wpY_left
      try dsimp only
      refine bs_is_t hc (br_f (by decide) (br_f (nI_ne0 (by omega) (by omega)) ?_))
      refine hY _ (fun ch' R' => ?_)
      exact ⟨rfl, bs_I R'⟩
theorem i_vc_right {k : Nat} {u : SX} {v : SY} (I : i_Rel k u v) (hk : k + 3 ≤ 1536) (v1 : Int32) : wpX_right (fun r u' => wpY_right (fun r' v' => r' = r ∧ i_Rel (k + 3) u' v') v v1) u v1 := by
  refine bs_E (P := fun u v => wpX_right (fun r u' => wpY_right (fun r' v' => r' = r ∧ i_Rel (k + 3) u' v') v v1) u v1) ?_ I
  intro q p b ln len bd st wt tg ch le R
  try dsimp only
  have r2 := R.2.1
  rcases bs_byte v1 with h | ⟨c, hc, rfl⟩
  · unfold wpX_right
    try dsimp only
    refine bs_bb_f h (br_f (by decide) ?_)
    unfold wpY_right
    try dsimp only
    exact bs_is_f h (br_t rfl ⟨rfl, bs_I R⟩)
  · unfold wpX_right
    try dsimp only
    refine bs_bb_t hc (br_t rfl ?_)
    refine pk_eq p 0 (fun h => ?_) (fun h => ?_)
    · subst h
      unfold wpY_right
      try dsimp only
      exact bs_is_t hc (br_f (by decide) (br_t rfl ⟨rfl, bs_I R⟩))
    · obtain ⟨p, rfl⟩ : ∃ p', p = p' + 1 := ⟨p - 1, by omega⟩
      obtain ⟨l, m, D⟩ := R.2.2.2.2.2.2 (6 + p) (by omega)
      have l4 := D.2.2.2.1
      have Y : ∀ post : Int32 → SY → Prop, (c < l → wpY_cut post (nI (p + 1), ch, le) (nI (l - c)) (nI c)) → (l ≤ c → post (nI l) (nI (p + 1), ch, le)) → wpY_right post (nI (p + 1), ch, le) (nI c) := by
        intro post H1 H2
        unfold wpY_right
        try dsimp only
        refine bs_is_t hc (br_f (by decide) (br_f (nI_ne0 (by omega) (by omega)) ?_))
        rw [bs_5, nI_clamp (n := 6 + p) (by omega), D.2.1]
        refine ⟨vp_in_nI (by omega) (by decide), nm_e ?_⟩
        refine pk_lt c l (fun h => ?_) H2
        rw [pk_sub (by omega)]
        exact H1 h
      refine bs_top ?_
      try dsimp only
      rw [nI_clamp (n := 6 + p) (by omega), D.1]
      refine ⟨vp_in_nI (by omega) (by decide), nm_e ?_⟩
      refine pk_le l c (fun h2 => ?_) (fun h2 => ?_)
      · refine bs_cutX (s := 0) (by omega) D.1 D.2.2.1 l4 D.2.2.2.2.1 (by omega) (by omega) (fun z z1 z2 z3 => ?_)
        have e : z = l := by omega
        subst e
        try dsimp only
        refine Y _ (fun h3 => by omega) (fun _ => ⟨rfl, bs_I ?_⟩)
        have hS := bs_S_upd (f := len) (t := 6 + p) (x := nI z) (6 + (p + 1)) (by omega)
        rw [nI_clamp (by omega), bs_D_len D] at hS
        have r6 := R.2.2.2.2.2.1
        obtain ⟨a1, a2, a3, a4, a5, a6, a7⟩ := D
        by_cases h0 : z = 0
        · rw [if_pos h0]
          exact bs_R_set R (6 + p) z 0 r2 (by omega) (fun d h _ => h) pk_us (fun d h => pk_un h) a2 (fun _ _ => rfl) pk_us (fun d h => pk_un h) a4 (by omega) (fun h => by omega) (fun i hi => by omega) (fun _ _ => rfl) (by omega)
        · rw [if_neg h0]
          exact bs_R_set R (6 + p) z (m + 0) r2 (by omega) (fun d h _ => h) pk_us (fun d h => pk_un h) a2 (fun _ _ => rfl) pk_us (fun d h => pk_un h) a4 a5 a6 a7 (fun _ _ => rfl) (by omega)
      · rw [pk_sub (by omega)]
        refine bs_cut2 (s := l - c) R (by omega) hc (fun z bd' hY => ?_)
        try dsimp only
        refine Y _ (fun _ => hY _ (fun ch' R' => ⟨rfl, bs_I R'⟩)) (fun h3 => by omega)
theorem i_vc_mid {k : Nat} {u : SX} {v : SY} (I : i_Rel k u v) (hk : k + 3 ≤ 1536) (v1 : Int32) (v2 : Int32) : wpX_mid (fun r u' => wpY_mid (fun r' v' => r' = r ∧ i_Rel (k + 3) u' v') v v1 v2) u v1 v2 := by
  refine bs_E (P := fun u v => wpX_mid (fun r u' => wpY_mid (fun r' v' => r' = r ∧ i_Rel (k + 3) u' v') v v1 v2) u v1 v2) ?_ I
  intro q p b ln len bd st wt tg ch le R
  try dsimp only
  have r2 := R.2.1
  rcases bs_one v1 with (h | ⟨h, h2⟩) | ⟨s, hs, e, h, h2, _⟩
  · unfold wpX_mid
    try dsimp only
    refine br_t h ?_
    unfold wpY_mid
    try dsimp only
    exact br_t h ⟨rfl, bs_I R⟩
  · unfold wpX_mid
    try dsimp only
    refine br_f h (br_t h2 ?_)
    unfold wpY_mid
    try dsimp only
    exact br_f h (br_t h2 ⟨rfl, bs_I R⟩)
  · rcases bs_byte v2 with h3 | ⟨c, hc, rfl⟩
    · unfold wpX_mid
      try dsimp only
      refine br_f h (br_f h2 (bs_bb_f h3 (br_f (by decide) ?_)))
      unfold wpY_mid
      try dsimp only
      exact br_f h (br_f h2 (bs_is_f h3 (br_t rfl ⟨rfl, bs_I R⟩)))
    · unfold wpX_mid
      try dsimp only
      refine br_f h (br_f h2 (bs_bb_t hc (br_t rfl ?_)))
      refine pk_eq p 0 (fun h3 => ?_) (fun h3 => ?_)
      · subst h3
        unfold wpY_mid
        try dsimp only
        exact br_f h (br_f h2 (bs_is_t hc (br_f (by decide) (br_t rfl ⟨rfl, bs_I R⟩))))
      · obtain ⟨p, rfl⟩ : ∃ p', p = p' + 1 := ⟨p - 1, by omega⟩
        have e' : v1 - 1 = nI s := by rw [e, nI_pred]
        rw [e']
        refine bs_cut2 (s := s) R (by omega) hc (fun z bd' hY => ?_)
        try dsimp only
        unfold wpY_mid
        try dsimp only
        refine br_f h (br_f h2 (bs_is_t hc (br_f (by decide) (br_f (nI_ne0 (by omega) (by omega)) ?_))))
        rw [e']
        refine hY _ (fun ch' R' => ?_)
        exact ⟨rfl, bs_I R'⟩
theorem i_vc_compare {k : Nat} {u : SX} {v : SY} (I : i_Rel k u v) (hk : k + 3 ≤ 1536) : wpX_compare (fun r u' => wpY_compare (fun r' v' => r' = r ∧ i_Rel (k + 3) u' v') v) u := by
  refine bs_E (P := fun u v => wpX_compare (fun r u' => wpY_compare (fun r' v' => r' = r ∧ i_Rel (k + 3) u' v') v) u) ?_ I
  intro q p b ln len bd st wt tg ch le R
  try dsimp only
  have r2 := R.2.1
  by_cases h : p < 2
  · have h2 : ¬ (2 : Int32) ≤ nI p := nI_ge (b := 2) h (by decide)
    unfold wpX_compare
    try dsimp only
    refine br_f h2 ?_
    unfold wpY_compare
    try dsimp only
    exact br_f h2 ⟨rfl, bs_I R⟩
  · obtain ⟨p, rfl⟩ : ∃ p', p = p' + 2 := ⟨p - 2, by omega⟩
    obtain ⟨l1, m1, D1⟩ := R.2.2.2.2.2.2 (6 + p) (by omega)
    obtain ⟨l2, m2, D2⟩ := R.2.2.2.2.2.2 (6 + (p + 1)) (by omega)
    have k1 := D1.2.2.2.1
    have k2 := D2.2.2.2.1
    have vx : vp_in (nI (6 + p)) 10 := vp_in_nI (by omega) (by decide)
    have vy : vp_in (nI (6 + (p + 1))) 10 := vp_in_nI (by omega) (by decide)
    have cx : (nI (6 + p)).toNatClampNeg = 6 + p := nI_clamp (by omega)
    have cy : (nI (6 + (p + 1))).toNatClampNeg = 6 + (p + 1) := nI_clamp (by omega)
    have e22 : nI (p + 2) - 2 = nI p := pk_sub (a := p + 2) (b := 2) (by omega)
    obtain ⟨z, hz1, hz2, hz3⟩ : ∃ z, z ≤ l1 ∧ z ≤ l2 ∧ (z = l1 ∨ z = l2) := by
      by_cases h : l1 ≤ l2
      · exact ⟨l1, by omega, h, Or.inl rfl⟩
      · exact ⟨l2, by omega, by omega, Or.inr rfl⟩
    have hR := bs_R_drop R (p' := p) (by omega)
    have Y : ∀ post : Int32 → SY → Prop, post (bs_cmp (fun k => ch (40 * (6 + p) + k)) (fun k => ch (40 * (6 + (p + 1)) + k)) l1 l2 z 0) (nI p, ch, le) → wpY_compare post (nI (p + 2), ch, le) := by
      intro post H
      unfold wpY_compare
      try dsimp only
      refine br_t (nI_le (a := 2) (by omega) (by omega)) (nm_r e22 ?_)
      rw [bs_6, bs_7, show 7 + p = 6 + (p + 1) by omega]
      exact Exists.intro (z + 1) (bs_o2 (by omega) (by omega) D1.2.1 D2.2.1 k1 k2 hz1 hz2 hz3 z 0 (z + 1) (by omega) (by omega) H)
    have X50 : ∀ post : Int32 → SX → Prop, post (bs_cmp (fun k => ch (40 * (6 + p) + k)) (fun k => ch (40 * (6 + (p + 1)) + k)) l1 l2 z 0) (nI q, nI p, nI b, ln, len, bd, st, wt, tg) →
        wX_compare_50 post (nI (6 + (p + 1))) (nI (6 + p)) (nI z) (nI q) (nI (p + 2)) (nI b) ln len bd st wt tg := by
      intro post H
      unfold wX_compare_50
      refine nm_r e22 ?_
      rw [cx, cy, D1.2.2.1, D2.2.2.1]
      refine ⟨vx, vy, ?_⟩
      refine pk_eq m1 m2 (fun h => ?_) (fun h => ?_) rfl rfl (by have := D1.2.2.2.2.1; omega) (by have := D2.2.2.2.2.1; omega)
      · refine bs_c143 (by omega) (by omega) D1.1 D2.1 k1 k2 ?_
        rw [bs_cmp_eq z 0 (fun k hk => ?_)] at H
        · exact H
        · show ch (40 * (6 + p) + k) = ch (40 * (6 + (p + 1)) + k)
          rw [D1.2.2.2.2.2.2 k (by omega), D2.2.2.2.2.2.2 k (by omega), h]
      · exact ⟨z + 1, bs_c79 (by omega) (by omega) D1 D2 hz1 hz2 z 0 (z + 1) (by omega) (by omega) H⟩
    unfold wpX_compare
    try dsimp only
    refine br_t (nI_le (a := 2) (by omega) (by omega)) ?_
    refine bs_top (p := p + 1) ?_
    try dsimp only
    refine nm_r (nI_pred (6 + p)) ?_
    rw [cx, cy, D1.1, D2.1]
    refine ⟨vx, vy, ?_⟩
    refine pk_le l2 l1 (fun h2 => ⟨vy, ?_⟩) (fun h2 => ⟨vx, ?_⟩)
    · have e : z = l2 := by omega
      rw [← e]
      exact X50 _ (Y _ ⟨rfl, bs_I hR⟩)
    · have e : z = l1 := by omega
      rw [← e]
      exact X50 _ (Y _ ⟨rfl, bs_I hR⟩)
theorem i_vc_find {k : Nat} {u : SX} {v : SY} (I : i_Rel k u v) (hk : k + 3 ≤ 1536) (v1 : Int32) (v2 : Int32) : wpX_find (fun r => wpY_find (fun r' => r' = r ∧ i_Rel (k + 3) u v) v v1 v2) u v1 v2 := by
  refine bs_E (P := fun u v => wpX_find (fun r => wpY_find (fun r' => r' = r ∧ i_Rel (k + 3) u v) v v1 v2) u v1 v2) ?_ I
  intro q p b ln len bd st wt tg ch le R
  try dsimp only
  rcases bs_var v1 with h | ⟨i, hi, rfl⟩
  · unfold wpX_find
    try dsimp only
    refine bs_bv_f h (br_f (by decide) ?_)
    unfold wpY_find
    try dsimp only
    exact bs_iv_f h (br_t rfl ⟨rfl, bs_I R⟩)
  · rcases bs_var v2 with h | ⟨j, hj, rfl⟩
    · unfold wpX_find
      try dsimp only
      refine bs_bv_t hi (br_t rfl (bs_bv_f h (br_f (by decide) ?_)))
      unfold wpY_find
      try dsimp only
      exact bs_iv_t hi (br_f (by decide) (bs_iv_f h (br_t rfl ⟨rfl, bs_I R⟩)))
    · obtain ⟨lu, mu, D1⟩ := R.2.2.2.2.2.2 i (by omega)
      obtain ⟨lv, mv, D2⟩ := R.2.2.2.2.2.2 j (by omega)
      have k1 := D1.2.2.2.1
      have Y : ∀ post : Int32 → Prop, (∃ n, wY_find_20 post (nI i) (nI j) (nI p) ch le n 0) → wpY_find post (nI p, ch, le) (nI i) (nI j) := by
        intro post H
        unfold wpY_find
        try dsimp only
        exact bs_iv_t hi (br_f (by decide) (bs_iv_t hj (br_f (by decide) H)))
      unfold wpX_find
      try dsimp only
      refine bs_bv_t hi (br_t rfl (bs_bv_t hj (br_t rfl ?_)))
      rw [nI_clamp (n := i) (by omega), D1.1]
      refine ⟨vp_in_nI (by omega) (by decide), ?_⟩
      refine pk_eq lu 0 (fun h => ?_) (fun h => ?_)
      · subst h
        refine Y _ ⟨1, ?_⟩
        unfold wY_find_20
        rw [nI_clamp (n := i) (by omega), D1.2.1]
        exact ⟨vp_in_nI (by omega) (by decide), br_t (by decide) ⟨rfl, bs_I R⟩⟩
      · obtain ⟨r, hX, hY⟩ := bs_find (fk := nI q) (fp := nI p) (fb := nI b) (fq := nI p) (ln := ln) (wt := wt) (tg := tg) (by omega) (by omega) D1 D2 lu 0 (by omega) (by omega)
        exact ⟨lu + 1, hX _ (Y _ ⟨lu + 1, hY _ ⟨rfl, bs_I R⟩⟩)⟩
end
section
/-! what is owed: changing in place, exchanging -/
theorem i_vc_setMid {k : Nat} {u : SX} {v : SY} (I : i_Rel k u v) (hk : k + 3 ≤ 1536) (v1 : Int32) (v2 : Int32) : wpX_setMid (fun r u' => wpY_setMid (fun r' v' => r' = r ∧ i_Rel (k + 3) u' v') v v1 v2) u v1 v2 := by
  refine bs_E (P := fun u v => wpX_setMid (fun r u' => wpY_setMid (fun r' v' => r' = r ∧ i_Rel (k + 3) u' v') v v1 v2) u v1 v2) ?_ I
  intro q p b ln len bd st wt tg ch le R
  try dsimp only
  have r2 := R.2.1
  rcases bs_var v1 with h | ⟨v, hv, rfl⟩
  · unfold wpX_setMid
    try dsimp only
    refine bs_bv_f h (br_f (by decide) ?_)
    unfold wpY_setMid
    try dsimp only
    exact bs_iv_f h (br_t rfl ⟨rfl, bs_I R⟩)
  · rcases bs_one v2 with (h | ⟨h, h2⟩) | ⟨s, hs, e, h, _, h2⟩
    · unfold wpX_setMid
      try dsimp only
      refine bs_bv_t hv (br_t rfl (br_t h ?_))
      unfold wpY_setMid
      try dsimp only
      exact bs_iv_t hv (br_f (by decide) (br_t h ⟨rfl, bs_I R⟩))
    · have h3 : ¬ v2 ≤ 255 := Int32.not_le.mpr h2
      unfold wpX_setMid
      try dsimp only
      refine bs_bv_t hv (br_t rfl (br_f h (br_f h3 ?_)))
      unfold wpY_setMid
      try dsimp only
      exact bs_iv_t hv (br_f (by decide) (br_f h (br_f h3 ⟨rfl, bs_I R⟩)))
    · by_cases hp0 : p = 0
      · subst hp0
        unfold wpX_setMid
        try dsimp only
        refine bs_bv_t hv (br_t rfl (br_f h (br_t h2 (br_t rfl ?_))))
        unfold wpY_setMid
        try dsimp only
        exact bs_iv_t hv (br_f (by decide) (br_f h (br_t h2 (br_t rfl ⟨rfl, bs_I R⟩))))
      · obtain ⟨p, rfl⟩ : ∃ p', p = p' + 1 := ⟨p - 1, by omega⟩
        subst e
        obtain ⟨lv, mv, D1⟩ := R.2.2.2.2.2.2 v (by omega)
        obtain ⟨la, ma, D2⟩ := R.2.2.2.2.2.2 (6 + p) (by omega)
        have k1 := D1.2.2.2.1
        have k2 := D2.2.2.2.1
        have hne : ¬ nI (p + 1) = 0 := nI_ne0 (by omega) (by omega)
        have Y : ∀ (z : Nat), z ≤ la → (z = 0 ∨ s + z ≤ lv) → (z = la ∨ lv ≤ s + z) → ∀ post : Int32 → SY → Prop, (∀ ch', bs_F (40 * v + s) z (fun k => ch (40 * (6 + p) + k)) ch ch' → post (nI z) (nI p, ch', le)) → wpY_setMid post (nI (p + 1), ch, le) (nI v) (nI (s + 1)) := by
          intro z z1 z2 z3 post H
          unfold wpY_setMid
          try dsimp only
          refine bs_iv_t hv (br_f (by decide) (br_f h (br_t h2 (br_f hne (nm_r (bs_5 p) ?_)))))
          exact ⟨z + 1, bs_midY hv (by omega) (by omega) hs k2 k1 D2.2.1 D1.2.1 z1 z2 z3 H (z + 1) 0 ch (by omega) (by omega) bs_F_0⟩
        have vv : vp_in (nI v) 10 := vp_in_nI (by omega) (by decide)
        have va : vp_in (nI (6 + p)) 10 := vp_in_nI (by omega) (by decide)
        have X0 : ∀ z0 : Int32, ¬ 1 ≤ z0 → la = 0 ∨ lv ≤ s → wX_setMid_71 (fun r u' => wpY_setMid (fun r' v' => r' = r ∧ i_Rel (k + 3) u' v') (nI (p + 1), ch, le) (nI v) (nI (s + 1))) (nI v) (nI (s + 1)) (nI (6 + p)) z0 (nI q) (nI (p + 1)) (nI b) ln len bd st wt tg := by
          intro z0 hz0 hz
          unfold wX_setMid_71
          refine br_f hz0 (nm_r (nI_pred p) ?_)
          refine Y 0 (by omega) (by omega) (by omega) _ (fun ch' hF => ⟨rfl, bs_I ?_⟩)
          have e : ch' = ch := funext (fun j => hF.2 j (by omega))
          rw [e]
          exact bs_R_drop R (by omega)
        have X1 : ∀ z, 0 < z → z ≤ la → s + z ≤ lv → (z = la ∨ lv ≤ s + z) → wX_setMid_71 (fun r u' => wpY_setMid (fun r' v' => r' = r ∧ i_Rel (k + 3) u' v') (nI (p + 1), ch, le) (nI v) (nI (s + 1))) (nI v) (nI (s + 1)) (nI (6 + p)) (nI z) (nI q) (nI (p + 1)) (nI b) ln len bd st wt tg := by
          intro z z0 z1 z2 z3
          refine bs_mid71 hv z0 z1 z2 R D1 D2 (fun b' bd' st' st'' wt' tg' mv' ma' R' E1 E2 hx hF => ?_)
          refine Y z z1 (Or.inr z2) z3 _ (fun ch' hC => ⟨rfl, bs_I (bs_R_drop (p := p + 1) ?_ (by omega))⟩)
          refine bs_R_mid R' hv E1 z2 z0 hx (fun k hk => ?_) hC.2 hF.2
          rw [hC.1 k hk, hF.1 k hk]
          exact E2.2.2.2.2.2.2 k (by omega)
        unfold wpX_setMid
        try dsimp only
        refine bs_bv_t hv (br_t rfl (br_f h (br_t h2 (br_f hne ?_))))
        refine bs_top ?_
        try dsimp only
        have e4 : nI lv - nI (s + 1) + 1 = nI lv - nI s := by
          rw [← nI_1]; grind
        rw [nI_clamp (n := v) (by omega), nI_clamp (n := 6 + p) (by omega), D1.1, D2.1, e4]
        by_cases hls : s ≤ lv
        · refine ⟨vv, nm_r (pk_sub hls) ⟨va, ?_⟩⟩
          refine pk_le la (lv - s) (fun h3 => ⟨va, ?_⟩) (fun h3 => ?_)
          · by_cases h0 : la = 0
            · refine X0 _ ?_ (Or.inl h0)
              subst h0; decide
            · exact X1 la (by omega) (by omega) (by omega) (Or.inl rfl)
          · by_cases h0 : lv - s = 0
            · refine X0 _ ?_ (Or.inr (by omega))
              rw [h0]; decide
            · exact X1 (lv - s) (by omega) (by omega) (by omega) (Or.inr (by omega))
        · have hneg : nI lv - nI s < 0 := pk_sneg (by omega) (by omega)
          have n1 : ¬ nI la ≤ nI lv - nI s := by
            intro hc
            have h0 : (0 : Int32) ≤ nI la := nI_pos' (by omega)
            exact Int32.not_le.mpr hneg (Int32.le_trans h0 hc)
          have n2 : ¬ (1 : Int32) ≤ nI lv - nI s := by
            intro hc
            exact Int32.not_le.mpr hneg (Int32.le_trans (by decide) hc)
          exact ⟨vv, nm_e ⟨va, br_f n1 (X0 _ n2 (Or.inr (by omega)))⟩⟩
theorem i_vc_swap {k : Nat} {u : SX} {v : SY} (I : i_Rel k u v) (hk : k + 3 ≤ 1536) (v1 : Int32) (v2 : Int32) : wpX_swap (fun r u' => wpY_swap (fun r' v' => r' = r ∧ i_Rel (k + 3) u' v') v v1 v2) u v1 v2 := by
  refine bs_E (P := fun u v => wpX_swap (fun r u' => wpY_swap (fun r' v' => r' = r ∧ i_Rel (k + 3) u' v') v v1 v2) u v1 v2) ?_ I
  intro q p b ln len bd st wt tg ch le R
  try dsimp only
  rcases bs_var v1 with h | ⟨i, hi, rfl⟩
  · unfold wpX_swap
    try dsimp only
    refine bs_bv_f h (br_f (by decide) ?_)
    unfold wpY_swap
    try dsimp only
    exact bs_iv_f h (br_t rfl ⟨rfl, bs_I R⟩)
  · rcases bs_var v2 with h | ⟨j, hj, rfl⟩
    · unfold wpX_swap
      try dsimp only
      refine bs_bv_t hi (br_t rfl (bs_bv_f h (br_f (by decide) ?_)))
      unfold wpY_swap
      try dsimp only
      exact bs_iv_t hi (br_f (by decide) (bs_iv_f h (br_t rfl ⟨rfl, bs_I R⟩)))
    · have vi : vp_in (nI i) 10 := vp_in_nI (by omega) (by decide)
      have vj : vp_in (nI j) 10 := vp_in_nI (by omega) (by decide)
      have wi : vp_in (nI i) 11 := vp_in_nI (by omega) (by decide)
      have wj : vp_in (nI j) 11 := vp_in_nI (by omega) (by decide)
      have ci : (nI i).toNatClampNeg = i := nI_clamp (by omega)
      have cj : (nI j).toNatClampNeg = j := nI_clamp (by omega)
      unfold wpX_swap
      try dsimp only
      refine bs_bv_t hi (br_t rfl (bs_bv_t hj (br_t rfl ?_)))
      rw [ci, cj]
      refine ⟨vi, nm_e ⟨vi, nm_e ⟨vj, vi, nm_e ⟨vj, vi, nm_e ⟨vj, nm_e ⟨vj, nm_e ?_⟩⟩⟩⟩⟩⟩
      unfold wpY_swap
      try dsimp only
      refine bs_iv_t hi (br_f (by decide) (bs_iv_t hj (br_f (by decide) ?_)))
      rw [ci, cj]
      refine ⟨wi, nm_e ⟨wj, wi, nm_e ⟨wj, nm_e ⟨41, bs_swapY hi hj (fun ch' hX => ⟨rfl, bs_I ?_⟩) 41 0 ch (by omega) (by omega) ⟨fun k hk => by omega, fun _ _ => rfl⟩⟩⟩⟩⟩
      obtain ⟨r1, r2, r3, r4, r5, r6, r7⟩ := R
      have ex : ∀ f : Nat → Int32, upd (upd f i (f j)) j (f i) i = f j ∧ upd (upd f i (f j)) j (f i) j = f i ∧ ∀ d, d ≠ i → d ≠ j → upd (upd f i (f j)) j (f i) d = f d := by
        intro f
        refine ⟨?_, pk_us, fun d h1 h2 => by rw [pk_un h2, pk_un h1]⟩
        by_cases e : i = j
        · subst e; exact pk_us
        · rw [pk_un e, pk_us]
      refine ⟨r1, r2, r3, ?_, fun x hx => ?_, ?_, fun d hd => ?_⟩
      · rw [(ex le).2.2 10 (by omega) (by omega)]; exact r4
      · rw [hX.2 (400 + x) (fun k hk => by omega)]; exact r5 x hx
      · have s1 := bs_S_upd (f := len) (t := i) (x := len j) (6 + p) (by omega)
        have s2 := bs_S_upd (f := upd len i (len j)) (t := j) (x := len i) (6 + p) (by omega)
        have s3 : upd len i (len j) j = len j := by
          by_cases e : j = i
          · subst e; exact pk_us
          · exact pk_un e
        rw [s3] at s2
        omega
      · obtain ⟨li, mi, a1, a2, a3, a4, a5, a6, a7⟩ := r7 i (by omega)
        obtain ⟨lj, mj, c1, c2, c3, c4, c5, c6, c7⟩ := r7 j (by omega)
        by_cases e1 : d = i
        · subst e1
          refine ⟨lj, mj, (ex len).1.trans c1, (ex le).1.trans c2, (ex bd).1.trans c3, c4, c5, c6, fun x hx => ?_⟩
          rw [(hX.1 x (by omega)).1]; exact c7 x hx
        · by_cases e2 : d = j
          · subst e2
            refine ⟨li, mi, (ex len).2.1.trans a1, (ex le).2.1.trans a2, (ex bd).2.1.trans a3, a4, a5, a6, fun x hx => ?_⟩
            rw [(hX.1 x (by omega)).2]; exact a7 x hx
          · obtain ⟨l, m, D⟩ := r7 d hd
            have := D.2.2.2.1
            exact ⟨l, m, bs_D_keep D ((ex len).2.2 d e1 e2) ((ex le).2.2 d e1 e2) ((ex bd).2.2 d e1 e2) (Nat.le_refl _) (fun x hx => hX.2 _ (fun k hk => by omega)) (fun _ _ _ => rfl)⟩
end
