section
theorem pk_us {f : Nat → Int32} {k : Nat} {x : Int32} : upd f k x k = x := if_pos rfl
theorem pk_un {f : Nat → Int32} {k j : Nat} {x : Int32} (h : j ≠ k) : upd f k x j = f j := if_neg h
theorem pk_sub {a b : Nat} (h : b ≤ a) : nI a - nI b = nI (a - b) := by
  obtain ⟨c, rfl⟩ : ∃ c, a = c + b := ⟨a - b, by omega⟩
  rw [← nI_add, Int32.add_sub_cancel, Nat.add_sub_cancel]
theorem pk_m1 (n : Nat) : nI (n + 1) + (-1) = nI n := by
  rw [← nI_1, Int32.add_assoc, show (1 : Int32) + (-1) = 0 from rfl, Int32.add_zero]
theorem pk_mul (a b : Nat) : nI a * nI b = nI (a * b) := (Int32.ofNat_mul a b).symm
theorem pk_sub_toInt {a b : Nat} (ha : a < 2 ^ 30) (hb : b < 2 ^ 30) : (nI a - nI b).toInt = (a : Int) - b := by
  rw [Int32.toInt_sub, nI_toInt (by omega), nI_toInt (by omega)]
  exact Int.bmod_eq_of_le (by omega) (by omega)
theorem pk_sneg {a b : Nat} (hb : b < 2 ^ 30) (h : a < b) : nI a - nI b < 0 := by
  rw [Int32.lt_iff_toInt_lt, pk_sub_toInt (by omega) hb, show (0 : Int32).toInt = 0 from by decide]
  omega
theorem pk_ix (x : Int32) {n : Nat} (hn : n < 2 ^ 31) : x < 0 ∨ nI n ≤ x ∨ ∃ j : Nat, j < n ∧ x = nI j := by
  by_cases h : x < 0
  · exact Or.inl h
  · obtain ⟨j, hj, rfl⟩ := nI_of h
    by_cases h2 : j < n
    · exact Or.inr (Or.inr ⟨j, h2, rfl⟩)
    · exact Or.inr (Or.inl (nI_le (by omega) hj))
theorem pk_le {x y : Int32} {A B : Prop} (a b : Nat) (f : a ≤ b → A) (g : b < a → B) (hx : x = nI a := by rfl) (hy : y = nI b := by rfl) (ha : a < 2 ^ 31 := by omega) (hb : b < 2 ^ 31 := by omega) : (x ≤ y → A) ∧ (¬ x ≤ y → B) := by
  subst hx hy
  rw [nI_leI ha hb]
  exact ⟨f, fun z => g (by omega)⟩
theorem pk_lt {x y : Int32} {A B : Prop} (a b : Nat) (f : a < b → A) (g : b ≤ a → B) (hx : x = nI a := by rfl) (hy : y = nI b := by rfl) (ha : a < 2 ^ 31 := by omega) (hb : b < 2 ^ 31 := by omega) : (x < y → A) ∧ (¬ x < y → B) := by
  subst hx hy
  rw [nI_ltI ha hb]
  exact ⟨f, fun z => g (by omega)⟩
theorem pk_eq {x y : Int32} {A B : Prop} (a b : Nat) (f : a = b → A) (g : a ≠ b → B) (hx : x = nI a := by rfl) (hy : y = nI b := by rfl) (ha : a < 2 ^ 31 := by omega) (hb : b < 2 ^ 31 := by omega) : (x = y → A) ∧ (¬ x = y → B) := by
  subst hx hy
  rw [nI_eq ha hb]
  exact ⟨f, g⟩
theorem pk_in {x : Int32} (n N : Nat) (h : n < N) (hx : x = nI n := by rfl) (hN : N < 2 ^ 31 := by omega) : vp_in x N := by
  subst hx
  exact vp_in_nI h hN
theorem pk_cl {x : Int32} (n : Nat) (hx : x = nI n := by rfl) (h : n < 2 ^ 31 := by omega) : x.toNatClampNeg = n := by
  subst hx
  exact nI_clamp h
theorem pk_loop {σ : Type} (W : Nat → Nat → σ → Prop) (I : Nat → σ → Prop) (e i0 : Nat) (s : σ) (hi : i0 ≤ e) (h0 : I i0 s) (hx : ∀ n s, I e s → W (n + 1) e s)
    (hs : ∀ n i s, i < e → I i s → (∀ s', I (i + 1) s' → W n (i + 1) s') → W (n + 1) i s) : ∃ n, W n i0 s :=
  ⟨e + 1, loop_i W I e hx hs (e + 1) i0 s hi (by omega) h0⟩
theorem pk_loopD {σ : Type} (W : Nat → Nat → σ → Prop) (I : Nat → σ → Prop) (hx : ∀ n s, I 0 s → W (n + 1) 0 s)
    (hs : ∀ n i s, I (i + 1) s → (∀ s', I i s' → W n i s') → W (n + 1) (i + 1) s) : ∀ (e : Nat) (s : σ), I e s → W (e + 1) e s := by
  intro e
  induction e with
  | zero => exact fun s h => hx 0 s h
  | succ e ih => exact fun s h => hs (e + 1) e s h (fun s' h' => ih s' h')
theorem pk_least (P : Nat → Prop) (h : ∃ k, P k) : ∃ k, P k ∧ ∀ j, j < k → ¬ P j := by
  obtain ⟨k, hk⟩ := h
  induction k using Nat.strongRecOn with
  | ind k ih =>
    by_cases e : ∃ j, j < k ∧ P j
    · obtain ⟨j, hj, pj⟩ := e
      exact ih j hj pj
    · exact ⟨k, hk, fun j hj pj => e ⟨j, hj, pj⟩⟩
/-! own rows: numbers and stores -/
theorem tr_m1 {p : Nat} (h : 0 < p) : nI p + (-1) = nI (p - 1) := by
  obtain ⟨m, rfl⟩ : ∃ m, p = m + 1 := ⟨p - 1, by omega⟩
  exact pk_m1 m
theorem tr_s1 {p : Nat} (h : 0 < p) : nI p - 1 = nI (p - 1) := by
  obtain ⟨m, rfl⟩ : ∃ m, p = m + 1 := ⟨p - 1, by omega⟩
  exact nI_pred m
theorem tr_u0 (f : Nat → Int32) (k : Nat) {x : Int32} (h : f k = x) : upd f k x = f := by
  funext j
  unfold upd
  split
  · next e => rw [e, h]
  · rfl
theorem tr_uu (f : Nat → Int32) (k : Nat) (x y : Int32) : upd (upd f k x) k y = upd f k y := by
  funext j
  unfold upd
  split <;> rfl
theorem tr_neg1 : ((-1 : Int32) < 0) := by decide
theorem tr_neg1' : ¬ ((0 : Int32) ≤ -1) := by decide
theorem tr_nn1 {a : Nat} (h : a < 2 ^ 31) : ¬ nI a = -1 := by
  intro e
  have := nI_pos (n := a) h
  rw [e] at this
  exact this tr_neg1
theorem tr_inj {a b : Nat} (h : nI a = nI b) (ha : a < 2 ^ 31) (hb : b < 2 ^ 31) : a = b := (nI_eq ha hb).mp h
theorem tr_vb0 : vp_nar .boolean 0 = 0 := by decide
theorem tr_vb1 : vp_nar .boolean 1 = 1 := by decide
theorem tr_i4 (i d : Nat) : nI i * 4 + nI d = nI (i * 4 + d) := by
  show nI i * nI 4 + nI d = _
  rw [pk_mul, nI_add]
theorem tr_i16 (i d : Nat) : nI i * 16 + nI d = nI (i * 16 + d) := by
  show nI i * nI 16 + nI d = _
  rw [pk_mul, nI_add]
theorem tr_i64 (i d : Nat) : nI i * 64 + nI d = nI (i * 64 + d) := by
  show nI i * nI 64 + nI d = _
  rw [pk_mul, nI_add]
theorem tr_i128 (i d : Nat) : nI i * 128 + nI d = nI (i * 128 + d) := by
  show nI i * nI 128 + nI d = _
  rw [pk_mul, nI_add]
theorem tr_i512 (i d : Nat) : nI i * 512 + nI d = nI (i * 512 + d) := by
  show nI i * nI 512 + nI d = _
  rw [pk_mul, nI_add]
theorem tr_4i (i : Nat) : nI i * 4 = nI (i * 4) := by
  show nI i * nI 4 = _
  rw [pk_mul]
theorem tr_3i (i : Nat) : 3 * nI i = nI (3 * i) := by
  show nI 3 * nI i = _
  rw [pk_mul]
theorem tr_31 (i : Nat) : 3 * nI i + 1 = nI (3 * i + 1) := by
  rw [tr_3i, nI_1]
theorem tr_32 (i : Nat) : 3 * nI i + 2 = nI (3 * i + 2) := by
  rw [tr_3i]
  exact nI_add _ 2
theorem tr_i4d (i d : Nat) : nI i * 4 + nI (d + 1) - 1 = nI (i * 4 + d) := by
  rw [tr_i4, tr_s1 (by omega)]
  rfl
theorem tr_uc {n : Nat} (h : n < 2 ^ 31) (f : Nat → Int32) (v : Int32) : upd f (nI n).toNatClampNeg v = upd f n v := by
  rw [nI_clamp h]
theorem tr_fc {n : Nat} (h : n < 2 ^ 31) (f : Nat → Int32) : f (nI n).toNatClampNeg = f n := by
  rw [nI_clamp h]
end
section
/-! trees in postfix order: K the kinds, L the first leaf -/
def tr_ar (k : Nat) : Nat := if k ≤ 2 ∨ k = 12 then 0 else if k = 3 ∨ k = 4 ∨ k = 13 ∨ k = 15 ∨ k = 16 then 1 else if k = 10 then 3 else 2
theorem tr_ar0 {k : Nat} (h : k ≤ 2 ∨ k = 12) : tr_ar k = 0 := if_pos h
theorem tr_ar1 {k : Nat} (h : k = 3 ∨ k = 4 ∨ k = 13 ∨ k = 15 ∨ k = 16) : tr_ar k = 1 := by
  unfold tr_ar
  rw [if_neg (by omega), if_pos h]
theorem tr_ar3 {k : Nat} (h : k = 10) : tr_ar k = 3 := by
  subst h
  rfl
theorem tr_ar2 {k : Nat} (h : ¬ (k ≤ 2 ∨ k = 12)) (h1 : ¬ (k = 3 ∨ k = 4 ∨ k = 13 ∨ k = 15 ∨ k = 16)) (h3 : ¬ k = 10) : tr_ar k = 2 := by
  unfold tr_ar
  rw [if_neg h, if_neg h1, if_neg h3]
theorem tr_ar_c (k : Nat) : (tr_ar k = 0 ∧ (k ≤ 2 ∨ k = 12)) ∨ (tr_ar k = 1 ∧ (k = 3 ∨ k = 4 ∨ k = 13 ∨ k = 15 ∨ k = 16)) ∨ (tr_ar k = 3 ∧ k = 10) ∨ (tr_ar k = 2 ∧ 5 ≤ k ∧ k ≠ 10 ∧ k ≠ 12 ∧ k ≠ 13 ∧ k ≠ 15 ∧ k ≠ 16) := by
  by_cases h : k ≤ 2 ∨ k = 12
  · exact Or.inl ⟨tr_ar0 h, h⟩
  · by_cases h1 : k = 3 ∨ k = 4 ∨ k = 13 ∨ k = 15 ∨ k = 16
    · exact Or.inr (Or.inl ⟨tr_ar1 h1, h1⟩)
    · by_cases h3 : k = 10
      · exact Or.inr (Or.inr (Or.inl ⟨tr_ar3 h3, h3⟩))
      · exact Or.inr (Or.inr (Or.inr ⟨tr_ar2 h h1 h3, by omega⟩))
theorem tr_ar_le (k : Nat) : tr_ar k ≤ 3 := by
  rcases tr_ar_c k with h | h | h | h <;> omega
/-- node q and its operands' trees fit -/
def tr_W (K L : Nat → Nat) (q : Nat) : Prop :=
  (tr_ar (K q) = 0 ∧ L q = q) ∨
  (tr_ar (K q) = 1 ∧ 0 < q ∧ L q = L (q - 1)) ∨
  (tr_ar (K q) = 2 ∧ 0 < q ∧ 0 < L (q - 1) ∧ L q = L (L (q - 1) - 1)) ∨
  (tr_ar (K q) = 3 ∧ 0 < q ∧ 0 < L (q - 1) ∧ 0 < L (L (q - 1) - 1) ∧ L q = L (L (L (q - 1) - 1) - 1))
/-- p is operand k of q -/
def tr_ch (K L : Nat → Nat) (q k p : Nat) : Prop :=
  (tr_ar (K q) = 1 ∧ k = 1 ∧ p = q - 1) ∨
  (tr_ar (K q) = 2 ∧ ((k = 2 ∧ p = q - 1) ∨ (k = 1 ∧ p = L (q - 1) - 1))) ∨
  (tr_ar (K q) = 3 ∧ ((k = 3 ∧ p = q - 1) ∨ (k = 2 ∧ p = L (q - 1) - 1) ∨ (k = 1 ∧ p = L (L (q - 1) - 1) - 1)))
section
variable {K L : Nat → Nat} {n : Nat}
theorem tr_le (h : ∀ q, q < n → tr_W K L q) : ∀ q, q < n → L q ≤ q := by
  intro q
  induction q using Nat.strongRecOn with
  | _ q ih =>
    intro hq
    rcases h q hq with ⟨_, e⟩ | ⟨_, h0, e⟩ | ⟨_, h0, h1, e⟩ | ⟨_, h0, h1, h2, e⟩
    · omega
    · have := ih (q - 1) (by omega) (by omega)
      omega
    · have a := ih (q - 1) (by omega) (by omega)
      have b := ih (L (q - 1) - 1) (by omega) (by omega)
      omega
    · have a := ih (q - 1) (by omega) (by omega)
      have b := ih (L (q - 1) - 1) (by omega) (by omega)
      have c := ih (L (L (q - 1) - 1) - 1) (by omega) (by omega)
      omega
/-- the operands by arity, with all bounds -/
theorem tr_c1 (h : ∀ q, q < n → tr_W K L q) {q : Nat} (hq : q < n) (ha : tr_ar (K q) = 1) : tr_ch K L q 1 (q - 1) ∧ 0 < q ∧ L q = L (q - 1) ∧ L (q - 1) ≤ q - 1 := by
  have a := tr_le h
  rcases h q hq with ⟨e0, e⟩ | ⟨e0, h0, e⟩ | ⟨e0, h0, h1, e⟩ | ⟨e0, h0, h1, h2, e⟩
  · omega
  · exact ⟨Or.inl ⟨ha, rfl, rfl⟩, h0, e, a _ (by omega)⟩
  · omega
  · omega
theorem tr_c2 (h : ∀ q, q < n → tr_W K L q) {q : Nat} (hq : q < n) (ha : tr_ar (K q) = 2) : ∃ c, tr_ch K L q 1 c ∧ tr_ch K L q 2 (q - 1) ∧ L q = L c ∧ L c ≤ c ∧ L (q - 1) = c + 1 ∧ c + 1 ≤ q - 1 ∧ 0 < q := by
  have a := tr_le h
  rcases h q hq with ⟨e0, e⟩ | ⟨e0, h0, e⟩ | ⟨e0, h0, h1, e⟩ | ⟨e0, h0, h1, h2, e⟩
  · omega
  · omega
  · have b := a (q - 1) (by omega)
    have c := a (L (q - 1) - 1) (by omega)
    exact ⟨L (q - 1) - 1, Or.inr (Or.inl ⟨ha, Or.inr ⟨rfl, rfl⟩⟩), Or.inr (Or.inl ⟨ha, Or.inl ⟨rfl, rfl⟩⟩), e, c, by omega, by omega, h0⟩
  · omega
theorem tr_c3 (h : ∀ q, q < n → tr_W K L q) {q : Nat} (hq : q < n) (ha : tr_ar (K q) = 3) : ∃ c d, tr_ch K L q 1 c ∧ tr_ch K L q 2 d ∧ tr_ch K L q 3 (q - 1) ∧ L q = L c ∧ L c ≤ c ∧ L d = c + 1 ∧ c + 1 ≤ d ∧ L (q - 1) = d + 1 ∧ d + 1 ≤ q - 1 ∧ 0 < q := by
  have a := tr_le h
  rcases h q hq with ⟨e0, e⟩ | ⟨e0, h0, e⟩ | ⟨e0, h0, h1, e⟩ | ⟨e0, h0, h1, h2, e⟩
  · omega
  · omega
  · omega
  · have b := a (q - 1) (by omega)
    have c := a (L (q - 1) - 1) (by omega)
    have d := a (L (L (q - 1) - 1) - 1) (by omega)
    exact ⟨L (L (q - 1) - 1) - 1, L (q - 1) - 1, Or.inr (Or.inr ⟨ha, Or.inr (Or.inr ⟨rfl, rfl⟩)⟩), Or.inr (Or.inr ⟨ha, Or.inr (Or.inl ⟨rfl, rfl⟩)⟩), Or.inr (Or.inr ⟨ha, Or.inl ⟨rfl, rfl⟩⟩), e, d, by omega, by omega, by omega, by omega, h0⟩
theorem tr_fun {q k p p' : Nat} (c : tr_ch K L q k p) (c' : tr_ch K L q k p') : p = p' := by
  rcases c with ⟨e, f, g⟩ | ⟨e, (⟨f, g⟩ | ⟨f, g⟩)⟩ | ⟨e, (⟨f, g⟩ | ⟨f, g⟩ | ⟨f, g⟩)⟩ <;> rcases c' with ⟨e', f', g'⟩ | ⟨e', (⟨f', g'⟩ | ⟨f', g'⟩)⟩ | ⟨e', (⟨f', g'⟩ | ⟨f', g'⟩ | ⟨f', g'⟩)⟩ <;> first | exact g.trans g'.symm | omega
theorem tr_lt (h : ∀ q, q < n → tr_W K L q) {q k p : Nat} (hq : q < n) (c : tr_ch K L q k p) : p < q ∧ L q ≤ L p ∧ L p ≤ p ∧ 1 ≤ k ∧ k ≤ tr_ar (K q) := by
  rcases c with ⟨e, f, g⟩ | ⟨e, f⟩ | ⟨e, f⟩
  · obtain ⟨-, a, b, d⟩ := tr_c1 h hq e
    subst g
    omega
  · obtain ⟨c, c1, c2, a1, a2, a3, a4, a5⟩ := tr_c2 h hq e
    rcases f with ⟨f, g⟩ | ⟨f, g⟩
    · subst g
      omega
    · have : p = c := by omega
      subst this
      omega
  · obtain ⟨c, d, c1, c2, c3, a1, a2, a3, a4, a5, a6, a7⟩ := tr_c3 h hq e
    rcases f with ⟨f, g⟩ | ⟨f, g⟩ | ⟨f, g⟩
    · subst g
      omega
    · have : p = d := by omega
      subst this
      omega
    · have h1 : L (q - 1) - 1 = d := by omega
      rw [h1] at g
      have : p = c := by omega
      subst this
      omega
/-- operands of one node in their order -/
theorem tr_ord (h : ∀ q, q < n → tr_W K L q) {q k p k' p' : Nat} (hq : q < n) (c : tr_ch K L q k p) (c' : tr_ch K L q k' p') (hk : k < k') : p < L p' := by
  have hp := tr_lt h hq c
  have hp' := tr_lt h hq c'
  rcases tr_ar_c (K q) with ⟨e, -⟩ | ⟨e, -⟩ | ⟨e, -⟩ | ⟨e, -⟩
  · omega
  · omega
  · obtain ⟨x, y, c1, c2, c3, a1, a2, a3, a4, a5, a6, a7⟩ := tr_c3 h hq e
    have hk3 : (k = 1 ∧ k' = 2) ∨ (k = 1 ∧ k' = 3) ∨ (k = 2 ∧ k' = 3) := by omega
    rcases hk3 with ⟨rfl, rfl⟩ | ⟨rfl, rfl⟩ | ⟨rfl, rfl⟩
    · have e1 := tr_fun c c1
      have e2 := tr_fun c' c2
      subst e1 e2
      omega
    · have e1 := tr_fun c c1
      have e2 := tr_fun c' c3
      subst e1 e2
      omega
    · have e1 := tr_fun c c2
      have e2 := tr_fun c' c3
      subst e1 e2
      omega
  · obtain ⟨x, c1, c2, a1, a2, a3, a4, a5⟩ := tr_c2 h hq e
    have hk3 : k = 1 ∧ k' = 2 := by omega
    obtain ⟨rfl, rfl⟩ := hk3
    have e1 := tr_fun c c1
    have e2 := tr_fun c' c2
    subst e1 e2
    omega
theorem tr_kun (h : ∀ q, q < n → tr_W K L q) {q k p k' : Nat} (hq : q < n) (c : tr_ch K L q k p) (c' : tr_ch K L q k' p) : k = k' := by
  have a := tr_lt h hq c
  rcases Nat.lt_trichotomy k k' with x | x | x
  · have := tr_ord h hq c c' x
    omega
  · exact x
  · have := tr_ord h hq c' c x
    omega
theorem tr_cov (h : ∀ q, q < n → tr_W K L q) {q r : Nat} (hq : q < n) (h1 : L q ≤ r) (h2 : r < q) : ∃ k p, tr_ch K L q k p ∧ L p ≤ r ∧ r ≤ p := by
  rcases tr_ar_c (K q) with ⟨e, -⟩ | ⟨e, -⟩ | ⟨e, -⟩ | ⟨e, -⟩
  · rcases h q hq with ⟨_, e⟩ | ⟨_, h0, e⟩ | ⟨_, h0, h1, e⟩ | ⟨_, h0, h1, h2, e⟩ <;> omega
  · obtain ⟨c, a, b, d⟩ := tr_c1 h hq e
    exact ⟨1, q - 1, c, by omega, by omega⟩
  · obtain ⟨x, y, c1, c2, c3, a1, a2, a3, a4, a5, a6, a7⟩ := tr_c3 h hq e
    by_cases z : r ≤ x
    · exact ⟨1, x, c1, by omega, z⟩
    · by_cases z : r ≤ y
      · exact ⟨2, y, c2, by omega, z⟩
      · exact ⟨3, q - 1, c3, by omega, by omega⟩
  · obtain ⟨x, c1, c2, a1, a2, a3, a4, a5⟩ := tr_c2 h hq e
    by_cases z : r ≤ x
    · exact ⟨1, x, c1, by omega, z⟩
    · exact ⟨2, q - 1, c2, by omega, by omega⟩
/-- a tree that begins within a tree lies within it -/
theorem tr_nest (h : ∀ q, q < n → tr_W K L q) : ∀ t, t < n → ∀ r, L t ≤ r → r ≤ t → L t ≤ L r := by
  intro t
  induction t using Nat.strongRecOn with
  | _ t ih =>
    intro ht r h1 h2
    by_cases e : r = t
    · subst e
      omega
    · obtain ⟨k, p, c, a, b⟩ := tr_cov h ht h1 (by omega)
      have d := tr_lt h ht c
      have := ih p (by omega) (by omega) r a b
      omega
/-- what stands between an operand and its node begins behind the operand -/
theorem tr_aft (h : ∀ q, q < n → tr_W K L q) {q k p r : Nat} (hq : q < n) (c : tr_ch K L q k p) (h1 : p < r) (h2 : r < q) : p < L r := by
  have a := tr_lt h hq c
  obtain ⟨k', p', c', b1, b2⟩ := tr_cov h hq (r := r) (by omega) h2
  have d := tr_lt h hq c'
  have e := tr_nest h p' (by omega) r b1 b2
  rcases Nat.lt_trichotomy k k' with x | x | x
  · have := tr_ord h hq c c' x
    omega
  · subst x
    have := tr_fun c c'
    omega
  · have := tr_ord h hq c' c x
    omega
/-- p within t and not t itself: its node's tree is within t too -/
theorem tr_up (h : ∀ q, q < n → tr_W K L q) {q k p : Nat} (hq : q < n) (c : tr_ch K L q k p) : ∀ t, t < n → L t ≤ p → p < t → L t ≤ q ∧ q ≤ t ∧ L t ≤ L q := by
  intro t ht h1 h2
  have a := tr_lt h hq c
  have hqt : q ≤ t := by
    apply Decidable.byContradiction
    intro hc
    have := tr_aft h hq c h2 (by omega)
    omega
  have := tr_nest h t ht q (by omega) hqt
  omega
end
end
section
/-! the reference's own walks over the program: arity, start, operand, parent, operandNumber, row, height, looseBreak -/
def tr_F (K L : Nat → Nat) (ak : Nat → Int32) (N : Nat) : Prop := N ≤ 128 ∧ ∀ q, q < N → tr_W K L q ∧ ak q = nI (K q) ∧ K q ≤ 16
theorem tr_FW {K L : Nat → Nat} {ak : Nat → Int32} {N : Nat} (h : tr_F K L ak N) : ∀ q, q < N → tr_W K L q := fun q hq => (h.2 q hq).1
theorem yt_need (m a : Nat) : nI (m + 1) + (nI a - 1) = nI (m + a) := by
  rw [nI_succ, ← nI_add]
  grind
theorem yt_c (post : Int32 → Prop) {k : Nat} (j : Nat) (h : post (nI (tr_ar k))) (e : tr_ar k = j) : post (nI j) := by
  rw [← e]
  exact h
theorem yt_ar {post : Int32 → Prop} {k : Nat} (hk : k ≤ 16) (h : post (nI (tr_ar k))) : ∀ u : SY, wpY_arity post u (nI k)
  | ⟨_, _, _, _, _, _, _, _, _, _, _, _, _, _, _, _, _, _⟩ =>
    pk_le k 2 (fun a => yt_c post 0 h (tr_ar0 (Or.inl a))) (fun a => pk_eq k 12 (fun b => yt_c post 0 h (tr_ar0 (Or.inr b))) (fun b =>
    pk_eq k 3 (fun c => yt_c post 1 h (tr_ar1 (by omega))) (fun c => pk_eq k 4 (fun d => yt_c post 1 h (tr_ar1 (by omega))) (fun d =>
    pk_eq k 13 (fun e => yt_c post 1 h (tr_ar1 (by omega))) (fun e => pk_eq k 15 (fun f => yt_c post 1 h (tr_ar1 (by omega))) (fun f =>
    pk_eq k 16 (fun g => yt_c post 1 h (tr_ar1 (by omega))) (fun g => pk_eq k 10 (fun i => yt_c post 3 h (tr_ar3 i)) (fun i =>
    yt_c post 2 h (tr_ar2 (by omega) (by omega) i)))))))))
theorem xt_ar {post : Int32 → Prop} {k : Nat} (hk : k ≤ 16) (h : post (nI (tr_ar k))) : ∀ u : SX, wpX_arity post u (nI k)
  | ⟨_, _, _, _, _, _, _, _, _, _, _, _, _, _, _, _, _, _, _, _, _, _, _, _, _, _, _, _, _, _, _, _, _, _, _, _, _, _, _, _, _, _, _, _⟩ =>
    br_f (nI_pos (by omega)) (pk_lt 16 k (fun a => absurd a (by omega)) (fun _ =>
    pk_eq k 0 (fun a => yt_c post 0 h (tr_ar0 (by omega))) (fun a0 => pk_eq k 1 (fun a => yt_c post 0 h (tr_ar0 (by omega))) (fun a1 =>
    pk_eq k 2 (fun a => yt_c post 0 h (tr_ar0 (by omega))) (fun a2 => pk_eq k 3 (fun a => yt_c post 1 h (tr_ar1 (by omega))) (fun a3 =>
    pk_eq k 4 (fun a => yt_c post 1 h (tr_ar1 (by omega))) (fun a4 => pk_eq k 5 (fun a => yt_c post 2 h (tr_ar2 (by omega) (by omega) (by omega))) (fun a5 =>
    pk_eq k 6 (fun a => yt_c post 2 h (tr_ar2 (by omega) (by omega) (by omega))) (fun a6 => pk_eq k 7 (fun a => yt_c post 2 h (tr_ar2 (by omega) (by omega) (by omega))) (fun a7 =>
    pk_eq k 8 (fun a => yt_c post 2 h (tr_ar2 (by omega) (by omega) (by omega))) (fun a8 => pk_eq k 9 (fun a => yt_c post 2 h (tr_ar2 (by omega) (by omega) (by omega))) (fun a9 =>
    pk_eq k 10 (fun a => yt_c post 3 h (tr_ar3 a)) (fun a10 => pk_eq k 11 (fun a => yt_c post 2 h (tr_ar2 (by omega) (by omega) (by omega))) (fun a11 =>
    pk_eq k 12 (fun a => yt_c post 0 h (tr_ar0 (by omega))) (fun a12 => pk_eq k 13 (fun a => yt_c post 1 h (tr_ar1 (by omega))) (fun a13 =>
    pk_eq k 14 (fun a => yt_c post 2 h (tr_ar2 (by omega) (by omega) (by omega))) (fun a14 => pk_eq k 15 (fun a => yt_c post 1 h (tr_ar1 (by omega))) (fun a15 =>
    pk_eq k 16 (fun a => yt_c post 1 h (tr_ar1 (by omega))) (fun a16 => True.intro)))))))))))))))))))
theorem tr_ex {K L : Nat → Nat} {n : Nat} (h : ∀ q, q < n → tr_W K L q) {q j : Nat} (hq : q < n) (h1 : 1 ≤ j) (h2 : j ≤ tr_ar (K q)) : ∃ p, tr_ch K L q j p := by
  rcases tr_ar_c (K q) with ⟨e, -⟩ | ⟨e, -⟩ | ⟨e, -⟩ | ⟨e, -⟩
  · omega
  · have : j = 1 := by omega
    subst this
    exact ⟨_, (tr_c1 h hq e).1⟩
  · obtain ⟨x, y, c1, c2, c3, -⟩ := tr_c3 h hq e
    have : j = 1 ∨ j = 2 ∨ j = 3 := by omega
    rcases this with rfl | rfl | rfl
    · exact ⟨_, c1⟩
    · exact ⟨_, c2⟩
    · exact ⟨_, c3⟩
  · obtain ⟨x, c1, c2, -⟩ := tr_c2 h hq e
    have : j = 1 ∨ j = 2 := by omega
    rcases this with rfl | rfl
    · exact ⟨_, c1⟩
    · exact ⟨_, c2⟩
section
variable {f_nodeLimit f_slotLimit f_depthLimit f_turnLimit f_programSize f_defined : Int32} {b_kinds a_values a_roots a_cells a_states a_results a_chain a_actFunction b_place a_locals b_savedSort b_savedValue : Nat → Int32}
variable {K L : Nat → Nat} {N : Nat} {post : Int32 → Prop}
theorem yt_start_l (hF : tr_F K L b_kinds N) : ∀ p, p < N → ∀ m, m + 2 * p < 1048576 → (m = 0 → post (nI (L p))) → (0 < m → 0 < L p ∧ ∀ n, L p ≤ n → wY_start_4 post f_nodeLimit f_slotLimit f_depthLimit f_turnLimit f_programSize f_defined b_kinds a_values a_roots a_cells a_states a_results a_chain a_actFunction b_place a_locals b_savedSort b_savedValue n (nI m) (nI (L p - 1))) → ∀ n, p < n → wY_start_4 post f_nodeLimit f_slotLimit f_depthLimit f_turnLimit f_programSize f_defined b_kinds a_values a_roots a_cells a_states a_results a_chain a_actFunction b_place a_locals b_savedSort b_savedValue n (nI (m + 1)) (nI p) := by
  intro p
  induction p using Nat.strongRecOn with
  | _ p ih =>
    intro hp m hm h0 h1 n hn
    obtain ⟨n, rfl⟩ : ∃ n', n = n' + 1 := ⟨n - 1, by omega⟩
    obtain ⟨hW, hk, hk16⟩ := hF.2 p hp
    have hN := hF.1
    have hle := tr_le (tr_FW hF)
    refine br_f (nI_pos (by omega)) ⟨vp_in_nI (by omega) (by decide), ?_⟩
    rw [nI_clamp (by omega), hk]
    refine yt_ar hk16 (nm_r (yt_need m _) ?_) _
    rcases hW with ⟨e0, e⟩ | ⟨e0, g0, e⟩ | ⟨e0, g0, g1, e⟩ | ⟨e0, g0, g1, g2, e⟩
    · rw [e0]
      refine pk_eq m 0 (fun z => ?_) (fun z => nm_r (tr_m1 ?_) ?_)
      · have := h0 z
        rw [e] at this
        exact this
      · have := (h1 (by omega)).1
        omega
      · have := (h1 (by omega)).2 n (by omega)
        rw [e] at this
        exact this
    · rw [e0]
      exact pk_eq (m + 1) 0 (fun z => absurd z (by omega)) (fun _ => nm_r (tr_m1 g0) (ih (p - 1) (by omega) (by omega) m (by omega) (by rw [← e]; exact h0) (by rw [← e]; exact h1) n (by omega)))
    · rw [e0]
      have l1 := hle (p - 1) (by omega)
      refine pk_eq (m + 2) 0 (fun z => absurd z (by omega)) (fun _ => nm_r (tr_m1 g0) (ih (p - 1) (by omega) (by omega) (m + 1) (by omega) (fun z => absurd z (by omega)) (fun _ => ⟨g1, fun n' hn' => ?_⟩) n (by omega)))
      exact ih (L (p - 1) - 1) (by omega) (by omega) m (by omega) (by rw [← e]; exact h0) (by rw [← e]; exact h1) n' (by omega)
    · rw [e0]
      have l1 := hle (p - 1) (by omega)
      have l2 := hle (L (p - 1) - 1) (by omega)
      refine pk_eq (m + 3) 0 (fun z => absurd z (by omega)) (fun _ => nm_r (tr_m1 g0) (ih (p - 1) (by omega) (by omega) (m + 2) (by omega) (fun z => absurd z (by omega)) (fun _ => ⟨g1, fun n' hn' => ?_⟩) n (by omega)))
      refine ih (L (p - 1) - 1) (by omega) (by omega) (m + 1) (by omega) (fun z => absurd z (by omega)) (fun _ => ⟨g2, fun n'' hn'' => ?_⟩) n' (by omega)
      exact ih (L (L (p - 1) - 1) - 1) (by omega) (by omega) m (by omega) (by rw [← e]; exact h0) (by rw [← e]; exact h1) n'' (by omega)
theorem yt_start (hF : tr_F K L b_kinds N) {p : Nat} (hp : p < N) (h : post (nI (L p))) : wpY_start post (f_nodeLimit, f_slotLimit, f_depthLimit, f_turnLimit, f_programSize, f_defined, b_kinds, a_values, a_roots, a_cells, a_states, a_results, a_chain, a_actFunction, b_place, a_locals, b_savedSort, b_savedValue) (nI p) :=
  Exists.intro (p + 1) (yt_start_l hF p hp 0 (by have := hF.1; omega) (fun _ => h) (fun z => absurd z (by omega)) (p + 1) (by omega))
theorem yt_op_0 {j k n : Nat} {r : Int32} (h : j ≤ k) (hk : k < 100) (hp : post r) : wY_operand_16 post (nI k) f_nodeLimit f_slotLimit f_depthLimit f_turnLimit f_programSize f_defined b_kinds a_values a_roots a_cells a_states a_results a_chain a_actFunction b_place a_locals b_savedSort b_savedValue (n + 1) r (nI j) := br_t (nI_le h (by omega)) hp
theorem yt_op_s (hF : tr_F K L b_kinds N) {p j k n : Nat} (h : k < j) (hj : j < 100) (hp : p < N) (hL : 0 < L p) (W : wY_operand_16 post (nI k) f_nodeLimit f_slotLimit f_depthLimit f_turnLimit f_programSize f_defined b_kinds a_values a_roots a_cells a_states a_results a_chain a_actFunction b_place a_locals b_savedSort b_savedValue n (nI (L p - 1)) (nI (j - 1))) : wY_operand_16 post (nI k) f_nodeLimit f_slotLimit f_depthLimit f_turnLimit f_programSize f_defined b_kinds a_values a_roots a_cells a_states a_results a_chain a_actFunction b_place a_locals b_savedSort b_savedValue (n + 1) (nI p) (nI j) :=
  br_f (nI_ge h (by omega)) (yt_start hF hp (nm_r (tr_s1 hL) (nm_r (tr_m1 (by omega)) W)))
theorem yt_op (hF : tr_F K L b_kinds N) {q k p : Nat} (hq : q < N) (c : tr_ch K L q k p) (h : post (nI p)) : wpY_operand post (f_nodeLimit, f_slotLimit, f_depthLimit, f_turnLimit, f_programSize, f_defined, b_kinds, a_values, a_roots, a_cells, a_states, a_results, a_chain, a_actFunction, b_place, a_locals, b_savedSort, b_savedValue) (nI q) (nI k) := by
  have hN := hF.1
  obtain ⟨-, hk, hk16⟩ := hF.2 q hq
  have hW := tr_FW hF
  have hlt := tr_lt hW hq c
  have hle := tr_le hW
  refine nm_r (tr_s1 (by omega)) ⟨vp_in_nI (by omega) (by decide), ?_⟩
  rw [nI_clamp (by omega), hk]
  refine yt_ar hk16 ?_ _
  rcases c with ⟨e, f, g⟩ | ⟨e, (⟨f, g⟩ | ⟨f, g⟩)⟩ | ⟨e, (⟨f, g⟩ | ⟨f, g⟩ | ⟨f, g⟩)⟩
  · rw [e, f, ← g]
    exact ⟨1, yt_op_0 (j := 1) (by omega) (by omega) h⟩
  · rw [e, f, ← g]
    exact ⟨1, yt_op_0 (j := 2) (by omega) (by omega) h⟩
  · obtain ⟨c, c1, c2, a1, a2, a3, a4, a5⟩ := tr_c2 hW hq e
    rw [e, f]
    refine ⟨2, yt_op_s hF (j := 2) (by omega) (by omega) (by omega) (by omega) (yt_op_0 (j := 1) (by omega) (by omega) ?_)⟩
    rw [← g]
    exact h
  · rw [e, f, ← g]
    exact ⟨1, yt_op_0 (j := 3) (by omega) (by omega) h⟩
  · obtain ⟨c, d, c1, c2, c3, a1, a2, a3, a4, a5, a6, a7⟩ := tr_c3 hW hq e
    rw [e, f]
    refine ⟨2, yt_op_s hF (j := 3) (by omega) (by omega) (by omega) (by omega) (yt_op_0 (j := 2) (by omega) (by omega) ?_)⟩
    rw [← g]
    exact h
  · obtain ⟨c, d, c1, c2, c3, a1, a2, a3, a4, a5, a6, a7⟩ := tr_c3 hW hq e
    have h1 : L (q - 1) - 1 = d := by omega
    rw [e, f]
    refine ⟨3, yt_op_s hF (j := 3) (by omega) (by omega) (by omega) (by omega) (yt_op_s hF (j := 2) (by omega) (by omega) (by omega) (by rw [h1]; omega) (yt_op_0 (j := 1) (by omega) (by omega) ?_))⟩
    rw [← g]
    exact h
theorem yt_par_l (hF : tr_F K L b_kinds N) {q k p : Nat} (hq : q < N) (c : tr_ch K L q k p) (h : post (nI q)) : ∀ d r, r + d = q → p < r → wY_parent_4 post (nI p) f_nodeLimit f_slotLimit f_depthLimit f_turnLimit (nI N) f_defined b_kinds a_values a_roots a_cells a_states a_results a_chain a_actFunction b_place a_locals b_savedSort b_savedValue (d + 1) (nI r) := by
  have hN := hF.1
  have hW := tr_FW hF
  have hlt := tr_lt hW hq c
  intro d
  induction d with
  | zero =>
    intro r hr hp
    have : r = q := by omega
    subst this
    exact br_f (nI_ge hq (by omega)) (yt_start hF hq (br_f (nI_nlt (by omega) (by omega)) h))
  | succ d ih =>
    intro r hr hp
    have hL := tr_le hW r (by omega)
    exact br_f (nI_ge (by omega) (by omega)) (yt_start hF (by omega) (br_t (nI_lt (tr_aft hW hq c hp (by omega)) (by omega)) (nm_r (nI_1 r) (ih (r + 1) (by omega) (by omega)))))
theorem yt_par (hF : tr_F K L b_kinds N) {q k p : Nat} (hq : q < N) (c : tr_ch K L q k p) (h : post (nI q)) : wpY_parent post (f_nodeLimit, f_slotLimit, f_depthLimit, f_turnLimit, nI N, f_defined, b_kinds, a_values, a_roots, a_cells, a_states, a_results, a_chain, a_actFunction, b_place, a_locals, b_savedSort, b_savedValue) (nI p) := by
  have hlt := tr_lt (tr_FW hF) hq c
  exact nm_r (nI_1 p) ⟨q - (p + 1) + 1, yt_par_l hF hq c h (q - (p + 1)) (p + 1) (by omega) (by omega)⟩
theorem yt_num_l (hF : tr_F K L b_kinds N) {q k p : Nat} (hq : q < N) (c : tr_ch K L q k p) (h : post (nI k)) : ∀ d j, j + d = k → 1 ≤ j → wY_operandNumber_2 post (nI q) (nI p) f_nodeLimit f_slotLimit f_depthLimit f_turnLimit f_programSize f_defined b_kinds a_values a_roots a_cells a_states a_results a_chain a_actFunction b_place a_locals b_savedSort b_savedValue (d + 1) (nI j) := by
  have hN := hF.1
  obtain ⟨-, hk, hk16⟩ := hF.2 q hq
  have hW := tr_FW hF
  have hlt := tr_lt hW hq c
  have h3 := tr_ar_le (K q)
  intro d
  induction d with
  | zero =>
    intro j hj hp
    have : j = k := by omega
    subst this
    refine br_f (nI_nlt (b := j) (a := 3) (by omega) (by omega)) (yt_op hF hq c (br_t rfl ⟨vp_in_nI (by omega) (by decide), ?_⟩))
    rw [nI_clamp (by omega), hk]
    exact yt_ar hk16 (br_f (nI_nlt (by omega) (by omega)) h) _
  | succ d ih =>
    intro j hj hp
    obtain ⟨p', c'⟩ := tr_ex hW hq (j := j) hp (by omega)
    have hl' := tr_lt hW hq c'
    have ho := tr_ord hW hq c' c (by omega)
    exact br_f (nI_nlt (b := j) (a := 3) (by omega) (by omega)) (yt_op hF hq c' (br_f (fun z => absurd (tr_inj z (by omega) (by omega)) (by omega)) (nm_r (nI_1 j) (ih (j + 1) (by omega) (by omega)))))
theorem yt_num (hF : tr_F K L b_kinds N) {q k p : Nat} (hq : q < N) (c : tr_ch K L q k p) (h : post (nI k)) : wpY_operandNumber post (f_nodeLimit, f_slotLimit, f_depthLimit, f_turnLimit, f_programSize, f_defined, b_kinds, a_values, a_roots, a_cells, a_states, a_results, a_chain, a_actFunction, b_place, a_locals, b_savedSort, b_savedValue) (nI q) (nI p) := by
  have hlt := tr_lt (tr_FW hF) hq c
  exact Exists.intro (k - 1 + 1) (yt_num_l hF hq c h (k - 1) 1 (by omega) (by omega))
end
end
section
/-! row, height, looseBreak of the reference -/
def tr_sum (K : Nat → Nat) (lo : Nat) : Nat → Int32
  | 0 => 0
  | n + 1 => tr_sum K lo n + (1 - nI (tr_ar (K (lo + n))))
theorem tr_sum_c {K K' : Nat → Nat} {lo : Nat} : ∀ n, (∀ p, p < lo + n → K' p = K p) → tr_sum K' lo n = tr_sum K lo n := by
  intro n
  induction n with
  | zero => exact fun _ => rfl
  | succ n ih =>
    intro h
    show tr_sum K' lo n + _ = tr_sum K lo n + _
    rw [ih (fun p hp => h p (by omega)), h (lo + n) (by omega)]
def tr_cn (L : Nat → Nat) (q : Nat) : Nat → Nat
  | 0 => 0
  | m + 1 => tr_cn L q m + (if L (q + m + 1) ≤ q then 1 else 0)
theorem tr_cn_le (L : Nat → Nat) (q : Nat) : ∀ m, tr_cn L q m ≤ m := by
  intro m
  induction m with
  | zero => exact Nat.le_refl _
  | succ m ih =>
    show tr_cn L q m + _ ≤ _
    split <;> omega
theorem tr_cn_c {L L' : Nat → Nat} {q : Nat} : ∀ m, (∀ r, q < r → r ≤ q + m → L' r = L r) → tr_cn L' q m = tr_cn L q m := by
  intro m
  induction m with
  | zero => exact fun _ => rfl
  | succ m ih =>
    intro h
    show tr_cn L' q m + _ = tr_cn L q m + _
    rw [ih (fun p h1 h2 => h p h1 (by omega)), h (q + m + 1) (by omega) (by omega)]
theorem tr_cn_0 {L : Nat → Nat} {q a : Nat} : ∀ d, (∀ r, q + a < r → r ≤ q + a + d → ¬ L r ≤ q) → tr_cn L q (a + d) = tr_cn L q a := by
  intro d
  induction d with
  | zero => exact fun _ => rfl
  | succ d ih =>
    intro h
    show tr_cn L q (a + d) + (if L (q + (a + d) + 1) ≤ q then 1 else 0) = _
    rw [ih (fun r h1 h2 => h r h1 (by omega)), if_neg (h _ (by omega) (by omega))]
    rfl
/-- h is the height of tree p -/
def tr_H (L : Nat → Nat) (p h : Nat) : Prop := (∀ q, L p ≤ q → q ≤ p → 1 + tr_cn L q (p - q) ≤ h) ∧ ∃ q, L p ≤ q ∧ q ≤ p ∧ 1 + tr_cn L q (p - q) = h
/-- depth of q under the node t, through its operand p -/
theorem tr_cn_up {K L : Nat → Nat} {n : Nat} (h : ∀ q, q < n → tr_W K L q) {t k p q : Nat} (ht : t < n) (c : tr_ch K L t k p) (h1 : L p ≤ q) (h2 : q ≤ p) : tr_cn L q (t - q) = tr_cn L q (p - q) + 1 := by
  have a := tr_lt h ht c
  have e : t - q = (p - q) + (t - 1 - p) + 1 := by omega
  rw [e]
  show tr_cn L q ((p - q) + (t - 1 - p)) + _ = _
  rw [tr_cn_0 (t - 1 - p) (fun r r1 r2 => by
    have := tr_aft h ht c (r := r) (by omega) (by omega)
    omega)]
  rw [if_pos]
  have : q + ((p - q) + (t - 1 - p)) + 1 = t := by omega
  rw [this]
  omega
/-- tree p holds a loose break -/
def tr_lb (K L : Nat → Nat) (p : Nat) : Prop := ∃ q, L p ≤ q ∧ q ≤ p ∧ K q = 12 ∧ ∀ r, q < r → r ≤ p → ¬ (K r = 11 ∧ L r ≤ q)
section
variable {f_nodeLimit f_slotLimit f_depthLimit f_turnLimit f_programSize f_defined : Int32} {b_kinds a_values a_roots a_cells a_states a_results a_chain a_actFunction b_place a_locals b_savedSort b_savedValue : Nat → Int32}
variable {K L : Nat → Nat} {N : Nat} {post : Int32 → Prop}
theorem yt_row_l (hF : tr_F K L b_kinds N) {lo : Nat} (h : post (tr_sum K lo (N - lo))) : ∀ d j, lo + j + d = N → wY_row_7 post f_nodeLimit f_slotLimit f_depthLimit f_turnLimit (nI N) f_defined b_kinds a_values a_roots a_cells a_states a_results a_chain a_actFunction b_place a_locals b_savedSort b_savedValue (d + 1) (tr_sum K lo j) (nI (lo + j)) := by
  have hN := hF.1
  intro d
  induction d with
  | zero =>
    intro j hj
    have : j = N - lo := by omega
    rw [this]
    exact br_t (nI_le (by omega) (by omega)) h
  | succ d ih =>
    intro j hj
    obtain ⟨-, hk, hk16⟩ := hF.2 (lo + j) (by omega)
    refine br_f (nI_ge (by omega) (by omega)) ⟨vp_in_nI (by omega) (by decide), ?_⟩
    rw [nI_clamp (by omega), hk]
    exact yt_ar hk16 (nm_e (nm_r (nI_1 (lo + j)) (ih (j + 1) (by omega)))) _
/-- the draft's start, as the reference finds it -/
def tr_ds (a_roots : Nat → Int32) (nf ds : Nat) : Prop := nf ≤ 6 ∧ (nf = 0 → ds = 0) ∧ (0 < nf → a_roots (nf - 1) + 1 = nI ds)
theorem yt_ds {nf ds : Nat} (hd : tr_ds a_roots nf ds) (h : post (nI ds)) : wpY_draftStart post (f_nodeLimit, f_slotLimit, f_depthLimit, f_turnLimit, f_programSize, nI nf, b_kinds, a_values, a_roots, a_cells, a_states, a_results, a_chain, a_actFunction, b_place, a_locals, b_savedSort, b_savedValue) := by
  obtain ⟨h6, h0, h1⟩ := hd
  refine pk_eq nf 0 (fun z => ?_) (fun z => ?_)
  · rw [h0 z] at h
    exact h
  · refine And.intro (pk_in (nf - 1) 6 (by omega) (tr_s1 (by omega))) ?_
    rw [tr_s1 (by omega), nI_clamp (by omega), h1 (by omega)]
    exact h
theorem yt_row (hF : tr_F K L b_kinds N) {nf ds : Nat} (hd : tr_ds a_roots nf ds) (hl : ds ≤ N) (h : post (tr_sum K ds (N - ds))) : wpY_row post (f_nodeLimit, f_slotLimit, f_depthLimit, f_turnLimit, nI N, nI nf, b_kinds, a_values, a_roots, a_cells, a_states, a_results, a_chain, a_actFunction, b_place, a_locals, b_savedSort, b_savedValue) := by
  unfold wpY_row
  exact yt_ds hd ⟨N - ds + 1, yt_row_l hF h (N - ds) 0 (by omega)⟩
theorem yt_hgt_i (hF : tr_F K L b_kinds N) {J : Int32 → Int32 → Prop} {p q best : Nat} (hp : p < N) (hb : best < 1000) (hJ : ∀ b, (b = best ∨ b = 1 + tr_cn L q (p - q)) → best ≤ b → 1 + tr_cn L q (p - q) ≤ b → J (nI b) (nI (q + 1))) : ∀ d m, q + m + d = p → wY_height_21 post J (nI p) (nI best) (nI q) f_nodeLimit f_slotLimit f_depthLimit f_turnLimit f_programSize f_defined b_kinds a_values a_roots a_cells a_states a_results a_chain a_actFunction b_place a_locals b_savedSort b_savedValue (d + 1) (nI (1 + tr_cn L q m)) (nI (q + m + 1)) := by
  have hN := hF.1
  intro d
  induction d with
  | zero =>
    intro m hm
    have e : p - q = m := by omega
    rw [e] at hJ
    have := tr_cn_le L q m
    exact br_t (nI_lt (by omega) (by omega)) (pk_le (1 + tr_cn L q m) best (fun z => nm_r (nI_1 q) (hJ best (Or.inl rfl) (Nat.le_refl _) z)) (fun z => nm_r (nI_1 q) (hJ _ (Or.inr rfl) (by omega) (Nat.le_refl _))))
  | succ d ih =>
    intro m hm
    have ih1 := ih (m + 1) (by omega)
    have hL := tr_le (tr_FW hF) (q + m + 1) (by omega)
    refine br_f (nI_nlt (by omega) (by omega)) (yt_start hF (by omega) (pk_lt q (L (q + m + 1)) (fun z => nm_r (nI_1 _) ?_) (fun z => nm_r (nI_1 _) (nm_r (nI_1 _) ?_))))
    · have e : tr_cn L q (m + 1) = tr_cn L q m := by
        show tr_cn L q m + _ = _
        rw [if_neg (by omega)]
        rfl
      rw [e] at ih1
      exact ih1
    · have e : tr_cn L q (m + 1) = tr_cn L q m + 1 := by
        show tr_cn L q m + _ = _
        rw [if_pos z]
      rw [e] at ih1
      exact ih1
theorem yt_hgt_o (hF : tr_F K L b_kinds N) {p hp0 q0 : Nat} (hp : p < N) (hh : hp0 < 1000) (hm : ∀ q, L p ≤ q → q ≤ p → 1 + tr_cn L q (p - q) ≤ hp0) (hq0 : q0 ≤ p) (he : 1 + tr_cn L q0 (p - q0) = hp0) (h : post (nI hp0)) : ∀ d q best, q + d = p + 1 → L p ≤ q → best ≤ hp0 → (q0 < q → best = hp0) → wY_height_8 post (nI p) f_nodeLimit f_slotLimit f_depthLimit f_turnLimit f_programSize f_defined b_kinds a_values a_roots a_cells a_states a_results a_chain a_actFunction b_place a_locals b_savedSort b_savedValue (d + 1) (nI best) (nI q) := by
  have hN := hF.1
  intro d
  induction d with
  | zero =>
    intro q best h1 h2 h3 h4
    rw [h4 (by omega)]
    exact br_t (nI_lt (by omega) (by omega)) h
  | succ d ih =>
    intro q best h1 h2 h3 h4
    refine br_f (nI_nlt (by omega) (by omega)) (nm_r (nI_1 q) ⟨p - q + 1, ?_⟩)
    refine yt_hgt_i hF (p := p) (q := q) (best := best) hp (by omega) (fun b hb1 hb2 hb3 => ?_) (p - q) 0 (by omega)
    have hq := hm q h2 (by omega)
    refine ih (q + 1) b (by omega) (by omega) (by omega) (fun z => ?_)
    by_cases z2 : q0 < q
    · have := h4 z2
      omega
    · have : q0 = q := by omega
      subst this
      omega
theorem yt_hgt (hF : tr_F K L b_kinds N) {p hp0 : Nat} (hp : p < N) (hH : tr_H L p hp0) (h : post (nI hp0)) : wpY_height post (f_nodeLimit, f_slotLimit, f_depthLimit, f_turnLimit, f_programSize, f_defined, b_kinds, a_values, a_roots, a_cells, a_states, a_results, a_chain, a_actFunction, b_place, a_locals, b_savedSort, b_savedValue) (nI p) := by
  obtain ⟨hm, q0, h1, h2, he⟩ := hH
  have hN := hF.1
  have := tr_cn_le L q0 (p - q0)
  have hL := tr_le (tr_FW hF) p hp
  exact yt_start hF hp ⟨p + 1 - L p + 1, yt_hgt_o hF hp (by omega) hm h2 he h (p + 1 - L p) (L p) 0 (by omega) (by omega) (by omega) (fun z => absurd z (by omega))⟩
theorem yt_lb_i (hF : tr_F K L b_kinds N) {J : Int32 → Prop} {p q : Nat} (hp : p < N) (h1 : (K q = 12 ∧ ∀ r, q < r → r ≤ p → ¬ (K r = 11 ∧ L r ≤ q)) → post 1) (h0 : ¬ (K q = 12 ∧ ∀ r, q < r → r ≤ p → ¬ (K r = 11 ∧ L r ≤ q)) → J (nI (q + 1))) : ∀ d r (x : Int32), r + d = p + 1 → q < r → ((x = 1 ∧ K q = 12 ∧ ∀ s, q < s → s < r → ¬ (K s = 11 ∧ L s ≤ q)) ∨ (x = 0 ∧ ¬ (K q = 12 ∧ ∀ s, q < s → s < r → ¬ (K s = 11 ∧ L s ≤ q)))) → wY_looseBreak_33 post J (nI p) (nI q) f_nodeLimit f_slotLimit f_depthLimit f_turnLimit f_programSize f_defined b_kinds a_values a_roots a_cells a_states a_results a_chain a_actFunction b_place a_locals b_savedSort b_savedValue (d + 1) x (nI r) := by
  have hN := hF.1
  intro d
  induction d with
  | zero =>
    intro r x hr hq hx
    refine br_t (nI_lt (by omega) (by omega)) ?_
    rcases hx with ⟨e, hx⟩ | ⟨e, hx⟩
    · subst e
      exact br_f (by decide) (h1 ⟨hx.1, fun s s1 s2 => hx.2 s s1 (by omega)⟩)
    · subst e
      exact br_t rfl (nm_r (nI_1 q) (h0 (fun z => hx ⟨z.1, fun s s1 s2 => z.2 s s1 (by omega)⟩)))
  | succ d ih =>
    intro r x hr hq hx
    obtain ⟨-, hk, hk16⟩ := hF.2 r (by omega)
    have hL := tr_le (tr_FW hF) r (by omega)
    refine br_f (nI_nlt (by omega) (by omega)) ⟨vp_in_nI (by omega) (by decide), ?_⟩
    rw [nI_clamp (by omega), hk]
    have keep : ¬ (K r = 11 ∧ L r ≤ q) → wY_looseBreak_33 post J (nI p) (nI q) f_nodeLimit f_slotLimit f_depthLimit f_turnLimit f_programSize f_defined b_kinds a_values a_roots a_cells a_states a_results a_chain a_actFunction b_place a_locals b_savedSort b_savedValue (d + 1) x (nI (r + 1)) := by
      intro hn
      refine ih (r + 1) x (by omega) (by omega) ?_
      rcases hx with ⟨e, hx⟩ | ⟨e, hx⟩
      · refine Or.inl ⟨e, hx.1, fun s s1 s2 => ?_⟩
        by_cases z : s = r
        · rw [z]
          exact hn
        · exact hx.2 s s1 (by omega)
      · exact Or.inr ⟨e, fun z => hx ⟨z.1, fun s s1 s2 => z.2 s s1 (by omega)⟩⟩
    refine pk_eq (K r) 11 (fun z => yt_start hF (by omega) (pk_lt q (L r) (fun y => nm_r (nI_1 r) (keep (by omega))) (fun y => nm_r (nI_1 r) ?_))) (fun z => nm_r (nI_1 r) (keep (by omega)))
    exact ih (r + 1) 0 (by omega) (by omega) (Or.inr ⟨rfl, fun w => w.2 r hq (by omega) ⟨z, y⟩⟩)
theorem yt_lb_o (hF : tr_F K L b_kinds N) {p : Nat} (hp : p < N) (h1 : tr_lb K L p → post 1) (h0 : ¬ tr_lb K L p → post 0) : ∀ d q, q + d = p + 1 → L p ≤ q → (∀ s, L p ≤ s → s < q → ¬ (K s = 12 ∧ ∀ r, s < r → r ≤ p → ¬ (K r = 11 ∧ L r ≤ s))) → wY_looseBreak_6 post (nI p) f_nodeLimit f_slotLimit f_depthLimit f_turnLimit f_programSize f_defined b_kinds a_values a_roots a_cells a_states a_results a_chain a_actFunction b_place a_locals b_savedSort b_savedValue (d + 1) (nI q) := by
  have hN := hF.1
  intro d
  induction d with
  | zero =>
    intro q hq hL hs
    refine br_t (nI_lt (by omega) (by omega)) (h0 ?_)
    intro ⟨s, s1, s2, s3⟩
    exact hs s s1 (by omega) s3
  | succ d ih =>
    intro q hq hL hs
    obtain ⟨-, hk, hk16⟩ := hF.2 q (by omega)
    have go := yt_lb_i (post := post) (J := wY_looseBreak_6 post (nI p) f_nodeLimit f_slotLimit f_depthLimit f_turnLimit f_programSize f_defined b_kinds a_values a_roots a_cells a_states a_results a_chain a_actFunction b_place a_locals b_savedSort b_savedValue (d + 1)) (f_nodeLimit := f_nodeLimit) (f_slotLimit := f_slotLimit) (f_depthLimit := f_depthLimit) (f_turnLimit := f_turnLimit) (f_programSize := f_programSize) (f_defined := f_defined) (a_values := a_values) (a_roots := a_roots) (a_cells := a_cells) (a_states := a_states) (a_results := a_results) (a_chain := a_chain) (a_actFunction := a_actFunction) (b_place := b_place) (a_locals := a_locals) (b_savedSort := b_savedSort) (b_savedValue := b_savedValue) hF (q := q) hp (fun z => h1 ⟨q, hL, by omega, z⟩) (fun z => ih (q + 1) (by omega) (by omega) (fun s s1 s2 => by
      by_cases e : s = q
      · rw [e]
        exact z
      · exact hs s s1 (by omega)))
    refine br_f (nI_nlt (by omega) (by omega)) ⟨vp_in_nI (by omega) (by decide), ?_⟩
    rw [nI_clamp (by omega), hk]
    refine pk_eq (K q) 12 (fun z => nm_r (nI_1 q) ⟨d + 1, go d (q + 1) 1 (by omega) (by omega) (Or.inl ⟨rfl, z, fun s s1 s2 => by omega⟩)⟩) (fun z => nm_r (nI_1 q) ⟨d + 1, go d (q + 1) 0 (by omega) (by omega) (Or.inr ⟨rfl, fun w => z w.1⟩)⟩)
theorem yt_lb (hF : tr_F K L b_kinds N) {p : Nat} (hp : p < N) (h1 : tr_lb K L p → post 1) (h0 : ¬ tr_lb K L p → post 0) : wpY_looseBreak post (f_nodeLimit, f_slotLimit, f_depthLimit, f_turnLimit, f_programSize, f_defined, b_kinds, a_values, a_roots, a_cells, a_states, a_results, a_chain, a_actFunction, b_place, a_locals, b_savedSort, b_savedValue) (nI p) := by
  have hL := tr_le (tr_FW hF) p hp
  exact yt_start hF hp ⟨p + 1 - L p + 1, yt_lb_o hF hp h1 h0 (p + 1 - L p) (L p) (by omega) (by omega) (fun s s1 s2 => absurd s2 (by omega))⟩
end
end
section
/-! one turn of the reference's run: a rule a case -/
def sm_Y (i j : Nat) (pos sort x tu : Int32) (u : SY) (post : Int32 → SY → Prop) : Prop := match u with
  | (f_nodeLimit, f_slotLimit, f_depthLimit, f_turnLimit, f_programSize, f_defined, b_kinds, a_values, a_roots, a_cells, a_states, a_results, a_chain, a_actFunction, b_place, a_locals, b_savedSort, b_savedValue) => ∀ n, 20000 < n + j → wY_run_16 post (nI i) n pos sort x tu (nI j) f_nodeLimit f_slotLimit f_depthLimit f_turnLimit f_programSize f_defined b_kinds a_values a_roots a_cells a_states a_results a_chain a_actFunction b_place a_locals b_savedSort b_savedValue
section
variable {f_nodeLimit f_slotLimit f_depthLimit f_turnLimit f_programSize f_defined : Int32} {b_kinds a_values a_roots a_cells a_states a_results a_chain a_actFunction b_place a_locals b_savedSort b_savedValue : Nat → Int32}
variable {K L : Nat → Nat} {N i j d f r p q k tu : Nat} {post : Int32 → SY → Prop} {x sort : Int32}
theorem y7_0 {J : Int32 → Int32 → Int32 → Int32 → Int32 → Int32 → Int32 → Int32 → Int32 → Int32 → Int32 → (Nat → Int32) → (Nat → Int32) → (Nat → Int32) → (Nat → Int32) → (Nat → Int32) → (Nat → Int32) → (Nat → Int32) → (Nat → Int32) → (Nat → Int32) → (Nat → Int32) → (Nat → Int32) → (Nat → Int32) → Prop} {x1 x6 x7 x8 x12 : Int32} (h : J x12 x6 x7 x8 (nI (j + 1)) f_nodeLimit f_slotLimit f_depthLimit f_turnLimit f_programSize f_defined b_kinds a_values a_roots a_cells a_states a_results a_chain a_actFunction b_place a_locals b_savedSort b_savedValue) : wY_run_730 post J x1 x6 x7 x8 (nI j) x12 0 f_nodeLimit f_slotLimit f_depthLimit f_turnLimit f_programSize f_defined b_kinds a_values a_roots a_cells a_states a_results a_chain a_actFunction b_place a_locals b_savedSort b_savedValue := br_t rfl (nm_r (nI_1 j) h)
theorem y7_s (hF : tr_F K L b_kinds N) (hq : q < N) (c : tr_ch K L q k p) {J : Int32 → Int32 → Int32 → Int32 → Int32 → Int32 → Int32 → Int32 → Int32 → Int32 → Int32 → (Nat → Int32) → (Nat → Int32) → (Nat → Int32) → (Nat → Int32) → (Nat → Int32) → (Nat → Int32) → (Nat → Int32) → (Nat → Int32) → (Nat → Int32) → (Nat → Int32) → (Nat → Int32) → (Nat → Int32) → Prop} {x1 x6 x7 x8 : Int32} (h : J (nI p) 0 x7 x8 (nI (j + 1)) f_nodeLimit f_slotLimit f_depthLimit f_turnLimit f_programSize f_defined b_kinds a_values a_roots a_cells a_states a_results a_chain a_actFunction b_place a_locals b_savedSort b_savedValue) : wY_run_730 post J x1 x6 x7 x8 (nI j) (nI q) (nI k) f_nodeLimit f_slotLimit f_depthLimit f_turnLimit f_programSize f_defined b_kinds a_values a_roots a_cells a_states a_results a_chain a_actFunction b_place a_locals b_savedSort b_savedValue := by
  have a := tr_lt (tr_FW hF) hq c
  have b := tr_ar_le (K q)
  exact br_f (nI_ne0 (by omega) (by omega)) (yt_op hF hq c (nm_r (nI_1 j) h))
/-! start of a node -/
theorem ys_go (hF : tr_F K L b_kinds N) (hi : i < 4) (hd : d < 4) (hj : j < 20000) (hch : a_chain i = nI (d + 1)) (hq : q < N) (c : tr_ch K L q 1 p) (h : sm_Y i (j + 1) (nI p) 0 x (nI tu) (f_nodeLimit, f_slotLimit, f_depthLimit, f_turnLimit, f_programSize, f_defined, b_kinds, a_values, a_roots, a_cells, a_states, a_results, a_chain, a_actFunction, b_place, a_locals, b_savedSort, b_savedValue) post) : sm_Y i j (nI q) 0 x (nI tu) (f_nodeLimit, f_slotLimit, f_depthLimit, f_turnLimit, f_programSize, f_defined, b_kinds, a_values, a_roots, a_cells, a_states, a_results, a_chain, a_actFunction, b_place, a_locals, b_savedSort, b_savedValue) post := by
  intro n hn
  obtain ⟨n, rfl⟩ : ∃ n', n = n' + 1 := ⟨n - 1, by omega⟩
  have hN := hF.1
  have hl := tr_lt (tr_FW hF) hq c
  have hk := (hF.2 q hq).2
  have e1 : a_chain (nI i).toNatClampNeg - 1 = nI d := by rw [nI_clamp (by omega), hch, tr_s1 (by omega)]; rfl
  have e7 : b_kinds (nI q).toNatClampNeg = nI (K q) := by rw [nI_clamp (by omega), hk.1]
  have hg : wY_run_16 post (nI i) n (nI p) 0 x (nI tu) (nI (j + 1)) f_nodeLimit f_slotLimit f_depthLimit f_turnLimit f_programSize f_defined b_kinds a_values a_roots a_cells a_states a_results a_chain a_actFunction b_place a_locals b_savedSort b_savedValue := h n (by omega)
  refine br_f (nI_ge (b := 20000) (by omega) (by decide)) ⟨vp_in_nI (by omega) (by decide), nm_r e1 (nm_r (tr_i4 i d) (br_t rfl ⟨vp_in_nI (by omega) (by decide), nm_r e7 (yt_ar hk.2 (br_f (nI_nle (by omega) (by have := tr_ar_le (K q); omega)) ?_) _)⟩))⟩
  exact yt_op hF hq c (nm_r (nI_1 j) hg)
theorem ys_const (hF : tr_F K L b_kinds N) (hi : i < 4) (hd : d < 4) (hj : j < 20000) (hch : a_chain i = nI (d + 1)) (hq : q < N) (hk : K q = 0) (h : sm_Y i (j + 1) (nI q) 1 (a_values q) (nI tu) (f_nodeLimit, f_slotLimit, f_depthLimit, f_turnLimit, f_programSize, f_defined, b_kinds, a_values, a_roots, a_cells, a_states, a_results, a_chain, a_actFunction, b_place, a_locals, b_savedSort, b_savedValue) post) : sm_Y i j (nI q) 0 x (nI tu) (f_nodeLimit, f_slotLimit, f_depthLimit, f_turnLimit, f_programSize, f_defined, b_kinds, a_values, a_roots, a_cells, a_states, a_results, a_chain, a_actFunction, b_place, a_locals, b_savedSort, b_savedValue) post := by
  intro n hn; obtain ⟨n, rfl⟩ : ∃ n', n = n' + 1 := ⟨n - 1, by omega⟩; have hN := hF.1; have hkk := (hF.2 q hq).2; have e1 : a_chain (nI i).toNatClampNeg - 1 = nI d := (by rw [nI_clamp (by omega), hch, tr_s1 (by omega)]; rfl); have e0 : tr_ar (K q) = 0 := (by rw [hk]; rfl); have hin : vp_in (nI q) 128 := vp_in_nI (by omega) (by decide); have ev : a_values (nI q).toNatClampNeg = a_values q := tr_fc (by omega) _
  have e7 : b_kinds (nI q).toNatClampNeg = 0 := by rw [nI_clamp (by omega), hkk.1, hk]; rfl
  have hg : wY_run_16 post (nI i) n (nI q) 1 (a_values q) (nI tu) (nI (j + 1)) f_nodeLimit f_slotLimit f_depthLimit f_turnLimit f_programSize f_defined b_kinds a_values a_roots a_cells a_states a_results a_chain a_actFunction b_place a_locals b_savedSort b_savedValue := h n (by omega)
  refine br_f (nI_ge (b := 20000) (by omega) (by decide)) ⟨vp_in_nI (by omega) (by decide), nm_r e1 (nm_r (tr_i4 i d) (br_t rfl ⟨hin, nm_r e7 (yt_ar (k := 0) (by omega) (br_t (by decide) (br_f (by decide) ?_)) _)⟩))⟩
  exact And.intro hin (nm_r ev (br_f (by decide) (br_f (by decide) (nm_r (nI_1 j) hg))))
theorem ys_break (hF : tr_F K L b_kinds N) (hi : i < 4) (hd : d < 4) (hj : j < 20000) (hch : a_chain i = nI (d + 1)) (hq : q < N) (hk : K q = 12) (h : sm_Y i (j + 1) (nI q) 2 (a_values q) (nI tu) (f_nodeLimit, f_slotLimit, f_depthLimit, f_turnLimit, f_programSize, f_defined, b_kinds, a_values, a_roots, a_cells, a_states, a_results, a_chain, a_actFunction, b_place, a_locals, b_savedSort, b_savedValue) post) : sm_Y i j (nI q) 0 x (nI tu) (f_nodeLimit, f_slotLimit, f_depthLimit, f_turnLimit, f_programSize, f_defined, b_kinds, a_values, a_roots, a_cells, a_states, a_results, a_chain, a_actFunction, b_place, a_locals, b_savedSort, b_savedValue) post := by
  intro n hn; obtain ⟨n, rfl⟩ : ∃ n', n = n' + 1 := ⟨n - 1, by omega⟩; have hN := hF.1; have hkk := (hF.2 q hq).2; have e1 : a_chain (nI i).toNatClampNeg - 1 = nI d := (by rw [nI_clamp (by omega), hch, tr_s1 (by omega)]; rfl); have e0 : tr_ar (K q) = 0 := (by rw [hk]; rfl); have hin : vp_in (nI q) 128 := vp_in_nI (by omega) (by decide); have ev : a_values (nI q).toNatClampNeg = a_values q := tr_fc (by omega) _
  have e7 : b_kinds (nI q).toNatClampNeg = 12 := by rw [nI_clamp (by omega), hkk.1, hk]; rfl
  have hg : wY_run_16 post (nI i) n (nI q) 2 (a_values q) (nI tu) (nI (j + 1)) f_nodeLimit f_slotLimit f_depthLimit f_turnLimit f_programSize f_defined b_kinds a_values a_roots a_cells a_states a_results a_chain a_actFunction b_place a_locals b_savedSort b_savedValue := h n (by omega)
  refine br_f (nI_ge (b := 20000) (by omega) (by decide)) ⟨vp_in_nI (by omega) (by decide), nm_r e1 (nm_r (tr_i4 i d) (br_t rfl ⟨hin, nm_r e7 (yt_ar (k := 12) (by omega) (br_t (by decide) (br_t (by decide) ?_)) _)⟩))⟩
  exact And.intro hin (nm_r ev (br_f (by decide) (br_f (by decide) (nm_r (nI_1 j) hg))))
theorem ys_local (hF : tr_F K L b_kinds N) (hi : i < 4) (hd : d < 4) (hj : j < 20000) (hch : a_chain i = nI (d + 1)) (hq : q < N) (hk : K q = 1) {v : Nat} (hv : a_values q = nI v) (hv4 : v < 4) (h : sm_Y i (j + 1) (nI q) 1 (a_locals ((i * 4 + d) * 4 + v)) (nI tu) (f_nodeLimit, f_slotLimit, f_depthLimit, f_turnLimit, f_programSize, f_defined, b_kinds, a_values, a_roots, a_cells, a_states, a_results, a_chain, a_actFunction, b_place, a_locals, b_savedSort, b_savedValue) post) : sm_Y i j (nI q) 0 x (nI tu) (f_nodeLimit, f_slotLimit, f_depthLimit, f_turnLimit, f_programSize, f_defined, b_kinds, a_values, a_roots, a_cells, a_states, a_results, a_chain, a_actFunction, b_place, a_locals, b_savedSort, b_savedValue) post := by
  intro n hn; obtain ⟨n, rfl⟩ : ∃ n', n = n' + 1 := ⟨n - 1, by omega⟩; have hN := hF.1; have hkk := (hF.2 q hq).2; have e1 : a_chain (nI i).toNatClampNeg - 1 = nI d := (by rw [nI_clamp (by omega), hch, tr_s1 (by omega)]; rfl); have e0 : tr_ar (K q) = 0 := (by rw [hk]; rfl); have hin : vp_in (nI q) 128 := vp_in_nI (by omega) (by decide); have ev : a_values (nI q).toNatClampNeg = a_values q := tr_fc (by omega) _
  have e7 : b_kinds (nI q).toNatClampNeg = 1 := by rw [nI_clamp (by omega), hkk.1, hk]; rfl
  have hg : wY_run_16 post (nI i) n (nI q) 1 (a_locals ((i * 4 + d) * 4 + v)) (nI tu) (nI (j + 1)) f_nodeLimit f_slotLimit f_depthLimit f_turnLimit f_programSize f_defined b_kinds a_values a_roots a_cells a_states a_results a_chain a_actFunction b_place a_locals b_savedSort b_savedValue := h n (by omega)
  have e8 : nI (i * 4 + d) * 4 + a_values (nI q).toNatClampNeg = nI ((i * 4 + d) * 4 + v) := by rw [ev, hv, tr_i4]
  have e9 : a_locals (nI (i * 4 + d) * 4 + a_values (nI q).toNatClampNeg).toNatClampNeg = a_locals ((i * 4 + d) * 4 + v) := by rw [e8, nI_clamp (by omega)]
  refine br_f (nI_ge (b := 20000) (by omega) (by decide)) ⟨vp_in_nI (by omega) (by decide), nm_r e1 (nm_r (tr_i4 i d) (br_t rfl ⟨hin, nm_r e7 (yt_ar (k := 1) (by omega) (br_t (by decide) (br_f (by decide) ?_)) _)⟩))⟩
  exact And.intro hin (nm_r ev (br_t rfl ⟨hin, pk_in _ _ (by omega) e8, nm_r e9 (br_f (by decide) (nm_r (nI_1 j) hg))⟩))
theorem ys_shared (hF : tr_F K L b_kinds N) (hi : i < 4) (hd : d < 4) (hj : j < 20000) (hch : a_chain i = nI (d + 1)) (hq : q < N) (hk : K q = 2) {v : Nat} (hv : a_values q = nI v) (hv4 : v < 4) (h : sm_Y i (j + 1) (nI q) 1 (a_cells v) (nI tu) (f_nodeLimit, f_slotLimit, f_depthLimit, f_turnLimit, f_programSize, f_defined, b_kinds, a_values, a_roots, a_cells, a_states, a_results, a_chain, a_actFunction, b_place, a_locals, b_savedSort, b_savedValue) post) : sm_Y i j (nI q) 0 x (nI tu) (f_nodeLimit, f_slotLimit, f_depthLimit, f_turnLimit, f_programSize, f_defined, b_kinds, a_values, a_roots, a_cells, a_states, a_results, a_chain, a_actFunction, b_place, a_locals, b_savedSort, b_savedValue) post := by
  intro n hn; obtain ⟨n, rfl⟩ : ∃ n', n = n' + 1 := ⟨n - 1, by omega⟩; have hN := hF.1; have hkk := (hF.2 q hq).2; have e1 : a_chain (nI i).toNatClampNeg - 1 = nI d := (by rw [nI_clamp (by omega), hch, tr_s1 (by omega)]; rfl); have e0 : tr_ar (K q) = 0 := (by rw [hk]; rfl); have hin : vp_in (nI q) 128 := vp_in_nI (by omega) (by decide); have ev : a_values (nI q).toNatClampNeg = a_values q := tr_fc (by omega) _
  have e7 : b_kinds (nI q).toNatClampNeg = 2 := by rw [nI_clamp (by omega), hkk.1, hk]; rfl
  have hg : wY_run_16 post (nI i) n (nI q) 1 (a_cells v) (nI tu) (nI (j + 1)) f_nodeLimit f_slotLimit f_depthLimit f_turnLimit f_programSize f_defined b_kinds a_values a_roots a_cells a_states a_results a_chain a_actFunction b_place a_locals b_savedSort b_savedValue := h n (by omega)
  have e8 : a_values (nI q).toNatClampNeg = nI v := by rw [ev, hv]
  have e9 : a_cells (a_values (nI q).toNatClampNeg).toNatClampNeg = a_cells v := by rw [e8, nI_clamp (by omega)]
  refine br_f (nI_ge (b := 20000) (by omega) (by decide)) ⟨vp_in_nI (by omega) (by decide), nm_r e1 (nm_r (tr_i4 i d) (br_t rfl ⟨hin, nm_r e7 (yt_ar (k := 2) (by omega) (br_t (by decide) (br_f (by decide) ?_)) _)⟩))⟩
  exact And.intro hin (nm_r ev (br_f (by decide) (br_t rfl ⟨hin, pk_in _ _ (by omega) e8, nm_r e9 (nm_r (nI_1 j) hg)⟩)))
end
end
section
/-! one turn of the reference's run: the end of a node, at its parent -/
/-- the locals of a new activation a -/
def sm_lo (lo : Nat → Int32) (a : Nat) (x : Int32) : Nat → Int32 := upd (upd (upd (upd lo (a * 4) x) (a * 4 + 1) 0) (a * 4 + 2) 0) (a * 4 + 3) 0
section
variable {f_nodeLimit f_slotLimit f_depthLimit f_turnLimit f_programSize f_defined : Int32} {b_kinds a_values a_roots a_cells a_states a_results a_chain a_actFunction b_place a_locals b_savedSort b_savedValue : Nat → Int32}
variable {K L : Nat → Nat} {N i j d f r p q k tu : Nat} {post : Int32 → SY → Prop} {x sort : Int32}
theorem yb_l {postS : SY → Prop} {a c : Nat} (hi : i < 4) (ha : a < 16) (hc : a_chain i = nI c) (h : postS (f_nodeLimit, f_slotLimit, f_depthLimit, f_turnLimit, f_programSize, f_defined, b_kinds, a_values, a_roots, a_cells, a_states, a_results, upd a_chain i (nI (c + 1)), a_actFunction, b_place, sm_lo a_locals a x, b_savedSort, b_savedValue)) : wY_begin_31 postS (nI i) x (nI a) f_nodeLimit f_slotLimit f_depthLimit f_turnLimit f_programSize f_defined 5 0 b_kinds a_values a_roots a_cells a_states a_results a_chain a_actFunction b_place a_locals b_savedSort b_savedValue := by
  have e0 : nI a * 4 + 0 = nI (a * 4) := by rw [Int32.add_zero, tr_4i]
  have e1 : nI a * 4 + 1 = nI (a * 4 + 1) := by rw [tr_4i, nI_1]
  have e2 : nI a * 4 + 2 = nI (a * 4 + 2) := by rw [tr_4i]; exact nI_add _ 2
  have e3 : nI a * 4 + 3 = nI (a * 4 + 3) := by rw [tr_4i]; exact nI_add _ 3
  have f0 : ∀ (lo : Nat → Int32) (v : Int32), upd lo (nI a * 4 + 0).toNatClampNeg v = upd lo (a * 4) v := fun lo v => by rw [e0, nI_clamp (by omega)]
  have f1 : ∀ (lo : Nat → Int32) (v : Int32), upd lo (nI a * 4 + 1).toNatClampNeg v = upd lo (a * 4 + 1) v := fun lo v => by rw [e1, nI_clamp (by omega)]
  have f2 : ∀ (lo : Nat → Int32) (v : Int32), upd lo (nI a * 4 + 2).toNatClampNeg v = upd lo (a * 4 + 2) v := fun lo v => by rw [e2, nI_clamp (by omega)]
  have f3 : ∀ (lo : Nat → Int32) (v : Int32), upd lo (nI a * 4 + 3).toNatClampNeg v = upd lo (a * 4 + 3) v := fun lo v => by rw [e3, nI_clamp (by omega)]
  have g : upd a_chain (nI i).toNatClampNeg (a_chain (nI i).toNatClampNeg + 1) = upd a_chain i (nI (c + 1)) := by rw [nI_clamp (by omega), hc, nI_1]
  have hv : vp_in (nI i) 4 := vp_in_nI hi (by decide)
  refine br_f (by decide) (br_t rfl ⟨pk_in _ _ (by omega) e0, nm_r (f0 _ _) (nm_r (show (0 : Int32) + 1 = 1 from rfl) ?_)⟩)
  refine br_f (by decide) (br_f (by decide) ⟨pk_in _ _ (by omega) e1, nm_r (f1 _ _) (nm_r (show (1 : Int32) + 1 = 2 from rfl) ?_)⟩)
  refine br_f (by decide) (br_f (by decide) ⟨pk_in _ _ (by omega) e2, nm_r (f2 _ _) (nm_r (show (2 : Int32) + 1 = 3 from rfl) ?_)⟩)
  refine br_f (by decide) (br_f (by decide) ⟨pk_in _ _ (by omega) e3, nm_r (f3 _ _) (nm_r (show (3 : Int32) + 1 = 4 from rfl) ?_)⟩)
  exact br_t (by decide) ⟨hv, hv, nm_r g h⟩
theorem yb_beg {postS : SY → Prop} {d : Nat} (hi : i < 4) (hd : d + 1 < 4) (hc : a_chain i = nI (d + 1)) (fv x : Int32) (h : postS (f_nodeLimit, f_slotLimit, f_depthLimit, f_turnLimit, f_programSize, f_defined, b_kinds, a_values, a_roots, a_cells, a_states, a_results, upd a_chain i (nI (d + 2)), upd a_actFunction (i * 4 + (d + 1)) fv, upd b_place (i * 4 + (d + 1)) (-1), sm_lo a_locals (i * 4 + (d + 1)) x, b_savedSort, b_savedValue)) : wpY_begin postS (f_nodeLimit, f_slotLimit, f_depthLimit, f_turnLimit, f_programSize, f_defined, b_kinds, a_values, a_roots, a_cells, a_states, a_results, a_chain, a_actFunction, b_place, a_locals, b_savedSort, b_savedValue) (nI i) fv x := by
  have e1 : nI i * 4 + a_chain (nI i).toNatClampNeg = nI (i * 4 + (d + 1)) := by rw [nI_clamp (by omega), hc, tr_i4]
  exact And.intro (vp_in_nI hi (by decide)) (nm_r e1 ⟨vp_in_nI (by omega) (by decide), nm_r (tr_uc (by omega) _ _) ⟨vp_in_nI (by omega) (by decide), nm_r (tr_uc (by omega) _ _) ⟨5, yb_l hi (by omega) hc h⟩⟩⟩)
theorem yb_beg0 {postS : SY → Prop} (hi : i < 4) (hc : a_chain i = 0) (fv x : Int32) (h : postS (f_nodeLimit, f_slotLimit, f_depthLimit, f_turnLimit, f_programSize, f_defined, b_kinds, a_values, a_roots, a_cells, a_states, a_results, upd a_chain i 1, upd a_actFunction (i * 4) fv, upd b_place (i * 4) (-1), sm_lo a_locals (i * 4) x, b_savedSort, b_savedValue)) : wpY_begin postS (f_nodeLimit, f_slotLimit, f_depthLimit, f_turnLimit, f_programSize, f_defined, b_kinds, a_values, a_roots, a_cells, a_states, a_results, a_chain, a_actFunction, b_place, a_locals, b_savedSort, b_savedValue) (nI i) fv x := by
  have e1 : nI i * 4 + a_chain (nI i).toNatClampNeg = nI (i * 4) := by rw [nI_clamp (by omega), hc, Int32.add_zero, tr_4i]
  exact And.intro (vp_in_nI hi (by decide)) (nm_r e1 ⟨vp_in_nI (by omega) (by decide), nm_r (tr_uc (by omega) _ _) ⟨vp_in_nI (by omega) (by decide), nm_r (tr_uc (by omega) _ _) ⟨5, yb_l (c := 0) hi (by omega) hc h⟩⟩⟩)
theorem ye_setl (hF : tr_F K L b_kinds N) (hi : i < 4) (hd : d < 4) (hj : j < 20000) (hch : a_chain i = nI (d + 1)) (hfn : a_actFunction (i * 4 + d) = nI f) (hf : f < 6) (hr : a_roots f = nI r) (hr8 : r < 128) (hpr : p ≠ r) (hq : q < N) (c : tr_ch K L q k p) (hk : K q = 3) {v : Nat} (hv : a_values q = nI v) (hv4 : v < 4) (h : sm_Y i (j + 1) (nI q) 1 x (nI tu) (f_nodeLimit, f_slotLimit, f_depthLimit, f_turnLimit, nI N, f_defined, b_kinds, a_values, a_roots, a_cells, a_states, a_results, a_chain, a_actFunction, b_place, upd a_locals ((i * 4 + d) * 4 + v) x, b_savedSort, b_savedValue) post) : sm_Y i j (nI p) 1 x (nI tu) (f_nodeLimit, f_slotLimit, f_depthLimit, f_turnLimit, nI N, f_defined, b_kinds, a_values, a_roots, a_cells, a_states, a_results, a_chain, a_actFunction, b_place, a_locals, b_savedSort, b_savedValue) post := by
  intro n hn
  obtain ⟨n, rfl⟩ : ∃ n', n = n' + 1 := ⟨n - 1, by omega⟩
  have hN := hF.1
  have hl := tr_lt (tr_FW hF) hq c
  have hkk := (hF.2 q hq).2
  have e1 : a_chain (nI i).toNatClampNeg - 1 = nI d := by rw [nI_clamp (by omega), hch, tr_s1 (by omega)]; rfl
  have ea : vp_in (nI (i * 4 + d)) 16 := vp_in_nI (by omega) (by decide)
  have ef : a_actFunction (nI (i * 4 + d)).toNatClampNeg = nI f := by rw [nI_clamp (by omega), hfn]
  have eb : ¬ nI p = a_roots (a_actFunction (nI (i * 4 + d)).toNatClampNeg).toNatClampNeg := by
    rw [ef, nI_clamp (by omega), hr]
    exact fun z => hpr (tr_inj z (by omega) (by omega))
  have hin : vp_in (nI q) 128 := vp_in_nI (by omega) (by decide)
  have ev : a_values (nI q).toNatClampNeg = a_values q := tr_fc (by omega) _
  have e7 : b_kinds (nI q).toNatClampNeg = 3 := by rw [nI_clamp (by omega), hkk.1, hk]; rfl
  have e8 : nI (i * 4 + d) * 4 + a_values q = nI ((i * 4 + d) * 4 + v) := by rw [hv, tr_i4]
  have e9 : upd a_locals (nI (i * 4 + d) * 4 + a_values q).toNatClampNeg x = upd a_locals ((i * 4 + d) * 4 + v) x := by rw [e8, nI_clamp (by omega)]
  refine br_f (nI_ge (b := 20000) (by omega) (by decide)) ⟨vp_in_nI (by omega) (by decide), nm_r e1 (nm_r (tr_i4 i d) (br_f (by decide) ⟨ea, pk_in f 6 (by omega) ef, br_f eb (yt_par hF hq c (yt_num hF hq c ⟨hin, nm_r e7 ⟨hin, nm_r ev (nm_r (tr_i128 _ _) ?_)⟩⟩))⟩))⟩
  exact br_f (by decide) (br_f (by decide) (br_t rfl (br_f (by decide) (br_t rfl (And.intro (pk_in _ _ (by omega) e8) (nm_r e9 (y7_0 (h n (by omega)))))))))
theorem ye_sets (hF : tr_F K L b_kinds N) (hi : i < 4) (hd : d < 4) (hj : j < 20000) (hch : a_chain i = nI (d + 1)) (hfn : a_actFunction (i * 4 + d) = nI f) (hf : f < 6) (hr : a_roots f = nI r) (hr8 : r < 128) (hpr : p ≠ r) (hq : q < N) (c : tr_ch K L q k p) (hk : K q = 4) {v : Nat} (hv : a_values q = nI v) (hv4 : v < 4) (h : sm_Y i (j + 1) (nI q) 1 x (nI tu) (f_nodeLimit, f_slotLimit, f_depthLimit, f_turnLimit, nI N, f_defined, b_kinds, a_values, a_roots, upd a_cells v x, a_states, a_results, a_chain, a_actFunction, b_place, a_locals, b_savedSort, b_savedValue) post) : sm_Y i j (nI p) 1 x (nI tu) (f_nodeLimit, f_slotLimit, f_depthLimit, f_turnLimit, nI N, f_defined, b_kinds, a_values, a_roots, a_cells, a_states, a_results, a_chain, a_actFunction, b_place, a_locals, b_savedSort, b_savedValue) post := by
  intro n hn
  obtain ⟨n, rfl⟩ : ∃ n', n = n' + 1 := ⟨n - 1, by omega⟩
  have hN := hF.1
  have hl := tr_lt (tr_FW hF) hq c
  have hkk := (hF.2 q hq).2
  have e1 : a_chain (nI i).toNatClampNeg - 1 = nI d := by rw [nI_clamp (by omega), hch, tr_s1 (by omega)]; rfl
  have ea : vp_in (nI (i * 4 + d)) 16 := vp_in_nI (by omega) (by decide)
  have ef : a_actFunction (nI (i * 4 + d)).toNatClampNeg = nI f := by rw [nI_clamp (by omega), hfn]
  have eb : ¬ nI p = a_roots (a_actFunction (nI (i * 4 + d)).toNatClampNeg).toNatClampNeg := by
    rw [ef, nI_clamp (by omega), hr]
    exact fun z => hpr (tr_inj z (by omega) (by omega))
  have hin : vp_in (nI q) 128 := vp_in_nI (by omega) (by decide)
  have ev : a_values (nI q).toNatClampNeg = a_values q := tr_fc (by omega) _
  have e7 : b_kinds (nI q).toNatClampNeg = 4 := by rw [nI_clamp (by omega), hkk.1, hk]; rfl
  have e9 : upd a_cells (a_values q).toNatClampNeg x = upd a_cells v x := by rw [hv, nI_clamp (by omega)]
  refine br_f (nI_ge (b := 20000) (by omega) (by decide)) ⟨vp_in_nI (by omega) (by decide), nm_r e1 (nm_r (tr_i4 i d) (br_f (by decide) ⟨ea, pk_in f 6 (by omega) ef, br_f eb (yt_par hF hq c (yt_num hF hq c ⟨hin, nm_r e7 ⟨hin, nm_r ev (nm_r (tr_i128 _ _) ?_)⟩⟩))⟩))⟩
  exact br_f (by decide) (br_f (by decide) (br_t rfl (br_f (by decide) (br_f (by decide) (br_t rfl (And.intro (pk_in _ _ (by omega) hv) (nm_r e9 (y7_0 (h n (by omega))))))))))
theorem ye_ret (hF : tr_F K L b_kinds N) (hi : i < 4) (hd : d < 4) (hj : j < 20000) (hch : a_chain i = nI (d + 1)) (hfn : a_actFunction (i * 4 + d) = nI f) (hf : f < 6) (hr : a_roots f = nI r) (hr8 : r < 128) (hpr : p ≠ r) (hq : q < N) (c : tr_ch K L q k p) (hk : K q = 13)  (h : sm_Y i (j + 1) (nI q) 3 x (nI tu) (f_nodeLimit, f_slotLimit, f_depthLimit, f_turnLimit, nI N, f_defined, b_kinds, a_values, a_roots, a_cells, a_states, a_results, a_chain, a_actFunction, b_place, a_locals, b_savedSort, b_savedValue) post) : sm_Y i j (nI p) 1 x (nI tu) (f_nodeLimit, f_slotLimit, f_depthLimit, f_turnLimit, nI N, f_defined, b_kinds, a_values, a_roots, a_cells, a_states, a_results, a_chain, a_actFunction, b_place, a_locals, b_savedSort, b_savedValue) post := by
  intro n hn
  obtain ⟨n, rfl⟩ : ∃ n', n = n' + 1 := ⟨n - 1, by omega⟩
  have hN := hF.1
  have hl := tr_lt (tr_FW hF) hq c
  have hkk := (hF.2 q hq).2
  have e1 : a_chain (nI i).toNatClampNeg - 1 = nI d := by rw [nI_clamp (by omega), hch, tr_s1 (by omega)]; rfl
  have ea : vp_in (nI (i * 4 + d)) 16 := vp_in_nI (by omega) (by decide)
  have ef : a_actFunction (nI (i * 4 + d)).toNatClampNeg = nI f := by rw [nI_clamp (by omega), hfn]
  have eb : ¬ nI p = a_roots (a_actFunction (nI (i * 4 + d)).toNatClampNeg).toNatClampNeg := by
    rw [ef, nI_clamp (by omega), hr]
    exact fun z => hpr (tr_inj z (by omega) (by omega))
  have hin : vp_in (nI q) 128 := vp_in_nI (by omega) (by decide)
  have ev : a_values (nI q).toNatClampNeg = a_values q := tr_fc (by omega) _
  have e7 : b_kinds (nI q).toNatClampNeg = 13 := by rw [nI_clamp (by omega), hkk.1, hk]; rfl
  refine br_f (nI_ge (b := 20000) (by omega) (by decide)) ⟨vp_in_nI (by omega) (by decide), nm_r e1 (nm_r (tr_i4 i d) (br_f (by decide) ⟨ea, pk_in f 6 (by omega) ef, br_f eb (yt_par hF hq c (yt_num hF hq c ⟨hin, nm_r e7 ⟨hin, nm_r ev (nm_r (tr_i128 _ _) ?_)⟩⟩))⟩))⟩
  exact br_f (by decide) (br_f (by decide) (br_t rfl (br_f (by decide) (br_f (by decide) (br_f (by decide) (br_t rfl (y7_0 (h n (by omega)))))))))
theorem ye_yield (hF : tr_F K L b_kinds N) (hi : i < 4) (hd : d < 4) (hj : j < 20000) (hch : a_chain i = nI (d + 1)) (hfn : a_actFunction (i * 4 + d) = nI f) (hf : f < 6) (hr : a_roots f = nI r) (hr8 : r < 128) (hpr : p ≠ r) (hq : q < N) (c : tr_ch K L q k p) (hk : K q = 15)  (h : post 2 (f_nodeLimit, f_slotLimit, f_depthLimit, f_turnLimit, nI N, f_defined, b_kinds, a_values, a_roots, a_cells, upd a_states i 2, upd a_results i x, a_chain, a_actFunction, upd b_place (i * 4 + d) (nI q), a_locals, b_savedSort, b_savedValue)) : sm_Y i j (nI p) 1 x (nI tu) (f_nodeLimit, f_slotLimit, f_depthLimit, f_turnLimit, nI N, f_defined, b_kinds, a_values, a_roots, a_cells, a_states, a_results, a_chain, a_actFunction, b_place, a_locals, b_savedSort, b_savedValue) post := by
  intro n hn
  obtain ⟨n, rfl⟩ : ∃ n', n = n' + 1 := ⟨n - 1, by omega⟩
  have hN := hF.1
  have hl := tr_lt (tr_FW hF) hq c
  have hkk := (hF.2 q hq).2
  have e1 : a_chain (nI i).toNatClampNeg - 1 = nI d := by rw [nI_clamp (by omega), hch, tr_s1 (by omega)]; rfl
  have ea : vp_in (nI (i * 4 + d)) 16 := vp_in_nI (by omega) (by decide)
  have ef : a_actFunction (nI (i * 4 + d)).toNatClampNeg = nI f := by rw [nI_clamp (by omega), hfn]
  have eb : ¬ nI p = a_roots (a_actFunction (nI (i * 4 + d)).toNatClampNeg).toNatClampNeg := by
    rw [ef, nI_clamp (by omega), hr]
    exact fun z => hpr (tr_inj z (by omega) (by omega))
  have hin : vp_in (nI q) 128 := vp_in_nI (by omega) (by decide)
  have ev : a_values (nI q).toNatClampNeg = a_values q := tr_fc (by omega) _
  have e7 : b_kinds (nI q).toNatClampNeg = 15 := by rw [nI_clamp (by omega), hkk.1, hk]; rfl
  refine br_f (nI_ge (b := 20000) (by omega) (by decide)) ⟨vp_in_nI (by omega) (by decide), nm_r e1 (nm_r (tr_i4 i d) (br_f (by decide) ⟨ea, pk_in f 6 (by omega) ef, br_f eb (yt_par hF hq c (yt_num hF hq c ⟨hin, nm_r e7 ⟨hin, nm_r ev (nm_r (tr_i128 _ _) ?_)⟩⟩))⟩))⟩
  exact br_f (by decide) (br_f (by decide) (br_t rfl (br_f (by decide) (br_f (by decide) (br_f (by decide) (br_f (by decide) (br_t rfl (And.intro ea (nm_r (tr_uc (by omega) _ _) ⟨vp_in_nI (by omega) (by decide), nm_r (tr_uc (by omega) _ _) ⟨vp_in_nI (by omega) (by decide), nm_r (tr_uc (by omega) _ _) h⟩⟩)))))))))
theorem ye_seq1 (hF : tr_F K L b_kinds N) (hi : i < 4) (hd : d < 4) (hj : j < 20000) (hch : a_chain i = nI (d + 1)) (hfn : a_actFunction (i * 4 + d) = nI f) (hf : f < 6) (hr : a_roots f = nI r) (hr8 : r < 128) (hpr : p ≠ r) (hq : q < N) (c : tr_ch K L q 1 p) (hk : K q = 9) {e : Nat} (c2 : tr_ch K L q 2 e) (h : sm_Y i (j + 1) (nI e) 0 x (nI tu) (f_nodeLimit, f_slotLimit, f_depthLimit, f_turnLimit, nI N, f_defined, b_kinds, a_values, a_roots, a_cells, a_states, a_results, a_chain, a_actFunction, b_place, a_locals, b_savedSort, b_savedValue) post) : sm_Y i j (nI p) 1 x (nI tu) (f_nodeLimit, f_slotLimit, f_depthLimit, f_turnLimit, nI N, f_defined, b_kinds, a_values, a_roots, a_cells, a_states, a_results, a_chain, a_actFunction, b_place, a_locals, b_savedSort, b_savedValue) post := by
  intro n hn
  obtain ⟨n, rfl⟩ : ∃ n', n = n' + 1 := ⟨n - 1, by omega⟩
  have hN := hF.1
  have hl := tr_lt (tr_FW hF) hq c
  have hkk := (hF.2 q hq).2
  have e1 : a_chain (nI i).toNatClampNeg - 1 = nI d := by rw [nI_clamp (by omega), hch, tr_s1 (by omega)]; rfl
  have ea : vp_in (nI (i * 4 + d)) 16 := vp_in_nI (by omega) (by decide)
  have ef : a_actFunction (nI (i * 4 + d)).toNatClampNeg = nI f := by rw [nI_clamp (by omega), hfn]
  have eb : ¬ nI p = a_roots (a_actFunction (nI (i * 4 + d)).toNatClampNeg).toNatClampNeg := by
    rw [ef, nI_clamp (by omega), hr]
    exact fun z => hpr (tr_inj z (by omega) (by omega))
  have hin : vp_in (nI q) 128 := vp_in_nI (by omega) (by decide)
  have ev : a_values (nI q).toNatClampNeg = a_values q := tr_fc (by omega) _
  have e7 : b_kinds (nI q).toNatClampNeg = 9 := by rw [nI_clamp (by omega), hkk.1, hk]; rfl
  refine br_f (nI_ge (b := 20000) (by omega) (by decide)) ⟨vp_in_nI (by omega) (by decide), nm_r e1 (nm_r (tr_i4 i d) (br_f (by decide) ⟨ea, pk_in f 6 (by omega) ef, br_f eb (yt_par hF hq c (yt_num hF hq c ⟨hin, nm_r e7 ⟨hin, nm_r ev (nm_r (tr_i128 _ _) ?_)⟩⟩))⟩))⟩
  exact br_f (by decide) (br_f (by decide) (br_t rfl (br_f (by decide) (br_f (by decide) (br_f (by decide) (br_f (by decide) (br_f (by decide) (br_f (by decide) (br_t rfl (br_t rfl (y7_s hF hq c2 (h n (by omega)))))))))))))
theorem ye_seq2 (hF : tr_F K L b_kinds N) (hi : i < 4) (hd : d < 4) (hj : j < 20000) (hch : a_chain i = nI (d + 1)) (hfn : a_actFunction (i * 4 + d) = nI f) (hf : f < 6) (hr : a_roots f = nI r) (hr8 : r < 128) (hpr : p ≠ r) (hq : q < N) (c : tr_ch K L q 2 p) (hk : K q = 9)  (h : sm_Y i (j + 1) (nI q) 1 x (nI tu) (f_nodeLimit, f_slotLimit, f_depthLimit, f_turnLimit, nI N, f_defined, b_kinds, a_values, a_roots, a_cells, a_states, a_results, a_chain, a_actFunction, b_place, a_locals, b_savedSort, b_savedValue) post) : sm_Y i j (nI p) 1 x (nI tu) (f_nodeLimit, f_slotLimit, f_depthLimit, f_turnLimit, nI N, f_defined, b_kinds, a_values, a_roots, a_cells, a_states, a_results, a_chain, a_actFunction, b_place, a_locals, b_savedSort, b_savedValue) post := by
  intro n hn
  obtain ⟨n, rfl⟩ : ∃ n', n = n' + 1 := ⟨n - 1, by omega⟩
  have hN := hF.1
  have hl := tr_lt (tr_FW hF) hq c
  have hkk := (hF.2 q hq).2
  have e1 : a_chain (nI i).toNatClampNeg - 1 = nI d := by rw [nI_clamp (by omega), hch, tr_s1 (by omega)]; rfl
  have ea : vp_in (nI (i * 4 + d)) 16 := vp_in_nI (by omega) (by decide)
  have ef : a_actFunction (nI (i * 4 + d)).toNatClampNeg = nI f := by rw [nI_clamp (by omega), hfn]
  have eb : ¬ nI p = a_roots (a_actFunction (nI (i * 4 + d)).toNatClampNeg).toNatClampNeg := by
    rw [ef, nI_clamp (by omega), hr]
    exact fun z => hpr (tr_inj z (by omega) (by omega))
  have hin : vp_in (nI q) 128 := vp_in_nI (by omega) (by decide)
  have ev : a_values (nI q).toNatClampNeg = a_values q := tr_fc (by omega) _
  have e7 : b_kinds (nI q).toNatClampNeg = 9 := by rw [nI_clamp (by omega), hkk.1, hk]; rfl
  refine br_f (nI_ge (b := 20000) (by omega) (by decide)) ⟨vp_in_nI (by omega) (by decide), nm_r e1 (nm_r (tr_i4 i d) (br_f (by decide) ⟨ea, pk_in f 6 (by omega) ef, br_f eb (yt_par hF hq c (yt_num hF hq c ⟨hin, nm_r e7 ⟨hin, nm_r ev (nm_r (tr_i128 _ _) ?_)⟩⟩))⟩))⟩
  exact br_f (by decide) (br_f (by decide) (br_t rfl (br_f (by decide) (br_f (by decide) (br_f (by decide) (br_f (by decide) (br_f (by decide) (br_f (by decide) (br_t rfl (br_f (by decide) (y7_0 (h n (by omega)))))))))))))
theorem ye_if1z (hF : tr_F K L b_kinds N) (hi : i < 4) (hd : d < 4) (hj : j < 20000) (hch : a_chain i = nI (d + 1)) (hfn : a_actFunction (i * 4 + d) = nI f) (hf : f < 6) (hr : a_roots f = nI r) (hr8 : r < 128) (hpr : p ≠ r) (hq : q < N) (c : tr_ch K L q 1 p) (hk : K q = 10) (hx : x = 0) {e : Nat} (c2 : tr_ch K L q 3 e) (h : sm_Y i (j + 1) (nI e) 0 x (nI tu) (f_nodeLimit, f_slotLimit, f_depthLimit, f_turnLimit, nI N, f_defined, b_kinds, a_values, a_roots, a_cells, a_states, a_results, a_chain, a_actFunction, b_place, a_locals, b_savedSort, b_savedValue) post) : sm_Y i j (nI p) 1 x (nI tu) (f_nodeLimit, f_slotLimit, f_depthLimit, f_turnLimit, nI N, f_defined, b_kinds, a_values, a_roots, a_cells, a_states, a_results, a_chain, a_actFunction, b_place, a_locals, b_savedSort, b_savedValue) post := by
  intro n hn
  obtain ⟨n, rfl⟩ : ∃ n', n = n' + 1 := ⟨n - 1, by omega⟩
  have hN := hF.1
  have hl := tr_lt (tr_FW hF) hq c
  have hkk := (hF.2 q hq).2
  have e1 : a_chain (nI i).toNatClampNeg - 1 = nI d := by rw [nI_clamp (by omega), hch, tr_s1 (by omega)]; rfl
  have ea : vp_in (nI (i * 4 + d)) 16 := vp_in_nI (by omega) (by decide)
  have ef : a_actFunction (nI (i * 4 + d)).toNatClampNeg = nI f := by rw [nI_clamp (by omega), hfn]
  have eb : ¬ nI p = a_roots (a_actFunction (nI (i * 4 + d)).toNatClampNeg).toNatClampNeg := by
    rw [ef, nI_clamp (by omega), hr]
    exact fun z => hpr (tr_inj z (by omega) (by omega))
  have hin : vp_in (nI q) 128 := vp_in_nI (by omega) (by decide)
  have ev : a_values (nI q).toNatClampNeg = a_values q := tr_fc (by omega) _
  have e7 : b_kinds (nI q).toNatClampNeg = 10 := by rw [nI_clamp (by omega), hkk.1, hk]; rfl
  refine br_f (nI_ge (b := 20000) (by omega) (by decide)) ⟨vp_in_nI (by omega) (by decide), nm_r e1 (nm_r (tr_i4 i d) (br_f (by decide) ⟨ea, pk_in f 6 (by omega) ef, br_f eb (yt_par hF hq c (yt_num hF hq c ⟨hin, nm_r e7 ⟨hin, nm_r ev (nm_r (tr_i128 _ _) ?_)⟩⟩))⟩))⟩
  exact br_f (by decide) (br_f (by decide) (br_t rfl (br_f (by decide) (br_f (by decide) (br_f (by decide) (br_f (by decide) (br_f (by decide) (br_f (by decide) (br_f (by decide) (br_t rfl (br_t rfl (br_t hx (y7_s hF hq c2 (h n (by omega)))))))))))))))
theorem ye_if1n (hF : tr_F K L b_kinds N) (hi : i < 4) (hd : d < 4) (hj : j < 20000) (hch : a_chain i = nI (d + 1)) (hfn : a_actFunction (i * 4 + d) = nI f) (hf : f < 6) (hr : a_roots f = nI r) (hr8 : r < 128) (hpr : p ≠ r) (hq : q < N) (c : tr_ch K L q 1 p) (hk : K q = 10) (hx : ¬ x = 0) {e : Nat} (c2 : tr_ch K L q 2 e) (h : sm_Y i (j + 1) (nI e) 0 x (nI tu) (f_nodeLimit, f_slotLimit, f_depthLimit, f_turnLimit, nI N, f_defined, b_kinds, a_values, a_roots, a_cells, a_states, a_results, a_chain, a_actFunction, b_place, a_locals, b_savedSort, b_savedValue) post) : sm_Y i j (nI p) 1 x (nI tu) (f_nodeLimit, f_slotLimit, f_depthLimit, f_turnLimit, nI N, f_defined, b_kinds, a_values, a_roots, a_cells, a_states, a_results, a_chain, a_actFunction, b_place, a_locals, b_savedSort, b_savedValue) post := by
  intro n hn
  obtain ⟨n, rfl⟩ : ∃ n', n = n' + 1 := ⟨n - 1, by omega⟩
  have hN := hF.1
  have hl := tr_lt (tr_FW hF) hq c
  have hkk := (hF.2 q hq).2
  have e1 : a_chain (nI i).toNatClampNeg - 1 = nI d := by rw [nI_clamp (by omega), hch, tr_s1 (by omega)]; rfl
  have ea : vp_in (nI (i * 4 + d)) 16 := vp_in_nI (by omega) (by decide)
  have ef : a_actFunction (nI (i * 4 + d)).toNatClampNeg = nI f := by rw [nI_clamp (by omega), hfn]
  have eb : ¬ nI p = a_roots (a_actFunction (nI (i * 4 + d)).toNatClampNeg).toNatClampNeg := by
    rw [ef, nI_clamp (by omega), hr]
    exact fun z => hpr (tr_inj z (by omega) (by omega))
  have hin : vp_in (nI q) 128 := vp_in_nI (by omega) (by decide)
  have ev : a_values (nI q).toNatClampNeg = a_values q := tr_fc (by omega) _
  have e7 : b_kinds (nI q).toNatClampNeg = 10 := by rw [nI_clamp (by omega), hkk.1, hk]; rfl
  refine br_f (nI_ge (b := 20000) (by omega) (by decide)) ⟨vp_in_nI (by omega) (by decide), nm_r e1 (nm_r (tr_i4 i d) (br_f (by decide) ⟨ea, pk_in f 6 (by omega) ef, br_f eb (yt_par hF hq c (yt_num hF hq c ⟨hin, nm_r e7 ⟨hin, nm_r ev (nm_r (tr_i128 _ _) ?_)⟩⟩))⟩))⟩
  exact br_f (by decide) (br_f (by decide) (br_t rfl (br_f (by decide) (br_f (by decide) (br_f (by decide) (br_f (by decide) (br_f (by decide) (br_f (by decide) (br_f (by decide) (br_t rfl (br_t rfl (br_f hx (y7_s hF hq c2 (h n (by omega)))))))))))))))
theorem ye_if2 (hF : tr_F K L b_kinds N) (hi : i < 4) (hd : d < 4) (hj : j < 20000) (hch : a_chain i = nI (d + 1)) (hfn : a_actFunction (i * 4 + d) = nI f) (hf : f < 6) (hr : a_roots f = nI r) (hr8 : r < 128) (hpr : p ≠ r) (hq : q < N) (c : tr_ch K L q 2 p) (hk : K q = 10)  (h : sm_Y i (j + 1) (nI q) 1 x (nI tu) (f_nodeLimit, f_slotLimit, f_depthLimit, f_turnLimit, nI N, f_defined, b_kinds, a_values, a_roots, a_cells, a_states, a_results, a_chain, a_actFunction, b_place, a_locals, b_savedSort, b_savedValue) post) : sm_Y i j (nI p) 1 x (nI tu) (f_nodeLimit, f_slotLimit, f_depthLimit, f_turnLimit, nI N, f_defined, b_kinds, a_values, a_roots, a_cells, a_states, a_results, a_chain, a_actFunction, b_place, a_locals, b_savedSort, b_savedValue) post := by
  intro n hn
  obtain ⟨n, rfl⟩ : ∃ n', n = n' + 1 := ⟨n - 1, by omega⟩
  have hN := hF.1
  have hl := tr_lt (tr_FW hF) hq c
  have hkk := (hF.2 q hq).2
  have e1 : a_chain (nI i).toNatClampNeg - 1 = nI d := by rw [nI_clamp (by omega), hch, tr_s1 (by omega)]; rfl
  have ea : vp_in (nI (i * 4 + d)) 16 := vp_in_nI (by omega) (by decide)
  have ef : a_actFunction (nI (i * 4 + d)).toNatClampNeg = nI f := by rw [nI_clamp (by omega), hfn]
  have eb : ¬ nI p = a_roots (a_actFunction (nI (i * 4 + d)).toNatClampNeg).toNatClampNeg := by
    rw [ef, nI_clamp (by omega), hr]
    exact fun z => hpr (tr_inj z (by omega) (by omega))
  have hin : vp_in (nI q) 128 := vp_in_nI (by omega) (by decide)
  have ev : a_values (nI q).toNatClampNeg = a_values q := tr_fc (by omega) _
  have e7 : b_kinds (nI q).toNatClampNeg = 10 := by rw [nI_clamp (by omega), hkk.1, hk]; rfl
  refine br_f (nI_ge (b := 20000) (by omega) (by decide)) ⟨vp_in_nI (by omega) (by decide), nm_r e1 (nm_r (tr_i4 i d) (br_f (by decide) ⟨ea, pk_in f 6 (by omega) ef, br_f eb (yt_par hF hq c (yt_num hF hq c ⟨hin, nm_r e7 ⟨hin, nm_r ev (nm_r (tr_i128 _ _) ?_)⟩⟩))⟩))⟩
  exact br_f (by decide) (br_f (by decide) (br_t rfl (br_f (by decide) (br_f (by decide) (br_f (by decide) (br_f (by decide) (br_f (by decide) (br_f (by decide) (br_f (by decide) (br_t rfl (br_f (by decide) (y7_0 (h n (by omega))))))))))))))
theorem ye_if3 (hF : tr_F K L b_kinds N) (hi : i < 4) (hd : d < 4) (hj : j < 20000) (hch : a_chain i = nI (d + 1)) (hfn : a_actFunction (i * 4 + d) = nI f) (hf : f < 6) (hr : a_roots f = nI r) (hr8 : r < 128) (hpr : p ≠ r) (hq : q < N) (c : tr_ch K L q 3 p) (hk : K q = 10)  (h : sm_Y i (j + 1) (nI q) 1 x (nI tu) (f_nodeLimit, f_slotLimit, f_depthLimit, f_turnLimit, nI N, f_defined, b_kinds, a_values, a_roots, a_cells, a_states, a_results, a_chain, a_actFunction, b_place, a_locals, b_savedSort, b_savedValue) post) : sm_Y i j (nI p) 1 x (nI tu) (f_nodeLimit, f_slotLimit, f_depthLimit, f_turnLimit, nI N, f_defined, b_kinds, a_values, a_roots, a_cells, a_states, a_results, a_chain, a_actFunction, b_place, a_locals, b_savedSort, b_savedValue) post := by
  intro n hn
  obtain ⟨n, rfl⟩ : ∃ n', n = n' + 1 := ⟨n - 1, by omega⟩
  have hN := hF.1
  have hl := tr_lt (tr_FW hF) hq c
  have hkk := (hF.2 q hq).2
  have e1 : a_chain (nI i).toNatClampNeg - 1 = nI d := by rw [nI_clamp (by omega), hch, tr_s1 (by omega)]; rfl
  have ea : vp_in (nI (i * 4 + d)) 16 := vp_in_nI (by omega) (by decide)
  have ef : a_actFunction (nI (i * 4 + d)).toNatClampNeg = nI f := by rw [nI_clamp (by omega), hfn]
  have eb : ¬ nI p = a_roots (a_actFunction (nI (i * 4 + d)).toNatClampNeg).toNatClampNeg := by
    rw [ef, nI_clamp (by omega), hr]
    exact fun z => hpr (tr_inj z (by omega) (by omega))
  have hin : vp_in (nI q) 128 := vp_in_nI (by omega) (by decide)
  have ev : a_values (nI q).toNatClampNeg = a_values q := tr_fc (by omega) _
  have e7 : b_kinds (nI q).toNatClampNeg = 10 := by rw [nI_clamp (by omega), hkk.1, hk]; rfl
  refine br_f (nI_ge (b := 20000) (by omega) (by decide)) ⟨vp_in_nI (by omega) (by decide), nm_r e1 (nm_r (tr_i4 i d) (br_f (by decide) ⟨ea, pk_in f 6 (by omega) ef, br_f eb (yt_par hF hq c (yt_num hF hq c ⟨hin, nm_r e7 ⟨hin, nm_r ev (nm_r (tr_i128 _ _) ?_)⟩⟩))⟩))⟩
  exact br_f (by decide) (br_f (by decide) (br_t rfl (br_f (by decide) (br_f (by decide) (br_f (by decide) (br_f (by decide) (br_f (by decide) (br_f (by decide) (br_f (by decide) (br_t rfl (br_f (by decide) (y7_0 (h n (by omega))))))))))))))
theorem ye_bin1 (hF : tr_F K L b_kinds N) (hi : i < 4) (hd : d < 4) (hj : j < 20000) (hch : a_chain i = nI (d + 1)) (hfn : a_actFunction (i * 4 + d) = nI f) (hf : f < 6) (hr : a_roots f = nI r) (hr8 : r < 128) (hpr : p ≠ r) (hq : q < N) (c : tr_ch K L q 1 p) (hk : 5 ≤ K q ∧ K q ≤ 8) {e : Nat} (c2 : tr_ch K L q 2 e) (h : sm_Y i (j + 1) (nI e) 0 x (nI tu) (f_nodeLimit, f_slotLimit, f_depthLimit, f_turnLimit, nI N, f_defined, b_kinds, a_values, a_roots, a_cells, a_states, a_results, a_chain, a_actFunction, b_place, a_locals, b_savedSort, upd b_savedValue ((i * 4 + d) * 128 + q) x) post) : sm_Y i j (nI p) 1 x (nI tu) (f_nodeLimit, f_slotLimit, f_depthLimit, f_turnLimit, nI N, f_defined, b_kinds, a_values, a_roots, a_cells, a_states, a_results, a_chain, a_actFunction, b_place, a_locals, b_savedSort, b_savedValue) post := by
  intro n hn
  obtain ⟨n, rfl⟩ : ∃ n', n = n' + 1 := ⟨n - 1, by omega⟩
  have hN := hF.1
  have hl := tr_lt (tr_FW hF) hq c
  have hkk := (hF.2 q hq).2
  have e1 : a_chain (nI i).toNatClampNeg - 1 = nI d := by rw [nI_clamp (by omega), hch, tr_s1 (by omega)]; rfl
  have ea : vp_in (nI (i * 4 + d)) 16 := vp_in_nI (by omega) (by decide)
  have ef : a_actFunction (nI (i * 4 + d)).toNatClampNeg = nI f := by rw [nI_clamp (by omega), hfn]
  have eb : ¬ nI p = a_roots (a_actFunction (nI (i * 4 + d)).toNatClampNeg).toNatClampNeg := by
    rw [ef, nI_clamp (by omega), hr]
    exact fun z => hpr (tr_inj z (by omega) (by omega))
  have hin : vp_in (nI q) 128 := vp_in_nI (by omega) (by decide)
  have ev : a_values (nI q).toNatClampNeg = a_values q := tr_fc (by omega) _
  have e7 : b_kinds (nI q).toNatClampNeg = nI (K q) := by rw [nI_clamp (by omega), hkk.1]
  have e8 : vp_in (nI ((i * 4 + d) * 128 + q)) 2048 := vp_in_nI (by omega) (by decide)
  have n_ : ∀ m : Nat, m ≠ K q → m < 100 → ¬ nI (K q) = nI m := fun m h1 h2 z => h1 (tr_inj z (by omega) (by omega)).symm
  refine br_f (nI_ge (b := 20000) (by omega) (by decide)) ⟨vp_in_nI (by omega) (by decide), nm_r e1 (nm_r (tr_i4 i d) (br_f (by decide) ⟨ea, pk_in f 6 (by omega) ef, br_f eb (yt_par hF hq c (yt_num hF hq c ⟨hin, nm_r e7 ⟨hin, nm_r ev (nm_r (tr_i128 _ _) ?_)⟩⟩))⟩))⟩
  exact br_f (n_ 14 (by omega) (by omega)) (br_f (n_ 11 (by omega) (by omega)) (br_t rfl (br_f (n_ 11 (by omega) (by omega)) (br_f (n_ 3 (by omega) (by omega)) (br_f (n_ 4 (by omega) (by omega)) (br_f (n_ 13 (by omega) (by omega)) (br_f (n_ 15 (by omega) (by omega)) (br_f (n_ 16 (by omega) (by omega)) (br_f (n_ 9 (by omega) (by omega)) (br_f (n_ 10 (by omega) (by omega)) (br_t rfl ⟨e8, nm_r (tr_uc (by omega) _ _) (y7_s hF hq c2 (h n (by omega)))⟩)))))))))))
theorem ye_add (hF : tr_F K L b_kinds N) (hi : i < 4) (hd : d < 4) (hj : j < 20000) (hch : a_chain i = nI (d + 1)) (hfn : a_actFunction (i * 4 + d) = nI f) (hf : f < 6) (hr : a_roots f = nI r) (hr8 : r < 128) (hpr : p ≠ r) (hq : q < N) (c : tr_ch K L q 2 p) (hk : K q = 5)  (h : sm_Y i (j + 1) (nI q) 1 (b_savedValue ((i * 4 + d) * 128 + q) + x) (nI tu) (f_nodeLimit, f_slotLimit, f_depthLimit, f_turnLimit, nI N, f_defined, b_kinds, a_values, a_roots, a_cells, a_states, a_results, a_chain, a_actFunction, b_place, a_locals, b_savedSort, b_savedValue) post) : sm_Y i j (nI p) 1 x (nI tu) (f_nodeLimit, f_slotLimit, f_depthLimit, f_turnLimit, nI N, f_defined, b_kinds, a_values, a_roots, a_cells, a_states, a_results, a_chain, a_actFunction, b_place, a_locals, b_savedSort, b_savedValue) post := by
  intro n hn
  obtain ⟨n, rfl⟩ : ∃ n', n = n' + 1 := ⟨n - 1, by omega⟩
  have hN := hF.1
  have hl := tr_lt (tr_FW hF) hq c
  have hkk := (hF.2 q hq).2
  have e1 : a_chain (nI i).toNatClampNeg - 1 = nI d := by rw [nI_clamp (by omega), hch, tr_s1 (by omega)]; rfl
  have ea : vp_in (nI (i * 4 + d)) 16 := vp_in_nI (by omega) (by decide)
  have ef : a_actFunction (nI (i * 4 + d)).toNatClampNeg = nI f := by rw [nI_clamp (by omega), hfn]
  have eb : ¬ nI p = a_roots (a_actFunction (nI (i * 4 + d)).toNatClampNeg).toNatClampNeg := by
    rw [ef, nI_clamp (by omega), hr]
    exact fun z => hpr (tr_inj z (by omega) (by omega))
  have hin : vp_in (nI q) 128 := vp_in_nI (by omega) (by decide)
  have ev : a_values (nI q).toNatClampNeg = a_values q := tr_fc (by omega) _
  have e7 : b_kinds (nI q).toNatClampNeg = 5 := by rw [nI_clamp (by omega), hkk.1, hk]; rfl
  have e8 : vp_in (nI ((i * 4 + d) * 128 + q)) 2048 := vp_in_nI (by omega) (by decide)
  refine br_f (nI_ge (b := 20000) (by omega) (by decide)) ⟨vp_in_nI (by omega) (by decide), nm_r e1 (nm_r (tr_i4 i d) (br_f (by decide) ⟨ea, pk_in f 6 (by omega) ef, br_f eb (yt_par hF hq c (yt_num hF hq c ⟨hin, nm_r e7 ⟨hin, nm_r ev (nm_r (tr_i128 _ _) ?_)⟩⟩))⟩))⟩
  exact br_f (by decide) (br_f (by decide) (br_t rfl (br_f (by decide) (br_f (by decide) (br_f (by decide) (br_f (by decide) (br_f (by decide) (br_f (by decide) (br_f (by decide) (br_f (by decide) (br_f (by decide) ⟨e8, nm_r (tr_fc (by omega) _) (br_t rfl (nm_e (y7_0 (h n (by omega)))))⟩)))))))))))
theorem ye_sub (hF : tr_F K L b_kinds N) (hi : i < 4) (hd : d < 4) (hj : j < 20000) (hch : a_chain i = nI (d + 1)) (hfn : a_actFunction (i * 4 + d) = nI f) (hf : f < 6) (hr : a_roots f = nI r) (hr8 : r < 128) (hpr : p ≠ r) (hq : q < N) (c : tr_ch K L q 2 p) (hk : K q = 6)  (h : sm_Y i (j + 1) (nI q) 1 (b_savedValue ((i * 4 + d) * 128 + q) - x) (nI tu) (f_nodeLimit, f_slotLimit, f_depthLimit, f_turnLimit, nI N, f_defined, b_kinds, a_values, a_roots, a_cells, a_states, a_results, a_chain, a_actFunction, b_place, a_locals, b_savedSort, b_savedValue) post) : sm_Y i j (nI p) 1 x (nI tu) (f_nodeLimit, f_slotLimit, f_depthLimit, f_turnLimit, nI N, f_defined, b_kinds, a_values, a_roots, a_cells, a_states, a_results, a_chain, a_actFunction, b_place, a_locals, b_savedSort, b_savedValue) post := by
  intro n hn
  obtain ⟨n, rfl⟩ : ∃ n', n = n' + 1 := ⟨n - 1, by omega⟩
  have hN := hF.1
  have hl := tr_lt (tr_FW hF) hq c
  have hkk := (hF.2 q hq).2
  have e1 : a_chain (nI i).toNatClampNeg - 1 = nI d := by rw [nI_clamp (by omega), hch, tr_s1 (by omega)]; rfl
  have ea : vp_in (nI (i * 4 + d)) 16 := vp_in_nI (by omega) (by decide)
  have ef : a_actFunction (nI (i * 4 + d)).toNatClampNeg = nI f := by rw [nI_clamp (by omega), hfn]
  have eb : ¬ nI p = a_roots (a_actFunction (nI (i * 4 + d)).toNatClampNeg).toNatClampNeg := by
    rw [ef, nI_clamp (by omega), hr]
    exact fun z => hpr (tr_inj z (by omega) (by omega))
  have hin : vp_in (nI q) 128 := vp_in_nI (by omega) (by decide)
  have ev : a_values (nI q).toNatClampNeg = a_values q := tr_fc (by omega) _
  have e7 : b_kinds (nI q).toNatClampNeg = 6 := by rw [nI_clamp (by omega), hkk.1, hk]; rfl
  have e8 : vp_in (nI ((i * 4 + d) * 128 + q)) 2048 := vp_in_nI (by omega) (by decide)
  refine br_f (nI_ge (b := 20000) (by omega) (by decide)) ⟨vp_in_nI (by omega) (by decide), nm_r e1 (nm_r (tr_i4 i d) (br_f (by decide) ⟨ea, pk_in f 6 (by omega) ef, br_f eb (yt_par hF hq c (yt_num hF hq c ⟨hin, nm_r e7 ⟨hin, nm_r ev (nm_r (tr_i128 _ _) ?_)⟩⟩))⟩))⟩
  exact br_f (by decide) (br_f (by decide) (br_t rfl (br_f (by decide) (br_f (by decide) (br_f (by decide) (br_f (by decide) (br_f (by decide) (br_f (by decide) (br_f (by decide) (br_f (by decide) (br_f (by decide) ⟨e8, nm_r (tr_fc (by omega) _) (br_f (by decide) (br_t rfl (nm_e (y7_0 (h n (by omega))))))⟩)))))))))))
theorem ye_mul (hF : tr_F K L b_kinds N) (hi : i < 4) (hd : d < 4) (hj : j < 20000) (hch : a_chain i = nI (d + 1)) (hfn : a_actFunction (i * 4 + d) = nI f) (hf : f < 6) (hr : a_roots f = nI r) (hr8 : r < 128) (hpr : p ≠ r) (hq : q < N) (c : tr_ch K L q 2 p) (hk : K q = 7)  (h : sm_Y i (j + 1) (nI q) 1 (b_savedValue ((i * 4 + d) * 128 + q) * x) (nI tu) (f_nodeLimit, f_slotLimit, f_depthLimit, f_turnLimit, nI N, f_defined, b_kinds, a_values, a_roots, a_cells, a_states, a_results, a_chain, a_actFunction, b_place, a_locals, b_savedSort, b_savedValue) post) : sm_Y i j (nI p) 1 x (nI tu) (f_nodeLimit, f_slotLimit, f_depthLimit, f_turnLimit, nI N, f_defined, b_kinds, a_values, a_roots, a_cells, a_states, a_results, a_chain, a_actFunction, b_place, a_locals, b_savedSort, b_savedValue) post := by
  intro n hn
  obtain ⟨n, rfl⟩ : ∃ n', n = n' + 1 := ⟨n - 1, by omega⟩
  have hN := hF.1
  have hl := tr_lt (tr_FW hF) hq c
  have hkk := (hF.2 q hq).2
  have e1 : a_chain (nI i).toNatClampNeg - 1 = nI d := by rw [nI_clamp (by omega), hch, tr_s1 (by omega)]; rfl
  have ea : vp_in (nI (i * 4 + d)) 16 := vp_in_nI (by omega) (by decide)
  have ef : a_actFunction (nI (i * 4 + d)).toNatClampNeg = nI f := by rw [nI_clamp (by omega), hfn]
  have eb : ¬ nI p = a_roots (a_actFunction (nI (i * 4 + d)).toNatClampNeg).toNatClampNeg := by
    rw [ef, nI_clamp (by omega), hr]
    exact fun z => hpr (tr_inj z (by omega) (by omega))
  have hin : vp_in (nI q) 128 := vp_in_nI (by omega) (by decide)
  have ev : a_values (nI q).toNatClampNeg = a_values q := tr_fc (by omega) _
  have e7 : b_kinds (nI q).toNatClampNeg = 7 := by rw [nI_clamp (by omega), hkk.1, hk]; rfl
  have e8 : vp_in (nI ((i * 4 + d) * 128 + q)) 2048 := vp_in_nI (by omega) (by decide)
  refine br_f (nI_ge (b := 20000) (by omega) (by decide)) ⟨vp_in_nI (by omega) (by decide), nm_r e1 (nm_r (tr_i4 i d) (br_f (by decide) ⟨ea, pk_in f 6 (by omega) ef, br_f eb (yt_par hF hq c (yt_num hF hq c ⟨hin, nm_r e7 ⟨hin, nm_r ev (nm_r (tr_i128 _ _) ?_)⟩⟩))⟩))⟩
  exact br_f (by decide) (br_f (by decide) (br_t rfl (br_f (by decide) (br_f (by decide) (br_f (by decide) (br_f (by decide) (br_f (by decide) (br_f (by decide) (br_f (by decide) (br_f (by decide) (br_f (by decide) ⟨e8, nm_r (tr_fc (by omega) _) (br_f (by decide) (br_f (by decide) (br_t rfl (nm_e (y7_0 (h n (by omega)))))))⟩)))))))))))
theorem ye_less0 (hF : tr_F K L b_kinds N) (hi : i < 4) (hd : d < 4) (hj : j < 20000) (hch : a_chain i = nI (d + 1)) (hfn : a_actFunction (i * 4 + d) = nI f) (hf : f < 6) (hr : a_roots f = nI r) (hr8 : r < 128) (hpr : p ≠ r) (hq : q < N) (c : tr_ch K L q 2 p) (hk : K q = 8) (hx : x ≤ b_savedValue ((i * 4 + d) * 128 + q)) (h : sm_Y i (j + 1) (nI q) 1 0 (nI tu) (f_nodeLimit, f_slotLimit, f_depthLimit, f_turnLimit, nI N, f_defined, b_kinds, a_values, a_roots, a_cells, a_states, a_results, a_chain, a_actFunction, b_place, a_locals, b_savedSort, b_savedValue) post) : sm_Y i j (nI p) 1 x (nI tu) (f_nodeLimit, f_slotLimit, f_depthLimit, f_turnLimit, nI N, f_defined, b_kinds, a_values, a_roots, a_cells, a_states, a_results, a_chain, a_actFunction, b_place, a_locals, b_savedSort, b_savedValue) post := by
  intro n hn
  obtain ⟨n, rfl⟩ : ∃ n', n = n' + 1 := ⟨n - 1, by omega⟩
  have hN := hF.1
  have hl := tr_lt (tr_FW hF) hq c
  have hkk := (hF.2 q hq).2
  have e1 : a_chain (nI i).toNatClampNeg - 1 = nI d := by rw [nI_clamp (by omega), hch, tr_s1 (by omega)]; rfl
  have ea : vp_in (nI (i * 4 + d)) 16 := vp_in_nI (by omega) (by decide)
  have ef : a_actFunction (nI (i * 4 + d)).toNatClampNeg = nI f := by rw [nI_clamp (by omega), hfn]
  have eb : ¬ nI p = a_roots (a_actFunction (nI (i * 4 + d)).toNatClampNeg).toNatClampNeg := by
    rw [ef, nI_clamp (by omega), hr]
    exact fun z => hpr (tr_inj z (by omega) (by omega))
  have hin : vp_in (nI q) 128 := vp_in_nI (by omega) (by decide)
  have ev : a_values (nI q).toNatClampNeg = a_values q := tr_fc (by omega) _
  have e7 : b_kinds (nI q).toNatClampNeg = 8 := by rw [nI_clamp (by omega), hkk.1, hk]; rfl
  have e8 : vp_in (nI ((i * 4 + d) * 128 + q)) 2048 := vp_in_nI (by omega) (by decide)
  refine br_f (nI_ge (b := 20000) (by omega) (by decide)) ⟨vp_in_nI (by omega) (by decide), nm_r e1 (nm_r (tr_i4 i d) (br_f (by decide) ⟨ea, pk_in f 6 (by omega) ef, br_f eb (yt_par hF hq c (yt_num hF hq c ⟨hin, nm_r e7 ⟨hin, nm_r ev (nm_r (tr_i128 _ _) ?_)⟩⟩))⟩))⟩
  exact br_f (by decide) (br_f (by decide) (br_t rfl (br_f (by decide) (br_f (by decide) (br_f (by decide) (br_f (by decide) (br_f (by decide) (br_f (by decide) (br_f (by decide) (br_f (by decide) (br_f (by decide) ⟨e8, nm_r (tr_fc (by omega) _) (br_f (by decide) (br_f (by decide) (br_f (by decide) (br_t hx (y7_0 (h n (by omega)))))))⟩)))))))))))
theorem ye_less1 (hF : tr_F K L b_kinds N) (hi : i < 4) (hd : d < 4) (hj : j < 20000) (hch : a_chain i = nI (d + 1)) (hfn : a_actFunction (i * 4 + d) = nI f) (hf : f < 6) (hr : a_roots f = nI r) (hr8 : r < 128) (hpr : p ≠ r) (hq : q < N) (c : tr_ch K L q 2 p) (hk : K q = 8) (hx : ¬ x ≤ b_savedValue ((i * 4 + d) * 128 + q)) (h : sm_Y i (j + 1) (nI q) 1 1 (nI tu) (f_nodeLimit, f_slotLimit, f_depthLimit, f_turnLimit, nI N, f_defined, b_kinds, a_values, a_roots, a_cells, a_states, a_results, a_chain, a_actFunction, b_place, a_locals, b_savedSort, b_savedValue) post) : sm_Y i j (nI p) 1 x (nI tu) (f_nodeLimit, f_slotLimit, f_depthLimit, f_turnLimit, nI N, f_defined, b_kinds, a_values, a_roots, a_cells, a_states, a_results, a_chain, a_actFunction, b_place, a_locals, b_savedSort, b_savedValue) post := by
  intro n hn
  obtain ⟨n, rfl⟩ : ∃ n', n = n' + 1 := ⟨n - 1, by omega⟩
  have hN := hF.1
  have hl := tr_lt (tr_FW hF) hq c
  have hkk := (hF.2 q hq).2
  have e1 : a_chain (nI i).toNatClampNeg - 1 = nI d := by rw [nI_clamp (by omega), hch, tr_s1 (by omega)]; rfl
  have ea : vp_in (nI (i * 4 + d)) 16 := vp_in_nI (by omega) (by decide)
  have ef : a_actFunction (nI (i * 4 + d)).toNatClampNeg = nI f := by rw [nI_clamp (by omega), hfn]
  have eb : ¬ nI p = a_roots (a_actFunction (nI (i * 4 + d)).toNatClampNeg).toNatClampNeg := by
    rw [ef, nI_clamp (by omega), hr]
    exact fun z => hpr (tr_inj z (by omega) (by omega))
  have hin : vp_in (nI q) 128 := vp_in_nI (by omega) (by decide)
  have ev : a_values (nI q).toNatClampNeg = a_values q := tr_fc (by omega) _
  have e7 : b_kinds (nI q).toNatClampNeg = 8 := by rw [nI_clamp (by omega), hkk.1, hk]; rfl
  have e8 : vp_in (nI ((i * 4 + d) * 128 + q)) 2048 := vp_in_nI (by omega) (by decide)
  refine br_f (nI_ge (b := 20000) (by omega) (by decide)) ⟨vp_in_nI (by omega) (by decide), nm_r e1 (nm_r (tr_i4 i d) (br_f (by decide) ⟨ea, pk_in f 6 (by omega) ef, br_f eb (yt_par hF hq c (yt_num hF hq c ⟨hin, nm_r e7 ⟨hin, nm_r ev (nm_r (tr_i128 _ _) ?_)⟩⟩))⟩))⟩
  exact br_f (by decide) (br_f (by decide) (br_t rfl (br_f (by decide) (br_f (by decide) (br_f (by decide) (br_f (by decide) (br_f (by decide) (br_f (by decide) (br_f (by decide) (br_f (by decide) (br_f (by decide) ⟨e8, nm_r (tr_fc (by omega) _) (br_f (by decide) (br_f (by decide) (br_f (by decide) (br_f hx (y7_0 (h n (by omega)))))))⟩)))))))))))
theorem ye_wh2 (hF : tr_F K L b_kinds N) (hi : i < 4) (hd : d < 4) (hj : j < 20000) (hch : a_chain i = nI (d + 1)) (hfn : a_actFunction (i * 4 + d) = nI f) (hf : f < 6) (hr : a_roots f = nI r) (hr8 : r < 128) (hpr : p ≠ r) (hq : q < N) (c : tr_ch K L q 2 p) (hk : K q = 11) {e : Nat} (c2 : tr_ch K L q 1 e) (h : sm_Y i (j + 1) (nI e) 0 x (nI tu) (f_nodeLimit, f_slotLimit, f_depthLimit, f_turnLimit, nI N, f_defined, b_kinds, a_values, a_roots, a_cells, a_states, a_results, a_chain, a_actFunction, b_place, a_locals, b_savedSort, b_savedValue) post) : sm_Y i j (nI p) 1 x (nI tu) (f_nodeLimit, f_slotLimit, f_depthLimit, f_turnLimit, nI N, f_defined, b_kinds, a_values, a_roots, a_cells, a_states, a_results, a_chain, a_actFunction, b_place, a_locals, b_savedSort, b_savedValue) post := by
  intro n hn
  obtain ⟨n, rfl⟩ : ∃ n', n = n' + 1 := ⟨n - 1, by omega⟩
  have hN := hF.1
  have hl := tr_lt (tr_FW hF) hq c
  have hkk := (hF.2 q hq).2
  have e1 : a_chain (nI i).toNatClampNeg - 1 = nI d := by rw [nI_clamp (by omega), hch, tr_s1 (by omega)]; rfl
  have ea : vp_in (nI (i * 4 + d)) 16 := vp_in_nI (by omega) (by decide)
  have ef : a_actFunction (nI (i * 4 + d)).toNatClampNeg = nI f := by rw [nI_clamp (by omega), hfn]
  have eb : ¬ nI p = a_roots (a_actFunction (nI (i * 4 + d)).toNatClampNeg).toNatClampNeg := by
    rw [ef, nI_clamp (by omega), hr]
    exact fun z => hpr (tr_inj z (by omega) (by omega))
  have hin : vp_in (nI q) 128 := vp_in_nI (by omega) (by decide)
  have ev : a_values (nI q).toNatClampNeg = a_values q := tr_fc (by omega) _
  have e7 : b_kinds (nI q).toNatClampNeg = 11 := by rw [nI_clamp (by omega), hkk.1, hk]; rfl
  refine br_f (nI_ge (b := 20000) (by omega) (by decide)) ⟨vp_in_nI (by omega) (by decide), nm_r e1 (nm_r (tr_i4 i d) (br_f (by decide) ⟨ea, pk_in f 6 (by omega) ef, br_f eb (yt_par hF hq c (yt_num hF hq c ⟨hin, nm_r e7 ⟨hin, nm_r ev (nm_r (tr_i128 _ _) ?_)⟩⟩))⟩))⟩
  exact br_f (by decide) (br_t rfl (br_f (by decide) (br_t rfl (br_t rfl (br_t rfl (y7_s hF hq c2 (h n (by omega))))))))
theorem ye_wh1z (hF : tr_F K L b_kinds N) (hi : i < 4) (hd : d < 4) (hj : j < 20000) (hch : a_chain i = nI (d + 1)) (hfn : a_actFunction (i * 4 + d) = nI f) (hf : f < 6) (hr : a_roots f = nI r) (hr8 : r < 128) (hpr : p ≠ r) (hq : q < N) (c : tr_ch K L q 1 p) (hk : K q = 11) (hx : x = 0) (h : sm_Y i (j + 1) (nI q) 1 x (nI tu) (f_nodeLimit, f_slotLimit, f_depthLimit, f_turnLimit, nI N, f_defined, b_kinds, a_values, a_roots, a_cells, a_states, a_results, a_chain, a_actFunction, b_place, a_locals, b_savedSort, b_savedValue) post) : sm_Y i j (nI p) 1 x (nI tu) (f_nodeLimit, f_slotLimit, f_depthLimit, f_turnLimit, nI N, f_defined, b_kinds, a_values, a_roots, a_cells, a_states, a_results, a_chain, a_actFunction, b_place, a_locals, b_savedSort, b_savedValue) post := by
  intro n hn
  obtain ⟨n, rfl⟩ : ∃ n', n = n' + 1 := ⟨n - 1, by omega⟩
  have hN := hF.1
  have hl := tr_lt (tr_FW hF) hq c
  have hkk := (hF.2 q hq).2
  have e1 : a_chain (nI i).toNatClampNeg - 1 = nI d := by rw [nI_clamp (by omega), hch, tr_s1 (by omega)]; rfl
  have ea : vp_in (nI (i * 4 + d)) 16 := vp_in_nI (by omega) (by decide)
  have ef : a_actFunction (nI (i * 4 + d)).toNatClampNeg = nI f := by rw [nI_clamp (by omega), hfn]
  have eb : ¬ nI p = a_roots (a_actFunction (nI (i * 4 + d)).toNatClampNeg).toNatClampNeg := by
    rw [ef, nI_clamp (by omega), hr]
    exact fun z => hpr (tr_inj z (by omega) (by omega))
  have hin : vp_in (nI q) 128 := vp_in_nI (by omega) (by decide)
  have ev : a_values (nI q).toNatClampNeg = a_values q := tr_fc (by omega) _
  have e7 : b_kinds (nI q).toNatClampNeg = 11 := by rw [nI_clamp (by omega), hkk.1, hk]; rfl
  refine br_f (nI_ge (b := 20000) (by omega) (by decide)) ⟨vp_in_nI (by omega) (by decide), nm_r e1 (nm_r (tr_i4 i d) (br_f (by decide) ⟨ea, pk_in f 6 (by omega) ef, br_f eb (yt_par hF hq c (yt_num hF hq c ⟨hin, nm_r e7 ⟨hin, nm_r ev (nm_r (tr_i128 _ _) ?_)⟩⟩))⟩))⟩
  exact br_f (by decide) (br_t rfl (br_f (by decide) (br_t rfl (br_t rfl (br_f (by decide) (br_t hx (y7_0 (h n (by omega)))))))))
theorem ye_wh1s (hF : tr_F K L b_kinds N) (hi : i < 4) (hd : d < 4) (hj : j < 20000) (hch : a_chain i = nI (d + 1)) (hfn : a_actFunction (i * 4 + d) = nI f) (hf : f < 6) (hr : a_roots f = nI r) (hr8 : r < 128) (hpr : p ≠ r) (hq : q < N) (c : tr_ch K L q 1 p) (hk : K q = 11) (hx : ¬ x = 0) (ht : nI tu = f_turnLimit) (h : post 5 (f_nodeLimit, f_slotLimit, f_depthLimit, f_turnLimit, nI N, f_defined, b_kinds, a_values, a_roots, a_cells, upd a_states i 5, upd a_results i 0, upd a_chain i 0, a_actFunction, b_place, a_locals, b_savedSort, b_savedValue)) : sm_Y i j (nI p) 1 x (nI tu) (f_nodeLimit, f_slotLimit, f_depthLimit, f_turnLimit, nI N, f_defined, b_kinds, a_values, a_roots, a_cells, a_states, a_results, a_chain, a_actFunction, b_place, a_locals, b_savedSort, b_savedValue) post := by
  intro n hn
  obtain ⟨n, rfl⟩ : ∃ n', n = n' + 1 := ⟨n - 1, by omega⟩
  have hN := hF.1
  have hl := tr_lt (tr_FW hF) hq c
  have hkk := (hF.2 q hq).2
  have e1 : a_chain (nI i).toNatClampNeg - 1 = nI d := by rw [nI_clamp (by omega), hch, tr_s1 (by omega)]; rfl
  have ea : vp_in (nI (i * 4 + d)) 16 := vp_in_nI (by omega) (by decide)
  have ef : a_actFunction (nI (i * 4 + d)).toNatClampNeg = nI f := by rw [nI_clamp (by omega), hfn]
  have eb : ¬ nI p = a_roots (a_actFunction (nI (i * 4 + d)).toNatClampNeg).toNatClampNeg := by
    rw [ef, nI_clamp (by omega), hr]
    exact fun z => hpr (tr_inj z (by omega) (by omega))
  have hin : vp_in (nI q) 128 := vp_in_nI (by omega) (by decide)
  have ev : a_values (nI q).toNatClampNeg = a_values q := tr_fc (by omega) _
  have e7 : b_kinds (nI q).toNatClampNeg = 11 := by rw [nI_clamp (by omega), hkk.1, hk]; rfl
  refine br_f (nI_ge (b := 20000) (by omega) (by decide)) ⟨vp_in_nI (by omega) (by decide), nm_r e1 (nm_r (tr_i4 i d) (br_f (by decide) ⟨ea, pk_in f 6 (by omega) ef, br_f eb (yt_par hF hq c (yt_num hF hq c ⟨hin, nm_r e7 ⟨hin, nm_r ev (nm_r (tr_i128 _ _) ?_)⟩⟩))⟩))⟩
  exact br_f (by decide) (br_t rfl (br_f (by decide) (br_t rfl (br_t rfl (br_f (by decide) (br_f hx (br_t ht (And.intro (vp_in_nI (by omega) (by decide)) (nm_r (tr_uc (by omega) _ _) ⟨vp_in_nI (by omega) (by decide), nm_r (tr_uc (by omega) _ _) ⟨vp_in_nI (by omega) (by decide), nm_r (tr_uc (by omega) _ _) h⟩⟩)))))))))
theorem ye_wh1t (hF : tr_F K L b_kinds N) (hi : i < 4) (hd : d < 4) (hj : j < 20000) (hch : a_chain i = nI (d + 1)) (hfn : a_actFunction (i * 4 + d) = nI f) (hf : f < 6) (hr : a_roots f = nI r) (hr8 : r < 128) (hpr : p ≠ r) (hq : q < N) (c : tr_ch K L q 1 p) (hk : K q = 11) (hx : ¬ x = 0) (ht : ¬ nI tu = f_turnLimit) {e : Nat} (c2 : tr_ch K L q 2 e) (h : sm_Y i (j + 1) (nI e) 0 x (nI (tu + 1)) (f_nodeLimit, f_slotLimit, f_depthLimit, f_turnLimit, nI N, f_defined, b_kinds, a_values, a_roots, a_cells, a_states, a_results, a_chain, a_actFunction, b_place, a_locals, b_savedSort, b_savedValue) post) : sm_Y i j (nI p) 1 x (nI tu) (f_nodeLimit, f_slotLimit, f_depthLimit, f_turnLimit, nI N, f_defined, b_kinds, a_values, a_roots, a_cells, a_states, a_results, a_chain, a_actFunction, b_place, a_locals, b_savedSort, b_savedValue) post := by
  intro n hn
  obtain ⟨n, rfl⟩ : ∃ n', n = n' + 1 := ⟨n - 1, by omega⟩
  have hN := hF.1
  have hl := tr_lt (tr_FW hF) hq c
  have hkk := (hF.2 q hq).2
  have e1 : a_chain (nI i).toNatClampNeg - 1 = nI d := by rw [nI_clamp (by omega), hch, tr_s1 (by omega)]; rfl
  have ea : vp_in (nI (i * 4 + d)) 16 := vp_in_nI (by omega) (by decide)
  have ef : a_actFunction (nI (i * 4 + d)).toNatClampNeg = nI f := by rw [nI_clamp (by omega), hfn]
  have eb : ¬ nI p = a_roots (a_actFunction (nI (i * 4 + d)).toNatClampNeg).toNatClampNeg := by
    rw [ef, nI_clamp (by omega), hr]
    exact fun z => hpr (tr_inj z (by omega) (by omega))
  have hin : vp_in (nI q) 128 := vp_in_nI (by omega) (by decide)
  have ev : a_values (nI q).toNatClampNeg = a_values q := tr_fc (by omega) _
  have e7 : b_kinds (nI q).toNatClampNeg = 11 := by rw [nI_clamp (by omega), hkk.1, hk]; rfl
  refine br_f (nI_ge (b := 20000) (by omega) (by decide)) ⟨vp_in_nI (by omega) (by decide), nm_r e1 (nm_r (tr_i4 i d) (br_f (by decide) ⟨ea, pk_in f 6 (by omega) ef, br_f eb (yt_par hF hq c (yt_num hF hq c ⟨hin, nm_r e7 ⟨hin, nm_r ev (nm_r (tr_i128 _ _) ?_)⟩⟩))⟩))⟩
  exact br_f (by decide) (br_t rfl (br_f (by decide) (br_t rfl (br_t rfl (br_f (by decide) (br_f hx (br_f ht (nm_r (nI_1 tu) (y7_s hF hq c2 (h n (by omega)))))))))))
theorem ye_whb (hF : tr_F K L b_kinds N) (hi : i < 4) (hd : d < 4) (hj : j < 20000) (hch : a_chain i = nI (d + 1)) (hfn : a_actFunction (i * 4 + d) = nI f) (hf : f < 6) (hr : a_roots f = nI r) (hr8 : r < 128) (hpr : p ≠ r) (hq : q < N) (c : tr_ch K L q k p) (hk : K q = 11)  (h : sm_Y i (j + 1) (nI q) 1 1 (nI tu) (f_nodeLimit, f_slotLimit, f_depthLimit, f_turnLimit, nI N, f_defined, b_kinds, a_values, a_roots, a_cells, a_states, a_results, a_chain, a_actFunction, b_place, a_locals, b_savedSort, b_savedValue) post) : sm_Y i j (nI p) 2 x (nI tu) (f_nodeLimit, f_slotLimit, f_depthLimit, f_turnLimit, nI N, f_defined, b_kinds, a_values, a_roots, a_cells, a_states, a_results, a_chain, a_actFunction, b_place, a_locals, b_savedSort, b_savedValue) post := by
  intro n hn
  obtain ⟨n, rfl⟩ : ∃ n', n = n' + 1 := ⟨n - 1, by omega⟩
  have hN := hF.1
  have hl := tr_lt (tr_FW hF) hq c
  have hkk := (hF.2 q hq).2
  have e1 : a_chain (nI i).toNatClampNeg - 1 = nI d := by rw [nI_clamp (by omega), hch, tr_s1 (by omega)]; rfl
  have ea : vp_in (nI (i * 4 + d)) 16 := vp_in_nI (by omega) (by decide)
  have ef : a_actFunction (nI (i * 4 + d)).toNatClampNeg = nI f := by rw [nI_clamp (by omega), hfn]
  have eb : ¬ nI p = a_roots (a_actFunction (nI (i * 4 + d)).toNatClampNeg).toNatClampNeg := by
    rw [ef, nI_clamp (by omega), hr]
    exact fun z => hpr (tr_inj z (by omega) (by omega))
  have hin : vp_in (nI q) 128 := vp_in_nI (by omega) (by decide)
  have ev : a_values (nI q).toNatClampNeg = a_values q := tr_fc (by omega) _
  have e7 : b_kinds (nI q).toNatClampNeg = 11 := by rw [nI_clamp (by omega), hkk.1, hk]; rfl
  refine br_f (nI_ge (b := 20000) (by omega) (by decide)) ⟨vp_in_nI (by omega) (by decide), nm_r e1 (nm_r (tr_i4 i d) (br_f (by decide) ⟨ea, pk_in f 6 (by omega) ef, br_f eb (yt_par hF hq c (yt_num hF hq c ⟨hin, nm_r e7 ⟨hin, nm_r ev (nm_r (tr_i128 _ _) ?_)⟩⟩))⟩))⟩
  exact br_f (by decide) (br_t rfl (br_t rfl (y7_0 (h n (by omega)))))
theorem ye_try1 (hF : tr_F K L b_kinds N) (hi : i < 4) (hd : d < 4) (hj : j < 20000) (hch : a_chain i = nI (d + 1)) (hfn : a_actFunction (i * 4 + d) = nI f) (hf : f < 6) (hr : a_roots f = nI r) (hr8 : r < 128) (hpr : p ≠ r) (hq : q < N) (c : tr_ch K L q 1 p) (hk : K q = 14) (hs : ¬ sort = 0) {e : Nat} (c2 : tr_ch K L q 2 e) (h : sm_Y i (j + 1) (nI e) 0 x (nI tu) (f_nodeLimit, f_slotLimit, f_depthLimit, f_turnLimit, nI N, f_defined, b_kinds, a_values, a_roots, a_cells, a_states, a_results, a_chain, a_actFunction, b_place, a_locals, upd b_savedSort ((i * 4 + d) * 128 + q) sort, upd b_savedValue ((i * 4 + d) * 128 + q) x) post) : sm_Y i j (nI p) sort x (nI tu) (f_nodeLimit, f_slotLimit, f_depthLimit, f_turnLimit, nI N, f_defined, b_kinds, a_values, a_roots, a_cells, a_states, a_results, a_chain, a_actFunction, b_place, a_locals, b_savedSort, b_savedValue) post := by
  intro n hn
  obtain ⟨n, rfl⟩ : ∃ n', n = n' + 1 := ⟨n - 1, by omega⟩
  have hN := hF.1
  have hl := tr_lt (tr_FW hF) hq c
  have hkk := (hF.2 q hq).2
  have e1 : a_chain (nI i).toNatClampNeg - 1 = nI d := by rw [nI_clamp (by omega), hch, tr_s1 (by omega)]; rfl
  have ea : vp_in (nI (i * 4 + d)) 16 := vp_in_nI (by omega) (by decide)
  have ef : a_actFunction (nI (i * 4 + d)).toNatClampNeg = nI f := by rw [nI_clamp (by omega), hfn]
  have eb : ¬ nI p = a_roots (a_actFunction (nI (i * 4 + d)).toNatClampNeg).toNatClampNeg := by
    rw [ef, nI_clamp (by omega), hr]
    exact fun z => hpr (tr_inj z (by omega) (by omega))
  have hin : vp_in (nI q) 128 := vp_in_nI (by omega) (by decide)
  have ev : a_values (nI q).toNatClampNeg = a_values q := tr_fc (by omega) _
  have e7 : b_kinds (nI q).toNatClampNeg = 14 := by rw [nI_clamp (by omega), hkk.1, hk]; rfl
  have e8 : vp_in (nI ((i * 4 + d) * 128 + q)) 2048 := vp_in_nI (by omega) (by decide)
  refine br_f (nI_ge (b := 20000) (by omega) (by decide)) ⟨vp_in_nI (by omega) (by decide), nm_r e1 (nm_r (tr_i4 i d) (br_f hs ⟨ea, pk_in f 6 (by omega) ef, br_f eb (yt_par hF hq c (yt_num hF hq c ⟨hin, nm_r e7 ⟨hin, nm_r ev (nm_r (tr_i128 _ _) ?_)⟩⟩))⟩))⟩
  exact br_t rfl (br_t rfl ⟨e8, nm_r (tr_uc (by omega) _ _) ⟨e8, nm_r (tr_uc (by omega) _ _) (y7_s hF hq c2 (h n (by omega)))⟩⟩)
theorem ye_try2n (hF : tr_F K L b_kinds N) (hi : i < 4) (hd : d < 4) (hj : j < 20000) (hch : a_chain i = nI (d + 1)) (hfn : a_actFunction (i * 4 + d) = nI f) (hf : f < 6) (hr : a_roots f = nI r) (hr8 : r < 128) (hpr : p ≠ r) (hq : q < N) (c : tr_ch K L q 2 p) (hk : K q = 14)  (h : sm_Y i (j + 1) (nI q) (b_savedSort ((i * 4 + d) * 128 + q)) (b_savedValue ((i * 4 + d) * 128 + q)) (nI tu) (f_nodeLimit, f_slotLimit, f_depthLimit, f_turnLimit, nI N, f_defined, b_kinds, a_values, a_roots, a_cells, a_states, a_results, a_chain, a_actFunction, b_place, a_locals, b_savedSort, b_savedValue) post) : sm_Y i j (nI p) 1 x (nI tu) (f_nodeLimit, f_slotLimit, f_depthLimit, f_turnLimit, nI N, f_defined, b_kinds, a_values, a_roots, a_cells, a_states, a_results, a_chain, a_actFunction, b_place, a_locals, b_savedSort, b_savedValue) post := by
  intro n hn
  obtain ⟨n, rfl⟩ : ∃ n', n = n' + 1 := ⟨n - 1, by omega⟩
  have hN := hF.1
  have hl := tr_lt (tr_FW hF) hq c
  have hkk := (hF.2 q hq).2
  have e1 : a_chain (nI i).toNatClampNeg - 1 = nI d := by rw [nI_clamp (by omega), hch, tr_s1 (by omega)]; rfl
  have ea : vp_in (nI (i * 4 + d)) 16 := vp_in_nI (by omega) (by decide)
  have ef : a_actFunction (nI (i * 4 + d)).toNatClampNeg = nI f := by rw [nI_clamp (by omega), hfn]
  have eb : ¬ nI p = a_roots (a_actFunction (nI (i * 4 + d)).toNatClampNeg).toNatClampNeg := by
    rw [ef, nI_clamp (by omega), hr]
    exact fun z => hpr (tr_inj z (by omega) (by omega))
  have hin : vp_in (nI q) 128 := vp_in_nI (by omega) (by decide)
  have ev : a_values (nI q).toNatClampNeg = a_values q := tr_fc (by omega) _
  have e7 : b_kinds (nI q).toNatClampNeg = 14 := by rw [nI_clamp (by omega), hkk.1, hk]; rfl
  have e8 : vp_in (nI ((i * 4 + d) * 128 + q)) 2048 := vp_in_nI (by omega) (by decide)
  refine br_f (nI_ge (b := 20000) (by omega) (by decide)) ⟨vp_in_nI (by omega) (by decide), nm_r e1 (nm_r (tr_i4 i d) (br_f (by decide) ⟨ea, pk_in f 6 (by omega) ef, br_f eb (yt_par hF hq c (yt_num hF hq c ⟨hin, nm_r e7 ⟨hin, nm_r ev (nm_r (tr_i128 _ _) ?_)⟩⟩))⟩))⟩
  exact br_t rfl (br_f (by decide) (br_t rfl ⟨e8, nm_r (tr_fc (by omega) _) ⟨e8, nm_r (tr_fc (by omega) _) (y7_0 (h n (by omega)))⟩⟩))
theorem ye_try2a (hF : tr_F K L b_kinds N) (hi : i < 4) (hd : d < 4) (hj : j < 20000) (hch : a_chain i = nI (d + 1)) (hfn : a_actFunction (i * 4 + d) = nI f) (hf : f < 6) (hr : a_roots f = nI r) (hr8 : r < 128) (hpr : p ≠ r) (hq : q < N) (c : tr_ch K L q 2 p) (hk : K q = 14) (hs : ¬ sort = 0) (hs1 : ¬ sort = 1) (h : sm_Y i (j + 1) (nI q) sort x (nI tu) (f_nodeLimit, f_slotLimit, f_depthLimit, f_turnLimit, nI N, f_defined, b_kinds, a_values, a_roots, a_cells, a_states, a_results, a_chain, a_actFunction, b_place, a_locals, b_savedSort, b_savedValue) post) : sm_Y i j (nI p) sort x (nI tu) (f_nodeLimit, f_slotLimit, f_depthLimit, f_turnLimit, nI N, f_defined, b_kinds, a_values, a_roots, a_cells, a_states, a_results, a_chain, a_actFunction, b_place, a_locals, b_savedSort, b_savedValue) post := by
  intro n hn
  obtain ⟨n, rfl⟩ : ∃ n', n = n' + 1 := ⟨n - 1, by omega⟩
  have hN := hF.1
  have hl := tr_lt (tr_FW hF) hq c
  have hkk := (hF.2 q hq).2
  have e1 : a_chain (nI i).toNatClampNeg - 1 = nI d := by rw [nI_clamp (by omega), hch, tr_s1 (by omega)]; rfl
  have ea : vp_in (nI (i * 4 + d)) 16 := vp_in_nI (by omega) (by decide)
  have ef : a_actFunction (nI (i * 4 + d)).toNatClampNeg = nI f := by rw [nI_clamp (by omega), hfn]
  have eb : ¬ nI p = a_roots (a_actFunction (nI (i * 4 + d)).toNatClampNeg).toNatClampNeg := by
    rw [ef, nI_clamp (by omega), hr]
    exact fun z => hpr (tr_inj z (by omega) (by omega))
  have hin : vp_in (nI q) 128 := vp_in_nI (by omega) (by decide)
  have ev : a_values (nI q).toNatClampNeg = a_values q := tr_fc (by omega) _
  have e7 : b_kinds (nI q).toNatClampNeg = 14 := by rw [nI_clamp (by omega), hkk.1, hk]; rfl
  refine br_f (nI_ge (b := 20000) (by omega) (by decide)) ⟨vp_in_nI (by omega) (by decide), nm_r e1 (nm_r (tr_i4 i d) (br_f hs ⟨ea, pk_in f 6 (by omega) ef, br_f eb (yt_par hF hq c (yt_num hF hq c ⟨hin, nm_r e7 ⟨hin, nm_r ev (nm_r (tr_i128 _ _) ?_)⟩⟩))⟩))⟩
  exact br_t rfl (br_f (by decide) (br_f hs1 (y7_0 (h n (by omega)))))
theorem ye_abn (hF : tr_F K L b_kinds N) (hi : i < 4) (hd : d < 4) (hj : j < 20000) (hch : a_chain i = nI (d + 1)) (hfn : a_actFunction (i * 4 + d) = nI f) (hf : f < 6) (hr : a_roots f = nI r) (hr8 : r < 128) (hpr : p ≠ r) (hq : q < N) (c : tr_ch K L q k p) (hk : K q ≠ 14) (hk2 : K q = 11 → ¬ sort = 2) (hs : ¬ sort = 0) (hs1 : ¬ sort = 1) (h : sm_Y i (j + 1) (nI q) sort x (nI tu) (f_nodeLimit, f_slotLimit, f_depthLimit, f_turnLimit, nI N, f_defined, b_kinds, a_values, a_roots, a_cells, a_states, a_results, a_chain, a_actFunction, b_place, a_locals, b_savedSort, b_savedValue) post) : sm_Y i j (nI p) sort x (nI tu) (f_nodeLimit, f_slotLimit, f_depthLimit, f_turnLimit, nI N, f_defined, b_kinds, a_values, a_roots, a_cells, a_states, a_results, a_chain, a_actFunction, b_place, a_locals, b_savedSort, b_savedValue) post := by
  intro n hn
  obtain ⟨n, rfl⟩ : ∃ n', n = n' + 1 := ⟨n - 1, by omega⟩
  have hN := hF.1
  have hl := tr_lt (tr_FW hF) hq c
  have hkk := (hF.2 q hq).2
  have e1 : a_chain (nI i).toNatClampNeg - 1 = nI d := by rw [nI_clamp (by omega), hch, tr_s1 (by omega)]; rfl
  have ea : vp_in (nI (i * 4 + d)) 16 := vp_in_nI (by omega) (by decide)
  have ef : a_actFunction (nI (i * 4 + d)).toNatClampNeg = nI f := by rw [nI_clamp (by omega), hfn]
  have eb : ¬ nI p = a_roots (a_actFunction (nI (i * 4 + d)).toNatClampNeg).toNatClampNeg := by
    rw [ef, nI_clamp (by omega), hr]
    exact fun z => hpr (tr_inj z (by omega) (by omega))
  have hin : vp_in (nI q) 128 := vp_in_nI (by omega) (by decide)
  have ev : a_values (nI q).toNatClampNeg = a_values q := tr_fc (by omega) _
  have e7 : b_kinds (nI q).toNatClampNeg = nI (K q) := by rw [nI_clamp (by omega), hkk.1]
  have n_ : ∀ m : Nat, m ≠ K q → m < 100 → ¬ nI (K q) = nI m := fun m h1 h2 z => h1 (tr_inj z (by omega) (by omega)).symm
  refine br_f (nI_ge (b := 20000) (by omega) (by decide)) ⟨vp_in_nI (by omega) (by decide), nm_r e1 (nm_r (tr_i4 i d) (br_f hs ⟨ea, pk_in f 6 (by omega) ef, br_f eb (yt_par hF hq c (yt_num hF hq c ⟨hin, nm_r e7 ⟨hin, nm_r ev (nm_r (tr_i128 _ _) ?_)⟩⟩))⟩))⟩
  exact br_f (n_ 14 (by omega) (by omega)) (pk_eq (K q) 11 (fun z => br_f (hk2 z) (br_f hs1 (y7_0 (h n (by omega))))) (fun z => br_f hs1 (y7_0 (h n (by omega)))))
theorem ye_del0 (hF : tr_F K L b_kinds N) (hi : i < 4) (hd : d < 4) (hj : j < 20000) (hch : a_chain i = nI (d + 1)) (hfn : a_actFunction (i * 4 + d) = nI f) (hf : f < 6) (hr : a_roots f = nI r) (hr8 : r < 128) (hpr : p ≠ r) (hq : q < N) (c : tr_ch K L q k p) (hk : K q = 16) {v : Nat} (hv : a_values q = nI v) (hv6 : v < 6) {nf : Nat} (hnf : f_defined = nI nf) (hn6 : nf ≤ v) (h : sm_Y i (j + 1) (nI q) 1 (-1) (nI tu) (f_nodeLimit, f_slotLimit, f_depthLimit, f_turnLimit, nI N, f_defined, b_kinds, a_values, a_roots, a_cells, a_states, a_results, a_chain, a_actFunction, b_place, a_locals, b_savedSort, b_savedValue) post) : sm_Y i j (nI p) 1 x (nI tu) (f_nodeLimit, f_slotLimit, f_depthLimit, f_turnLimit, nI N, f_defined, b_kinds, a_values, a_roots, a_cells, a_states, a_results, a_chain, a_actFunction, b_place, a_locals, b_savedSort, b_savedValue) post := by
  intro n hn
  obtain ⟨n, rfl⟩ : ∃ n', n = n' + 1 := ⟨n - 1, by omega⟩
  have hN := hF.1
  have hl := tr_lt (tr_FW hF) hq c
  have hkk := (hF.2 q hq).2
  have e1 : a_chain (nI i).toNatClampNeg - 1 = nI d := by rw [nI_clamp (by omega), hch, tr_s1 (by omega)]; rfl
  have ea : vp_in (nI (i * 4 + d)) 16 := vp_in_nI (by omega) (by decide)
  have ef : a_actFunction (nI (i * 4 + d)).toNatClampNeg = nI f := by rw [nI_clamp (by omega), hfn]
  have eb : ¬ nI p = a_roots (a_actFunction (nI (i * 4 + d)).toNatClampNeg).toNatClampNeg := by
    rw [ef, nI_clamp (by omega), hr]
    exact fun z => hpr (tr_inj z (by omega) (by omega))
  have hin : vp_in (nI q) 128 := vp_in_nI (by omega) (by decide)
  have ev : a_values (nI q).toNatClampNeg = a_values q := tr_fc (by omega) _
  have e7 : b_kinds (nI q).toNatClampNeg = 16 := by rw [nI_clamp (by omega), hkk.1, hk]; rfl
  have e8 : f_defined ≤ a_values q := by rw [hv, hnf]; exact nI_le hn6 (by omega)
  refine br_f (nI_ge (b := 20000) (by omega) (by decide)) ⟨vp_in_nI (by omega) (by decide), nm_r e1 (nm_r (tr_i4 i d) (br_f (by decide) ⟨ea, pk_in f 6 (by omega) ef, br_f eb (yt_par hF hq c (yt_num hF hq c ⟨hin, nm_r e7 ⟨hin, nm_r ev (nm_r (tr_i128 _ _) ?_)⟩⟩))⟩))⟩
  exact br_f (by decide) (br_f (by decide) (br_t rfl (br_f (by decide) (br_f (by decide) (br_f (by decide) (br_f (by decide) (br_f (by decide) (br_t rfl (br_t e8 (y7_0 (h n (by omega))))))))))))
theorem ye_del1 (hF : tr_F K L b_kinds N) (hi : i < 4) (hd : d < 4) (hj : j < 20000) (hch : a_chain i = nI (d + 1)) (hfn : a_actFunction (i * 4 + d) = nI f) (hf : f < 6) (hr : a_roots f = nI r) (hr8 : r < 128) (hpr : p ≠ r) (hq : q < N) (c : tr_ch K L q k p) (hk : K q = 16) {v : Nat} (hv : a_values q = nI v) (hv6 : v < 6) {nf DL : Nat} (hnf : f_defined = nI nf) (hn6 : v < nf) (hn7 : nf < 100) (hD : f_depthLimit = nI DL) (hD2 : DL ≤ d + 1) (h : sm_Y i (j + 1) (nI q) 1 (-1) (nI tu) (f_nodeLimit, f_slotLimit, f_depthLimit, f_turnLimit, nI N, f_defined, b_kinds, a_values, a_roots, a_cells, a_states, a_results, a_chain, a_actFunction, b_place, a_locals, b_savedSort, b_savedValue) post) : sm_Y i j (nI p) 1 x (nI tu) (f_nodeLimit, f_slotLimit, f_depthLimit, f_turnLimit, nI N, f_defined, b_kinds, a_values, a_roots, a_cells, a_states, a_results, a_chain, a_actFunction, b_place, a_locals, b_savedSort, b_savedValue) post := by
  intro n hn
  obtain ⟨n, rfl⟩ : ∃ n', n = n' + 1 := ⟨n - 1, by omega⟩
  have hN := hF.1
  have hl := tr_lt (tr_FW hF) hq c
  have hkk := (hF.2 q hq).2
  have e1 : a_chain (nI i).toNatClampNeg - 1 = nI d := by rw [nI_clamp (by omega), hch, tr_s1 (by omega)]; rfl
  have ea : vp_in (nI (i * 4 + d)) 16 := vp_in_nI (by omega) (by decide)
  have ef : a_actFunction (nI (i * 4 + d)).toNatClampNeg = nI f := by rw [nI_clamp (by omega), hfn]
  have eb : ¬ nI p = a_roots (a_actFunction (nI (i * 4 + d)).toNatClampNeg).toNatClampNeg := by
    rw [ef, nI_clamp (by omega), hr]
    exact fun z => hpr (tr_inj z (by omega) (by omega))
  have hin : vp_in (nI q) 128 := vp_in_nI (by omega) (by decide)
  have ev : a_values (nI q).toNatClampNeg = a_values q := tr_fc (by omega) _
  have e7 : b_kinds (nI q).toNatClampNeg = 16 := by rw [nI_clamp (by omega), hkk.1, hk]; rfl
  have e8 : ¬ f_defined ≤ a_values q := by rw [hv, hnf]; exact nI_ge hn6 (by omega)
  have e9 : ¬ a_chain (nI i).toNatClampNeg < f_depthLimit := by rw [nI_clamp (by omega), hch, hD]; exact nI_nlt hD2 (by omega)
  refine br_f (nI_ge (b := 20000) (by omega) (by decide)) ⟨vp_in_nI (by omega) (by decide), nm_r e1 (nm_r (tr_i4 i d) (br_f (by decide) ⟨ea, pk_in f 6 (by omega) ef, br_f eb (yt_par hF hq c (yt_num hF hq c ⟨hin, nm_r e7 ⟨hin, nm_r ev (nm_r (tr_i128 _ _) ?_)⟩⟩))⟩))⟩
  exact br_f (by decide) (br_f (by decide) (br_t rfl (br_f (by decide) (br_f (by decide) (br_f (by decide) (br_f (by decide) (br_f (by decide) (br_t rfl (br_f e8 ⟨vp_in_nI (by omega) (by decide), br_f e9 (y7_0 (h n (by omega)))⟩)))))))))
theorem ye_del2 (hF : tr_F K L b_kinds N) (hi : i < 4) (hd : d < 4) (hj : j < 20000) (hch : a_chain i = nI (d + 1)) (hfn : a_actFunction (i * 4 + d) = nI f) (hf : f < 6) (hr : a_roots f = nI r) (hr8 : r < 128) (hpr : p ≠ r) (hq : q < N) (c : tr_ch K L q k p) (hk : K q = 16) {v : Nat} (hv : a_values q = nI v) (hv6 : v < 6) {nf DL : Nat} (hnf : f_defined = nI nf) (hn6 : v < nf) (hn7 : nf < 100) (hD : f_depthLimit = nI DL) (hD2 : d + 1 < DL) (hD4 : DL < 100) (ht : nI tu = f_turnLimit) (h : post 5 (f_nodeLimit, f_slotLimit, f_depthLimit, f_turnLimit, nI N, f_defined, b_kinds, a_values, a_roots, a_cells, upd a_states i 5, upd a_results i 0, upd a_chain i 0, a_actFunction, b_place, a_locals, b_savedSort, b_savedValue)) : sm_Y i j (nI p) 1 x (nI tu) (f_nodeLimit, f_slotLimit, f_depthLimit, f_turnLimit, nI N, f_defined, b_kinds, a_values, a_roots, a_cells, a_states, a_results, a_chain, a_actFunction, b_place, a_locals, b_savedSort, b_savedValue) post := by
  intro n hn
  obtain ⟨n, rfl⟩ : ∃ n', n = n' + 1 := ⟨n - 1, by omega⟩
  have hN := hF.1
  have hl := tr_lt (tr_FW hF) hq c
  have hkk := (hF.2 q hq).2
  have e1 : a_chain (nI i).toNatClampNeg - 1 = nI d := by rw [nI_clamp (by omega), hch, tr_s1 (by omega)]; rfl
  have ea : vp_in (nI (i * 4 + d)) 16 := vp_in_nI (by omega) (by decide)
  have ef : a_actFunction (nI (i * 4 + d)).toNatClampNeg = nI f := by rw [nI_clamp (by omega), hfn]
  have eb : ¬ nI p = a_roots (a_actFunction (nI (i * 4 + d)).toNatClampNeg).toNatClampNeg := by
    rw [ef, nI_clamp (by omega), hr]
    exact fun z => hpr (tr_inj z (by omega) (by omega))
  have hin : vp_in (nI q) 128 := vp_in_nI (by omega) (by decide)
  have ev : a_values (nI q).toNatClampNeg = a_values q := tr_fc (by omega) _
  have e7 : b_kinds (nI q).toNatClampNeg = 16 := by rw [nI_clamp (by omega), hkk.1, hk]; rfl
  have e8 : ¬ f_defined ≤ a_values q := by rw [hv, hnf]; exact nI_ge hn6 (by omega)
  have e9 : a_chain (nI i).toNatClampNeg < f_depthLimit := by rw [nI_clamp (by omega), hch, hD]; exact nI_lt hD2 (by omega)
  refine br_f (nI_ge (b := 20000) (by omega) (by decide)) ⟨vp_in_nI (by omega) (by decide), nm_r e1 (nm_r (tr_i4 i d) (br_f (by decide) ⟨ea, pk_in f 6 (by omega) ef, br_f eb (yt_par hF hq c (yt_num hF hq c ⟨hin, nm_r e7 ⟨hin, nm_r ev (nm_r (tr_i128 _ _) ?_)⟩⟩))⟩))⟩
  exact br_f (by decide) (br_f (by decide) (br_t rfl (br_f (by decide) (br_f (by decide) (br_f (by decide) (br_f (by decide) (br_f (by decide) (br_t rfl (br_f e8 ⟨vp_in_nI (by omega) (by decide), br_t e9 (br_t ht (And.intro (vp_in_nI (by omega) (by decide)) (nm_r (tr_uc (by omega) _ _) ⟨vp_in_nI (by omega) (by decide), nm_r (tr_uc (by omega) _ _) ⟨vp_in_nI (by omega) (by decide), nm_r (tr_uc (by omega) _ _) h⟩⟩)))⟩)))))))))
theorem ye_del3 (hF : tr_F K L b_kinds N) (hi : i < 4) (hd : d < 4) (hj : j < 20000) (hch : a_chain i = nI (d + 1)) (hfn : a_actFunction (i * 4 + d) = nI f) (hf : f < 6) (hr : a_roots f = nI r) (hr8 : r < 128) (hpr : p ≠ r) (hq : q < N) (c : tr_ch K L q k p) (hk : K q = 16) {v : Nat} (hv : a_values q = nI v) (hv6 : v < 6) {nf DL : Nat} (hnf : f_defined = nI nf) (hn6 : v < nf) (hn7 : nf < 100) (hD : f_depthLimit = nI DL) (hD2 : d + 1 < DL) (hD4 : DL ≤ 4) (ht : ¬ nI tu = f_turnLimit) (h : sm_Y i (j + 1) (a_roots v) 0 x (nI (tu + 1)) (f_nodeLimit, f_slotLimit, f_depthLimit, f_turnLimit, nI N, f_defined, b_kinds, a_values, a_roots, a_cells, a_states, a_results, upd a_chain i (nI (d + 2)), upd a_actFunction (i * 4 + (d + 1)) (a_values q), upd (upd b_place (i * 4 + d) (nI q)) (i * 4 + (d + 1)) (-1), sm_lo a_locals (i * 4 + (d + 1)) x, b_savedSort, b_savedValue) post) : sm_Y i j (nI p) 1 x (nI tu) (f_nodeLimit, f_slotLimit, f_depthLimit, f_turnLimit, nI N, f_defined, b_kinds, a_values, a_roots, a_cells, a_states, a_results, a_chain, a_actFunction, b_place, a_locals, b_savedSort, b_savedValue) post := by
  intro n hn
  obtain ⟨n, rfl⟩ : ∃ n', n = n' + 1 := ⟨n - 1, by omega⟩
  have hN := hF.1
  have hl := tr_lt (tr_FW hF) hq c
  have hkk := (hF.2 q hq).2
  have e1 : a_chain (nI i).toNatClampNeg - 1 = nI d := by rw [nI_clamp (by omega), hch, tr_s1 (by omega)]; rfl
  have ea : vp_in (nI (i * 4 + d)) 16 := vp_in_nI (by omega) (by decide)
  have ef : a_actFunction (nI (i * 4 + d)).toNatClampNeg = nI f := by rw [nI_clamp (by omega), hfn]
  have eb : ¬ nI p = a_roots (a_actFunction (nI (i * 4 + d)).toNatClampNeg).toNatClampNeg := by
    rw [ef, nI_clamp (by omega), hr]
    exact fun z => hpr (tr_inj z (by omega) (by omega))
  have hin : vp_in (nI q) 128 := vp_in_nI (by omega) (by decide)
  have ev : a_values (nI q).toNatClampNeg = a_values q := tr_fc (by omega) _
  have e7 : b_kinds (nI q).toNatClampNeg = 16 := by rw [nI_clamp (by omega), hkk.1, hk]; rfl
  have e8 : ¬ f_defined ≤ a_values q := by rw [hv, hnf]; exact nI_ge hn6 (by omega)
  have e9 : a_chain (nI i).toNatClampNeg < f_depthLimit := by rw [nI_clamp (by omega), hch, hD]; exact nI_lt hD2 (by omega)
  have e10 : a_roots (a_values q).toNatClampNeg = a_roots v := by rw [hv, nI_clamp (by omega)]
  refine br_f (nI_ge (b := 20000) (by omega) (by decide)) ⟨vp_in_nI (by omega) (by decide), nm_r e1 (nm_r (tr_i4 i d) (br_f (by decide) ⟨ea, pk_in f 6 (by omega) ef, br_f eb (yt_par hF hq c (yt_num hF hq c ⟨hin, nm_r e7 ⟨hin, nm_r ev (nm_r (tr_i128 _ _) ?_)⟩⟩))⟩))⟩
  exact br_f (by decide) (br_f (by decide) (br_t rfl (br_f (by decide) (br_f (by decide) (br_f (by decide) (br_f (by decide) (br_f (by decide) (br_t rfl (br_f e8 ⟨vp_in_nI (by omega) (by decide), br_t e9 (br_f ht (nm_r (nI_1 tu) ⟨ea, nm_r (tr_uc (by omega) _ _) (yb_beg hi (by omega) hch (a_values q) x (And.intro (pk_in v 6 hv6 hv) (nm_r e10 (nm_r (nI_1 j) (h n (by omega))))))⟩))⟩)))))))))
/-! the end of a root -/
theorem ye_fin (hi : i < 4) (hj : j < 20000) (hch : a_chain i = nI (0 + 1)) (hfn : a_actFunction (i * 4 + 0) = nI f) (hf : f < 6) (hr : a_roots f = nI r) (hs : ¬ sort = 0) (hs4 : ¬ sort = 4) (h : post 3 (f_nodeLimit, f_slotLimit, f_depthLimit, f_turnLimit, f_programSize, f_defined, b_kinds, a_values, a_roots, a_cells, upd a_states i 3, upd a_results i x, upd a_chain i 0, a_actFunction, b_place, a_locals, b_savedSort, b_savedValue)) : sm_Y i j (nI r) sort x (nI tu) (f_nodeLimit, f_slotLimit, f_depthLimit, f_turnLimit, f_programSize, f_defined, b_kinds, a_values, a_roots, a_cells, a_states, a_results, a_chain, a_actFunction, b_place, a_locals, b_savedSort, b_savedValue) post := by
  have hd : 0 < 4 := by decide
  obtain ⟨d, hd0⟩ : ∃ d : Nat, d = 0 := ⟨0, rfl⟩
  rw [← hd0] at hch hfn
  intro n hn
  obtain ⟨n, rfl⟩ : ∃ n', n = n' + 1 := ⟨n - 1, by omega⟩
  have e1 : a_chain (nI i).toNatClampNeg - 1 = nI d := by rw [nI_clamp (by omega), hch, tr_s1 (by omega)]; rfl
  have ea : vp_in (nI (i * 4 + d)) 16 := vp_in_nI (by omega) (by decide)
  have ef : a_actFunction (nI (i * 4 + d)).toNatClampNeg = nI f := by rw [nI_clamp (by omega), hfn]
  have eb : nI r = a_roots (a_actFunction (nI (i * 4 + d)).toNatClampNeg).toNatClampNeg := by rw [ef, nI_clamp (by omega), hr]
  refine br_f (nI_ge (b := 20000) (by omega) (by decide)) ⟨vp_in_nI (by omega) (by decide), nm_r e1 (nm_r (tr_i4 i d) (br_f hs ⟨ea, pk_in f 6 (by omega) ef, br_t eb (br_t (by rw [hd0]; rfl) (br_f hs4 ?_))⟩))⟩
  exact And.intro (vp_in_nI (by omega) (by decide)) (nm_r (tr_uc (by omega) _ _) ⟨vp_in_nI (by omega) (by decide), nm_r (tr_uc (by omega) _ _) ⟨vp_in_nI (by omega) (by decide), nm_r (tr_uc (by omega) _ _) h⟩⟩)
theorem ye_fin4 (hi : i < 4) (hj : j < 20000) (hch : a_chain i = nI (0 + 1)) (hfn : a_actFunction (i * 4 + 0) = nI f) (hf : f < 6) (hr : a_roots f = nI r) (h : post 4 (f_nodeLimit, f_slotLimit, f_depthLimit, f_turnLimit, f_programSize, f_defined, b_kinds, a_values, a_roots, a_cells, upd a_states i 4, upd a_results i x, upd a_chain i 0, a_actFunction, b_place, a_locals, b_savedSort, b_savedValue)) : sm_Y i j (nI r) 4 x (nI tu) (f_nodeLimit, f_slotLimit, f_depthLimit, f_turnLimit, f_programSize, f_defined, b_kinds, a_values, a_roots, a_cells, a_states, a_results, a_chain, a_actFunction, b_place, a_locals, b_savedSort, b_savedValue) post := by
  obtain ⟨d, hd0⟩ : ∃ d : Nat, d = 0 := ⟨0, rfl⟩
  rw [← hd0] at hch hfn
  intro n hn
  obtain ⟨n, rfl⟩ : ∃ n', n = n' + 1 := ⟨n - 1, by omega⟩
  have e1 : a_chain (nI i).toNatClampNeg - 1 = nI d := by rw [nI_clamp (by omega), hch, tr_s1 (by omega)]; rfl
  have ea : vp_in (nI (i * 4 + d)) 16 := vp_in_nI (by omega) (by decide)
  have ef : a_actFunction (nI (i * 4 + d)).toNatClampNeg = nI f := by rw [nI_clamp (by omega), hfn]
  have eb : nI r = a_roots (a_actFunction (nI (i * 4 + d)).toNatClampNeg).toNatClampNeg := by rw [ef, nI_clamp (by omega), hr]
  refine br_f (nI_ge (b := 20000) (by omega) (by decide)) ⟨vp_in_nI (by omega) (by decide), nm_r e1 (nm_r (tr_i4 i d) (br_f (by decide) ⟨ea, pk_in f 6 (by omega) ef, br_t eb (br_t (by rw [hd0]; rfl) (br_t rfl ?_))⟩))⟩
  exact And.intro (vp_in_nI (by omega) (by decide)) (nm_r (tr_uc (by omega) _ _) ⟨vp_in_nI (by omega) (by decide), nm_r (tr_uc (by omega) _ _) ⟨vp_in_nI (by omega) (by decide), nm_r (tr_uc (by omega) _ _) h⟩⟩)
theorem ye_pop (hi : i < 4) (hd : d < 3) (hj : j < 20000) (hch : a_chain i = nI (d + 1 + 1)) (hfn : a_actFunction (i * 4 + (d + 1)) = nI f) (hf : f < 6) (hr : a_roots f = nI r) (hs : ¬ sort = 0) (hs4 : ¬ sort = 4) (h : sm_Y i (j + 1) (b_place (i * 4 + d)) 1 x (nI tu) (f_nodeLimit, f_slotLimit, f_depthLimit, f_turnLimit, f_programSize, f_defined, b_kinds, a_values, a_roots, a_cells, a_states, a_results, upd a_chain i (nI (d + 1)), a_actFunction, b_place, a_locals, b_savedSort, b_savedValue) post) : sm_Y i j (nI r) sort x (nI tu) (f_nodeLimit, f_slotLimit, f_depthLimit, f_turnLimit, f_programSize, f_defined, b_kinds, a_values, a_roots, a_cells, a_states, a_results, a_chain, a_actFunction, b_place, a_locals, b_savedSort, b_savedValue) post := by
  intro n hn
  obtain ⟨n, rfl⟩ : ∃ n', n = n' + 1 := ⟨n - 1, by omega⟩
  have e1 : a_chain (nI i).toNatClampNeg - 1 = nI (d + 1) := by rw [nI_clamp (by omega), hch, tr_s1 (by omega)]; rfl
  have ea : vp_in (nI (i * 4 + (d + 1))) 16 := vp_in_nI (by omega) (by decide)
  have ef : a_actFunction (nI (i * 4 + (d + 1))).toNatClampNeg = nI f := by rw [nI_clamp (by omega), hfn]
  have eb : nI r = a_roots (a_actFunction (nI (i * 4 + (d + 1))).toNatClampNeg).toNatClampNeg := by rw [ef, nI_clamp (by omega), hr]
  have e2 : upd a_chain (nI i).toNatClampNeg (a_chain (nI i).toNatClampNeg - 1) = upd a_chain i (nI (d + 1)) := by rw [e1, nI_clamp (by omega)]
  have e3 : nI (i * 4 + (d + 1)) - 1 = nI (i * 4 + d) := by rw [tr_s1 (by omega)]; rfl
  have e4 : b_place (nI (i * 4 + (d + 1)) - 1).toNatClampNeg = b_place (i * 4 + d) := by rw [e3, nI_clamp (by omega)]
  have hv : vp_in (nI i) 4 := vp_in_nI hi (by decide)
  refine br_f (nI_ge (b := 20000) (by omega) (by decide)) ⟨hv, nm_r e1 (nm_r (tr_i4 i (d + 1)) (br_f hs ⟨ea, pk_in f 6 (by omega) ef, br_t eb (br_f (nI_ne0 (by omega) (by omega)) ?_)⟩))⟩
  exact And.intro hv ⟨hv, nm_r e2 ⟨pk_in _ _ (by omega) e3, nm_r e4 (br_f hs4 (nm_r (nI_1 j) (h n (by omega))))⟩⟩
theorem ye_pop4 (hi : i < 4) (hd : d < 3) (hj : j < 20000) (hch : a_chain i = nI (d + 1 + 1)) (hfn : a_actFunction (i * 4 + (d + 1)) = nI f) (hf : f < 6) (hr : a_roots f = nI r) (h : sm_Y i (j + 1) (b_place (i * 4 + d)) 4 x (nI tu) (f_nodeLimit, f_slotLimit, f_depthLimit, f_turnLimit, f_programSize, f_defined, b_kinds, a_values, a_roots, a_cells, a_states, a_results, upd a_chain i (nI (d + 1)), a_actFunction, b_place, a_locals, b_savedSort, b_savedValue) post) : sm_Y i j (nI r) 4 x (nI tu) (f_nodeLimit, f_slotLimit, f_depthLimit, f_turnLimit, f_programSize, f_defined, b_kinds, a_values, a_roots, a_cells, a_states, a_results, a_chain, a_actFunction, b_place, a_locals, b_savedSort, b_savedValue) post := by
  intro n hn
  obtain ⟨n, rfl⟩ : ∃ n', n = n' + 1 := ⟨n - 1, by omega⟩
  have e1 : a_chain (nI i).toNatClampNeg - 1 = nI (d + 1) := by rw [nI_clamp (by omega), hch, tr_s1 (by omega)]; rfl
  have ea : vp_in (nI (i * 4 + (d + 1))) 16 := vp_in_nI (by omega) (by decide)
  have ef : a_actFunction (nI (i * 4 + (d + 1))).toNatClampNeg = nI f := by rw [nI_clamp (by omega), hfn]
  have eb : nI r = a_roots (a_actFunction (nI (i * 4 + (d + 1))).toNatClampNeg).toNatClampNeg := by rw [ef, nI_clamp (by omega), hr]
  have e2 : upd a_chain (nI i).toNatClampNeg (a_chain (nI i).toNatClampNeg - 1) = upd a_chain i (nI (d + 1)) := by rw [e1, nI_clamp (by omega)]
  have e3 : nI (i * 4 + (d + 1)) - 1 = nI (i * 4 + d) := by rw [tr_s1 (by omega)]; rfl
  have e4 : b_place (nI (i * 4 + (d + 1)) - 1).toNatClampNeg = b_place (i * 4 + d) := by rw [e3, nI_clamp (by omega)]
  have hv : vp_in (nI i) 4 := vp_in_nI hi (by decide)
  refine br_f (nI_ge (b := 20000) (by omega) (by decide)) ⟨hv, nm_r e1 (nm_r (tr_i4 i (d + 1)) (br_f (by decide) ⟨ea, pk_in f 6 (by omega) ef, br_t eb (br_f (nI_ne0 (by omega) (by omega)) ?_)⟩))⟩
  exact And.intro hv ⟨hv, nm_r e2 ⟨pk_in _ _ (by omega) e3, nm_r e4 (br_t rfl (nm_r (nI_1 j) (h n (by omega))))⟩⟩
end
end
section
/-! one instruction of the component's run: a rule a case -/
def sm_X (i k : Nat) (u : SX) (post : Int32 → SX → Prop) : Prop := match u with
  | (f_opJump, f_opJumpZero, f_opTurn, f_opPend, f_opExit, f_nodeLimit, f_slotLimit, f_depthLimit, f_turnLimit, f_programSize, f_draftStart, f_rowSize, f_codeSize, f_defined, f_turnsUsed, f_going, a_kinds, a_values, a_heights, a_loose, a_parent, a_place, a_firstLeaf, a_row, a_nodeReg, a_breakTo, a_tryTo, a_cleanupOf, a_label, a_codeOp, a_codeReg, a_codeArg, a_codeNode, a_roots, a_entries, a_states, a_results, a_chain, a_actFunction, a_pcs, a_locals, a_regs, a_pending, a_cells) => ∀ n, 65536 < n + k → wX_run_2 post (nI i) n (nI k) f_opJump f_opJumpZero f_opTurn f_opPend f_opExit f_nodeLimit f_slotLimit f_depthLimit f_turnLimit f_programSize f_draftStart f_rowSize f_codeSize f_defined f_turnsUsed f_going a_kinds a_values a_heights a_loose a_parent a_place a_firstLeaf a_row a_nodeReg a_breakTo a_tryTo a_cleanupOf a_label a_codeOp a_codeReg a_codeArg a_codeNode a_roots a_entries a_states a_results a_chain a_actFunction a_pcs a_locals a_regs a_pending a_cells
/-- inside raise: what follows it is the run from step k -/
def sm_Ra (i k kk : Nat) (pos sort x : Int32) (u : SX) (post : Int32 → SX → Prop) : Prop := match u with
  | (f_opJump, f_opJumpZero, f_opTurn, f_opPend, f_opExit, f_nodeLimit, f_slotLimit, f_depthLimit, f_turnLimit, f_programSize, f_draftStart, f_rowSize, f_codeSize, f_defined, f_turnsUsed, f_going, a_kinds, a_values, a_heights, a_loose, a_parent, a_place, a_firstLeaf, a_row, a_nodeReg, a_breakTo, a_tryTo, a_cleanupOf, a_label, a_codeOp, a_codeReg, a_codeArg, a_codeNode, a_roots, a_entries, a_states, a_results, a_chain, a_actFunction, a_pcs, a_locals, a_regs, a_pending, a_cells) => ∀ cont : SX → Prop, (∀ u', sm_X i k u' post → cont u') → ∀ n, 4 < n + kk → wX_raise_6 cont (nI i) sort x f_opJump f_opJumpZero f_opTurn f_opPend f_opExit f_nodeLimit f_slotLimit f_depthLimit f_turnLimit f_programSize f_draftStart f_rowSize f_codeSize f_defined f_turnsUsed f_going n pos (nI kk) a_kinds a_values a_heights a_loose a_parent a_place a_firstLeaf a_row a_nodeReg a_breakTo a_tryTo a_cleanupOf a_label a_codeOp a_codeReg a_codeArg a_codeNode a_roots a_entries a_states a_results a_chain a_actFunction a_pcs a_locals a_regs a_pending a_cells
section
variable {f_opJump f_opJumpZero f_opTurn f_opPend f_opExit f_nodeLimit f_slotLimit f_depthLimit f_turnLimit f_programSize f_draftStart f_rowSize f_codeSize f_defined f_turnsUsed f_going : Int32} {a_kinds a_values a_heights a_loose a_parent a_place a_firstLeaf a_row a_nodeReg a_breakTo a_tryTo a_cleanupOf a_label a_codeOp a_codeReg a_codeArg a_codeNode a_roots a_entries a_states a_results a_chain a_actFunction a_pcs a_locals a_regs a_pending a_cells : Nat → Int32}
variable {i k d pc g tu : Nat} {post : Int32 → SX → Prop} {x sort : Int32}
theorem xf_end (hi : i < 4) (hk : k ≤ 65536) (h : post (a_states i) (f_opJump, f_opJumpZero, f_opTurn, f_opPend, f_opExit, f_nodeLimit, f_slotLimit, f_depthLimit, f_turnLimit, f_programSize, f_draftStart, f_rowSize, f_codeSize, f_defined, f_turnsUsed, 0, a_kinds, a_values, a_heights, a_loose, a_parent, a_place, a_firstLeaf, a_row, a_nodeReg, a_breakTo, a_tryTo, a_cleanupOf, a_label, a_codeOp, a_codeReg, a_codeArg, a_codeNode, a_roots, a_entries, a_states, a_results, a_chain, a_actFunction, a_pcs, a_locals, a_regs, a_pending, a_cells)) : sm_X i k (f_opJump, f_opJumpZero, f_opTurn, f_opPend, f_opExit, f_nodeLimit, f_slotLimit, f_depthLimit, f_turnLimit, f_programSize, f_draftStart, f_rowSize, f_codeSize, f_defined, f_turnsUsed, 0, a_kinds, a_values, a_heights, a_loose, a_parent, a_place, a_firstLeaf, a_row, a_nodeReg, a_breakTo, a_tryTo, a_cleanupOf, a_label, a_codeOp, a_codeReg, a_codeArg, a_codeNode, a_roots, a_entries, a_states, a_results, a_chain, a_actFunction, a_pcs, a_locals, a_regs, a_pending, a_cells) post := by
  intro n hn
  obtain ⟨n, rfl⟩ : ∃ n', n = n' + 1 := ⟨n - 1, by omega⟩
  have e : wX_run_100 post (nI i) f_opJump f_opJumpZero f_opTurn f_opPend f_opExit f_nodeLimit f_slotLimit f_depthLimit f_turnLimit f_programSize f_draftStart f_rowSize f_codeSize f_defined f_turnsUsed 0 a_kinds a_values a_heights a_loose a_parent a_place a_firstLeaf a_row a_nodeReg a_breakTo a_tryTo a_cleanupOf a_label a_codeOp a_codeReg a_codeArg a_codeNode a_roots a_entries a_states a_results a_chain a_actFunction a_pcs a_locals a_regs a_pending a_cells := br_t rfl ⟨vp_in_nI hi (by decide), by rw [nI_clamp (by omega)]; exact h⟩
  exact pk_le 65536 k (fun _ => e) (fun _ => br_t rfl e)
theorem xb_l {postS : SX → Prop} {a c : Nat} (hi : i < 4) (ha : a < 16) (hc : a_chain i = nI c) (h : postS (f_opJump, f_opJumpZero, f_opTurn, f_opPend, f_opExit, f_nodeLimit, f_slotLimit, f_depthLimit, f_turnLimit, f_programSize, f_draftStart, f_rowSize, f_codeSize, f_defined, f_turnsUsed, f_going, a_kinds, a_values, a_heights, a_loose, a_parent, a_place, a_firstLeaf, a_row, a_nodeReg, a_breakTo, a_tryTo, a_cleanupOf, a_label, a_codeOp, a_codeReg, a_codeArg, a_codeNode, a_roots, a_entries, a_states, a_results, upd a_chain i (nI (c + 1)), a_actFunction, a_pcs, upd (upd (upd a_locals (a * 4 + 1) 0) (a * 4 + 2) 0) (a * 4 + 3) 0, a_regs, a_pending, a_cells)) : wX_push_46 postS (nI i) (nI a) f_opJump f_opJumpZero f_opTurn f_opPend f_opExit f_nodeLimit f_slotLimit f_depthLimit f_turnLimit f_programSize f_draftStart f_rowSize f_codeSize f_defined f_turnsUsed f_going 4 1 a_kinds a_values a_heights a_loose a_parent a_place a_firstLeaf a_row a_nodeReg a_breakTo a_tryTo a_cleanupOf a_label a_codeOp a_codeReg a_codeArg a_codeNode a_roots a_entries a_states a_results a_chain a_actFunction a_pcs a_locals a_regs a_pending a_cells := by
  have e1 : nI a * 4 + 1 = nI (a * 4 + 1) := by rw [tr_4i, nI_1]
  have e2 : nI a * 4 + 2 = nI (a * 4 + 2) := by rw [tr_4i]; exact nI_add _ 2
  have e3 : nI a * 4 + 3 = nI (a * 4 + 3) := by rw [tr_4i]; exact nI_add _ 3
  have f1 : ∀ (lo : Nat → Int32) (v : Int32), upd lo (nI a * 4 + 1).toNatClampNeg v = upd lo (a * 4 + 1) v := fun lo v => by rw [e1, nI_clamp (by omega)]
  have f2 : ∀ (lo : Nat → Int32) (v : Int32), upd lo (nI a * 4 + 2).toNatClampNeg v = upd lo (a * 4 + 2) v := fun lo v => by rw [e2, nI_clamp (by omega)]
  have f3 : ∀ (lo : Nat → Int32) (v : Int32), upd lo (nI a * 4 + 3).toNatClampNeg v = upd lo (a * 4 + 3) v := fun lo v => by rw [e3, nI_clamp (by omega)]
  have g : upd a_chain (nI i).toNatClampNeg (a_chain (nI i).toNatClampNeg + 1) = upd a_chain i (nI (c + 1)) := by rw [nI_clamp (by omega), hc, nI_1]
  have hv : vp_in (nI i) 4 := vp_in_nI hi (by decide)
  refine br_f (by decide) ⟨pk_in _ _ (by omega) e1, nm_r (f1 _ _) (nm_r (show (1 : Int32) + 1 = 2 from rfl) ?_)⟩
  refine br_f (by decide) ⟨pk_in _ _ (by omega) e2, nm_r (f2 _ _) (nm_r (show (2 : Int32) + 1 = 3 from rfl) ?_)⟩
  refine br_f (by decide) ⟨pk_in _ _ (by omega) e3, nm_r (f3 _ _) (nm_r (show (3 : Int32) + 1 = 4 from rfl) ?_)⟩
  exact br_t (by decide) ⟨hv, hv, nm_r g h⟩
theorem xb_push {postS : SX → Prop} {d v : Nat} {fv w w' : Int32} (hi : i < 4) (hd : d + 1 < 4) (hc : a_chain i = nI (d + 1)) (hv6 : v < 6) (hv : fv = nI v) (hw : w' = w) (h : postS (f_opJump, f_opJumpZero, f_opTurn, f_opPend, f_opExit, f_nodeLimit, f_slotLimit, f_depthLimit, f_turnLimit, f_programSize, f_draftStart, f_rowSize, f_codeSize, f_defined, f_turnsUsed, f_going, a_kinds, a_values, a_heights, a_loose, a_parent, a_place, a_firstLeaf, a_row, a_nodeReg, a_breakTo, a_tryTo, a_cleanupOf, a_label, a_codeOp, a_codeReg, a_codeArg, a_codeNode, a_roots, a_entries, a_states, a_results, upd a_chain i (nI (d + 2)), upd a_actFunction (i * 4 + (d + 1)) fv, upd a_pcs (i * 4 + (d + 1)) (a_entries v), sm_lo a_locals (i * 4 + (d + 1)) w, a_regs, a_pending, a_cells)) : wpX_push postS (f_opJump, f_opJumpZero, f_opTurn, f_opPend, f_opExit, f_nodeLimit, f_slotLimit, f_depthLimit, f_turnLimit, f_programSize, f_draftStart, f_rowSize, f_codeSize, f_defined, f_turnsUsed, f_going, a_kinds, a_values, a_heights, a_loose, a_parent, a_place, a_firstLeaf, a_row, a_nodeReg, a_breakTo, a_tryTo, a_cleanupOf, a_label, a_codeOp, a_codeReg, a_codeArg, a_codeNode, a_roots, a_entries, a_states, a_results, a_chain, a_actFunction, a_pcs, a_locals, a_regs, a_pending, a_cells) (nI i) fv w' := by
  have e1 : nI i * 4 + a_chain (nI i).toNatClampNeg = nI (i * 4 + (d + 1)) := by rw [nI_clamp (by omega), hc, tr_i4]
  have e2 : upd a_pcs (nI (i * 4 + (d + 1))).toNatClampNeg (a_entries fv.toNatClampNeg) = upd a_pcs (i * 4 + (d + 1)) (a_entries v) := by rw [hv, nI_clamp (by omega), nI_clamp (by omega)]
  have e3 : upd a_locals (nI (i * 4 + (d + 1)) * 4).toNatClampNeg w' = upd a_locals ((i * 4 + (d + 1)) * 4) w := by rw [tr_4i, nI_clamp (by omega), hw]
  have hv2 : vp_in (nI (i * 4 + (d + 1))) 16 := vp_in_nI (by omega) (by decide)
  exact And.intro (vp_in_nI hi (by decide)) (nm_r e1 ⟨hv2, nm_r (tr_uc (by omega) _ _) ⟨pk_in v 6 hv6 hv, hv2, nm_r e2 ⟨pk_in _ _ (by omega) (tr_4i _), nm_r e3 ⟨4, xb_l hi (by omega) hc h⟩⟩⟩⟩)
theorem xb_push0 {postS : SX → Prop} {v : Nat} {fv w : Int32} (hi : i < 4) (hc : a_chain i = 0) (hv6 : v < 6) (hv : fv = nI v) (h : postS (f_opJump, f_opJumpZero, f_opTurn, f_opPend, f_opExit, f_nodeLimit, f_slotLimit, f_depthLimit, f_turnLimit, f_programSize, f_draftStart, f_rowSize, f_codeSize, f_defined, f_turnsUsed, f_going, a_kinds, a_values, a_heights, a_loose, a_parent, a_place, a_firstLeaf, a_row, a_nodeReg, a_breakTo, a_tryTo, a_cleanupOf, a_label, a_codeOp, a_codeReg, a_codeArg, a_codeNode, a_roots, a_entries, a_states, a_results, upd a_chain i 1, upd a_actFunction (i * 4) fv, upd a_pcs (i * 4) (a_entries v), sm_lo a_locals (i * 4) w, a_regs, a_pending, a_cells)) : wpX_push postS (f_opJump, f_opJumpZero, f_opTurn, f_opPend, f_opExit, f_nodeLimit, f_slotLimit, f_depthLimit, f_turnLimit, f_programSize, f_draftStart, f_rowSize, f_codeSize, f_defined, f_turnsUsed, f_going, a_kinds, a_values, a_heights, a_loose, a_parent, a_place, a_firstLeaf, a_row, a_nodeReg, a_breakTo, a_tryTo, a_cleanupOf, a_label, a_codeOp, a_codeReg, a_codeArg, a_codeNode, a_roots, a_entries, a_states, a_results, a_chain, a_actFunction, a_pcs, a_locals, a_regs, a_pending, a_cells) (nI i) fv w := by
  have e1 : nI i * 4 + a_chain (nI i).toNatClampNeg = nI (i * 4) := by rw [nI_clamp (by omega), hc, Int32.add_zero, tr_4i]
  have e2 : upd a_pcs (nI (i * 4)).toNatClampNeg (a_entries fv.toNatClampNeg) = upd a_pcs (i * 4) (a_entries v) := by rw [hv, nI_clamp (by omega), nI_clamp (by omega)]
  have e3 : upd a_locals (nI (i * 4) * 4).toNatClampNeg w = upd a_locals ((i * 4) * 4) w := by rw [tr_4i, nI_clamp (by omega)]
  have hv2 : vp_in (nI (i * 4)) 16 := vp_in_nI (by omega) (by decide)
  exact And.intro (vp_in_nI hi (by decide)) (nm_r e1 ⟨hv2, nm_r (tr_uc (by omega) _ _) ⟨pk_in v 6 hv6 hv, hv2, nm_r e2 ⟨pk_in _ _ (by omega) (tr_4i _), nm_r e3 ⟨4, xb_l (c := 0) hi (by omega) hc h⟩⟩⟩⟩)
theorem xr_const (hi : i < 4) (hd : d < 4) (hk : k < 65536) (hch : a_chain i = nI (d + 1)) (hpc : a_pcs (i * 4 + d) = nI pc) (hp6 : pc < 640) (hrg : a_codeReg pc = nI g) (hg : g < 16) (hop : a_codeOp pc = 0)  (h : sm_X i (k + 1) (f_opJump, f_opJumpZero, f_opTurn, f_opPend, f_opExit, f_nodeLimit, f_slotLimit, f_depthLimit, f_turnLimit, f_programSize, f_draftStart, f_rowSize, f_codeSize, f_defined, f_turnsUsed, 1, a_kinds, a_values, a_heights, a_loose, a_parent, a_place, a_firstLeaf, a_row, a_nodeReg, a_breakTo, a_tryTo, a_cleanupOf, a_label, a_codeOp, a_codeReg, a_codeArg, a_codeNode, a_roots, a_entries, a_states, a_results, a_chain, a_actFunction, upd a_pcs (i * 4 + d) (nI (pc + 1)), a_locals, upd a_regs ((i * 4 + d) * 16 + g) (a_codeArg pc), a_pending, a_cells) post) : sm_X i k (f_opJump, f_opJumpZero, f_opTurn, f_opPend, f_opExit, f_nodeLimit, f_slotLimit, f_depthLimit, f_turnLimit, f_programSize, f_draftStart, f_rowSize, f_codeSize, f_defined, f_turnsUsed, 1, a_kinds, a_values, a_heights, a_loose, a_parent, a_place, a_firstLeaf, a_row, a_nodeReg, a_breakTo, a_tryTo, a_cleanupOf, a_label, a_codeOp, a_codeReg, a_codeArg, a_codeNode, a_roots, a_entries, a_states, a_results, a_chain, a_actFunction, a_pcs, a_locals, a_regs, a_pending, a_cells) post := by
  intro n hn
  obtain ⟨n, rfl⟩ : ∃ n', n = n' + 1 := ⟨n - 1, by omega⟩
  have ei : nI i * 4 + a_chain (nI i).toNatClampNeg - 1 = nI (i * 4 + d) := by rw [nI_clamp (by omega), hch, tr_i4d]
  have ea : vp_in (nI (i * 4 + d)) 16 := vp_in_nI (by omega) (by decide)
  have vi : vp_in (nI i) 4 := vp_in_nI (by omega) (by decide)
  have ep : a_pcs (nI (i * 4 + d)).toNatClampNeg = nI pc := by rw [nI_clamp (by omega), hpc]
  have hin : vp_in (nI pc) 640 := vp_in_nI (by omega) (by decide)
  have er : nI (i * 4 + d) * 16 + a_codeReg (nI pc).toNatClampNeg = nI ((i * 4 + d) * 16 + g) := by rw [nI_clamp (n := pc) (by omega), hrg, tr_i16]
  have vr : vp_in (nI ((i * 4 + d) * 16 + g)) 256 := vp_in_nI (by omega) (by decide)
  have eu : upd a_pcs (nI (i * 4 + d)).toNatClampNeg (nI pc + 1) = upd a_pcs (i * 4 + d) (nI (pc + 1)) := by rw [nI_clamp (by omega), nI_1]
  have eo : a_codeOp (nI pc).toNatClampNeg = 0 := by rw [nI_clamp (by omega), hop]
  have eg : a_codeArg (nI pc).toNatClampNeg = a_codeArg pc := tr_fc (by omega) _
  refine br_f (nI_ge (b := 65536) (by omega) (by decide)) (br_f (by decide) ⟨vi, nm_r ei ⟨ea, nm_r ep ⟨hin, nm_r er ⟨ea, nm_r eu ⟨hin, br_f (by rw [eo]; decide) ?_⟩⟩⟩⟩⟩)
  exact And.intro hin (nm_r eg ⟨hin, nm_r eo (br_f (by decide) (br_f (by decide) (br_t rfl (And.intro vr (nm_r (tr_uc (by omega) _ _) (nm_r (nI_1 k) (h n (by omega))))))))⟩)
theorem xr_local (hi : i < 4) (hd : d < 4) (hk : k < 65536) (hch : a_chain i = nI (d + 1)) (hpc : a_pcs (i * 4 + d) = nI pc) (hp6 : pc < 640) (hrg : a_codeReg pc = nI g) (hg : g < 16) (hop : a_codeOp pc = 1) {v : Nat} (hv : a_codeArg pc = nI v) (hv4 : v < 4) (h : sm_X i (k + 1) (f_opJump, f_opJumpZero, f_opTurn, f_opPend, f_opExit, f_nodeLimit, f_slotLimit, f_depthLimit, f_turnLimit, f_programSize, f_draftStart, f_rowSize, f_codeSize, f_defined, f_turnsUsed, 1, a_kinds, a_values, a_heights, a_loose, a_parent, a_place, a_firstLeaf, a_row, a_nodeReg, a_breakTo, a_tryTo, a_cleanupOf, a_label, a_codeOp, a_codeReg, a_codeArg, a_codeNode, a_roots, a_entries, a_states, a_results, a_chain, a_actFunction, upd a_pcs (i * 4 + d) (nI (pc + 1)), a_locals, upd a_regs ((i * 4 + d) * 16 + g) (a_locals ((i * 4 + d) * 4 + v)), a_pending, a_cells) post) : sm_X i k (f_opJump, f_opJumpZero, f_opTurn, f_opPend, f_opExit, f_nodeLimit, f_slotLimit, f_depthLimit, f_turnLimit, f_programSize, f_draftStart, f_rowSize, f_codeSize, f_defined, f_turnsUsed, 1, a_kinds, a_values, a_heights, a_loose, a_parent, a_place, a_firstLeaf, a_row, a_nodeReg, a_breakTo, a_tryTo, a_cleanupOf, a_label, a_codeOp, a_codeReg, a_codeArg, a_codeNode, a_roots, a_entries, a_states, a_results, a_chain, a_actFunction, a_pcs, a_locals, a_regs, a_pending, a_cells) post := by
  intro n hn
  obtain ⟨n, rfl⟩ : ∃ n', n = n' + 1 := ⟨n - 1, by omega⟩
  have ei : nI i * 4 + a_chain (nI i).toNatClampNeg - 1 = nI (i * 4 + d) := by rw [nI_clamp (by omega), hch, tr_i4d]
  have ea : vp_in (nI (i * 4 + d)) 16 := vp_in_nI (by omega) (by decide)
  have vi : vp_in (nI i) 4 := vp_in_nI (by omega) (by decide)
  have ep : a_pcs (nI (i * 4 + d)).toNatClampNeg = nI pc := by rw [nI_clamp (by omega), hpc]
  have hin : vp_in (nI pc) 640 := vp_in_nI (by omega) (by decide)
  have er : nI (i * 4 + d) * 16 + a_codeReg (nI pc).toNatClampNeg = nI ((i * 4 + d) * 16 + g) := by rw [nI_clamp (n := pc) (by omega), hrg, tr_i16]
  have vr : vp_in (nI ((i * 4 + d) * 16 + g)) 256 := vp_in_nI (by omega) (by decide)
  have eu : upd a_pcs (nI (i * 4 + d)).toNatClampNeg (nI pc + 1) = upd a_pcs (i * 4 + d) (nI (pc + 1)) := by rw [nI_clamp (by omega), nI_1]
  have eo : a_codeOp (nI pc).toNatClampNeg = 1 := by rw [nI_clamp (by omega), hop]
  have eg : a_codeArg (nI pc).toNatClampNeg = a_codeArg pc := tr_fc (by omega) _
  have e8 : nI (i * 4 + d) * 4 + a_codeArg pc = nI ((i * 4 + d) * 4 + v) := by rw [hv, tr_i4]
  have e9 : upd a_regs (nI ((i * 4 + d) * 16 + g)).toNatClampNeg (a_locals (nI (i * 4 + d) * 4 + a_codeArg pc).toNatClampNeg) = upd a_regs ((i * 4 + d) * 16 + g) (a_locals ((i * 4 + d) * 4 + v)) := by rw [e8, nI_clamp (by omega), nI_clamp (by omega)]
  refine br_f (nI_ge (b := 65536) (by omega) (by decide)) (br_f (by decide) ⟨vi, nm_r ei ⟨ea, nm_r ep ⟨hin, nm_r er ⟨ea, nm_r eu ⟨hin, br_f (by rw [eo]; decide) ?_⟩⟩⟩⟩⟩)
  exact And.intro hin (nm_r eg ⟨hin, nm_r eo (br_f (by decide) (br_f (by decide) (br_f (by decide) (br_t rfl (And.intro (pk_in _ _ (by omega) e8) ⟨vr, nm_r e9 (nm_r (nI_1 k) (h n (by omega)))⟩)))))⟩)
theorem xr_shared (hi : i < 4) (hd : d < 4) (hk : k < 65536) (hch : a_chain i = nI (d + 1)) (hpc : a_pcs (i * 4 + d) = nI pc) (hp6 : pc < 640) (hrg : a_codeReg pc = nI g) (hg : g < 16) (hop : a_codeOp pc = 2) {v : Nat} (hv : a_codeArg pc = nI v) (hv4 : v < 4) (h : sm_X i (k + 1) (f_opJump, f_opJumpZero, f_opTurn, f_opPend, f_opExit, f_nodeLimit, f_slotLimit, f_depthLimit, f_turnLimit, f_programSize, f_draftStart, f_rowSize, f_codeSize, f_defined, f_turnsUsed, 1, a_kinds, a_values, a_heights, a_loose, a_parent, a_place, a_firstLeaf, a_row, a_nodeReg, a_breakTo, a_tryTo, a_cleanupOf, a_label, a_codeOp, a_codeReg, a_codeArg, a_codeNode, a_roots, a_entries, a_states, a_results, a_chain, a_actFunction, upd a_pcs (i * 4 + d) (nI (pc + 1)), a_locals, upd a_regs ((i * 4 + d) * 16 + g) (a_cells v), a_pending, a_cells) post) : sm_X i k (f_opJump, f_opJumpZero, f_opTurn, f_opPend, f_opExit, f_nodeLimit, f_slotLimit, f_depthLimit, f_turnLimit, f_programSize, f_draftStart, f_rowSize, f_codeSize, f_defined, f_turnsUsed, 1, a_kinds, a_values, a_heights, a_loose, a_parent, a_place, a_firstLeaf, a_row, a_nodeReg, a_breakTo, a_tryTo, a_cleanupOf, a_label, a_codeOp, a_codeReg, a_codeArg, a_codeNode, a_roots, a_entries, a_states, a_results, a_chain, a_actFunction, a_pcs, a_locals, a_regs, a_pending, a_cells) post := by
  intro n hn
  obtain ⟨n, rfl⟩ : ∃ n', n = n' + 1 := ⟨n - 1, by omega⟩
  have ei : nI i * 4 + a_chain (nI i).toNatClampNeg - 1 = nI (i * 4 + d) := by rw [nI_clamp (by omega), hch, tr_i4d]
  have ea : vp_in (nI (i * 4 + d)) 16 := vp_in_nI (by omega) (by decide)
  have vi : vp_in (nI i) 4 := vp_in_nI (by omega) (by decide)
  have ep : a_pcs (nI (i * 4 + d)).toNatClampNeg = nI pc := by rw [nI_clamp (by omega), hpc]
  have hin : vp_in (nI pc) 640 := vp_in_nI (by omega) (by decide)
  have er : nI (i * 4 + d) * 16 + a_codeReg (nI pc).toNatClampNeg = nI ((i * 4 + d) * 16 + g) := by rw [nI_clamp (n := pc) (by omega), hrg, tr_i16]
  have vr : vp_in (nI ((i * 4 + d) * 16 + g)) 256 := vp_in_nI (by omega) (by decide)
  have eu : upd a_pcs (nI (i * 4 + d)).toNatClampNeg (nI pc + 1) = upd a_pcs (i * 4 + d) (nI (pc + 1)) := by rw [nI_clamp (by omega), nI_1]
  have eo : a_codeOp (nI pc).toNatClampNeg = 2 := by rw [nI_clamp (by omega), hop]
  have eg : a_codeArg (nI pc).toNatClampNeg = a_codeArg pc := tr_fc (by omega) _
  have e9 : upd a_regs (nI ((i * 4 + d) * 16 + g)).toNatClampNeg (a_cells (a_codeArg pc).toNatClampNeg) = upd a_regs ((i * 4 + d) * 16 + g) (a_cells v) := by rw [hv, nI_clamp (by omega), nI_clamp (by omega)]
  refine br_f (nI_ge (b := 65536) (by omega) (by decide)) (br_f (by decide) ⟨vi, nm_r ei ⟨ea, nm_r ep ⟨hin, nm_r er ⟨ea, nm_r eu ⟨hin, br_f (by rw [eo]; decide) ?_⟩⟩⟩⟩⟩)
  exact And.intro hin (nm_r eg ⟨hin, nm_r eo (br_f (by decide) (br_f (by decide) (br_f (by decide) (br_f (by decide) (br_t rfl (And.intro (pk_in _ _ (by omega) hv) ⟨vr, nm_r e9 (nm_r (nI_1 k) (h n (by omega)))⟩))))))⟩)
theorem xr_setl (hi : i < 4) (hd : d < 4) (hk : k < 65536) (hch : a_chain i = nI (d + 1)) (hpc : a_pcs (i * 4 + d) = nI pc) (hp6 : pc < 640) (hrg : a_codeReg pc = nI g) (hg : g < 16) (hop : a_codeOp pc = 3) {v : Nat} (hv : a_codeArg pc = nI v) (hv4 : v < 4) (h : sm_X i (k + 1) (f_opJump, f_opJumpZero, f_opTurn, f_opPend, f_opExit, f_nodeLimit, f_slotLimit, f_depthLimit, f_turnLimit, f_programSize, f_draftStart, f_rowSize, f_codeSize, f_defined, f_turnsUsed, 1, a_kinds, a_values, a_heights, a_loose, a_parent, a_place, a_firstLeaf, a_row, a_nodeReg, a_breakTo, a_tryTo, a_cleanupOf, a_label, a_codeOp, a_codeReg, a_codeArg, a_codeNode, a_roots, a_entries, a_states, a_results, a_chain, a_actFunction, upd a_pcs (i * 4 + d) (nI (pc + 1)), upd a_locals ((i * 4 + d) * 4 + v) (a_regs ((i * 4 + d) * 16 + g)), a_regs, a_pending, a_cells) post) : sm_X i k (f_opJump, f_opJumpZero, f_opTurn, f_opPend, f_opExit, f_nodeLimit, f_slotLimit, f_depthLimit, f_turnLimit, f_programSize, f_draftStart, f_rowSize, f_codeSize, f_defined, f_turnsUsed, 1, a_kinds, a_values, a_heights, a_loose, a_parent, a_place, a_firstLeaf, a_row, a_nodeReg, a_breakTo, a_tryTo, a_cleanupOf, a_label, a_codeOp, a_codeReg, a_codeArg, a_codeNode, a_roots, a_entries, a_states, a_results, a_chain, a_actFunction, a_pcs, a_locals, a_regs, a_pending, a_cells) post := by
  intro n hn
  obtain ⟨n, rfl⟩ : ∃ n', n = n' + 1 := ⟨n - 1, by omega⟩
  have ei : nI i * 4 + a_chain (nI i).toNatClampNeg - 1 = nI (i * 4 + d) := by rw [nI_clamp (by omega), hch, tr_i4d]
  have ea : vp_in (nI (i * 4 + d)) 16 := vp_in_nI (by omega) (by decide)
  have vi : vp_in (nI i) 4 := vp_in_nI (by omega) (by decide)
  have ep : a_pcs (nI (i * 4 + d)).toNatClampNeg = nI pc := by rw [nI_clamp (by omega), hpc]
  have hin : vp_in (nI pc) 640 := vp_in_nI (by omega) (by decide)
  have er : nI (i * 4 + d) * 16 + a_codeReg (nI pc).toNatClampNeg = nI ((i * 4 + d) * 16 + g) := by rw [nI_clamp (n := pc) (by omega), hrg, tr_i16]
  have vr : vp_in (nI ((i * 4 + d) * 16 + g)) 256 := vp_in_nI (by omega) (by decide)
  have eu : upd a_pcs (nI (i * 4 + d)).toNatClampNeg (nI pc + 1) = upd a_pcs (i * 4 + d) (nI (pc + 1)) := by rw [nI_clamp (by omega), nI_1]
  have eo : a_codeOp (nI pc).toNatClampNeg = 3 := by rw [nI_clamp (by omega), hop]
  have eg : a_codeArg (nI pc).toNatClampNeg = a_codeArg pc := tr_fc (by omega) _
  have e8 : nI (i * 4 + d) * 4 + a_codeArg pc = nI ((i * 4 + d) * 4 + v) := by rw [hv, tr_i4]
  have e9 : upd a_locals (nI (i * 4 + d) * 4 + a_codeArg pc).toNatClampNeg (a_regs (nI ((i * 4 + d) * 16 + g)).toNatClampNeg) = upd a_locals ((i * 4 + d) * 4 + v) (a_regs ((i * 4 + d) * 16 + g)) := by rw [e8, nI_clamp (by omega), nI_clamp (by omega)]
  refine br_f (nI_ge (b := 65536) (by omega) (by decide)) (br_f (by decide) ⟨vi, nm_r ei ⟨ea, nm_r ep ⟨hin, nm_r er ⟨ea, nm_r eu ⟨hin, br_f (by rw [eo]; decide) ?_⟩⟩⟩⟩⟩)
  exact And.intro hin (nm_r eg ⟨hin, nm_r eo (br_f (by decide) (br_f (by decide) (br_f (by decide) (br_f (by decide) (br_f (by decide) (br_t rfl (And.intro vr ⟨pk_in _ _ (by omega) e8, nm_r e9 (nm_r (nI_1 k) (h n (by omega)))⟩)))))))⟩)
theorem xr_sets (hi : i < 4) (hd : d < 4) (hk : k < 65536) (hch : a_chain i = nI (d + 1)) (hpc : a_pcs (i * 4 + d) = nI pc) (hp6 : pc < 640) (hrg : a_codeReg pc = nI g) (hg : g < 16) (hop : a_codeOp pc = 4) {v : Nat} (hv : a_codeArg pc = nI v) (hv4 : v < 4) (h : sm_X i (k + 1) (f_opJump, f_opJumpZero, f_opTurn, f_opPend, f_opExit, f_nodeLimit, f_slotLimit, f_depthLimit, f_turnLimit, f_programSize, f_draftStart, f_rowSize, f_codeSize, f_defined, f_turnsUsed, 1, a_kinds, a_values, a_heights, a_loose, a_parent, a_place, a_firstLeaf, a_row, a_nodeReg, a_breakTo, a_tryTo, a_cleanupOf, a_label, a_codeOp, a_codeReg, a_codeArg, a_codeNode, a_roots, a_entries, a_states, a_results, a_chain, a_actFunction, upd a_pcs (i * 4 + d) (nI (pc + 1)), a_locals, a_regs, a_pending, upd a_cells v (a_regs ((i * 4 + d) * 16 + g))) post) : sm_X i k (f_opJump, f_opJumpZero, f_opTurn, f_opPend, f_opExit, f_nodeLimit, f_slotLimit, f_depthLimit, f_turnLimit, f_programSize, f_draftStart, f_rowSize, f_codeSize, f_defined, f_turnsUsed, 1, a_kinds, a_values, a_heights, a_loose, a_parent, a_place, a_firstLeaf, a_row, a_nodeReg, a_breakTo, a_tryTo, a_cleanupOf, a_label, a_codeOp, a_codeReg, a_codeArg, a_codeNode, a_roots, a_entries, a_states, a_results, a_chain, a_actFunction, a_pcs, a_locals, a_regs, a_pending, a_cells) post := by
  intro n hn
  obtain ⟨n, rfl⟩ : ∃ n', n = n' + 1 := ⟨n - 1, by omega⟩
  have ei : nI i * 4 + a_chain (nI i).toNatClampNeg - 1 = nI (i * 4 + d) := by rw [nI_clamp (by omega), hch, tr_i4d]
  have ea : vp_in (nI (i * 4 + d)) 16 := vp_in_nI (by omega) (by decide)
  have vi : vp_in (nI i) 4 := vp_in_nI (by omega) (by decide)
  have ep : a_pcs (nI (i * 4 + d)).toNatClampNeg = nI pc := by rw [nI_clamp (by omega), hpc]
  have hin : vp_in (nI pc) 640 := vp_in_nI (by omega) (by decide)
  have er : nI (i * 4 + d) * 16 + a_codeReg (nI pc).toNatClampNeg = nI ((i * 4 + d) * 16 + g) := by rw [nI_clamp (n := pc) (by omega), hrg, tr_i16]
  have vr : vp_in (nI ((i * 4 + d) * 16 + g)) 256 := vp_in_nI (by omega) (by decide)
  have eu : upd a_pcs (nI (i * 4 + d)).toNatClampNeg (nI pc + 1) = upd a_pcs (i * 4 + d) (nI (pc + 1)) := by rw [nI_clamp (by omega), nI_1]
  have eo : a_codeOp (nI pc).toNatClampNeg = 4 := by rw [nI_clamp (by omega), hop]
  have eg : a_codeArg (nI pc).toNatClampNeg = a_codeArg pc := tr_fc (by omega) _
  have e9 : upd a_cells (a_codeArg pc).toNatClampNeg (a_regs (nI ((i * 4 + d) * 16 + g)).toNatClampNeg) = upd a_cells v (a_regs ((i * 4 + d) * 16 + g)) := by rw [hv, nI_clamp (by omega), nI_clamp (by omega)]
  refine br_f (nI_ge (b := 65536) (by omega) (by decide)) (br_f (by decide) ⟨vi, nm_r ei ⟨ea, nm_r ep ⟨hin, nm_r er ⟨ea, nm_r eu ⟨hin, br_f (by rw [eo]; decide) ?_⟩⟩⟩⟩⟩)
  exact And.intro hin (nm_r eg ⟨hin, nm_r eo (br_f (by decide) (br_f (by decide) (br_f (by decide) (br_f (by decide) (br_f (by decide) (br_f (by decide) (br_t rfl (And.intro vr ⟨pk_in _ _ (by omega) hv, nm_r e9 (nm_r (nI_1 k) (h n (by omega)))⟩))))))))⟩)
theorem xr_add (hi : i < 4) (hd : d < 4) (hk : k < 65536) (hch : a_chain i = nI (d + 1)) (hpc : a_pcs (i * 4 + d) = nI pc) (hp6 : pc < 640) (hrg : a_codeReg pc = nI g) (hg : g < 16) (hop : a_codeOp pc = 5) (hg1 : g < 15) (h : sm_X i (k + 1) (f_opJump, f_opJumpZero, f_opTurn, f_opPend, f_opExit, f_nodeLimit, f_slotLimit, f_depthLimit, f_turnLimit, f_programSize, f_draftStart, f_rowSize, f_codeSize, f_defined, f_turnsUsed, 1, a_kinds, a_values, a_heights, a_loose, a_parent, a_place, a_firstLeaf, a_row, a_nodeReg, a_breakTo, a_tryTo, a_cleanupOf, a_label, a_codeOp, a_codeReg, a_codeArg, a_codeNode, a_roots, a_entries, a_states, a_results, a_chain, a_actFunction, upd a_pcs (i * 4 + d) (nI (pc + 1)), a_locals, upd a_regs ((i * 4 + d) * 16 + g) (a_regs ((i * 4 + d) * 16 + g) + a_regs (((i * 4 + d) * 16 + g) + 1)), a_pending, a_cells) post) : sm_X i k (f_opJump, f_opJumpZero, f_opTurn, f_opPend, f_opExit, f_nodeLimit, f_slotLimit, f_depthLimit, f_turnLimit, f_programSize, f_draftStart, f_rowSize, f_codeSize, f_defined, f_turnsUsed, 1, a_kinds, a_values, a_heights, a_loose, a_parent, a_place, a_firstLeaf, a_row, a_nodeReg, a_breakTo, a_tryTo, a_cleanupOf, a_label, a_codeOp, a_codeReg, a_codeArg, a_codeNode, a_roots, a_entries, a_states, a_results, a_chain, a_actFunction, a_pcs, a_locals, a_regs, a_pending, a_cells) post := by
  intro n hn
  obtain ⟨n, rfl⟩ : ∃ n', n = n' + 1 := ⟨n - 1, by omega⟩
  have ei : nI i * 4 + a_chain (nI i).toNatClampNeg - 1 = nI (i * 4 + d) := by rw [nI_clamp (by omega), hch, tr_i4d]
  have ea : vp_in (nI (i * 4 + d)) 16 := vp_in_nI (by omega) (by decide)
  have vi : vp_in (nI i) 4 := vp_in_nI (by omega) (by decide)
  have ep : a_pcs (nI (i * 4 + d)).toNatClampNeg = nI pc := by rw [nI_clamp (by omega), hpc]
  have hin : vp_in (nI pc) 640 := vp_in_nI (by omega) (by decide)
  have er : nI (i * 4 + d) * 16 + a_codeReg (nI pc).toNatClampNeg = nI ((i * 4 + d) * 16 + g) := by rw [nI_clamp (n := pc) (by omega), hrg, tr_i16]
  have vr : vp_in (nI ((i * 4 + d) * 16 + g)) 256 := vp_in_nI (by omega) (by decide)
  have eu : upd a_pcs (nI (i * 4 + d)).toNatClampNeg (nI pc + 1) = upd a_pcs (i * 4 + d) (nI (pc + 1)) := by rw [nI_clamp (by omega), nI_1]
  have eo : a_codeOp (nI pc).toNatClampNeg = 5 := by rw [nI_clamp (by omega), hop]
  have eg : a_codeArg (nI pc).toNatClampNeg = a_codeArg pc := tr_fc (by omega) _
  have vr1 : vp_in (nI ((i * 4 + d) * 16 + g) + 1) 256 := pk_in (((i * 4 + d) * 16 + g) + 1) 256 (by omega) (nI_1 _)
  have e9 : upd a_regs (nI ((i * 4 + d) * 16 + g)).toNatClampNeg (a_regs (nI ((i * 4 + d) * 16 + g)).toNatClampNeg + a_regs (nI ((i * 4 + d) * 16 + g) + 1).toNatClampNeg) = upd a_regs ((i * 4 + d) * 16 + g) (a_regs ((i * 4 + d) * 16 + g) + a_regs (((i * 4 + d) * 16 + g) + 1)) := by rw [nI_1, nI_clamp (by omega), nI_clamp (by omega)]
  refine br_f (nI_ge (b := 65536) (by omega) (by decide)) (br_f (by decide) ⟨vi, nm_r ei ⟨ea, nm_r ep ⟨hin, nm_r er ⟨ea, nm_r eu ⟨hin, br_f (by rw [eo]; decide) ?_⟩⟩⟩⟩⟩)
  exact And.intro hin (nm_r eg ⟨hin, nm_r eo (br_f (by decide) (br_f (by decide) (br_f (by decide) (br_f (by decide) (br_f (by decide) (br_f (by decide) (br_f (by decide) (br_t rfl (And.intro vr ⟨vr1, vr, nm_r e9 (nm_r (nI_1 k) (h n (by omega)))⟩)))))))))⟩)
theorem xr_sub (hi : i < 4) (hd : d < 4) (hk : k < 65536) (hch : a_chain i = nI (d + 1)) (hpc : a_pcs (i * 4 + d) = nI pc) (hp6 : pc < 640) (hrg : a_codeReg pc = nI g) (hg : g < 16) (hop : a_codeOp pc = 6) (hg1 : g < 15) (h : sm_X i (k + 1) (f_opJump, f_opJumpZero, f_opTurn, f_opPend, f_opExit, f_nodeLimit, f_slotLimit, f_depthLimit, f_turnLimit, f_programSize, f_draftStart, f_rowSize, f_codeSize, f_defined, f_turnsUsed, 1, a_kinds, a_values, a_heights, a_loose, a_parent, a_place, a_firstLeaf, a_row, a_nodeReg, a_breakTo, a_tryTo, a_cleanupOf, a_label, a_codeOp, a_codeReg, a_codeArg, a_codeNode, a_roots, a_entries, a_states, a_results, a_chain, a_actFunction, upd a_pcs (i * 4 + d) (nI (pc + 1)), a_locals, upd a_regs ((i * 4 + d) * 16 + g) (a_regs ((i * 4 + d) * 16 + g) - a_regs (((i * 4 + d) * 16 + g) + 1)), a_pending, a_cells) post) : sm_X i k (f_opJump, f_opJumpZero, f_opTurn, f_opPend, f_opExit, f_nodeLimit, f_slotLimit, f_depthLimit, f_turnLimit, f_programSize, f_draftStart, f_rowSize, f_codeSize, f_defined, f_turnsUsed, 1, a_kinds, a_values, a_heights, a_loose, a_parent, a_place, a_firstLeaf, a_row, a_nodeReg, a_breakTo, a_tryTo, a_cleanupOf, a_label, a_codeOp, a_codeReg, a_codeArg, a_codeNode, a_roots, a_entries, a_states, a_results, a_chain, a_actFunction, a_pcs, a_locals, a_regs, a_pending, a_cells) post := by
  intro n hn
  obtain ⟨n, rfl⟩ : ∃ n', n = n' + 1 := ⟨n - 1, by omega⟩
  have ei : nI i * 4 + a_chain (nI i).toNatClampNeg - 1 = nI (i * 4 + d) := by rw [nI_clamp (by omega), hch, tr_i4d]
  have ea : vp_in (nI (i * 4 + d)) 16 := vp_in_nI (by omega) (by decide)
  have vi : vp_in (nI i) 4 := vp_in_nI (by omega) (by decide)
  have ep : a_pcs (nI (i * 4 + d)).toNatClampNeg = nI pc := by rw [nI_clamp (by omega), hpc]
  have hin : vp_in (nI pc) 640 := vp_in_nI (by omega) (by decide)
  have er : nI (i * 4 + d) * 16 + a_codeReg (nI pc).toNatClampNeg = nI ((i * 4 + d) * 16 + g) := by rw [nI_clamp (n := pc) (by omega), hrg, tr_i16]
  have vr : vp_in (nI ((i * 4 + d) * 16 + g)) 256 := vp_in_nI (by omega) (by decide)
  have eu : upd a_pcs (nI (i * 4 + d)).toNatClampNeg (nI pc + 1) = upd a_pcs (i * 4 + d) (nI (pc + 1)) := by rw [nI_clamp (by omega), nI_1]
  have eo : a_codeOp (nI pc).toNatClampNeg = 6 := by rw [nI_clamp (by omega), hop]
  have eg : a_codeArg (nI pc).toNatClampNeg = a_codeArg pc := tr_fc (by omega) _
  have vr1 : vp_in (nI ((i * 4 + d) * 16 + g) + 1) 256 := pk_in (((i * 4 + d) * 16 + g) + 1) 256 (by omega) (nI_1 _)
  have e9 : upd a_regs (nI ((i * 4 + d) * 16 + g)).toNatClampNeg (a_regs (nI ((i * 4 + d) * 16 + g)).toNatClampNeg - a_regs (nI ((i * 4 + d) * 16 + g) + 1).toNatClampNeg) = upd a_regs ((i * 4 + d) * 16 + g) (a_regs ((i * 4 + d) * 16 + g) - a_regs (((i * 4 + d) * 16 + g) + 1)) := by rw [nI_1, nI_clamp (by omega), nI_clamp (by omega)]
  refine br_f (nI_ge (b := 65536) (by omega) (by decide)) (br_f (by decide) ⟨vi, nm_r ei ⟨ea, nm_r ep ⟨hin, nm_r er ⟨ea, nm_r eu ⟨hin, br_f (by rw [eo]; decide) ?_⟩⟩⟩⟩⟩)
  exact And.intro hin (nm_r eg ⟨hin, nm_r eo (br_f (by decide) (br_f (by decide) (br_f (by decide) (br_f (by decide) (br_f (by decide) (br_f (by decide) (br_f (by decide) (br_f (by decide) (br_t rfl (And.intro vr ⟨vr1, vr, nm_r e9 (nm_r (nI_1 k) (h n (by omega)))⟩))))))))))⟩)
theorem xr_mul (hi : i < 4) (hd : d < 4) (hk : k < 65536) (hch : a_chain i = nI (d + 1)) (hpc : a_pcs (i * 4 + d) = nI pc) (hp6 : pc < 640) (hrg : a_codeReg pc = nI g) (hg : g < 16) (hop : a_codeOp pc = 7) (hg1 : g < 15) (h : sm_X i (k + 1) (f_opJump, f_opJumpZero, f_opTurn, f_opPend, f_opExit, f_nodeLimit, f_slotLimit, f_depthLimit, f_turnLimit, f_programSize, f_draftStart, f_rowSize, f_codeSize, f_defined, f_turnsUsed, 1, a_kinds, a_values, a_heights, a_loose, a_parent, a_place, a_firstLeaf, a_row, a_nodeReg, a_breakTo, a_tryTo, a_cleanupOf, a_label, a_codeOp, a_codeReg, a_codeArg, a_codeNode, a_roots, a_entries, a_states, a_results, a_chain, a_actFunction, upd a_pcs (i * 4 + d) (nI (pc + 1)), a_locals, upd a_regs ((i * 4 + d) * 16 + g) (a_regs ((i * 4 + d) * 16 + g) * a_regs (((i * 4 + d) * 16 + g) + 1)), a_pending, a_cells) post) : sm_X i k (f_opJump, f_opJumpZero, f_opTurn, f_opPend, f_opExit, f_nodeLimit, f_slotLimit, f_depthLimit, f_turnLimit, f_programSize, f_draftStart, f_rowSize, f_codeSize, f_defined, f_turnsUsed, 1, a_kinds, a_values, a_heights, a_loose, a_parent, a_place, a_firstLeaf, a_row, a_nodeReg, a_breakTo, a_tryTo, a_cleanupOf, a_label, a_codeOp, a_codeReg, a_codeArg, a_codeNode, a_roots, a_entries, a_states, a_results, a_chain, a_actFunction, a_pcs, a_locals, a_regs, a_pending, a_cells) post := by
  intro n hn
  obtain ⟨n, rfl⟩ : ∃ n', n = n' + 1 := ⟨n - 1, by omega⟩
  have ei : nI i * 4 + a_chain (nI i).toNatClampNeg - 1 = nI (i * 4 + d) := by rw [nI_clamp (by omega), hch, tr_i4d]
  have ea : vp_in (nI (i * 4 + d)) 16 := vp_in_nI (by omega) (by decide)
  have vi : vp_in (nI i) 4 := vp_in_nI (by omega) (by decide)
  have ep : a_pcs (nI (i * 4 + d)).toNatClampNeg = nI pc := by rw [nI_clamp (by omega), hpc]
  have hin : vp_in (nI pc) 640 := vp_in_nI (by omega) (by decide)
  have er : nI (i * 4 + d) * 16 + a_codeReg (nI pc).toNatClampNeg = nI ((i * 4 + d) * 16 + g) := by rw [nI_clamp (n := pc) (by omega), hrg, tr_i16]
  have vr : vp_in (nI ((i * 4 + d) * 16 + g)) 256 := vp_in_nI (by omega) (by decide)
  have eu : upd a_pcs (nI (i * 4 + d)).toNatClampNeg (nI pc + 1) = upd a_pcs (i * 4 + d) (nI (pc + 1)) := by rw [nI_clamp (by omega), nI_1]
  have eo : a_codeOp (nI pc).toNatClampNeg = 7 := by rw [nI_clamp (by omega), hop]
  have eg : a_codeArg (nI pc).toNatClampNeg = a_codeArg pc := tr_fc (by omega) _
  have vr1 : vp_in (nI ((i * 4 + d) * 16 + g) + 1) 256 := pk_in (((i * 4 + d) * 16 + g) + 1) 256 (by omega) (nI_1 _)
  have e9 : upd a_regs (nI ((i * 4 + d) * 16 + g)).toNatClampNeg (a_regs (nI ((i * 4 + d) * 16 + g)).toNatClampNeg * a_regs (nI ((i * 4 + d) * 16 + g) + 1).toNatClampNeg) = upd a_regs ((i * 4 + d) * 16 + g) (a_regs ((i * 4 + d) * 16 + g) * a_regs (((i * 4 + d) * 16 + g) + 1)) := by rw [nI_1, nI_clamp (by omega), nI_clamp (by omega)]
  refine br_f (nI_ge (b := 65536) (by omega) (by decide)) (br_f (by decide) ⟨vi, nm_r ei ⟨ea, nm_r ep ⟨hin, nm_r er ⟨ea, nm_r eu ⟨hin, br_f (by rw [eo]; decide) ?_⟩⟩⟩⟩⟩)
  exact And.intro hin (nm_r eg ⟨hin, nm_r eo (br_f (by decide) (br_f (by decide) (br_f (by decide) (br_f (by decide) (br_f (by decide) (br_f (by decide) (br_f (by decide) (br_f (by decide) (br_f (by decide) (br_t rfl (And.intro vr ⟨vr1, vr, nm_r e9 (nm_r (nI_1 k) (h n (by omega)))⟩)))))))))))⟩)
theorem xr_less0 (hi : i < 4) (hd : d < 4) (hk : k < 65536) (hch : a_chain i = nI (d + 1)) (hpc : a_pcs (i * 4 + d) = nI pc) (hp6 : pc < 640) (hrg : a_codeReg pc = nI g) (hg : g < 16) (hop : a_codeOp pc = 8) (hg1 : g < 15) (hx : a_regs (((i * 4 + d) * 16 + g) + 1) ≤ a_regs ((i * 4 + d) * 16 + g)) (h : sm_X i (k + 1) (f_opJump, f_opJumpZero, f_opTurn, f_opPend, f_opExit, f_nodeLimit, f_slotLimit, f_depthLimit, f_turnLimit, f_programSize, f_draftStart, f_rowSize, f_codeSize, f_defined, f_turnsUsed, 1, a_kinds, a_values, a_heights, a_loose, a_parent, a_place, a_firstLeaf, a_row, a_nodeReg, a_breakTo, a_tryTo, a_cleanupOf, a_label, a_codeOp, a_codeReg, a_codeArg, a_codeNode, a_roots, a_entries, a_states, a_results, a_chain, a_actFunction, upd a_pcs (i * 4 + d) (nI (pc + 1)), a_locals, upd a_regs ((i * 4 + d) * 16 + g) 0, a_pending, a_cells) post) : sm_X i k (f_opJump, f_opJumpZero, f_opTurn, f_opPend, f_opExit, f_nodeLimit, f_slotLimit, f_depthLimit, f_turnLimit, f_programSize, f_draftStart, f_rowSize, f_codeSize, f_defined, f_turnsUsed, 1, a_kinds, a_values, a_heights, a_loose, a_parent, a_place, a_firstLeaf, a_row, a_nodeReg, a_breakTo, a_tryTo, a_cleanupOf, a_label, a_codeOp, a_codeReg, a_codeArg, a_codeNode, a_roots, a_entries, a_states, a_results, a_chain, a_actFunction, a_pcs, a_locals, a_regs, a_pending, a_cells) post := by
  intro n hn
  obtain ⟨n, rfl⟩ : ∃ n', n = n' + 1 := ⟨n - 1, by omega⟩
  have ei : nI i * 4 + a_chain (nI i).toNatClampNeg - 1 = nI (i * 4 + d) := by rw [nI_clamp (by omega), hch, tr_i4d]
  have ea : vp_in (nI (i * 4 + d)) 16 := vp_in_nI (by omega) (by decide)
  have vi : vp_in (nI i) 4 := vp_in_nI (by omega) (by decide)
  have ep : a_pcs (nI (i * 4 + d)).toNatClampNeg = nI pc := by rw [nI_clamp (by omega), hpc]
  have hin : vp_in (nI pc) 640 := vp_in_nI (by omega) (by decide)
  have er : nI (i * 4 + d) * 16 + a_codeReg (nI pc).toNatClampNeg = nI ((i * 4 + d) * 16 + g) := by rw [nI_clamp (n := pc) (by omega), hrg, tr_i16]
  have vr : vp_in (nI ((i * 4 + d) * 16 + g)) 256 := vp_in_nI (by omega) (by decide)
  have eu : upd a_pcs (nI (i * 4 + d)).toNatClampNeg (nI pc + 1) = upd a_pcs (i * 4 + d) (nI (pc + 1)) := by rw [nI_clamp (by omega), nI_1]
  have eo : a_codeOp (nI pc).toNatClampNeg = 8 := by rw [nI_clamp (by omega), hop]
  have eg : a_codeArg (nI pc).toNatClampNeg = a_codeArg pc := tr_fc (by omega) _
  have vr1 : vp_in (nI ((i * 4 + d) * 16 + g) + 1) 256 := pk_in (((i * 4 + d) * 16 + g) + 1) 256 (by omega) (nI_1 _)
  have hx2 :  a_regs (nI ((i * 4 + d) * 16 + g) + 1).toNatClampNeg ≤ a_regs (nI ((i * 4 + d) * 16 + g)).toNatClampNeg := by rw [nI_1, nI_clamp (by omega), nI_clamp (by omega)]; exact hx
  refine br_f (nI_ge (b := 65536) (by omega) (by decide)) (br_f (by decide) ⟨vi, nm_r ei ⟨ea, nm_r ep ⟨hin, nm_r er ⟨ea, nm_r eu ⟨hin, br_f (by rw [eo]; decide) ?_⟩⟩⟩⟩⟩)
  exact And.intro hin (nm_r eg ⟨hin, nm_r eo (br_f (by decide) (br_f (by decide) (br_f (by decide) (br_f (by decide) (br_f (by decide) (br_f (by decide) (br_f (by decide) (br_f (by decide) (br_f (by decide) (br_f (by decide) (br_t rfl (And.intro vr ⟨vr1, br_t hx2 ⟨vr, nm_r (tr_uc (by omega) _ _) (nm_r (nI_1 k) (h n (by omega)))⟩⟩))))))))))))⟩)
theorem xr_less1 (hi : i < 4) (hd : d < 4) (hk : k < 65536) (hch : a_chain i = nI (d + 1)) (hpc : a_pcs (i * 4 + d) = nI pc) (hp6 : pc < 640) (hrg : a_codeReg pc = nI g) (hg : g < 16) (hop : a_codeOp pc = 8) (hg1 : g < 15) (hx : ¬ a_regs (((i * 4 + d) * 16 + g) + 1) ≤ a_regs ((i * 4 + d) * 16 + g)) (h : sm_X i (k + 1) (f_opJump, f_opJumpZero, f_opTurn, f_opPend, f_opExit, f_nodeLimit, f_slotLimit, f_depthLimit, f_turnLimit, f_programSize, f_draftStart, f_rowSize, f_codeSize, f_defined, f_turnsUsed, 1, a_kinds, a_values, a_heights, a_loose, a_parent, a_place, a_firstLeaf, a_row, a_nodeReg, a_breakTo, a_tryTo, a_cleanupOf, a_label, a_codeOp, a_codeReg, a_codeArg, a_codeNode, a_roots, a_entries, a_states, a_results, a_chain, a_actFunction, upd a_pcs (i * 4 + d) (nI (pc + 1)), a_locals, upd a_regs ((i * 4 + d) * 16 + g) 1, a_pending, a_cells) post) : sm_X i k (f_opJump, f_opJumpZero, f_opTurn, f_opPend, f_opExit, f_nodeLimit, f_slotLimit, f_depthLimit, f_turnLimit, f_programSize, f_draftStart, f_rowSize, f_codeSize, f_defined, f_turnsUsed, 1, a_kinds, a_values, a_heights, a_loose, a_parent, a_place, a_firstLeaf, a_row, a_nodeReg, a_breakTo, a_tryTo, a_cleanupOf, a_label, a_codeOp, a_codeReg, a_codeArg, a_codeNode, a_roots, a_entries, a_states, a_results, a_chain, a_actFunction, a_pcs, a_locals, a_regs, a_pending, a_cells) post := by
  intro n hn
  obtain ⟨n, rfl⟩ : ∃ n', n = n' + 1 := ⟨n - 1, by omega⟩
  have ei : nI i * 4 + a_chain (nI i).toNatClampNeg - 1 = nI (i * 4 + d) := by rw [nI_clamp (by omega), hch, tr_i4d]
  have ea : vp_in (nI (i * 4 + d)) 16 := vp_in_nI (by omega) (by decide)
  have vi : vp_in (nI i) 4 := vp_in_nI (by omega) (by decide)
  have ep : a_pcs (nI (i * 4 + d)).toNatClampNeg = nI pc := by rw [nI_clamp (by omega), hpc]
  have hin : vp_in (nI pc) 640 := vp_in_nI (by omega) (by decide)
  have er : nI (i * 4 + d) * 16 + a_codeReg (nI pc).toNatClampNeg = nI ((i * 4 + d) * 16 + g) := by rw [nI_clamp (n := pc) (by omega), hrg, tr_i16]
  have vr : vp_in (nI ((i * 4 + d) * 16 + g)) 256 := vp_in_nI (by omega) (by decide)
  have eu : upd a_pcs (nI (i * 4 + d)).toNatClampNeg (nI pc + 1) = upd a_pcs (i * 4 + d) (nI (pc + 1)) := by rw [nI_clamp (by omega), nI_1]
  have eo : a_codeOp (nI pc).toNatClampNeg = 8 := by rw [nI_clamp (by omega), hop]
  have eg : a_codeArg (nI pc).toNatClampNeg = a_codeArg pc := tr_fc (by omega) _
  have vr1 : vp_in (nI ((i * 4 + d) * 16 + g) + 1) 256 := pk_in (((i * 4 + d) * 16 + g) + 1) 256 (by omega) (nI_1 _)
  have hx2 : ¬ a_regs (nI ((i * 4 + d) * 16 + g) + 1).toNatClampNeg ≤ a_regs (nI ((i * 4 + d) * 16 + g)).toNatClampNeg := by rw [nI_1, nI_clamp (by omega), nI_clamp (by omega)]; exact hx
  refine br_f (nI_ge (b := 65536) (by omega) (by decide)) (br_f (by decide) ⟨vi, nm_r ei ⟨ea, nm_r ep ⟨hin, nm_r er ⟨ea, nm_r eu ⟨hin, br_f (by rw [eo]; decide) ?_⟩⟩⟩⟩⟩)
  exact And.intro hin (nm_r eg ⟨hin, nm_r eo (br_f (by decide) (br_f (by decide) (br_f (by decide) (br_f (by decide) (br_f (by decide) (br_f (by decide) (br_f (by decide) (br_f (by decide) (br_f (by decide) (br_f (by decide) (br_t rfl (And.intro vr ⟨vr1, br_f hx2 ⟨vr, nm_r (tr_uc (by omega) _ _) (nm_r (nI_1 k) (h n (by omega)))⟩⟩))))))))))))⟩)
theorem xr_jump (hi : i < 4) (hd : d < 4) (hk : k < 65536) (hch : a_chain i = nI (d + 1)) (hpc : a_pcs (i * 4 + d) = nI pc) (hp6 : pc < 640) (hrg : a_codeReg pc = nI g) (hg : g < 16) (hop : a_codeOp pc = 17)  (h : sm_X i (k + 1) (f_opJump, f_opJumpZero, f_opTurn, f_opPend, f_opExit, f_nodeLimit, f_slotLimit, f_depthLimit, f_turnLimit, f_programSize, f_draftStart, f_rowSize, f_codeSize, f_defined, f_turnsUsed, 1, a_kinds, a_values, a_heights, a_loose, a_parent, a_place, a_firstLeaf, a_row, a_nodeReg, a_breakTo, a_tryTo, a_cleanupOf, a_label, a_codeOp, a_codeReg, a_codeArg, a_codeNode, a_roots, a_entries, a_states, a_results, a_chain, a_actFunction, upd a_pcs (i * 4 + d) (a_codeArg pc), a_locals, a_regs, a_pending, a_cells) post) : sm_X i k (f_opJump, f_opJumpZero, f_opTurn, f_opPend, f_opExit, f_nodeLimit, f_slotLimit, f_depthLimit, f_turnLimit, f_programSize, f_draftStart, f_rowSize, f_codeSize, f_defined, f_turnsUsed, 1, a_kinds, a_values, a_heights, a_loose, a_parent, a_place, a_firstLeaf, a_row, a_nodeReg, a_breakTo, a_tryTo, a_cleanupOf, a_label, a_codeOp, a_codeReg, a_codeArg, a_codeNode, a_roots, a_entries, a_states, a_results, a_chain, a_actFunction, a_pcs, a_locals, a_regs, a_pending, a_cells) post := by
  intro n hn
  obtain ⟨n, rfl⟩ : ∃ n', n = n' + 1 := ⟨n - 1, by omega⟩
  have ei : nI i * 4 + a_chain (nI i).toNatClampNeg - 1 = nI (i * 4 + d) := by rw [nI_clamp (by omega), hch, tr_i4d]
  have ea : vp_in (nI (i * 4 + d)) 16 := vp_in_nI (by omega) (by decide)
  have vi : vp_in (nI i) 4 := vp_in_nI (by omega) (by decide)
  have ep : a_pcs (nI (i * 4 + d)).toNatClampNeg = nI pc := by rw [nI_clamp (by omega), hpc]
  have hin : vp_in (nI pc) 640 := vp_in_nI (by omega) (by decide)
  have er : nI (i * 4 + d) * 16 + a_codeReg (nI pc).toNatClampNeg = nI ((i * 4 + d) * 16 + g) := by rw [nI_clamp (n := pc) (by omega), hrg, tr_i16]
  have vr : vp_in (nI ((i * 4 + d) * 16 + g)) 256 := vp_in_nI (by omega) (by decide)
  have eu : upd a_pcs (nI (i * 4 + d)).toNatClampNeg (nI pc + 1) = upd a_pcs (i * 4 + d) (nI (pc + 1)) := by rw [nI_clamp (by omega), nI_1]
  have eo : a_codeOp (nI pc).toNatClampNeg = 17 := by rw [nI_clamp (by omega), hop]
  have eg : a_codeArg (nI pc).toNatClampNeg = a_codeArg pc := tr_fc (by omega) _
  have eu2 : upd (upd a_pcs (i * 4 + d) (nI (pc + 1))) (nI (i * 4 + d)).toNatClampNeg (a_codeArg (nI pc).toNatClampNeg) = upd a_pcs (i * 4 + d) (a_codeArg pc) := by rw [nI_clamp (by omega), nI_clamp (by omega), tr_uu]
  refine br_f (nI_ge (b := 65536) (by omega) (by decide)) (br_f (by decide) ⟨vi, nm_r ei ⟨ea, nm_r ep ⟨hin, nm_r er ⟨ea, nm_r eu ⟨hin, br_t (by rw [eo]; decide) ?_⟩⟩⟩⟩⟩)
  exact And.intro hin (nm_r eo (br_f (by decide) (br_f (by decide) (br_f (by decide) (br_f (by decide) (br_f (by decide) (br_f (by decide) (br_f (by decide) (br_t rfl (And.intro hin ⟨ea, nm_r eu2 (nm_r (nI_1 k) (h n (by omega)))⟩))))))))))
theorem xr_jz0 (hi : i < 4) (hd : d < 4) (hk : k < 65536) (hch : a_chain i = nI (d + 1)) (hpc : a_pcs (i * 4 + d) = nI pc) (hp6 : pc < 640) (hrg : a_codeReg pc = nI g) (hg : g < 16) (hop : a_codeOp pc = 18) (hx : a_regs ((i * 4 + d) * 16 + g) = 0) (h : sm_X i (k + 1) (f_opJump, f_opJumpZero, f_opTurn, f_opPend, f_opExit, f_nodeLimit, f_slotLimit, f_depthLimit, f_turnLimit, f_programSize, f_draftStart, f_rowSize, f_codeSize, f_defined, f_turnsUsed, 1, a_kinds, a_values, a_heights, a_loose, a_parent, a_place, a_firstLeaf, a_row, a_nodeReg, a_breakTo, a_tryTo, a_cleanupOf, a_label, a_codeOp, a_codeReg, a_codeArg, a_codeNode, a_roots, a_entries, a_states, a_results, a_chain, a_actFunction, upd a_pcs (i * 4 + d) (a_codeArg pc), a_locals, a_regs, a_pending, a_cells) post) : sm_X i k (f_opJump, f_opJumpZero, f_opTurn, f_opPend, f_opExit, f_nodeLimit, f_slotLimit, f_depthLimit, f_turnLimit, f_programSize, f_draftStart, f_rowSize, f_codeSize, f_defined, f_turnsUsed, 1, a_kinds, a_values, a_heights, a_loose, a_parent, a_place, a_firstLeaf, a_row, a_nodeReg, a_breakTo, a_tryTo, a_cleanupOf, a_label, a_codeOp, a_codeReg, a_codeArg, a_codeNode, a_roots, a_entries, a_states, a_results, a_chain, a_actFunction, a_pcs, a_locals, a_regs, a_pending, a_cells) post := by
  intro n hn
  obtain ⟨n, rfl⟩ : ∃ n', n = n' + 1 := ⟨n - 1, by omega⟩
  have ei : nI i * 4 + a_chain (nI i).toNatClampNeg - 1 = nI (i * 4 + d) := by rw [nI_clamp (by omega), hch, tr_i4d]
  have ea : vp_in (nI (i * 4 + d)) 16 := vp_in_nI (by omega) (by decide)
  have vi : vp_in (nI i) 4 := vp_in_nI (by omega) (by decide)
  have ep : a_pcs (nI (i * 4 + d)).toNatClampNeg = nI pc := by rw [nI_clamp (by omega), hpc]
  have hin : vp_in (nI pc) 640 := vp_in_nI (by omega) (by decide)
  have er : nI (i * 4 + d) * 16 + a_codeReg (nI pc).toNatClampNeg = nI ((i * 4 + d) * 16 + g) := by rw [nI_clamp (n := pc) (by omega), hrg, tr_i16]
  have vr : vp_in (nI ((i * 4 + d) * 16 + g)) 256 := vp_in_nI (by omega) (by decide)
  have eu : upd a_pcs (nI (i * 4 + d)).toNatClampNeg (nI pc + 1) = upd a_pcs (i * 4 + d) (nI (pc + 1)) := by rw [nI_clamp (by omega), nI_1]
  have eo : a_codeOp (nI pc).toNatClampNeg = 18 := by rw [nI_clamp (by omega), hop]
  have eg : a_codeArg (nI pc).toNatClampNeg = a_codeArg pc := tr_fc (by omega) _
  have eu2 : upd (upd a_pcs (i * 4 + d) (nI (pc + 1))) (nI (i * 4 + d)).toNatClampNeg (a_codeArg (nI pc).toNatClampNeg) = upd a_pcs (i * 4 + d) (a_codeArg pc) := by rw [nI_clamp (by omega), nI_clamp (by omega), tr_uu]
  refine br_f (nI_ge (b := 65536) (by omega) (by decide)) (br_f (by decide) ⟨vi, nm_r ei ⟨ea, nm_r ep ⟨hin, nm_r er ⟨ea, nm_r eu ⟨hin, br_t (by rw [eo]; decide) ?_⟩⟩⟩⟩⟩)
  exact And.intro hin (nm_r eo (br_f (by decide) (br_f (by decide) (br_f (by decide) (br_f (by decide) (br_f (by decide) (br_f (by decide) (br_f (by decide) (br_f (by decide) (br_t rfl (And.intro vr (br_t (by rw [nI_clamp (by omega)]; exact hx) ⟨hin, ea, nm_r eu2 (nm_r (nI_1 k) (h n (by omega)))⟩))))))))))))
theorem xr_jz1 (hi : i < 4) (hd : d < 4) (hk : k < 65536) (hch : a_chain i = nI (d + 1)) (hpc : a_pcs (i * 4 + d) = nI pc) (hp6 : pc < 640) (hrg : a_codeReg pc = nI g) (hg : g < 16) (hop : a_codeOp pc = 18) (hx : ¬ a_regs ((i * 4 + d) * 16 + g) = 0) (h : sm_X i (k + 1) (f_opJump, f_opJumpZero, f_opTurn, f_opPend, f_opExit, f_nodeLimit, f_slotLimit, f_depthLimit, f_turnLimit, f_programSize, f_draftStart, f_rowSize, f_codeSize, f_defined, f_turnsUsed, 1, a_kinds, a_values, a_heights, a_loose, a_parent, a_place, a_firstLeaf, a_row, a_nodeReg, a_breakTo, a_tryTo, a_cleanupOf, a_label, a_codeOp, a_codeReg, a_codeArg, a_codeNode, a_roots, a_entries, a_states, a_results, a_chain, a_actFunction, upd a_pcs (i * 4 + d) (nI (pc + 1)), a_locals, a_regs, a_pending, a_cells) post) : sm_X i k (f_opJump, f_opJumpZero, f_opTurn, f_opPend, f_opExit, f_nodeLimit, f_slotLimit, f_depthLimit, f_turnLimit, f_programSize, f_draftStart, f_rowSize, f_codeSize, f_defined, f_turnsUsed, 1, a_kinds, a_values, a_heights, a_loose, a_parent, a_place, a_firstLeaf, a_row, a_nodeReg, a_breakTo, a_tryTo, a_cleanupOf, a_label, a_codeOp, a_codeReg, a_codeArg, a_codeNode, a_roots, a_entries, a_states, a_results, a_chain, a_actFunction, a_pcs, a_locals, a_regs, a_pending, a_cells) post := by
  intro n hn
  obtain ⟨n, rfl⟩ : ∃ n', n = n' + 1 := ⟨n - 1, by omega⟩
  have ei : nI i * 4 + a_chain (nI i).toNatClampNeg - 1 = nI (i * 4 + d) := by rw [nI_clamp (by omega), hch, tr_i4d]
  have ea : vp_in (nI (i * 4 + d)) 16 := vp_in_nI (by omega) (by decide)
  have vi : vp_in (nI i) 4 := vp_in_nI (by omega) (by decide)
  have ep : a_pcs (nI (i * 4 + d)).toNatClampNeg = nI pc := by rw [nI_clamp (by omega), hpc]
  have hin : vp_in (nI pc) 640 := vp_in_nI (by omega) (by decide)
  have er : nI (i * 4 + d) * 16 + a_codeReg (nI pc).toNatClampNeg = nI ((i * 4 + d) * 16 + g) := by rw [nI_clamp (n := pc) (by omega), hrg, tr_i16]
  have vr : vp_in (nI ((i * 4 + d) * 16 + g)) 256 := vp_in_nI (by omega) (by decide)
  have eu : upd a_pcs (nI (i * 4 + d)).toNatClampNeg (nI pc + 1) = upd a_pcs (i * 4 + d) (nI (pc + 1)) := by rw [nI_clamp (by omega), nI_1]
  have eo : a_codeOp (nI pc).toNatClampNeg = 18 := by rw [nI_clamp (by omega), hop]
  have eg : a_codeArg (nI pc).toNatClampNeg = a_codeArg pc := tr_fc (by omega) _
  refine br_f (nI_ge (b := 65536) (by omega) (by decide)) (br_f (by decide) ⟨vi, nm_r ei ⟨ea, nm_r ep ⟨hin, nm_r er ⟨ea, nm_r eu ⟨hin, br_t (by rw [eo]; decide) ?_⟩⟩⟩⟩⟩)
  exact And.intro hin (nm_r eo (br_f (by decide) (br_f (by decide) (br_f (by decide) (br_f (by decide) (br_f (by decide) (br_f (by decide) (br_f (by decide) (br_f (by decide) (br_t rfl (And.intro vr (br_f (by rw [nI_clamp (by omega)]; exact hx) (nm_r (nI_1 k) (h n (by omega)))))))))))))))
theorem xr_turn (hi : i < 4) (hd : d < 4) (hk : k < 65536) (hch : a_chain i = nI (d + 1)) (hpc : a_pcs (i * 4 + d) = nI pc) (hp6 : pc < 640) (hrg : a_codeReg pc = nI g) (hg : g < 16) (hop : a_codeOp pc = 19) (ht : nI tu < f_turnLimit) (h : sm_X i (k + 1) (f_opJump, f_opJumpZero, f_opTurn, f_opPend, f_opExit, f_nodeLimit, f_slotLimit, f_depthLimit, f_turnLimit, f_programSize, f_draftStart, f_rowSize, f_codeSize, f_defined, nI (tu + 1), 1, a_kinds, a_values, a_heights, a_loose, a_parent, a_place, a_firstLeaf, a_row, a_nodeReg, a_breakTo, a_tryTo, a_cleanupOf, a_label, a_codeOp, a_codeReg, a_codeArg, a_codeNode, a_roots, a_entries, a_states, a_results, a_chain, a_actFunction, upd a_pcs (i * 4 + d) (nI (pc + 1)), a_locals, a_regs, a_pending, a_cells) post) : sm_X i k (f_opJump, f_opJumpZero, f_opTurn, f_opPend, f_opExit, f_nodeLimit, f_slotLimit, f_depthLimit, f_turnLimit, f_programSize, f_draftStart, f_rowSize, f_codeSize, f_defined, nI tu, 1, a_kinds, a_values, a_heights, a_loose, a_parent, a_place, a_firstLeaf, a_row, a_nodeReg, a_breakTo, a_tryTo, a_cleanupOf, a_label, a_codeOp, a_codeReg, a_codeArg, a_codeNode, a_roots, a_entries, a_states, a_results, a_chain, a_actFunction, a_pcs, a_locals, a_regs, a_pending, a_cells) post := by
  intro n hn
  obtain ⟨n, rfl⟩ : ∃ n', n = n' + 1 := ⟨n - 1, by omega⟩
  have ei : nI i * 4 + a_chain (nI i).toNatClampNeg - 1 = nI (i * 4 + d) := by rw [nI_clamp (by omega), hch, tr_i4d]
  have ea : vp_in (nI (i * 4 + d)) 16 := vp_in_nI (by omega) (by decide)
  have vi : vp_in (nI i) 4 := vp_in_nI (by omega) (by decide)
  have ep : a_pcs (nI (i * 4 + d)).toNatClampNeg = nI pc := by rw [nI_clamp (by omega), hpc]
  have hin : vp_in (nI pc) 640 := vp_in_nI (by omega) (by decide)
  have er : nI (i * 4 + d) * 16 + a_codeReg (nI pc).toNatClampNeg = nI ((i * 4 + d) * 16 + g) := by rw [nI_clamp (n := pc) (by omega), hrg, tr_i16]
  have vr : vp_in (nI ((i * 4 + d) * 16 + g)) 256 := vp_in_nI (by omega) (by decide)
  have eu : upd a_pcs (nI (i * 4 + d)).toNatClampNeg (nI pc + 1) = upd a_pcs (i * 4 + d) (nI (pc + 1)) := by rw [nI_clamp (by omega), nI_1]
  have eo : a_codeOp (nI pc).toNatClampNeg = 19 := by rw [nI_clamp (by omega), hop]
  have eg : a_codeArg (nI pc).toNatClampNeg = a_codeArg pc := tr_fc (by omega) _
  refine br_f (nI_ge (b := 65536) (by omega) (by decide)) (br_f (by decide) ⟨vi, nm_r ei ⟨ea, nm_r ep ⟨hin, nm_r er ⟨ea, nm_r eu ⟨hin, br_t (by rw [eo]; decide) ?_⟩⟩⟩⟩⟩)
  exact And.intro hin (nm_r eo (br_f (by decide) (br_f (by decide) (br_f (by decide) (br_f (by decide) (br_f (by decide) (br_f (by decide) (br_f (by decide) (br_f (by decide) (br_f (by decide) (br_t rfl (br_t ht (nm_r (nI_1 tu) (nm_r (nI_1 k) (h n (by omega))))))))))))))))
theorem xr_turnS (hi : i < 4) (hd : d < 4) (hk : k < 65536) (hch : a_chain i = nI (d + 1)) (hpc : a_pcs (i * 4 + d) = nI pc) (hp6 : pc < 640) (hrg : a_codeReg pc = nI g) (hg : g < 16) (hop : a_codeOp pc = 19) (ht : ¬ f_turnsUsed < f_turnLimit) (h : sm_X i (k + 1) (f_opJump, f_opJumpZero, f_opTurn, f_opPend, f_opExit, f_nodeLimit, f_slotLimit, f_depthLimit, f_turnLimit, f_programSize, f_draftStart, f_rowSize, f_codeSize, f_defined, f_turnsUsed, 0, a_kinds, a_values, a_heights, a_loose, a_parent, a_place, a_firstLeaf, a_row, a_nodeReg, a_breakTo, a_tryTo, a_cleanupOf, a_label, a_codeOp, a_codeReg, a_codeArg, a_codeNode, a_roots, a_entries, upd a_states i 5, upd a_results i 0, upd a_chain i 0, a_actFunction, upd a_pcs (i * 4 + d) (nI (pc + 1)), a_locals, a_regs, a_pending, a_cells) post) : sm_X i k (f_opJump, f_opJumpZero, f_opTurn, f_opPend, f_opExit, f_nodeLimit, f_slotLimit, f_depthLimit, f_turnLimit, f_programSize, f_draftStart, f_rowSize, f_codeSize, f_defined, f_turnsUsed, 1, a_kinds, a_values, a_heights, a_loose, a_parent, a_place, a_firstLeaf, a_row, a_nodeReg, a_breakTo, a_tryTo, a_cleanupOf, a_label, a_codeOp, a_codeReg, a_codeArg, a_codeNode, a_roots, a_entries, a_states, a_results, a_chain, a_actFunction, a_pcs, a_locals, a_regs, a_pending, a_cells) post := by
  intro n hn
  obtain ⟨n, rfl⟩ : ∃ n', n = n' + 1 := ⟨n - 1, by omega⟩
  have ei : nI i * 4 + a_chain (nI i).toNatClampNeg - 1 = nI (i * 4 + d) := by rw [nI_clamp (by omega), hch, tr_i4d]
  have ea : vp_in (nI (i * 4 + d)) 16 := vp_in_nI (by omega) (by decide)
  have vi : vp_in (nI i) 4 := vp_in_nI (by omega) (by decide)
  have ep : a_pcs (nI (i * 4 + d)).toNatClampNeg = nI pc := by rw [nI_clamp (by omega), hpc]
  have hin : vp_in (nI pc) 640 := vp_in_nI (by omega) (by decide)
  have er : nI (i * 4 + d) * 16 + a_codeReg (nI pc).toNatClampNeg = nI ((i * 4 + d) * 16 + g) := by rw [nI_clamp (n := pc) (by omega), hrg, tr_i16]
  have vr : vp_in (nI ((i * 4 + d) * 16 + g)) 256 := vp_in_nI (by omega) (by decide)
  have eu : upd a_pcs (nI (i * 4 + d)).toNatClampNeg (nI pc + 1) = upd a_pcs (i * 4 + d) (nI (pc + 1)) := by rw [nI_clamp (by omega), nI_1]
  have eo : a_codeOp (nI pc).toNatClampNeg = 19 := by rw [nI_clamp (by omega), hop]
  have eg : a_codeArg (nI pc).toNatClampNeg = a_codeArg pc := tr_fc (by omega) _
  refine br_f (nI_ge (b := 65536) (by omega) (by decide)) (br_f (by decide) ⟨vi, nm_r ei ⟨ea, nm_r ep ⟨hin, nm_r er ⟨ea, nm_r eu ⟨hin, br_t (by rw [eo]; decide) ?_⟩⟩⟩⟩⟩)
  exact And.intro hin (nm_r eo (br_f (by decide) (br_f (by decide) (br_f (by decide) (br_f (by decide) (br_f (by decide) (br_f (by decide) (br_f (by decide) (br_f (by decide) (br_f (by decide) (br_t rfl (br_f ht (And.intro vi (nm_r (tr_uc (by omega) _ _) ⟨vi, nm_r (tr_uc (by omega) _ _) ⟨vi, nm_r (tr_uc (by omega) _ _) (nm_r (nI_1 k) (h n (by omega)))⟩⟩))))))))))))))
theorem xr_pend (hi : i < 4) (hd : d < 4) (hk : k < 65536) (hch : a_chain i = nI (d + 1)) (hpc : a_pcs (i * 4 + d) = nI pc) (hp6 : pc < 640) (hrg : a_codeReg pc = nI g) (hg : g < 16) (hop : a_codeOp pc = 20)  (h : sm_X i (k + 1) (f_opJump, f_opJumpZero, f_opTurn, f_opPend, f_opExit, f_nodeLimit, f_slotLimit, f_depthLimit, f_turnLimit, f_programSize, f_draftStart, f_rowSize, f_codeSize, f_defined, f_turnsUsed, 1, a_kinds, a_values, a_heights, a_loose, a_parent, a_place, a_firstLeaf, a_row, a_nodeReg, a_breakTo, a_tryTo, a_cleanupOf, a_label, a_codeOp, a_codeReg, a_codeArg, a_codeNode, a_roots, a_entries, a_states, a_results, a_chain, a_actFunction, upd a_pcs (i * 4 + d) (nI (pc + 1)), a_locals, a_regs, upd a_pending ((i * 4 + d) * 16 + g) (a_codeArg pc), a_cells) post) : sm_X i k (f_opJump, f_opJumpZero, f_opTurn, f_opPend, f_opExit, f_nodeLimit, f_slotLimit, f_depthLimit, f_turnLimit, f_programSize, f_draftStart, f_rowSize, f_codeSize, f_defined, f_turnsUsed, 1, a_kinds, a_values, a_heights, a_loose, a_parent, a_place, a_firstLeaf, a_row, a_nodeReg, a_breakTo, a_tryTo, a_cleanupOf, a_label, a_codeOp, a_codeReg, a_codeArg, a_codeNode, a_roots, a_entries, a_states, a_results, a_chain, a_actFunction, a_pcs, a_locals, a_regs, a_pending, a_cells) post := by
  intro n hn
  obtain ⟨n, rfl⟩ : ∃ n', n = n' + 1 := ⟨n - 1, by omega⟩
  have ei : nI i * 4 + a_chain (nI i).toNatClampNeg - 1 = nI (i * 4 + d) := by rw [nI_clamp (by omega), hch, tr_i4d]
  have ea : vp_in (nI (i * 4 + d)) 16 := vp_in_nI (by omega) (by decide)
  have vi : vp_in (nI i) 4 := vp_in_nI (by omega) (by decide)
  have ep : a_pcs (nI (i * 4 + d)).toNatClampNeg = nI pc := by rw [nI_clamp (by omega), hpc]
  have hin : vp_in (nI pc) 640 := vp_in_nI (by omega) (by decide)
  have er : nI (i * 4 + d) * 16 + a_codeReg (nI pc).toNatClampNeg = nI ((i * 4 + d) * 16 + g) := by rw [nI_clamp (n := pc) (by omega), hrg, tr_i16]
  have vr : vp_in (nI ((i * 4 + d) * 16 + g)) 256 := vp_in_nI (by omega) (by decide)
  have eu : upd a_pcs (nI (i * 4 + d)).toNatClampNeg (nI pc + 1) = upd a_pcs (i * 4 + d) (nI (pc + 1)) := by rw [nI_clamp (by omega), nI_1]
  have eo : a_codeOp (nI pc).toNatClampNeg = 20 := by rw [nI_clamp (by omega), hop]
  have eg : a_codeArg (nI pc).toNatClampNeg = a_codeArg pc := tr_fc (by omega) _
  have e9 : upd a_pending (nI ((i * 4 + d) * 16 + g)).toNatClampNeg (a_codeArg (nI pc).toNatClampNeg) = upd a_pending ((i * 4 + d) * 16 + g) (a_codeArg pc) := by rw [nI_clamp (by omega), nI_clamp (by omega)]
  refine br_f (nI_ge (b := 65536) (by omega) (by decide)) (br_f (by decide) ⟨vi, nm_r ei ⟨ea, nm_r ep ⟨hin, nm_r er ⟨ea, nm_r eu ⟨hin, br_t (by rw [eo]; decide) ?_⟩⟩⟩⟩⟩)
  exact And.intro hin (nm_r eo (br_f (by decide) (br_f (by decide) (br_f (by decide) (br_f (by decide) (br_f (by decide) (br_f (by decide) (br_f (by decide) (br_f (by decide) (br_f (by decide) (br_f (by decide) (br_t rfl (And.intro hin ⟨vr, nm_r e9 (nm_r (nI_1 k) (h n (by omega)))⟩)))))))))))))
theorem xr_try1 (hi : i < 4) (hd : d < 4) (hk : k < 65536) (hch : a_chain i = nI (d + 1)) (hpc : a_pcs (i * 4 + d) = nI pc) (hp6 : pc < 640) (hrg : a_codeReg pc = nI g) (hg : g < 16) (hop : a_codeOp pc = 14) (hx : a_pending ((i * 4 + d) * 16 + g) = 1) (h : sm_X i (k + 1) (f_opJump, f_opJumpZero, f_opTurn, f_opPend, f_opExit, f_nodeLimit, f_slotLimit, f_depthLimit, f_turnLimit, f_programSize, f_draftStart, f_rowSize, f_codeSize, f_defined, f_turnsUsed, 1, a_kinds, a_values, a_heights, a_loose, a_parent, a_place, a_firstLeaf, a_row, a_nodeReg, a_breakTo, a_tryTo, a_cleanupOf, a_label, a_codeOp, a_codeReg, a_codeArg, a_codeNode, a_roots, a_entries, a_states, a_results, a_chain, a_actFunction, upd a_pcs (i * 4 + d) (nI (pc + 1)), a_locals, a_regs, a_pending, a_cells) post) : sm_X i k (f_opJump, f_opJumpZero, f_opTurn, f_opPend, f_opExit, f_nodeLimit, f_slotLimit, f_depthLimit, f_turnLimit, f_programSize, f_draftStart, f_rowSize, f_codeSize, f_defined, f_turnsUsed, 1, a_kinds, a_values, a_heights, a_loose, a_parent, a_place, a_firstLeaf, a_row, a_nodeReg, a_breakTo, a_tryTo, a_cleanupOf, a_label, a_codeOp, a_codeReg, a_codeArg, a_codeNode, a_roots, a_entries, a_states, a_results, a_chain, a_actFunction, a_pcs, a_locals, a_regs, a_pending, a_cells) post := by
  intro n hn
  obtain ⟨n, rfl⟩ : ∃ n', n = n' + 1 := ⟨n - 1, by omega⟩
  have ei : nI i * 4 + a_chain (nI i).toNatClampNeg - 1 = nI (i * 4 + d) := by rw [nI_clamp (by omega), hch, tr_i4d]
  have ea : vp_in (nI (i * 4 + d)) 16 := vp_in_nI (by omega) (by decide)
  have vi : vp_in (nI i) 4 := vp_in_nI (by omega) (by decide)
  have ep : a_pcs (nI (i * 4 + d)).toNatClampNeg = nI pc := by rw [nI_clamp (by omega), hpc]
  have hin : vp_in (nI pc) 640 := vp_in_nI (by omega) (by decide)
  have er : nI (i * 4 + d) * 16 + a_codeReg (nI pc).toNatClampNeg = nI ((i * 4 + d) * 16 + g) := by rw [nI_clamp (n := pc) (by omega), hrg, tr_i16]
  have vr : vp_in (nI ((i * 4 + d) * 16 + g)) 256 := vp_in_nI (by omega) (by decide)
  have eu : upd a_pcs (nI (i * 4 + d)).toNatClampNeg (nI pc + 1) = upd a_pcs (i * 4 + d) (nI (pc + 1)) := by rw [nI_clamp (by omega), nI_1]
  have eo : a_codeOp (nI pc).toNatClampNeg = 14 := by rw [nI_clamp (by omega), hop]
  have eg : a_codeArg (nI pc).toNatClampNeg = a_codeArg pc := tr_fc (by omega) _
  refine br_f (nI_ge (b := 65536) (by omega) (by decide)) (br_f (by decide) ⟨vi, nm_r ei ⟨ea, nm_r ep ⟨hin, nm_r er ⟨ea, nm_r eu ⟨hin, br_t (by rw [eo]; decide) ?_⟩⟩⟩⟩⟩)
  exact And.intro hin (nm_r eo (br_f (by decide) (br_f (by decide) (br_f (by decide) (br_f (by decide) (br_t rfl (And.intro vr (br_t (by rw [nI_clamp (by omega)]; exact hx) (nm_r (nI_1 k) (h n (by omega)))))))))))
theorem xr_yield (hi : i < 4) (hd : d < 4) (hk : k < 65536) (hch : a_chain i = nI (d + 1)) (hpc : a_pcs (i * 4 + d) = nI pc) (hp6 : pc < 640) (hrg : a_codeReg pc = nI g) (hg : g < 16) (hop : a_codeOp pc = 15)  (h : sm_X i (k + 1) (f_opJump, f_opJumpZero, f_opTurn, f_opPend, f_opExit, f_nodeLimit, f_slotLimit, f_depthLimit, f_turnLimit, f_programSize, f_draftStart, f_rowSize, f_codeSize, f_defined, f_turnsUsed, 0, a_kinds, a_values, a_heights, a_loose, a_parent, a_place, a_firstLeaf, a_row, a_nodeReg, a_breakTo, a_tryTo, a_cleanupOf, a_label, a_codeOp, a_codeReg, a_codeArg, a_codeNode, a_roots, a_entries, upd a_states i 2, upd a_results i (a_regs ((i * 4 + d) * 16 + g)), a_chain, a_actFunction, a_pcs, a_locals, a_regs, a_pending, a_cells) post) : sm_X i k (f_opJump, f_opJumpZero, f_opTurn, f_opPend, f_opExit, f_nodeLimit, f_slotLimit, f_depthLimit, f_turnLimit, f_programSize, f_draftStart, f_rowSize, f_codeSize, f_defined, f_turnsUsed, 1, a_kinds, a_values, a_heights, a_loose, a_parent, a_place, a_firstLeaf, a_row, a_nodeReg, a_breakTo, a_tryTo, a_cleanupOf, a_label, a_codeOp, a_codeReg, a_codeArg, a_codeNode, a_roots, a_entries, a_states, a_results, a_chain, a_actFunction, a_pcs, a_locals, a_regs, a_pending, a_cells) post := by
  intro n hn
  obtain ⟨n, rfl⟩ : ∃ n', n = n' + 1 := ⟨n - 1, by omega⟩
  have ei : nI i * 4 + a_chain (nI i).toNatClampNeg - 1 = nI (i * 4 + d) := by rw [nI_clamp (by omega), hch, tr_i4d]
  have ea : vp_in (nI (i * 4 + d)) 16 := vp_in_nI (by omega) (by decide)
  have vi : vp_in (nI i) 4 := vp_in_nI (by omega) (by decide)
  have ep : a_pcs (nI (i * 4 + d)).toNatClampNeg = nI pc := by rw [nI_clamp (by omega), hpc]
  have hin : vp_in (nI pc) 640 := vp_in_nI (by omega) (by decide)
  have er : nI (i * 4 + d) * 16 + a_codeReg (nI pc).toNatClampNeg = nI ((i * 4 + d) * 16 + g) := by rw [nI_clamp (n := pc) (by omega), hrg, tr_i16]
  have vr : vp_in (nI ((i * 4 + d) * 16 + g)) 256 := vp_in_nI (by omega) (by decide)
  have eu : upd a_pcs (nI (i * 4 + d)).toNatClampNeg (nI pc + 1) = upd a_pcs (i * 4 + d) (nI (pc + 1)) := by rw [nI_clamp (by omega), nI_1]
  have eo : a_codeOp (nI pc).toNatClampNeg = 15 := by rw [nI_clamp (by omega), hop]
  have eg : a_codeArg (nI pc).toNatClampNeg = a_codeArg pc := tr_fc (by omega) _
  have eu2 : upd (upd a_pcs (i * 4 + d) (nI (pc + 1))) (nI (i * 4 + d)).toNatClampNeg (nI pc) = a_pcs := by rw [nI_clamp (by omega), tr_uu, tr_u0 _ _ hpc]
  have e9 : upd a_results (nI i).toNatClampNeg (a_regs (nI ((i * 4 + d) * 16 + g)).toNatClampNeg) = upd a_results i (a_regs ((i * 4 + d) * 16 + g)) := by rw [nI_clamp (by omega), nI_clamp (by omega)]
  refine br_f (nI_ge (b := 65536) (by omega) (by decide)) (br_f (by decide) ⟨vi, nm_r ei ⟨ea, nm_r ep ⟨hin, nm_r er ⟨ea, nm_r eu ⟨hin, br_t (by rw [eo]; decide) ?_⟩⟩⟩⟩⟩)
  exact And.intro hin (nm_r eo (br_f (by decide) (br_f (by decide) (br_f (by decide) (br_f (by decide) (br_f (by decide) (br_t rfl (And.intro ea (nm_r eu2 ⟨vi, nm_r (tr_uc (by omega) _ _) ⟨vr, vi, nm_r e9 (nm_r (nI_1 k) (h n (by omega)))⟩⟩)))))))))
theorem xr_del0 (hi : i < 4) (hd : d < 4) (hk : k < 65536) (hch : a_chain i = nI (d + 1)) (hpc : a_pcs (i * 4 + d) = nI pc) (hp6 : pc < 640) (hrg : a_codeReg pc = nI g) (hg : g < 16) (hop : a_codeOp pc = 16) {v nf : Nat} (hv : a_codeArg pc = nI v) (hv6 : v < 6) (hnf : f_defined = nI nf) (hn7 : nf < 100) (hn6 : nf ≤ v) (h : sm_X i (k + 1) (f_opJump, f_opJumpZero, f_opTurn, f_opPend, f_opExit, f_nodeLimit, f_slotLimit, f_depthLimit, f_turnLimit, f_programSize, f_draftStart, f_rowSize, f_codeSize, f_defined, f_turnsUsed, 1, a_kinds, a_values, a_heights, a_loose, a_parent, a_place, a_firstLeaf, a_row, a_nodeReg, a_breakTo, a_tryTo, a_cleanupOf, a_label, a_codeOp, a_codeReg, a_codeArg, a_codeNode, a_roots, a_entries, a_states, a_results, a_chain, a_actFunction, upd a_pcs (i * 4 + d) (nI (pc + 1)), a_locals, upd a_regs ((i * 4 + d) * 16 + g) (-1), a_pending, a_cells) post) : sm_X i k (f_opJump, f_opJumpZero, f_opTurn, f_opPend, f_opExit, f_nodeLimit, f_slotLimit, f_depthLimit, f_turnLimit, f_programSize, f_draftStart, f_rowSize, f_codeSize, f_defined, f_turnsUsed, 1, a_kinds, a_values, a_heights, a_loose, a_parent, a_place, a_firstLeaf, a_row, a_nodeReg, a_breakTo, a_tryTo, a_cleanupOf, a_label, a_codeOp, a_codeReg, a_codeArg, a_codeNode, a_roots, a_entries, a_states, a_results, a_chain, a_actFunction, a_pcs, a_locals, a_regs, a_pending, a_cells) post := by
  intro n hn
  obtain ⟨n, rfl⟩ : ∃ n', n = n' + 1 := ⟨n - 1, by omega⟩
  have ei : nI i * 4 + a_chain (nI i).toNatClampNeg - 1 = nI (i * 4 + d) := by rw [nI_clamp (by omega), hch, tr_i4d]
  have ea : vp_in (nI (i * 4 + d)) 16 := vp_in_nI (by omega) (by decide)
  have vi : vp_in (nI i) 4 := vp_in_nI (by omega) (by decide)
  have ep : a_pcs (nI (i * 4 + d)).toNatClampNeg = nI pc := by rw [nI_clamp (by omega), hpc]
  have hin : vp_in (nI pc) 640 := vp_in_nI (by omega) (by decide)
  have er : nI (i * 4 + d) * 16 + a_codeReg (nI pc).toNatClampNeg = nI ((i * 4 + d) * 16 + g) := by rw [nI_clamp (n := pc) (by omega), hrg, tr_i16]
  have vr : vp_in (nI ((i * 4 + d) * 16 + g)) 256 := vp_in_nI (by omega) (by decide)
  have eu : upd a_pcs (nI (i * 4 + d)).toNatClampNeg (nI pc + 1) = upd a_pcs (i * 4 + d) (nI (pc + 1)) := by rw [nI_clamp (by omega), nI_1]
  have eo : a_codeOp (nI pc).toNatClampNeg = 16 := by rw [nI_clamp (by omega), hop]
  have eg : a_codeArg (nI pc).toNatClampNeg = a_codeArg pc := tr_fc (by omega) _
  have e8 : f_defined ≤ a_codeArg pc := by rw [hv, hnf]; exact nI_le hn6 (by omega)
  refine br_f (nI_ge (b := 65536) (by omega) (by decide)) (br_f (by decide) ⟨vi, nm_r ei ⟨ea, nm_r ep ⟨hin, nm_r er ⟨ea, nm_r eu ⟨hin, br_t (by rw [eo]; decide) ?_⟩⟩⟩⟩⟩)
  exact And.intro hin (nm_r eo (br_f (by decide) (br_f (by decide) (br_f (by decide) (br_f (by decide) (br_f (by decide) (br_f (by decide) (br_t rfl (And.intro hin (nm_r eg (br_t e8 ⟨vr, nm_r (tr_uc (by omega) _ _) (nm_r (nI_1 k) (h n (by omega)))⟩)))))))))))
theorem xr_del1 (hi : i < 4) (hd : d < 4) (hk : k < 65536) (hch : a_chain i = nI (d + 1)) (hpc : a_pcs (i * 4 + d) = nI pc) (hp6 : pc < 640) (hrg : a_codeReg pc = nI g) (hg : g < 16) (hop : a_codeOp pc = 16) {v nf : Nat} (hv : a_codeArg pc = nI v) (hv6 : v < 6) (hnf : f_defined = nI nf) (hn7 : nf < 100) (hn6 : v < nf) {DL : Nat} (hD : f_depthLimit = nI DL) (hD2 : DL ≤ d + 1) (h : sm_X i (k + 1) (f_opJump, f_opJumpZero, f_opTurn, f_opPend, f_opExit, f_nodeLimit, f_slotLimit, f_depthLimit, f_turnLimit, f_programSize, f_draftStart, f_rowSize, f_codeSize, f_defined, f_turnsUsed, 1, a_kinds, a_values, a_heights, a_loose, a_parent, a_place, a_firstLeaf, a_row, a_nodeReg, a_breakTo, a_tryTo, a_cleanupOf, a_label, a_codeOp, a_codeReg, a_codeArg, a_codeNode, a_roots, a_entries, a_states, a_results, a_chain, a_actFunction, upd a_pcs (i * 4 + d) (nI (pc + 1)), a_locals, upd a_regs ((i * 4 + d) * 16 + g) (-1), a_pending, a_cells) post) : sm_X i k (f_opJump, f_opJumpZero, f_opTurn, f_opPend, f_opExit, f_nodeLimit, f_slotLimit, f_depthLimit, f_turnLimit, f_programSize, f_draftStart, f_rowSize, f_codeSize, f_defined, f_turnsUsed, 1, a_kinds, a_values, a_heights, a_loose, a_parent, a_place, a_firstLeaf, a_row, a_nodeReg, a_breakTo, a_tryTo, a_cleanupOf, a_label, a_codeOp, a_codeReg, a_codeArg, a_codeNode, a_roots, a_entries, a_states, a_results, a_chain, a_actFunction, a_pcs, a_locals, a_regs, a_pending, a_cells) post := by
  intro n hn
  obtain ⟨n, rfl⟩ : ∃ n', n = n' + 1 := ⟨n - 1, by omega⟩
  have ei : nI i * 4 + a_chain (nI i).toNatClampNeg - 1 = nI (i * 4 + d) := by rw [nI_clamp (by omega), hch, tr_i4d]
  have ea : vp_in (nI (i * 4 + d)) 16 := vp_in_nI (by omega) (by decide)
  have vi : vp_in (nI i) 4 := vp_in_nI (by omega) (by decide)
  have ep : a_pcs (nI (i * 4 + d)).toNatClampNeg = nI pc := by rw [nI_clamp (by omega), hpc]
  have hin : vp_in (nI pc) 640 := vp_in_nI (by omega) (by decide)
  have er : nI (i * 4 + d) * 16 + a_codeReg (nI pc).toNatClampNeg = nI ((i * 4 + d) * 16 + g) := by rw [nI_clamp (n := pc) (by omega), hrg, tr_i16]
  have vr : vp_in (nI ((i * 4 + d) * 16 + g)) 256 := vp_in_nI (by omega) (by decide)
  have eu : upd a_pcs (nI (i * 4 + d)).toNatClampNeg (nI pc + 1) = upd a_pcs (i * 4 + d) (nI (pc + 1)) := by rw [nI_clamp (by omega), nI_1]
  have eo : a_codeOp (nI pc).toNatClampNeg = 16 := by rw [nI_clamp (by omega), hop]
  have eg : a_codeArg (nI pc).toNatClampNeg = a_codeArg pc := tr_fc (by omega) _
  have e8 : ¬ f_defined ≤ a_codeArg pc := by rw [hv, hnf]; exact nI_ge hn6 (by omega)
  have e9 : ¬ a_chain (nI i).toNatClampNeg < f_depthLimit := by rw [nI_clamp (by omega), hch, hD]; exact nI_nlt hD2 (by omega)
  refine br_f (nI_ge (b := 65536) (by omega) (by decide)) (br_f (by decide) ⟨vi, nm_r ei ⟨ea, nm_r ep ⟨hin, nm_r er ⟨ea, nm_r eu ⟨hin, br_t (by rw [eo]; decide) ?_⟩⟩⟩⟩⟩)
  exact And.intro hin (nm_r eo (br_f (by decide) (br_f (by decide) (br_f (by decide) (br_f (by decide) (br_f (by decide) (br_f (by decide) (br_t rfl (And.intro hin (nm_r eg (br_f e8 ⟨vi, br_f e9 ⟨vr, nm_r (tr_uc (by omega) _ _) (nm_r (nI_1 k) (h n (by omega)))⟩⟩)))))))))))
theorem xr_del2 (hi : i < 4) (hd : d < 4) (hk : k < 65536) (hch : a_chain i = nI (d + 1)) (hpc : a_pcs (i * 4 + d) = nI pc) (hp6 : pc < 640) (hrg : a_codeReg pc = nI g) (hg : g < 16) (hop : a_codeOp pc = 16) {v nf : Nat} (hv : a_codeArg pc = nI v) (hv6 : v < 6) (hnf : f_defined = nI nf) (hn7 : nf < 100) (hn6 : v < nf) {DL : Nat} (hD : f_depthLimit = nI DL) (hD2 : d + 1 < DL) (hD4 : DL ≤ 4) (ht : ¬ f_turnsUsed < f_turnLimit) (h : sm_X i (k + 1) (f_opJump, f_opJumpZero, f_opTurn, f_opPend, f_opExit, f_nodeLimit, f_slotLimit, f_depthLimit, f_turnLimit, f_programSize, f_draftStart, f_rowSize, f_codeSize, f_defined, f_turnsUsed, 0, a_kinds, a_values, a_heights, a_loose, a_parent, a_place, a_firstLeaf, a_row, a_nodeReg, a_breakTo, a_tryTo, a_cleanupOf, a_label, a_codeOp, a_codeReg, a_codeArg, a_codeNode, a_roots, a_entries, upd a_states i 5, upd a_results i 0, upd a_chain i 0, a_actFunction, upd a_pcs (i * 4 + d) (nI (pc + 1)), a_locals, a_regs, a_pending, a_cells) post) : sm_X i k (f_opJump, f_opJumpZero, f_opTurn, f_opPend, f_opExit, f_nodeLimit, f_slotLimit, f_depthLimit, f_turnLimit, f_programSize, f_draftStart, f_rowSize, f_codeSize, f_defined, f_turnsUsed, 1, a_kinds, a_values, a_heights, a_loose, a_parent, a_place, a_firstLeaf, a_row, a_nodeReg, a_breakTo, a_tryTo, a_cleanupOf, a_label, a_codeOp, a_codeReg, a_codeArg, a_codeNode, a_roots, a_entries, a_states, a_results, a_chain, a_actFunction, a_pcs, a_locals, a_regs, a_pending, a_cells) post := by
  intro n hn
  obtain ⟨n, rfl⟩ : ∃ n', n = n' + 1 := ⟨n - 1, by omega⟩
  have ei : nI i * 4 + a_chain (nI i).toNatClampNeg - 1 = nI (i * 4 + d) := by rw [nI_clamp (by omega), hch, tr_i4d]
  have ea : vp_in (nI (i * 4 + d)) 16 := vp_in_nI (by omega) (by decide)
  have vi : vp_in (nI i) 4 := vp_in_nI (by omega) (by decide)
  have ep : a_pcs (nI (i * 4 + d)).toNatClampNeg = nI pc := by rw [nI_clamp (by omega), hpc]
  have hin : vp_in (nI pc) 640 := vp_in_nI (by omega) (by decide)
  have er : nI (i * 4 + d) * 16 + a_codeReg (nI pc).toNatClampNeg = nI ((i * 4 + d) * 16 + g) := by rw [nI_clamp (n := pc) (by omega), hrg, tr_i16]
  have vr : vp_in (nI ((i * 4 + d) * 16 + g)) 256 := vp_in_nI (by omega) (by decide)
  have eu : upd a_pcs (nI (i * 4 + d)).toNatClampNeg (nI pc + 1) = upd a_pcs (i * 4 + d) (nI (pc + 1)) := by rw [nI_clamp (by omega), nI_1]
  have eo : a_codeOp (nI pc).toNatClampNeg = 16 := by rw [nI_clamp (by omega), hop]
  have eg : a_codeArg (nI pc).toNatClampNeg = a_codeArg pc := tr_fc (by omega) _
  have e8 : ¬ f_defined ≤ a_codeArg pc := by rw [hv, hnf]; exact nI_ge hn6 (by omega)
  have e9 : a_chain (nI i).toNatClampNeg < f_depthLimit := by rw [nI_clamp (by omega), hch, hD]; exact nI_lt hD2 (by omega)
  refine br_f (nI_ge (b := 65536) (by omega) (by decide)) (br_f (by decide) ⟨vi, nm_r ei ⟨ea, nm_r ep ⟨hin, nm_r er ⟨ea, nm_r eu ⟨hin, br_t (by rw [eo]; decide) ?_⟩⟩⟩⟩⟩)
  exact And.intro hin (nm_r eo (br_f (by decide) (br_f (by decide) (br_f (by decide) (br_f (by decide) (br_f (by decide) (br_f (by decide) (br_t rfl (And.intro hin (nm_r eg (br_f e8 ⟨vi, br_t e9 (br_f ht (And.intro vi (nm_r (tr_uc (by omega) _ _) ⟨vi, nm_r (tr_uc (by omega) _ _) ⟨vi, nm_r (tr_uc (by omega) _ _) (br_t rfl (nm_r (nI_1 k) (h n (by omega))))⟩⟩)))⟩)))))))))))
theorem xr_del3 (hi : i < 4) (hd : d < 4) (hk : k < 65536) (hch : a_chain i = nI (d + 1)) (hpc : a_pcs (i * 4 + d) = nI pc) (hp6 : pc < 640) (hrg : a_codeReg pc = nI g) (hg : g < 16) (hop : a_codeOp pc = 16) {v nf : Nat} (hv : a_codeArg pc = nI v) (hv6 : v < 6) (hnf : f_defined = nI nf) (hn7 : nf < 100) (hn6 : v < nf) {DL : Nat} (hD : f_depthLimit = nI DL) (hD2 : d + 1 < DL) (hD4 : DL ≤ 4) (ht : nI tu < f_turnLimit) (h : sm_X i (k + 1) (f_opJump, f_opJumpZero, f_opTurn, f_opPend, f_opExit, f_nodeLimit, f_slotLimit, f_depthLimit, f_turnLimit, f_programSize, f_draftStart, f_rowSize, f_codeSize, f_defined, nI (tu + 1), 1, a_kinds, a_values, a_heights, a_loose, a_parent, a_place, a_firstLeaf, a_row, a_nodeReg, a_breakTo, a_tryTo, a_cleanupOf, a_label, a_codeOp, a_codeReg, a_codeArg, a_codeNode, a_roots, a_entries, a_states, a_results, upd a_chain i (nI (d + 2)), upd a_actFunction (i * 4 + (d + 1)) (a_codeArg pc), upd a_pcs (i * 4 + (d + 1)) (a_entries v), sm_lo a_locals (i * 4 + (d + 1)) (a_regs ((i * 4 + d) * 16 + g)), a_regs, a_pending, a_cells) post) : sm_X i k (f_opJump, f_opJumpZero, f_opTurn, f_opPend, f_opExit, f_nodeLimit, f_slotLimit, f_depthLimit, f_turnLimit, f_programSize, f_draftStart, f_rowSize, f_codeSize, f_defined, nI tu, 1, a_kinds, a_values, a_heights, a_loose, a_parent, a_place, a_firstLeaf, a_row, a_nodeReg, a_breakTo, a_tryTo, a_cleanupOf, a_label, a_codeOp, a_codeReg, a_codeArg, a_codeNode, a_roots, a_entries, a_states, a_results, a_chain, a_actFunction, a_pcs, a_locals, a_regs, a_pending, a_cells) post := by
  intro n hn
  obtain ⟨n, rfl⟩ : ∃ n', n = n' + 1 := ⟨n - 1, by omega⟩
  have ei : nI i * 4 + a_chain (nI i).toNatClampNeg - 1 = nI (i * 4 + d) := by rw [nI_clamp (by omega), hch, tr_i4d]
  have ea : vp_in (nI (i * 4 + d)) 16 := vp_in_nI (by omega) (by decide)
  have vi : vp_in (nI i) 4 := vp_in_nI (by omega) (by decide)
  have ep : a_pcs (nI (i * 4 + d)).toNatClampNeg = nI pc := by rw [nI_clamp (by omega), hpc]
  have hin : vp_in (nI pc) 640 := vp_in_nI (by omega) (by decide)
  have er : nI (i * 4 + d) * 16 + a_codeReg (nI pc).toNatClampNeg = nI ((i * 4 + d) * 16 + g) := by rw [nI_clamp (n := pc) (by omega), hrg, tr_i16]
  have vr : vp_in (nI ((i * 4 + d) * 16 + g)) 256 := vp_in_nI (by omega) (by decide)
  have eu : upd a_pcs (nI (i * 4 + d)).toNatClampNeg (nI pc + 1) = upd a_pcs (i * 4 + d) (nI (pc + 1)) := by rw [nI_clamp (by omega), nI_1]
  have eo : a_codeOp (nI pc).toNatClampNeg = 16 := by rw [nI_clamp (by omega), hop]
  have eg : a_codeArg (nI pc).toNatClampNeg = a_codeArg pc := tr_fc (by omega) _
  have e8 : ¬ f_defined ≤ a_codeArg pc := by rw [hv, hnf]; exact nI_ge hn6 (by omega)
  have e9 : a_chain (nI i).toNatClampNeg < f_depthLimit := by rw [nI_clamp (by omega), hch, hD]; exact nI_lt hD2 (by omega)
  have eu2 : upd (upd a_pcs (i * 4 + d) (nI (pc + 1))) (nI (i * 4 + d)).toNatClampNeg (nI pc) = a_pcs := by rw [nI_clamp (by omega), tr_uu, tr_u0 _ _ hpc]
  refine br_f (nI_ge (b := 65536) (by omega) (by decide)) (br_f (by decide) ⟨vi, nm_r ei ⟨ea, nm_r ep ⟨hin, nm_r er ⟨ea, nm_r eu ⟨hin, br_t (by rw [eo]; decide) ?_⟩⟩⟩⟩⟩)
  exact And.intro hin (nm_r eo (br_f (by decide) (br_f (by decide) (br_f (by decide) (br_f (by decide) (br_f (by decide) (br_f (by decide) (br_t rfl (And.intro hin (nm_r eg (br_f e8 ⟨vi, br_t e9 (br_t ht (nm_r (nI_1 tu) (br_f (by decide) ⟨ea, nm_r eu2 ⟨vr, xb_push hi (by omega) hch hv6 hv (by rw [nI_clamp (by omega)]) (nm_r (nI_1 k) (h n (by omega)))⟩⟩)))⟩)))))))))))
theorem xr_brk (hi : i < 4) (hd : d < 4) (hk : k < 65536) (hch : a_chain i = nI (d + 1)) (hpc : a_pcs (i * 4 + d) = nI pc) (hp6 : pc < 640) (hrg : a_codeReg pc = nI g) (hg : g < 16) (hop : a_codeOp pc = 12)  (h : sm_Ra i (k + 1) 0 (a_codeNode pc) 2 0 (f_opJump, f_opJumpZero, f_opTurn, f_opPend, f_opExit, f_nodeLimit, f_slotLimit, f_depthLimit, f_turnLimit, f_programSize, f_draftStart, f_rowSize, f_codeSize, f_defined, f_turnsUsed, 1, a_kinds, a_values, a_heights, a_loose, a_parent, a_place, a_firstLeaf, a_row, a_nodeReg, a_breakTo, a_tryTo, a_cleanupOf, a_label, a_codeOp, a_codeReg, a_codeArg, a_codeNode, a_roots, a_entries, a_states, a_results, a_chain, a_actFunction, upd a_pcs (i * 4 + d) (nI (pc + 1)), a_locals, a_regs, a_pending, a_cells) post) : sm_X i k (f_opJump, f_opJumpZero, f_opTurn, f_opPend, f_opExit, f_nodeLimit, f_slotLimit, f_depthLimit, f_turnLimit, f_programSize, f_draftStart, f_rowSize, f_codeSize, f_defined, f_turnsUsed, 1, a_kinds, a_values, a_heights, a_loose, a_parent, a_place, a_firstLeaf, a_row, a_nodeReg, a_breakTo, a_tryTo, a_cleanupOf, a_label, a_codeOp, a_codeReg, a_codeArg, a_codeNode, a_roots, a_entries, a_states, a_results, a_chain, a_actFunction, a_pcs, a_locals, a_regs, a_pending, a_cells) post := by
  intro n hn
  obtain ⟨n, rfl⟩ : ∃ n', n = n' + 1 := ⟨n - 1, by omega⟩
  have ei : nI i * 4 + a_chain (nI i).toNatClampNeg - 1 = nI (i * 4 + d) := by rw [nI_clamp (by omega), hch, tr_i4d]
  have ea : vp_in (nI (i * 4 + d)) 16 := vp_in_nI (by omega) (by decide)
  have vi : vp_in (nI i) 4 := vp_in_nI (by omega) (by decide)
  have ep : a_pcs (nI (i * 4 + d)).toNatClampNeg = nI pc := by rw [nI_clamp (by omega), hpc]
  have hin : vp_in (nI pc) 640 := vp_in_nI (by omega) (by decide)
  have er : nI (i * 4 + d) * 16 + a_codeReg (nI pc).toNatClampNeg = nI ((i * 4 + d) * 16 + g) := by rw [nI_clamp (n := pc) (by omega), hrg, tr_i16]
  have vr : vp_in (nI ((i * 4 + d) * 16 + g)) 256 := vp_in_nI (by omega) (by decide)
  have eu : upd a_pcs (nI (i * 4 + d)).toNatClampNeg (nI pc + 1) = upd a_pcs (i * 4 + d) (nI (pc + 1)) := by rw [nI_clamp (by omega), nI_1]
  have eo : a_codeOp (nI pc).toNatClampNeg = 12 := by rw [nI_clamp (by omega), hop]
  have eg : a_codeArg (nI pc).toNatClampNeg = a_codeArg pc := tr_fc (by omega) _
  have en : a_codeNode (nI pc).toNatClampNeg = a_codeNode pc := tr_fc (by omega) _
  have ev : a_regs (nI ((i * 4 + d) * 16 + g)).toNatClampNeg = a_regs ((i * 4 + d) * 16 + g) := tr_fc (by omega) _
  have ew : a_pending (nI ((i * 4 + d) * 16 + g)).toNatClampNeg = a_pending ((i * 4 + d) * 16 + g) := tr_fc (by omega) _
  refine br_f (nI_ge (b := 65536) (by omega) (by decide)) (br_f (by decide) ⟨vi, nm_r ei ⟨ea, nm_r ep ⟨hin, nm_r er ⟨ea, nm_r eu ⟨hin, br_t (by rw [eo]; decide) ?_⟩⟩⟩⟩⟩)
  refine And.intro hin (nm_r eo (br_f (by decide) (br_f (by decide) (br_t rfl (And.intro hin ?_)))))
  rw [en]
  exact ⟨5, h _ (fun u' hu' => match u', hu' with | (f_opJump, f_opJumpZero, f_opTurn, f_opPend, f_opExit, f_nodeLimit, f_slotLimit, f_depthLimit, f_turnLimit, f_programSize, f_draftStart, f_rowSize, f_codeSize, f_defined, f_turnsUsed, f_going, a_kinds, a_values, a_heights, a_loose, a_parent, a_place, a_firstLeaf, a_row, a_nodeReg, a_breakTo, a_tryTo, a_cleanupOf, a_label, a_codeOp, a_codeReg, a_codeArg, a_codeNode, a_roots, a_entries, a_states, a_results, a_chain, a_actFunction, a_pcs, a_locals, a_regs, a_pending, a_cells), hu' => nm_r (nI_1 k) (hu' n (by omega))) 5 (by omega)⟩
theorem xr_ret (hi : i < 4) (hd : d < 4) (hk : k < 65536) (hch : a_chain i = nI (d + 1)) (hpc : a_pcs (i * 4 + d) = nI pc) (hp6 : pc < 640) (hrg : a_codeReg pc = nI g) (hg : g < 16) (hop : a_codeOp pc = 13)  (h : sm_Ra i (k + 1) 0 (a_codeNode pc) 3 (a_regs ((i * 4 + d) * 16 + g)) (f_opJump, f_opJumpZero, f_opTurn, f_opPend, f_opExit, f_nodeLimit, f_slotLimit, f_depthLimit, f_turnLimit, f_programSize, f_draftStart, f_rowSize, f_codeSize, f_defined, f_turnsUsed, 1, a_kinds, a_values, a_heights, a_loose, a_parent, a_place, a_firstLeaf, a_row, a_nodeReg, a_breakTo, a_tryTo, a_cleanupOf, a_label, a_codeOp, a_codeReg, a_codeArg, a_codeNode, a_roots, a_entries, a_states, a_results, a_chain, a_actFunction, upd a_pcs (i * 4 + d) (nI (pc + 1)), a_locals, a_regs, a_pending, a_cells) post) : sm_X i k (f_opJump, f_opJumpZero, f_opTurn, f_opPend, f_opExit, f_nodeLimit, f_slotLimit, f_depthLimit, f_turnLimit, f_programSize, f_draftStart, f_rowSize, f_codeSize, f_defined, f_turnsUsed, 1, a_kinds, a_values, a_heights, a_loose, a_parent, a_place, a_firstLeaf, a_row, a_nodeReg, a_breakTo, a_tryTo, a_cleanupOf, a_label, a_codeOp, a_codeReg, a_codeArg, a_codeNode, a_roots, a_entries, a_states, a_results, a_chain, a_actFunction, a_pcs, a_locals, a_regs, a_pending, a_cells) post := by
  intro n hn
  obtain ⟨n, rfl⟩ : ∃ n', n = n' + 1 := ⟨n - 1, by omega⟩
  have ei : nI i * 4 + a_chain (nI i).toNatClampNeg - 1 = nI (i * 4 + d) := by rw [nI_clamp (by omega), hch, tr_i4d]
  have ea : vp_in (nI (i * 4 + d)) 16 := vp_in_nI (by omega) (by decide)
  have vi : vp_in (nI i) 4 := vp_in_nI (by omega) (by decide)
  have ep : a_pcs (nI (i * 4 + d)).toNatClampNeg = nI pc := by rw [nI_clamp (by omega), hpc]
  have hin : vp_in (nI pc) 640 := vp_in_nI (by omega) (by decide)
  have er : nI (i * 4 + d) * 16 + a_codeReg (nI pc).toNatClampNeg = nI ((i * 4 + d) * 16 + g) := by rw [nI_clamp (n := pc) (by omega), hrg, tr_i16]
  have vr : vp_in (nI ((i * 4 + d) * 16 + g)) 256 := vp_in_nI (by omega) (by decide)
  have eu : upd a_pcs (nI (i * 4 + d)).toNatClampNeg (nI pc + 1) = upd a_pcs (i * 4 + d) (nI (pc + 1)) := by rw [nI_clamp (by omega), nI_1]
  have eo : a_codeOp (nI pc).toNatClampNeg = 13 := by rw [nI_clamp (by omega), hop]
  have eg : a_codeArg (nI pc).toNatClampNeg = a_codeArg pc := tr_fc (by omega) _
  have en : a_codeNode (nI pc).toNatClampNeg = a_codeNode pc := tr_fc (by omega) _
  have ev : a_regs (nI ((i * 4 + d) * 16 + g)).toNatClampNeg = a_regs ((i * 4 + d) * 16 + g) := tr_fc (by omega) _
  have ew : a_pending (nI ((i * 4 + d) * 16 + g)).toNatClampNeg = a_pending ((i * 4 + d) * 16 + g) := tr_fc (by omega) _
  refine br_f (nI_ge (b := 65536) (by omega) (by decide)) (br_f (by decide) ⟨vi, nm_r ei ⟨ea, nm_r ep ⟨hin, nm_r er ⟨ea, nm_r eu ⟨hin, br_t (by rw [eo]; decide) ?_⟩⟩⟩⟩⟩)
  refine And.intro hin (nm_r eo (br_f (by decide) (br_f (by decide) (br_f (by decide) (br_t rfl (And.intro hin ⟨vr, ?_⟩))))))
  rw [en, ev]
  exact ⟨5, h _ (fun u' hu' => match u', hu' with | (f_opJump, f_opJumpZero, f_opTurn, f_opPend, f_opExit, f_nodeLimit, f_slotLimit, f_depthLimit, f_turnLimit, f_programSize, f_draftStart, f_rowSize, f_codeSize, f_defined, f_turnsUsed, f_going, a_kinds, a_values, a_heights, a_loose, a_parent, a_place, a_firstLeaf, a_row, a_nodeReg, a_breakTo, a_tryTo, a_cleanupOf, a_label, a_codeOp, a_codeReg, a_codeArg, a_codeNode, a_roots, a_entries, a_states, a_results, a_chain, a_actFunction, a_pcs, a_locals, a_regs, a_pending, a_cells), hu' => nm_r (nI_1 k) (hu' n (by omega))) 5 (by omega)⟩
theorem xr_exit (hi : i < 4) (hd : d < 4) (hk : k < 65536) (hch : a_chain i = nI (d + 1)) (hpc : a_pcs (i * 4 + d) = nI pc) (hp6 : pc < 640) (hrg : a_codeReg pc = nI g) (hg : g < 16) (hop : a_codeOp pc = 21)  (h : sm_Ra i (k + 1) 0 (a_codeNode pc) 3 (a_regs ((i * 4 + d) * 16 + g)) (f_opJump, f_opJumpZero, f_opTurn, f_opPend, f_opExit, f_nodeLimit, f_slotLimit, f_depthLimit, f_turnLimit, f_programSize, f_draftStart, f_rowSize, f_codeSize, f_defined, f_turnsUsed, 1, a_kinds, a_values, a_heights, a_loose, a_parent, a_place, a_firstLeaf, a_row, a_nodeReg, a_breakTo, a_tryTo, a_cleanupOf, a_label, a_codeOp, a_codeReg, a_codeArg, a_codeNode, a_roots, a_entries, a_states, a_results, a_chain, a_actFunction, upd a_pcs (i * 4 + d) (nI (pc + 1)), a_locals, a_regs, a_pending, a_cells) post) : sm_X i k (f_opJump, f_opJumpZero, f_opTurn, f_opPend, f_opExit, f_nodeLimit, f_slotLimit, f_depthLimit, f_turnLimit, f_programSize, f_draftStart, f_rowSize, f_codeSize, f_defined, f_turnsUsed, 1, a_kinds, a_values, a_heights, a_loose, a_parent, a_place, a_firstLeaf, a_row, a_nodeReg, a_breakTo, a_tryTo, a_cleanupOf, a_label, a_codeOp, a_codeReg, a_codeArg, a_codeNode, a_roots, a_entries, a_states, a_results, a_chain, a_actFunction, a_pcs, a_locals, a_regs, a_pending, a_cells) post := by
  intro n hn
  obtain ⟨n, rfl⟩ : ∃ n', n = n' + 1 := ⟨n - 1, by omega⟩
  have ei : nI i * 4 + a_chain (nI i).toNatClampNeg - 1 = nI (i * 4 + d) := by rw [nI_clamp (by omega), hch, tr_i4d]
  have ea : vp_in (nI (i * 4 + d)) 16 := vp_in_nI (by omega) (by decide)
  have vi : vp_in (nI i) 4 := vp_in_nI (by omega) (by decide)
  have ep : a_pcs (nI (i * 4 + d)).toNatClampNeg = nI pc := by rw [nI_clamp (by omega), hpc]
  have hin : vp_in (nI pc) 640 := vp_in_nI (by omega) (by decide)
  have er : nI (i * 4 + d) * 16 + a_codeReg (nI pc).toNatClampNeg = nI ((i * 4 + d) * 16 + g) := by rw [nI_clamp (n := pc) (by omega), hrg, tr_i16]
  have vr : vp_in (nI ((i * 4 + d) * 16 + g)) 256 := vp_in_nI (by omega) (by decide)
  have eu : upd a_pcs (nI (i * 4 + d)).toNatClampNeg (nI pc + 1) = upd a_pcs (i * 4 + d) (nI (pc + 1)) := by rw [nI_clamp (by omega), nI_1]
  have eo : a_codeOp (nI pc).toNatClampNeg = 21 := by rw [nI_clamp (by omega), hop]
  have eg : a_codeArg (nI pc).toNatClampNeg = a_codeArg pc := tr_fc (by omega) _
  have en : a_codeNode (nI pc).toNatClampNeg = a_codeNode pc := tr_fc (by omega) _
  have ev : a_regs (nI ((i * 4 + d) * 16 + g)).toNatClampNeg = a_regs ((i * 4 + d) * 16 + g) := tr_fc (by omega) _
  have ew : a_pending (nI ((i * 4 + d) * 16 + g)).toNatClampNeg = a_pending ((i * 4 + d) * 16 + g) := tr_fc (by omega) _
  refine br_f (nI_ge (b := 65536) (by omega) (by decide)) (br_f (by decide) ⟨vi, nm_r ei ⟨ea, nm_r ep ⟨hin, nm_r er ⟨ea, nm_r eu ⟨hin, br_t (by rw [eo]; decide) ?_⟩⟩⟩⟩⟩)
  refine And.intro hin (nm_r eo (br_f (by decide) (br_f (by decide) (br_f (by decide) (br_f (by decide) (br_f (by decide) (br_f (by decide) (br_f (by decide) (br_f (by decide) (br_f (by decide) (br_f (by decide) (br_f (by decide) (br_t rfl (And.intro hin ⟨vr, ?_⟩))))))))))))))
  rw [en, ev]
  exact ⟨5, h _ (fun u' hu' => match u', hu' with | (f_opJump, f_opJumpZero, f_opTurn, f_opPend, f_opExit, f_nodeLimit, f_slotLimit, f_depthLimit, f_turnLimit, f_programSize, f_draftStart, f_rowSize, f_codeSize, f_defined, f_turnsUsed, f_going, a_kinds, a_values, a_heights, a_loose, a_parent, a_place, a_firstLeaf, a_row, a_nodeReg, a_breakTo, a_tryTo, a_cleanupOf, a_label, a_codeOp, a_codeReg, a_codeArg, a_codeNode, a_roots, a_entries, a_states, a_results, a_chain, a_actFunction, a_pcs, a_locals, a_regs, a_pending, a_cells), hu' => nm_r (nI_1 k) (hu' n (by omega))) 5 (by omega)⟩
theorem xr_try2 (hi : i < 4) (hd : d < 4) (hk : k < 65536) (hch : a_chain i = nI (d + 1)) (hpc : a_pcs (i * 4 + d) = nI pc) (hp6 : pc < 640) (hrg : a_codeReg pc = nI g) (hg : g < 16) (hop : a_codeOp pc = 14) (hx : ¬ a_pending ((i * 4 + d) * 16 + g) = 1) (h : sm_Ra i (k + 1) 0 (a_codeNode pc) (a_pending ((i * 4 + d) * 16 + g)) (a_regs ((i * 4 + d) * 16 + g)) (f_opJump, f_opJumpZero, f_opTurn, f_opPend, f_opExit, f_nodeLimit, f_slotLimit, f_depthLimit, f_turnLimit, f_programSize, f_draftStart, f_rowSize, f_codeSize, f_defined, f_turnsUsed, 1, a_kinds, a_values, a_heights, a_loose, a_parent, a_place, a_firstLeaf, a_row, a_nodeReg, a_breakTo, a_tryTo, a_cleanupOf, a_label, a_codeOp, a_codeReg, a_codeArg, a_codeNode, a_roots, a_entries, a_states, a_results, a_chain, a_actFunction, upd a_pcs (i * 4 + d) (nI (pc + 1)), a_locals, a_regs, a_pending, a_cells) post) : sm_X i k (f_opJump, f_opJumpZero, f_opTurn, f_opPend, f_opExit, f_nodeLimit, f_slotLimit, f_depthLimit, f_turnLimit, f_programSize, f_draftStart, f_rowSize, f_codeSize, f_defined, f_turnsUsed, 1, a_kinds, a_values, a_heights, a_loose, a_parent, a_place, a_firstLeaf, a_row, a_nodeReg, a_breakTo, a_tryTo, a_cleanupOf, a_label, a_codeOp, a_codeReg, a_codeArg, a_codeNode, a_roots, a_entries, a_states, a_results, a_chain, a_actFunction, a_pcs, a_locals, a_regs, a_pending, a_cells) post := by
  intro n hn
  obtain ⟨n, rfl⟩ : ∃ n', n = n' + 1 := ⟨n - 1, by omega⟩
  have ei : nI i * 4 + a_chain (nI i).toNatClampNeg - 1 = nI (i * 4 + d) := by rw [nI_clamp (by omega), hch, tr_i4d]
  have ea : vp_in (nI (i * 4 + d)) 16 := vp_in_nI (by omega) (by decide)
  have vi : vp_in (nI i) 4 := vp_in_nI (by omega) (by decide)
  have ep : a_pcs (nI (i * 4 + d)).toNatClampNeg = nI pc := by rw [nI_clamp (by omega), hpc]
  have hin : vp_in (nI pc) 640 := vp_in_nI (by omega) (by decide)
  have er : nI (i * 4 + d) * 16 + a_codeReg (nI pc).toNatClampNeg = nI ((i * 4 + d) * 16 + g) := by rw [nI_clamp (n := pc) (by omega), hrg, tr_i16]
  have vr : vp_in (nI ((i * 4 + d) * 16 + g)) 256 := vp_in_nI (by omega) (by decide)
  have eu : upd a_pcs (nI (i * 4 + d)).toNatClampNeg (nI pc + 1) = upd a_pcs (i * 4 + d) (nI (pc + 1)) := by rw [nI_clamp (by omega), nI_1]
  have eo : a_codeOp (nI pc).toNatClampNeg = 14 := by rw [nI_clamp (by omega), hop]
  have eg : a_codeArg (nI pc).toNatClampNeg = a_codeArg pc := tr_fc (by omega) _
  have en : a_codeNode (nI pc).toNatClampNeg = a_codeNode pc := tr_fc (by omega) _
  have ev : a_regs (nI ((i * 4 + d) * 16 + g)).toNatClampNeg = a_regs ((i * 4 + d) * 16 + g) := tr_fc (by omega) _
  have ew : a_pending (nI ((i * 4 + d) * 16 + g)).toNatClampNeg = a_pending ((i * 4 + d) * 16 + g) := tr_fc (by omega) _
  refine br_f (nI_ge (b := 65536) (by omega) (by decide)) (br_f (by decide) ⟨vi, nm_r ei ⟨ea, nm_r ep ⟨hin, nm_r er ⟨ea, nm_r eu ⟨hin, br_t (by rw [eo]; decide) ?_⟩⟩⟩⟩⟩)
  refine And.intro hin (nm_r eo (br_f (by decide) (br_f (by decide) (br_f (by decide) (br_f (by decide) (br_t rfl (And.intro vr (br_f (by rw [ew]; exact hx) ⟨hin, vr, vr, ?_⟩))))))))
  rw [en, ev, ew]
  exact ⟨5, h _ (fun u' hu' => match u', hu' with | (f_opJump, f_opJumpZero, f_opTurn, f_opPend, f_opExit, f_nodeLimit, f_slotLimit, f_depthLimit, f_turnLimit, f_programSize, f_draftStart, f_rowSize, f_codeSize, f_defined, f_turnsUsed, f_going, a_kinds, a_values, a_heights, a_loose, a_parent, a_place, a_firstLeaf, a_row, a_nodeReg, a_breakTo, a_tryTo, a_cleanupOf, a_label, a_codeOp, a_codeReg, a_codeArg, a_codeNode, a_roots, a_entries, a_states, a_results, a_chain, a_actFunction, a_pcs, a_locals, a_regs, a_pending, a_cells), hu' => nm_r (nI_1 k) (hu' n (by omega))) 5 (by omega)⟩
theorem xd_dlv {P : SX → Prop} (hi : i < 4) (hd : d < 4) (hch : a_chain i = nI (d + 1)) (hpc : a_pcs (i * 4 + d) = nI pc) (hp6 : pc < 640) (hrg : a_codeReg pc = nI g) (hg : g < 16) (h : P (f_opJump, f_opJumpZero, f_opTurn, f_opPend, f_opExit, f_nodeLimit, f_slotLimit, f_depthLimit, f_turnLimit, f_programSize, f_draftStart, f_rowSize, f_codeSize, f_defined, f_turnsUsed, f_going, a_kinds, a_values, a_heights, a_loose, a_parent, a_place, a_firstLeaf, a_row, a_nodeReg, a_breakTo, a_tryTo, a_cleanupOf, a_label, a_codeOp, a_codeReg, a_codeArg, a_codeNode, a_roots, a_entries, a_states, a_results, a_chain, a_actFunction, upd a_pcs (i * 4 + d) (nI (pc + 1)), a_locals, upd a_regs ((i * 4 + d) * 16 + g) x, a_pending, a_cells)) : wpX_deliver P (f_opJump, f_opJumpZero, f_opTurn, f_opPend, f_opExit, f_nodeLimit, f_slotLimit, f_depthLimit, f_turnLimit, f_programSize, f_draftStart, f_rowSize, f_codeSize, f_defined, f_turnsUsed, f_going, a_kinds, a_values, a_heights, a_loose, a_parent, a_place, a_firstLeaf, a_row, a_nodeReg, a_breakTo, a_tryTo, a_cleanupOf, a_label, a_codeOp, a_codeReg, a_codeArg, a_codeNode, a_roots, a_entries, a_states, a_results, a_chain, a_actFunction, a_pcs, a_locals, a_regs, a_pending, a_cells) (nI i) x := by
  have ei : nI i * 4 + a_chain (nI i).toNatClampNeg - 1 = nI (i * 4 + d) := by rw [nI_clamp (by omega), hch, tr_i4d]
  have ea : vp_in (nI (i * 4 + d)) 16 := vp_in_nI (by omega) (by decide)
  have ep : a_pcs (nI (i * 4 + d)).toNatClampNeg = nI pc := by rw [nI_clamp (by omega), hpc]
  have er : nI (i * 4 + d) * 16 + a_codeReg (nI pc).toNatClampNeg = nI ((i * 4 + d) * 16 + g) := by rw [nI_clamp (n := pc) (by omega), hrg, tr_i16]
  have e1 : upd a_regs (nI (i * 4 + d) * 16 + a_codeReg (nI pc).toNatClampNeg).toNatClampNeg x = upd a_regs ((i * 4 + d) * 16 + g) x := by rw [er, nI_clamp (by omega)]
  have e2 : upd a_pcs (nI (i * 4 + d)).toNatClampNeg (nI pc + 1) = upd a_pcs (i * 4 + d) (nI (pc + 1)) := by rw [nI_clamp (by omega), nI_1]
  exact And.intro (vp_in_nI hi (by decide)) (nm_r ei ⟨ea, nm_r ep ⟨vp_in_nI hp6 (by decide), pk_in _ _ (by omega) er, nm_r e1 ⟨ea, nm_r e2 h⟩⟩⟩)
variable {kk p t : Nat} {z : Int32}
theorem xa_land (hi : i < 4) (hd : d < 4) (hkk : kk < 4) (hch : a_chain i = nI (d + 1)) (hp : p < 128) (hz : (sort = 2 ∧ a_breakTo p = z) ∨ (¬ sort = 2 ∧ a_tryTo p = z)) (hz0 : z = nI t) (ht : t < 128) (hkt : a_kinds t = 14) {g : Nat} (hg : a_nodeReg t = nI g) (hg6 : g < 16) (h : sm_X i k (f_opJump, f_opJumpZero, f_opTurn, f_opPend, f_opExit, f_nodeLimit, f_slotLimit, f_depthLimit, f_turnLimit, f_programSize, f_draftStart, f_rowSize, f_codeSize, f_defined, f_turnsUsed, f_going, a_kinds, a_values, a_heights, a_loose, a_parent, a_place, a_firstLeaf, a_row, a_nodeReg, a_breakTo, a_tryTo, a_cleanupOf, a_label, a_codeOp, a_codeReg, a_codeArg, a_codeNode, a_roots, a_entries, a_states, a_results, a_chain, a_actFunction, upd a_pcs (i * 4 + d) (a_label (3 * t + 1)), a_locals, upd a_regs ((i * 4 + d) * 16 + g) x, upd a_pending ((i * 4 + d) * 16 + g) sort, a_cells) post) : sm_Ra i k kk (nI p) sort x (f_opJump, f_opJumpZero, f_opTurn, f_opPend, f_opExit, f_nodeLimit, f_slotLimit, f_depthLimit, f_turnLimit, f_programSize, f_draftStart, f_rowSize, f_codeSize, f_defined, f_turnsUsed, f_going, a_kinds, a_values, a_heights, a_loose, a_parent, a_place, a_firstLeaf, a_row, a_nodeReg, a_breakTo, a_tryTo, a_cleanupOf, a_label, a_codeOp, a_codeReg, a_codeArg, a_codeNode, a_roots, a_entries, a_states, a_results, a_chain, a_actFunction, a_pcs, a_locals, a_regs, a_pending, a_cells) post := by
  intro cont hc n hn
  obtain ⟨n, rfl⟩ : ∃ n', n = n' + 1 := ⟨n - 1, by omega⟩
  have vi : vp_in (nI i) 4 := vp_in_nI (by omega) (by decide)
  have ei : nI i * 4 + a_chain (nI i).toNatClampNeg - 1 = nI (i * 4 + d) := by rw [nI_clamp (by omega), hch, tr_i4d]
  have vp : vp_in (nI p) 128 := vp_in_nI hp (by decide)
  have fin : wX_raise_48 cont (wX_raise_6 cont (nI i) sort x f_opJump f_opJumpZero f_opTurn f_opPend f_opExit f_nodeLimit f_slotLimit f_depthLimit f_turnLimit f_programSize f_draftStart f_rowSize f_codeSize f_defined f_turnsUsed f_going n) (nI i) sort x (nI kk) (nI (i * 4 + d)) z f_opJump f_opJumpZero f_opTurn f_opPend f_opExit f_nodeLimit f_slotLimit f_depthLimit f_turnLimit f_programSize f_draftStart f_rowSize f_codeSize f_defined f_turnsUsed f_going a_kinds a_values a_heights a_loose a_parent a_place a_firstLeaf a_row a_nodeReg a_breakTo a_tryTo a_cleanupOf a_label a_codeOp a_codeReg a_codeArg a_codeNode a_roots a_entries a_states a_results a_chain a_actFunction a_pcs a_locals a_regs a_pending a_cells → wX_raise_6 cont (nI i) sort x f_opJump f_opJumpZero f_opTurn f_opPend f_opExit f_nodeLimit f_slotLimit f_depthLimit f_turnLimit f_programSize f_draftStart f_rowSize f_codeSize f_defined f_turnsUsed f_going (n + 1) (nI p) (nI kk) a_kinds a_values a_heights a_loose a_parent a_place a_firstLeaf a_row a_nodeReg a_breakTo a_tryTo a_cleanupOf a_label a_codeOp a_codeReg a_codeArg a_codeNode a_roots a_entries a_states a_results a_chain a_actFunction a_pcs a_locals a_regs a_pending a_cells := by
    intro w
    refine br_f (nI_ge (b := 4) hkk (by decide)) ⟨vi, nm_r ei ?_⟩
    rw [nI_clamp (n := p) (by omega)]
    rcases hz with ⟨a, b⟩ | ⟨a, b⟩
    · refine br_t a ⟨vp, ?_⟩
      rw [b]
      exact w
    · refine br_f a ⟨vp, ?_⟩
      rw [b]
      exact w
  refine fin ?_
  subst hz0
  have et : a_kinds (nI t).toNatClampNeg = 14 := by rw [nI_clamp (by omega), hkt]
  have er : nI (i * 4 + d) * 16 + a_nodeReg (nI t).toNatClampNeg = nI ((i * 4 + d) * 16 + g) := by rw [nI_clamp (n := t) (by omega), hg, tr_i16]
  have vr : vp_in (nI ((i * 4 + d) * 16 + g)) 256 := vp_in_nI (by omega) (by decide)
  have vt : vp_in (nI t) 128 := vp_in_nI ht (by decide)
  have el : upd a_pcs (nI (i * 4 + d)).toNatClampNeg (a_label (3 * nI t + 1).toNatClampNeg) = upd a_pcs (i * 4 + d) (a_label (3 * t + 1)) := by rw [tr_31, nI_clamp (by omega), nI_clamp (by omega)]
  exact br_f (nI_pos (by omega)) (And.intro vt (br_t et ⟨vt, nm_r er ⟨vr, nm_r (tr_uc (by omega) _ _) ⟨vr, nm_r (tr_uc (by omega) _ _) (And.intro (pk_in _ _ (by omega) (tr_31 _)) ⟨vp_in_nI (by omega) (by decide), nm_r el (hc _ h)⟩)⟩⟩⟩))
theorem xa_landw (hi : i < 4) (hd : d < 4) (hkk : kk < 4) (hch : a_chain i = nI (d + 1)) (hp : p < 128) (hz : (sort = 2 ∧ a_breakTo p = z) ∨ (¬ sort = 2 ∧ a_tryTo p = z)) (hz0 : z = nI t) (ht : t < 128) (hkt : ¬ a_kinds t = 14) (h : sm_X i k (f_opJump, f_opJumpZero, f_opTurn, f_opPend, f_opExit, f_nodeLimit, f_slotLimit, f_depthLimit, f_turnLimit, f_programSize, f_draftStart, f_rowSize, f_codeSize, f_defined, f_turnsUsed, f_going, a_kinds, a_values, a_heights, a_loose, a_parent, a_place, a_firstLeaf, a_row, a_nodeReg, a_breakTo, a_tryTo, a_cleanupOf, a_label, a_codeOp, a_codeReg, a_codeArg, a_codeNode, a_roots, a_entries, a_states, a_results, a_chain, a_actFunction, upd a_pcs (i * 4 + d) (a_label (3 * t + 1)), a_locals, a_regs, a_pending, a_cells) post) : sm_Ra i k kk (nI p) sort x (f_opJump, f_opJumpZero, f_opTurn, f_opPend, f_opExit, f_nodeLimit, f_slotLimit, f_depthLimit, f_turnLimit, f_programSize, f_draftStart, f_rowSize, f_codeSize, f_defined, f_turnsUsed, f_going, a_kinds, a_values, a_heights, a_loose, a_parent, a_place, a_firstLeaf, a_row, a_nodeReg, a_breakTo, a_tryTo, a_cleanupOf, a_label, a_codeOp, a_codeReg, a_codeArg, a_codeNode, a_roots, a_entries, a_states, a_results, a_chain, a_actFunction, a_pcs, a_locals, a_regs, a_pending, a_cells) post := by
  intro cont hc n hn
  obtain ⟨n, rfl⟩ : ∃ n', n = n' + 1 := ⟨n - 1, by omega⟩
  have vi : vp_in (nI i) 4 := vp_in_nI (by omega) (by decide)
  have ei : nI i * 4 + a_chain (nI i).toNatClampNeg - 1 = nI (i * 4 + d) := by rw [nI_clamp (by omega), hch, tr_i4d]
  have vp : vp_in (nI p) 128 := vp_in_nI hp (by decide)
  have fin : wX_raise_48 cont (wX_raise_6 cont (nI i) sort x f_opJump f_opJumpZero f_opTurn f_opPend f_opExit f_nodeLimit f_slotLimit f_depthLimit f_turnLimit f_programSize f_draftStart f_rowSize f_codeSize f_defined f_turnsUsed f_going n) (nI i) sort x (nI kk) (nI (i * 4 + d)) z f_opJump f_opJumpZero f_opTurn f_opPend f_opExit f_nodeLimit f_slotLimit f_depthLimit f_turnLimit f_programSize f_draftStart f_rowSize f_codeSize f_defined f_turnsUsed f_going a_kinds a_values a_heights a_loose a_parent a_place a_firstLeaf a_row a_nodeReg a_breakTo a_tryTo a_cleanupOf a_label a_codeOp a_codeReg a_codeArg a_codeNode a_roots a_entries a_states a_results a_chain a_actFunction a_pcs a_locals a_regs a_pending a_cells → wX_raise_6 cont (nI i) sort x f_opJump f_opJumpZero f_opTurn f_opPend f_opExit f_nodeLimit f_slotLimit f_depthLimit f_turnLimit f_programSize f_draftStart f_rowSize f_codeSize f_defined f_turnsUsed f_going (n + 1) (nI p) (nI kk) a_kinds a_values a_heights a_loose a_parent a_place a_firstLeaf a_row a_nodeReg a_breakTo a_tryTo a_cleanupOf a_label a_codeOp a_codeReg a_codeArg a_codeNode a_roots a_entries a_states a_results a_chain a_actFunction a_pcs a_locals a_regs a_pending a_cells := by
    intro w
    refine br_f (nI_ge (b := 4) hkk (by decide)) ⟨vi, nm_r ei ?_⟩
    rw [nI_clamp (n := p) (by omega)]
    rcases hz with ⟨a, b⟩ | ⟨a, b⟩
    · refine br_t a ⟨vp, ?_⟩
      rw [b]
      exact w
    · refine br_f a ⟨vp, ?_⟩
      rw [b]
      exact w
  refine fin ?_
  subst hz0
  have et : ¬ a_kinds (nI t).toNatClampNeg = 14 := by rw [nI_clamp (by omega)]; exact hkt
  have vt : vp_in (nI t) 128 := vp_in_nI ht (by decide)
  have el : upd a_pcs (nI (i * 4 + d)).toNatClampNeg (a_label (3 * nI t + 1).toNatClampNeg) = upd a_pcs (i * 4 + d) (a_label (3 * t + 1)) := by rw [tr_31, nI_clamp (by omega), nI_clamp (by omega)]
  exact br_f (nI_pos (by omega)) (And.intro vt (br_f et (And.intro (pk_in _ _ (by omega) (tr_31 _)) ⟨vp_in_nI (by omega) (by decide), nm_r el (hc _ h)⟩)))
theorem xa_fin (hi : i < 4) (hkk : kk < 4) (hch : a_chain i = nI (0 + 1)) (hp : p < 128) (hz : (sort = 2 ∧ a_breakTo p = z) ∨ (¬ sort = 2 ∧ a_tryTo p = z)) (hz0 : z = -1) (hs4 : ¬ sort = 4) (h : sm_X i k (f_opJump, f_opJumpZero, f_opTurn, f_opPend, f_opExit, f_nodeLimit, f_slotLimit, f_depthLimit, f_turnLimit, f_programSize, f_draftStart, f_rowSize, f_codeSize, f_defined, f_turnsUsed, 0, a_kinds, a_values, a_heights, a_loose, a_parent, a_place, a_firstLeaf, a_row, a_nodeReg, a_breakTo, a_tryTo, a_cleanupOf, a_label, a_codeOp, a_codeReg, a_codeArg, a_codeNode, a_roots, a_entries, upd a_states i 3, upd a_results i x, upd a_chain i 0, a_actFunction, a_pcs, a_locals, a_regs, a_pending, a_cells) post) : sm_Ra i k kk (nI p) sort x (f_opJump, f_opJumpZero, f_opTurn, f_opPend, f_opExit, f_nodeLimit, f_slotLimit, f_depthLimit, f_turnLimit, f_programSize, f_draftStart, f_rowSize, f_codeSize, f_defined, f_turnsUsed, f_going, a_kinds, a_values, a_heights, a_loose, a_parent, a_place, a_firstLeaf, a_row, a_nodeReg, a_breakTo, a_tryTo, a_cleanupOf, a_label, a_codeOp, a_codeReg, a_codeArg, a_codeNode, a_roots, a_entries, a_states, a_results, a_chain, a_actFunction, a_pcs, a_locals, a_regs, a_pending, a_cells) post := by
  obtain ⟨d, hd0⟩ : ∃ d : Nat, d = 0 := ⟨0, rfl⟩
  rw [← hd0] at hch
  intro cont hc n hn
  obtain ⟨n, rfl⟩ : ∃ n', n = n' + 1 := ⟨n - 1, by omega⟩
  have vi : vp_in (nI i) 4 := vp_in_nI (by omega) (by decide)
  have ei : nI i * 4 + a_chain (nI i).toNatClampNeg - 1 = nI (i * 4 + d) := by rw [nI_clamp (by omega), hch, tr_i4d]
  have vp : vp_in (nI p) 128 := vp_in_nI hp (by decide)
  have fin : wX_raise_48 cont (wX_raise_6 cont (nI i) sort x f_opJump f_opJumpZero f_opTurn f_opPend f_opExit f_nodeLimit f_slotLimit f_depthLimit f_turnLimit f_programSize f_draftStart f_rowSize f_codeSize f_defined f_turnsUsed f_going n) (nI i) sort x (nI kk) (nI (i * 4 + d)) z f_opJump f_opJumpZero f_opTurn f_opPend f_opExit f_nodeLimit f_slotLimit f_depthLimit f_turnLimit f_programSize f_draftStart f_rowSize f_codeSize f_defined f_turnsUsed f_going a_kinds a_values a_heights a_loose a_parent a_place a_firstLeaf a_row a_nodeReg a_breakTo a_tryTo a_cleanupOf a_label a_codeOp a_codeReg a_codeArg a_codeNode a_roots a_entries a_states a_results a_chain a_actFunction a_pcs a_locals a_regs a_pending a_cells → wX_raise_6 cont (nI i) sort x f_opJump f_opJumpZero f_opTurn f_opPend f_opExit f_nodeLimit f_slotLimit f_depthLimit f_turnLimit f_programSize f_draftStart f_rowSize f_codeSize f_defined f_turnsUsed f_going (n + 1) (nI p) (nI kk) a_kinds a_values a_heights a_loose a_parent a_place a_firstLeaf a_row a_nodeReg a_breakTo a_tryTo a_cleanupOf a_label a_codeOp a_codeReg a_codeArg a_codeNode a_roots a_entries a_states a_results a_chain a_actFunction a_pcs a_locals a_regs a_pending a_cells := by
    intro w
    refine br_f (nI_ge (b := 4) hkk (by decide)) ⟨vi, nm_r ei ?_⟩
    rw [nI_clamp (n := p) (by omega)]
    rcases hz with ⟨a, b⟩ | ⟨a, b⟩
    · refine br_t a ⟨vp, ?_⟩
      rw [b]
      exact w
    · refine br_f a ⟨vp, ?_⟩
      rw [b]
      exact w
  refine fin ?_
  subst hz0
  have ec : upd a_chain (nI i).toNatClampNeg (a_chain (nI i).toNatClampNeg - 1) = upd a_chain i 0 := by rw [nI_clamp (by omega), hch, tr_s1 (by omega), hd0]; rfl
  have e0 : ¬ (0 : Int32) < upd a_chain i 0 (nI i).toNatClampNeg := by rw [nI_clamp (by omega), pk_us]; decide
  have e2 : upd (upd a_chain i 0) (nI i).toNatClampNeg 0 = upd a_chain i 0 := by rw [nI_clamp (by omega), tr_uu]
  exact br_t tr_neg1 ⟨vi, vi, nm_r ec ⟨vi, br_f e0 (br_f hs4 (And.intro vi (nm_r (tr_uc (by omega) _ _) ⟨vi, nm_r (tr_uc (by omega) _ _) ⟨vi, nm_r e2 (hc _ h)⟩⟩)))⟩⟩
theorem xa_fin4 (hi : i < 4) (hkk : kk < 4) (hch : a_chain i = nI (0 + 1)) (hp : p < 128) (hz : (sort = 2 ∧ a_breakTo p = z) ∨ (¬ sort = 2 ∧ a_tryTo p = z)) (hz0 : z = -1) (hs4 : sort = 4) (h : sm_X i k (f_opJump, f_opJumpZero, f_opTurn, f_opPend, f_opExit, f_nodeLimit, f_slotLimit, f_depthLimit, f_turnLimit, f_programSize, f_draftStart, f_rowSize, f_codeSize, f_defined, f_turnsUsed, 0, a_kinds, a_values, a_heights, a_loose, a_parent, a_place, a_firstLeaf, a_row, a_nodeReg, a_breakTo, a_tryTo, a_cleanupOf, a_label, a_codeOp, a_codeReg, a_codeArg, a_codeNode, a_roots, a_entries, upd a_states i 4, upd a_results i x, upd a_chain i 0, a_actFunction, a_pcs, a_locals, a_regs, a_pending, a_cells) post) : sm_Ra i k kk (nI p) sort x (f_opJump, f_opJumpZero, f_opTurn, f_opPend, f_opExit, f_nodeLimit, f_slotLimit, f_depthLimit, f_turnLimit, f_programSize, f_draftStart, f_rowSize, f_codeSize, f_defined, f_turnsUsed, f_going, a_kinds, a_values, a_heights, a_loose, a_parent, a_place, a_firstLeaf, a_row, a_nodeReg, a_breakTo, a_tryTo, a_cleanupOf, a_label, a_codeOp, a_codeReg, a_codeArg, a_codeNode, a_roots, a_entries, a_states, a_results, a_chain, a_actFunction, a_pcs, a_locals, a_regs, a_pending, a_cells) post := by
  obtain ⟨d, hd0⟩ : ∃ d : Nat, d = 0 := ⟨0, rfl⟩
  rw [← hd0] at hch
  intro cont hc n hn
  obtain ⟨n, rfl⟩ : ∃ n', n = n' + 1 := ⟨n - 1, by omega⟩
  have vi : vp_in (nI i) 4 := vp_in_nI (by omega) (by decide)
  have ei : nI i * 4 + a_chain (nI i).toNatClampNeg - 1 = nI (i * 4 + d) := by rw [nI_clamp (by omega), hch, tr_i4d]
  have vp : vp_in (nI p) 128 := vp_in_nI hp (by decide)
  have fin : wX_raise_48 cont (wX_raise_6 cont (nI i) sort x f_opJump f_opJumpZero f_opTurn f_opPend f_opExit f_nodeLimit f_slotLimit f_depthLimit f_turnLimit f_programSize f_draftStart f_rowSize f_codeSize f_defined f_turnsUsed f_going n) (nI i) sort x (nI kk) (nI (i * 4 + d)) z f_opJump f_opJumpZero f_opTurn f_opPend f_opExit f_nodeLimit f_slotLimit f_depthLimit f_turnLimit f_programSize f_draftStart f_rowSize f_codeSize f_defined f_turnsUsed f_going a_kinds a_values a_heights a_loose a_parent a_place a_firstLeaf a_row a_nodeReg a_breakTo a_tryTo a_cleanupOf a_label a_codeOp a_codeReg a_codeArg a_codeNode a_roots a_entries a_states a_results a_chain a_actFunction a_pcs a_locals a_regs a_pending a_cells → wX_raise_6 cont (nI i) sort x f_opJump f_opJumpZero f_opTurn f_opPend f_opExit f_nodeLimit f_slotLimit f_depthLimit f_turnLimit f_programSize f_draftStart f_rowSize f_codeSize f_defined f_turnsUsed f_going (n + 1) (nI p) (nI kk) a_kinds a_values a_heights a_loose a_parent a_place a_firstLeaf a_row a_nodeReg a_breakTo a_tryTo a_cleanupOf a_label a_codeOp a_codeReg a_codeArg a_codeNode a_roots a_entries a_states a_results a_chain a_actFunction a_pcs a_locals a_regs a_pending a_cells := by
    intro w
    refine br_f (nI_ge (b := 4) hkk (by decide)) ⟨vi, nm_r ei ?_⟩
    rw [nI_clamp (n := p) (by omega)]
    rcases hz with ⟨a, b⟩ | ⟨a, b⟩
    · refine br_t a ⟨vp, ?_⟩
      rw [b]
      exact w
    · refine br_f a ⟨vp, ?_⟩
      rw [b]
      exact w
  refine fin ?_
  subst hz0
  have ec : upd a_chain (nI i).toNatClampNeg (a_chain (nI i).toNatClampNeg - 1) = upd a_chain i 0 := by rw [nI_clamp (by omega), hch, tr_s1 (by omega), hd0]; rfl
  have e0 : ¬ (0 : Int32) < upd a_chain i 0 (nI i).toNatClampNeg := by rw [nI_clamp (by omega), pk_us]; decide
  have e2 : upd (upd a_chain i 0) (nI i).toNatClampNeg 0 = upd a_chain i 0 := by rw [nI_clamp (by omega), tr_uu]
  exact br_t tr_neg1 ⟨vi, vi, nm_r ec ⟨vi, br_f e0 (br_t hs4 (And.intro vi (nm_r (tr_uc (by omega) _ _) ⟨vi, nm_r (tr_uc (by omega) _ _) ⟨vi, nm_r e2 (hc _ h)⟩⟩)))⟩⟩
theorem xa_dlv (hi : i < 4) (hd : d < 3) (hkk : kk < 4) (hch : a_chain i = nI (d + 1 + 1)) (hp : p < 128) (hz : (sort = 2 ∧ a_breakTo p = z) ∨ (¬ sort = 2 ∧ a_tryTo p = z)) (hz0 : z = -1) (hs4 : ¬ sort = 4) {pc g : Nat} (hpc : a_pcs (i * 4 + d) = nI pc) (hp6 : pc < 640) (hrg : a_codeReg pc = nI g) (hg : g < 16) (h : sm_X i k (f_opJump, f_opJumpZero, f_opTurn, f_opPend, f_opExit, f_nodeLimit, f_slotLimit, f_depthLimit, f_turnLimit, f_programSize, f_draftStart, f_rowSize, f_codeSize, f_defined, f_turnsUsed, f_going, a_kinds, a_values, a_heights, a_loose, a_parent, a_place, a_firstLeaf, a_row, a_nodeReg, a_breakTo, a_tryTo, a_cleanupOf, a_label, a_codeOp, a_codeReg, a_codeArg, a_codeNode, a_roots, a_entries, a_states, a_results, upd a_chain i (nI (d + 1)), a_actFunction, upd a_pcs (i * 4 + d) (nI (pc + 1)), a_locals, upd a_regs ((i * 4 + d) * 16 + g) x, a_pending, a_cells) post) : sm_Ra i k kk (nI p) sort x (f_opJump, f_opJumpZero, f_opTurn, f_opPend, f_opExit, f_nodeLimit, f_slotLimit, f_depthLimit, f_turnLimit, f_programSize, f_draftStart, f_rowSize, f_codeSize, f_defined, f_turnsUsed, f_going, a_kinds, a_values, a_heights, a_loose, a_parent, a_place, a_firstLeaf, a_row, a_nodeReg, a_breakTo, a_tryTo, a_cleanupOf, a_label, a_codeOp, a_codeReg, a_codeArg, a_codeNode, a_roots, a_entries, a_states, a_results, a_chain, a_actFunction, a_pcs, a_locals, a_regs, a_pending, a_cells) post := by
  intro cont hc n hn
  obtain ⟨n, rfl⟩ : ∃ n', n = n' + 1 := ⟨n - 1, by omega⟩
  have vi : vp_in (nI i) 4 := vp_in_nI (by omega) (by decide)
  have ei : nI i * 4 + a_chain (nI i).toNatClampNeg - 1 = nI (i * 4 + (d + 1)) := by rw [nI_clamp (by omega), hch, tr_i4d]
  have vp : vp_in (nI p) 128 := vp_in_nI hp (by decide)
  have fin : wX_raise_48 cont (wX_raise_6 cont (nI i) sort x f_opJump f_opJumpZero f_opTurn f_opPend f_opExit f_nodeLimit f_slotLimit f_depthLimit f_turnLimit f_programSize f_draftStart f_rowSize f_codeSize f_defined f_turnsUsed f_going n) (nI i) sort x (nI kk) (nI (i * 4 + (d + 1))) z f_opJump f_opJumpZero f_opTurn f_opPend f_opExit f_nodeLimit f_slotLimit f_depthLimit f_turnLimit f_programSize f_draftStart f_rowSize f_codeSize f_defined f_turnsUsed f_going a_kinds a_values a_heights a_loose a_parent a_place a_firstLeaf a_row a_nodeReg a_breakTo a_tryTo a_cleanupOf a_label a_codeOp a_codeReg a_codeArg a_codeNode a_roots a_entries a_states a_results a_chain a_actFunction a_pcs a_locals a_regs a_pending a_cells → wX_raise_6 cont (nI i) sort x f_opJump f_opJumpZero f_opTurn f_opPend f_opExit f_nodeLimit f_slotLimit f_depthLimit f_turnLimit f_programSize f_draftStart f_rowSize f_codeSize f_defined f_turnsUsed f_going (n + 1) (nI p) (nI kk) a_kinds a_values a_heights a_loose a_parent a_place a_firstLeaf a_row a_nodeReg a_breakTo a_tryTo a_cleanupOf a_label a_codeOp a_codeReg a_codeArg a_codeNode a_roots a_entries a_states a_results a_chain a_actFunction a_pcs a_locals a_regs a_pending a_cells := by
    intro w
    refine br_f (nI_ge (b := 4) hkk (by decide)) ⟨vi, nm_r ei ?_⟩
    rw [nI_clamp (n := p) (by omega)]
    rcases hz with ⟨a, b⟩ | ⟨a, b⟩
    · refine br_t a ⟨vp, ?_⟩
      rw [b]
      exact w
    · refine br_f a ⟨vp, ?_⟩
      rw [b]
      exact w
  refine fin ?_
  subst hz0
  have ec : upd a_chain (nI i).toNatClampNeg (a_chain (nI i).toNatClampNeg - 1) = upd a_chain i (nI (d + 1)) := by rw [nI_clamp (by omega), hch, tr_s1 (by omega)]; rfl
  have e0 : (0 : Int32) < upd a_chain i (nI (d + 1)) (nI i).toNatClampNeg := by rw [nI_clamp (by omega), pk_us]; exact nI_lt (a := 0) (by omega) (by omega)
  refine br_t tr_neg1 ⟨vi, vi, nm_r ec ⟨vi, br_t e0 (br_f hs4 ?_)⟩⟩
  refine xd_dlv hi (by omega) (by rw [pk_us]) hpc hp6 hrg hg (hc _ h)
theorem xa_pop (hi : i < 4) (hd : d < 3) (hkk : kk < 4) (hch : a_chain i = nI (d + 1 + 1)) (hp : p < 128) (hz : (sort = 2 ∧ a_breakTo p = z) ∨ (¬ sort = 2 ∧ a_tryTo p = z)) (hz0 : z = -1) (hs4 : sort = 4) {pc : Nat} (hpc : a_pcs (i * 4 + d) = nI pc) (hp6 : pc < 640) (h : sm_Ra i k (kk + 1) (a_codeNode pc) sort x (f_opJump, f_opJumpZero, f_opTurn, f_opPend, f_opExit, f_nodeLimit, f_slotLimit, f_depthLimit, f_turnLimit, f_programSize, f_draftStart, f_rowSize, f_codeSize, f_defined, f_turnsUsed, f_going, a_kinds, a_values, a_heights, a_loose, a_parent, a_place, a_firstLeaf, a_row, a_nodeReg, a_breakTo, a_tryTo, a_cleanupOf, a_label, a_codeOp, a_codeReg, a_codeArg, a_codeNode, a_roots, a_entries, a_states, a_results, upd a_chain i (nI (d + 1)), a_actFunction, a_pcs, a_locals, a_regs, a_pending, a_cells) post) : sm_Ra i k kk (nI p) sort x (f_opJump, f_opJumpZero, f_opTurn, f_opPend, f_opExit, f_nodeLimit, f_slotLimit, f_depthLimit, f_turnLimit, f_programSize, f_draftStart, f_rowSize, f_codeSize, f_defined, f_turnsUsed, f_going, a_kinds, a_values, a_heights, a_loose, a_parent, a_place, a_firstLeaf, a_row, a_nodeReg, a_breakTo, a_tryTo, a_cleanupOf, a_label, a_codeOp, a_codeReg, a_codeArg, a_codeNode, a_roots, a_entries, a_states, a_results, a_chain, a_actFunction, a_pcs, a_locals, a_regs, a_pending, a_cells) post := by
  intro cont hc n hn
  obtain ⟨n, rfl⟩ : ∃ n', n = n' + 1 := ⟨n - 1, by omega⟩
  have vi : vp_in (nI i) 4 := vp_in_nI (by omega) (by decide)
  have ei : nI i * 4 + a_chain (nI i).toNatClampNeg - 1 = nI (i * 4 + (d + 1)) := by rw [nI_clamp (by omega), hch, tr_i4d]
  have vp : vp_in (nI p) 128 := vp_in_nI hp (by decide)
  have fin : wX_raise_48 cont (wX_raise_6 cont (nI i) sort x f_opJump f_opJumpZero f_opTurn f_opPend f_opExit f_nodeLimit f_slotLimit f_depthLimit f_turnLimit f_programSize f_draftStart f_rowSize f_codeSize f_defined f_turnsUsed f_going n) (nI i) sort x (nI kk) (nI (i * 4 + (d + 1))) z f_opJump f_opJumpZero f_opTurn f_opPend f_opExit f_nodeLimit f_slotLimit f_depthLimit f_turnLimit f_programSize f_draftStart f_rowSize f_codeSize f_defined f_turnsUsed f_going a_kinds a_values a_heights a_loose a_parent a_place a_firstLeaf a_row a_nodeReg a_breakTo a_tryTo a_cleanupOf a_label a_codeOp a_codeReg a_codeArg a_codeNode a_roots a_entries a_states a_results a_chain a_actFunction a_pcs a_locals a_regs a_pending a_cells → wX_raise_6 cont (nI i) sort x f_opJump f_opJumpZero f_opTurn f_opPend f_opExit f_nodeLimit f_slotLimit f_depthLimit f_turnLimit f_programSize f_draftStart f_rowSize f_codeSize f_defined f_turnsUsed f_going (n + 1) (nI p) (nI kk) a_kinds a_values a_heights a_loose a_parent a_place a_firstLeaf a_row a_nodeReg a_breakTo a_tryTo a_cleanupOf a_label a_codeOp a_codeReg a_codeArg a_codeNode a_roots a_entries a_states a_results a_chain a_actFunction a_pcs a_locals a_regs a_pending a_cells := by
    intro w
    refine br_f (nI_ge (b := 4) hkk (by decide)) ⟨vi, nm_r ei ?_⟩
    rw [nI_clamp (n := p) (by omega)]
    rcases hz with ⟨a, b⟩ | ⟨a, b⟩
    · refine br_t a ⟨vp, ?_⟩
      rw [b]
      exact w
    · refine br_f a ⟨vp, ?_⟩
      rw [b]
      exact w
  refine fin ?_
  subst hz0
  have ec : upd a_chain (nI i).toNatClampNeg (a_chain (nI i).toNatClampNeg - 1) = upd a_chain i (nI (d + 1)) := by rw [nI_clamp (by omega), hch, tr_s1 (by omega)]; rfl
  have e0 : (0 : Int32) < upd a_chain i (nI (d + 1)) (nI i).toNatClampNeg := by rw [nI_clamp (by omega), pk_us]; exact nI_lt (a := 0) (by omega) (by omega)
  have e3 : nI (i * 4 + (d + 1)) - 1 = nI (i * 4 + d) := by rw [tr_s1 (by omega)]; rfl
  have e4 : a_pcs (nI (i * 4 + (d + 1)) - 1).toNatClampNeg = nI pc := by rw [e3, nI_clamp (by omega), hpc]
  have e5 : a_codeNode (a_pcs (nI (i * 4 + (d + 1)) - 1).toNatClampNeg).toNatClampNeg = a_codeNode pc := by rw [e4, nI_clamp (by omega)]
  exact br_t tr_neg1 ⟨vi, vi, nm_r ec ⟨vi, br_t e0 (br_t hs4 ⟨pk_in _ _ (by omega) e3, pk_in _ _ hp6 e4, nm_r e5 (nm_r (nI_1 kk) (h cont hc n (by omega)))⟩)⟩⟩
end
end
section
/-! the compiled code, the instances: definitions, frames -/
def cg_nn (k : Nat) : Nat := if k = 9 ∨ k = 10 then 0 else if k = 11 then 2 else 1
def cg_kf (k : Nat) : Prop := (5 ≤ k ∧ k ≤ 8) ∨ k = 14
def cg_bb (k j : Nat) : Nat := if k = 11 ∧ j = 1 then 2 else if (k = 10 ∧ (j = 1 ∨ j = 2)) ∨ (k = 14 ∧ j = 1) then 1 else 0
def cg_I (cO cR cA cN : Nat → Int32) (cs pc : Nat) (op : Int32) (g : Nat) (arg : Int32) (nd : Nat) : Prop := pc < cs ∧ cO pc = op ∧ cR pc = nI g ∧ cA pc = arg ∧ cN pc = nI nd
/-- registers and handlers -/
def cg_A (K L H G : Nat → Nat) (ds : Nat) (nr bt tt co : Nat → Int32) : Prop :=
  (∀ p, p < ds → nr p = nI (G p) ∧ 1 ≤ H p ∧ G p + H p ≤ 16) ∧
  ∀ q k p, q < ds → tr_ch K L q k p →
    (¬ (k = 2 ∧ cg_kf (K q)) → G p = G q) ∧ (k = 2 → cg_kf (K q) → G p = G q + 1) ∧
    (K q = 11 ∨ (K q = 14 ∧ k = 1) → bt p = nI q) ∧ (¬ (K q = 11 ∨ (K q = 14 ∧ k = 1)) → bt p = bt q) ∧
    (K q = 14 → k = 1 → tt p = nI q) ∧ (¬ (K q = 14 ∧ k = 1) → tt p = tt q) ∧
    (K q = 14 → ¬ k = 1 → co p = nI q) ∧ (¬ (K q = 14 ∧ ¬ k = 1) → co p = co q)
/-- the code of the nodes, and what stands between operands -/
def cg_C (K L G AA : Nat → Nat) (cs ds : Nat) (va lb cO cR cA cN : Nat → Int32) : Prop :=
  (∀ q, q < ds → (K q ≠ 9 → K q ≠ 10 → K q ≠ 11 → cg_I cO cR cA cN cs (AA q) (nI (K q)) (G q) (va q) q) ∧
    (K q = 11 → cg_I cO cR cA cN cs (AA q) 17 (G q) (nI (AA (L q))) q ∧ cg_I cO cR cA cN cs (AA q + 1) 0 (G q) 1 q ∧ lb (3 * q + 1) = nI (AA q + 1))) ∧
  ∀ q k p, q < ds → tr_ch K L q k p → AA (p + 1) = AA p + cg_nn (K p) + cg_bb (K q) k ∧
    (K q = 10 → k = 1 → ∀ e, tr_ch K L q 2 e → cg_I cO cR cA cN cs (AA p + cg_nn (K p)) 18 (G q) (nI (AA (e + 1))) q) ∧
    (K q = 10 → k = 2 → cg_I cO cR cA cN cs (AA p + cg_nn (K p)) 17 (G q) (nI (AA q)) q) ∧
    (K q = 11 → k = 1 → cg_I cO cR cA cN cs (AA p + cg_nn (K p)) 18 (G q) (nI (AA q + 2)) q ∧ cg_I cO cR cA cN cs (AA p + cg_nn (K p) + 1) 19 (G q) 0 q) ∧
    (K q = 14 → k = 1 → cg_I cO cR cA cN cs (AA p + cg_nn (K p)) 20 (G q) 1 q ∧ lb (3 * q + 1) = nI (AA (p + 1)))
/-- the functions -/
def cg_R (K L G AA rt : Nat → Nat) (cs ds nf : Nat) (pa ro en bt tt co cO cR cA cN : Nat → Int32) : Prop :=
  nf ≤ 6 ∧ ∀ f, f < nf → ro f = nI (rt f) ∧ rt f < ds ∧ pa (rt f) = -1 ∧ G (rt f) = 0 ∧ bt (rt f) = -1 ∧ tt (rt f) = -1 ∧ co (rt f) = -1 ∧ en f = nI (AA (L (rt f))) ∧ cg_I cO cR cA cN cs (AA (rt f) + cg_nn (K (rt f))) 21 0 0 (rt f)
/-- the values of the nodes -/
def cg_V (K : Nat → Nat) (N : Nat) (va : Nat → Int32) : Prop := ∀ q, q < N → (1 ≤ K q → K q ≤ 4 → ∃ v, v < 4 ∧ va q = nI v) ∧ (K q = 16 → ∃ v, v < 6 ∧ va q = nI v) ∧ (K q = 12 → va q = 0)
/-- links to the parents -/
def cg_P (K L : Nat → Nat) (N : Nat) (pa pl : Nat → Int32) : Prop := ∀ q k p, q < N → tr_ch K L q k p → pa p = nI q ∧ pl p = nI k
/-- all that a run reads and doesn't change -/
def sm_S (K L H G AA rt : Nat → Nat) (N ds nf cs : Nat) (b_kinds a_kinds a_values a_parent a_place a_nodeReg a_breakTo a_tryTo a_cleanupOf a_label a_codeOp a_codeReg a_codeArg a_codeNode a_roots a_entries : Nat → Int32) : Prop :=
  tr_F K L a_kinds N ∧ tr_F K L b_kinds N ∧ ds ≤ N ∧ cs ≤ 640 ∧ cg_V K N a_values ∧ cg_P K L N a_parent a_place ∧ cg_A K L H G ds a_nodeReg a_breakTo a_tryTo a_cleanupOf ∧ cg_C K L G AA cs ds a_values a_label a_codeOp a_codeReg a_codeArg a_codeNode ∧ cg_R K L G AA rt cs ds nf a_parent a_roots a_entries a_breakTo a_tryTo a_cleanupOf a_codeOp a_codeReg a_codeArg a_codeNode
/-- the first operand's value and the pending outcome are kept alike -/
def sm_SV (K L G : Nat → Nat) (ds : Nat) (rg pe ss sv : Nat → Int32) (a q : Nat) : Prop := ∀ t p, t < ds → tr_ch K L t 2 p → cg_kf (K t) → L p ≤ q → q ≤ p → rg (a * 16 + G t) = sv (a * 128 + t) ∧ (K t = 14 → ∃ s, 1 ≤ s ∧ s ≤ 4 ∧ ss (a * 128 + t) = nI s ∧ pe (a * 16 + G t) = nI s)
/-- activation a waits at node q of function f -/
def sm_WA (K L G AA rt : Nat → Nat) (ds nf : Nat) (fn pcs rg pe pla ss sv : Nat → Int32) (a q f : Nat) : Prop := (K q = 15 ∨ K q = 16) ∧ q < ds ∧ f < nf ∧ fn a = nI f ∧ L (rt f) ≤ q ∧ q ≤ rt f ∧ pcs a = nI (AA q) ∧ pla a = nI q ∧ sm_SV K L G ds rg pe ss sv a q
/-- slot i -/
def sm_SL (K L G AA rt : Nat → Nat) (ds nf DL : Nat) (en st ch fn pcs rg pe pla ss sv : Nat → Int32) (i : Nat) : Prop :=
  (st i = 1 ∧ ch i = 1 ∧ ∃ f, f < nf ∧ fn (i * 4) = nI f ∧ pcs (i * 4) = en f) ∨
  (st i = 2 ∧ ∃ (c : Nat) (pl fl : Nat → Nat), c < 4 ∧ c < DL ∧ ch i = nI (c + 1) ∧ ∀ e, e ≤ c → sm_WA K L G AA rt ds nf fn pcs rg pe pla ss sv (i * 4 + e) (pl e) (fl e)) ∨
  ((st i = 0 ∨ st i = 3 ∨ st i = 4 ∨ st i = 5) ∧ ch i = 0)
/-- nothing but activation a changes -/
def sm_fr (a : Nat) (fn pcs rg pe pla ss sv fn' pcs' rg' pe' pla' ss' sv' : Nat → Int32) : Prop := ∀ b, b ≠ a → fn' b = fn b ∧ pcs' b = pcs b ∧ pla' b = pla b ∧ (∀ g, g < 16 → rg' (b * 16 + g) = rg (b * 16 + g) ∧ pe' (b * 16 + g) = pe (b * 16 + g)) ∧ (∀ t, t < 128 → ss' (b * 128 + t) = ss (b * 128 + t) ∧ sv' (b * 128 + t) = sv (b * 128 + t))
section
variable {K L H G AA rt : Nat → Nat} {ds nf DL a b q f i d : Nat} {fn pcs rg pe pla ss sv fn' pcs' rg' pe' pla' ss' sv' en st ch st' ch' : Nat → Int32}
theorem sm_fr_SV (h : sm_fr a fn pcs rg pe pla ss sv fn' pcs' rg' pe' pla' ss' sv') (hb : b ≠ a) (hd : ds ≤ 128) (hG : ∀ t, t < ds → G t < 16) (S : sm_SV K L G ds rg pe ss sv b q) : sm_SV K L G ds rg' pe' ss' sv' b q := by
  intro t p ht c kf h1 h2
  obtain ⟨-, -, -, a1, a2⟩ := h b hb
  obtain ⟨s1, s2⟩ := S t p ht c kf h1 h2
  have b1 := a1 (G t) (hG t ht)
  have b2 := a2 t (by omega)
  refine ⟨by rw [b1.1, b2.2, s1], fun k => ?_⟩
  rw [b1.2, b2.1]
  exact s2 k
theorem sm_fr_WA (h : sm_fr a fn pcs rg pe pla ss sv fn' pcs' rg' pe' pla' ss' sv') (hb : b ≠ a) (hd : ds ≤ 128) (hG : ∀ t, t < ds → G t < 16) (S : sm_WA K L G AA rt ds nf fn pcs rg pe pla ss sv b q f) : sm_WA K L G AA rt ds nf fn' pcs' rg' pe' pla' ss' sv' b q f := by
  obtain ⟨s1, s2, s3, s4, s5, s6, s7, s8, s9⟩ := S
  obtain ⟨a1, a2, a3, -⟩ := h b hb
  exact ⟨s1, s2, s3, by rw [a1, s4], s5, s6, by rw [a2, s7], by rw [a3, s8], sm_fr_SV h hb hd hG s9⟩
theorem sm_fr_SL (h : sm_fr a fn pcs rg pe pla ss sv fn' pcs' rg' pe' pla' ss' sv') (ha : a < i * 4 ∨ i * 4 + 4 ≤ a) (hd : ds ≤ 128) (hG : ∀ t, t < ds → G t < 16) (hs : st' i = st i) (hc : ch' i = ch i) (S : sm_SL K L G AA rt ds nf DL en st ch fn pcs rg pe pla ss sv i) : sm_SL K L G AA rt ds nf DL en st' ch' fn' pcs' rg' pe' pla' ss' sv' i := by
  rcases S with ⟨s1, s2, f, s3, s4, s5⟩ | ⟨s1, c, pl, fl, s2, s3, s4, s5⟩ | ⟨s1, s2⟩
  · obtain ⟨a1, a2, -⟩ := h (i * 4) (by omega)
    exact Or.inl ⟨by rw [hs, s1], by rw [hc, s2], f, s3, by rw [a1, s4], by rw [a2, s5]⟩
  · exact Or.inr (Or.inl ⟨by rw [hs, s1], c, pl, fl, s2, s3, by rw [hc, s4], fun e he => sm_fr_WA h (by omega) hd hG (s5 e he)⟩)
  · exact Or.inr (Or.inr ⟨by rw [hs]; exact s1, by rw [hc, s2]⟩)
/-- slot i runs, in activation d; the others are at rest -/
def sm_O (K L G AA rt : Nat → Nat) (ds nf DL : Nat) (en : Nat → Int32) (i d : Nat) (pl fl : Nat → Nat) (st ch fn pcs rg pe pla ss sv : Nat → Int32) : Prop :=
  i < 4 ∧ d < 4 ∧ d < DL ∧ ch i = nI (d + 1) ∧ (∀ e, e < d → sm_WA K L G AA rt ds nf fn pcs rg pe pla ss sv (i * 4 + e) (pl e) (fl e)) ∧ ∀ i', i' < 4 → i' ≠ i → sm_SL K L G AA rt ds nf DL en st ch fn pcs rg pe pla ss sv i'
/-- the running activation is at node p of function f -/
def sm_C (K L G rt : Nat → Nat) (ds nf : Nat) (i d f p : Nat) (fn rg pe ss sv : Nat → Int32) : Prop := f < nf ∧ fn (i * 4 + d) = nI f ∧ L (rt f) ≤ p ∧ p ≤ rt f ∧ sm_SV K L G ds rg pe ss sv (i * 4 + d) p
variable {pl fl : Nat → Nat}
theorem sm_O_fr (hd : ds ≤ 128) (hG : ∀ t, t < ds → G t < 16) (h : sm_fr (i * 4 + d) fn pcs rg pe pla ss sv fn' pcs' rg' pe' pla' ss' sv') (O : sm_O K L G AA rt ds nf DL en i d pl fl st ch fn pcs rg pe pla ss sv) : sm_O K L G AA rt ds nf DL en i d pl fl st ch fn' pcs' rg' pe' pla' ss' sv' := by
  obtain ⟨o1, o2, o3, o4, o5, o6⟩ := O
  exact ⟨o1, o2, o3, o4, fun e he => sm_fr_WA h (by omega) hd hG (o5 e he), fun i' h1 h2 => sm_fr_SL h (by omega) hd hG rfl rfl (o6 i' h1 h2)⟩
theorem sm_fp (v : Int32) : sm_fr a fn pcs rg pe pla ss sv fn (upd pcs a v) rg pe pla ss sv := fun b hb => ⟨rfl, pk_un hb, rfl, fun _ _ => ⟨rfl, rfl⟩, fun _ _ => ⟨rfl, rfl⟩⟩
theorem sm_fpl (v : Int32) : sm_fr a fn pcs rg pe pla ss sv fn pcs rg pe (upd pla a v) ss sv := fun b hb => ⟨rfl, rfl, pk_un hb, fun _ _ => ⟨rfl, rfl⟩, fun _ _ => ⟨rfl, rfl⟩⟩
theorem sm_frg {g : Nat} (hg : g < 16) (v : Int32) : sm_fr a fn pcs rg pe pla ss sv fn pcs (upd rg (a * 16 + g) v) pe pla ss sv := fun b hb => ⟨rfl, rfl, rfl, fun g' hg' => ⟨pk_un (by omega), rfl⟩, fun _ _ => ⟨rfl, rfl⟩⟩
theorem sm_fpe {g : Nat} (hg : g < 16) (v : Int32) : sm_fr a fn pcs rg pe pla ss sv fn pcs rg (upd pe (a * 16 + g) v) pla ss sv := fun b hb => ⟨rfl, rfl, rfl, fun g' hg' => ⟨rfl, pk_un (by omega)⟩, fun _ _ => ⟨rfl, rfl⟩⟩
theorem sm_fss {t : Nat} (ht : t < 128) (v : Int32) : sm_fr a fn pcs rg pe pla ss sv fn pcs rg pe pla (upd ss (a * 128 + t) v) sv := fun b hb => ⟨rfl, rfl, rfl, fun _ _ => ⟨rfl, rfl⟩, fun g' hg' => ⟨pk_un (by omega), rfl⟩⟩
theorem sm_fsv {t : Nat} (ht : t < 128) (v : Int32) : sm_fr a fn pcs rg pe pla ss sv fn pcs rg pe pla ss (upd sv (a * 128 + t) v) := fun b hb => ⟨rfl, rfl, rfl, fun _ _ => ⟨rfl, rfl⟩, fun g' hg' => ⟨rfl, pk_un (by omega)⟩⟩
theorem sm_ffn (v : Int32) : sm_fr a fn pcs rg pe pla ss sv (upd fn a v) pcs rg pe pla ss sv := fun b hb => ⟨pk_un hb, rfl, rfl, fun _ _ => ⟨rfl, rfl⟩, fun _ _ => ⟨rfl, rfl⟩⟩
end
/-! registers within a tree; what is kept, up and down -/
section
variable {K L H G : Nat → Nat} {N ds : Nat} {nr bt tt co rg pe ss sv : Nat → Int32} {a p q k t : Nat}
theorem tr_pun {n : Nat} (h : ∀ q, q < n → tr_W K L q) {q k p q' k' : Nat} (hq : q < n) (hq' : q' < n) (c : tr_ch K L q k p) (c' : tr_ch K L q' k' p) : q = q' ∧ k = k' := by
  have a := tr_lt h hq c
  have a' := tr_lt h hq' c'
  have e : q = q' := by
    rcases Nat.lt_trichotomy q q' with x | x | x
    · have := tr_aft h hq' c' (r := q) (by omega) x
      omega
    · exact x
    · have := tr_aft h hq c (r := q') (by omega) x
      omega
  subst e
  exact ⟨rfl, tr_kun h hq c c'⟩
theorem tr_pex {n : Nat} (h : ∀ q, q < n → tr_W K L q) : ∀ t, t < n → ∀ p, L t ≤ p → p < t → ∃ q k, tr_ch K L q k p ∧ q ≤ t := by
  intro t
  induction t using Nat.strongRecOn with
  | _ t ih =>
    intro ht p h1 h2
    obtain ⟨k, c, cc, b1, b2⟩ := tr_cov h ht h1 h2
    have d := tr_lt h ht cc
    by_cases e : p = c
    · subst e
      exact ⟨t, k, cc, Nat.le_refl _⟩
    · obtain ⟨q, k', c', hq⟩ := ih c (by omega) (by omega) p b1 (by omega)
      exact ⟨q, k', c', by omega⟩
theorem cg_G16 (hA : cg_A K L H G ds nr bt tt co) (hp : p < ds) : nr p = nI (G p) ∧ G p < 16 := by
  have := hA.1 p hp
  exact ⟨this.1, by omega⟩
theorem cg_mono (hW : ∀ q, q < ds → tr_W K L q) (hA : cg_A K L H G ds nr bt tt co) : ∀ t, t < ds → ∀ p, L t ≤ p → p ≤ t → G t ≤ G p := by
  intro t
  induction t using Nat.strongRecOn with
  | _ t ih =>
    intro ht p h1 h2
    by_cases e : p = t
    · rw [e]
      exact Nat.le_refl _
    · obtain ⟨k, c, cc, b1, b2⟩ := tr_cov hW ht h1 (by omega)
      have d := tr_lt hW ht cc
      have := ih c (by omega) (by omega) p b1 b2
      obtain ⟨a1, a2, -⟩ := hA.2 t k c ht cc
      by_cases z : k = 2 ∧ cg_kf (K t)
      · have := a2 z.1 z.2
        omega
      · have := a1 z
        omega
/-- a register that is kept lies below that of the running node -/
theorem cg_below (hW : ∀ q, q < ds → tr_W K L q) (hA : cg_A K L H G ds nr bt tt co) {t p q : Nat} (ht : t < ds) (c : tr_ch K L t 2 p) (kf : cg_kf (K t)) (h1 : L p ≤ q) (h2 : q ≤ p) : G t < G q := by
  have d := tr_lt hW ht c
  have := cg_mono hW hA p (by omega) q h1 h2
  have := (hA.2 t 2 p ht c).2.1 rfl kf
  omega
theorem sv_up (hW : ∀ q, q < ds → tr_W K L q) (hq : q < ds) (c : tr_ch K L q k p) (S : sm_SV K L G ds rg pe ss sv a p) : sm_SV K L G ds rg pe ss sv a q := by
  intro t r ht c' kf h1 h2
  have d := tr_lt hW hq c
  have d' := tr_lt hW ht c'
  have := tr_nest hW r (by omega) q h1 h2
  exact S t r ht c' kf (by omega) (by omega)
theorem sv_dn (hW : ∀ q, q < ds → tr_W K L q) (hq : q < ds) (c : tr_ch K L q k p) (S : sm_SV K L G ds rg pe ss sv a q) (h : k = 2 → cg_kf (K q) → rg (a * 16 + G q) = sv (a * 128 + q) ∧ (K q = 14 → ∃ s, 1 ≤ s ∧ s ≤ 4 ∧ ss (a * 128 + q) = nI s ∧ pe (a * 16 + G q) = nI s)) : sm_SV K L G ds rg pe ss sv a p := by
  intro t r ht c' kf h1 h2
  have d := tr_lt hW hq c
  have d' := tr_lt hW ht c'
  by_cases e : p = r
  · subst e
    obtain ⟨e1, e2⟩ := tr_pun hW hq ht c c'
    subst e1 e2
    exact h rfl kf
  · have := tr_up hW hq c r (by omega) h1 (by omega)
    exact S t r ht c' kf (by omega) (by omega)
theorem sv_rg (hW : ∀ q, q < ds → tr_W K L q) (hA : cg_A K L H G ds nr bt tt co) {g : Nat} (hg : G q ≤ g) (v : Int32) (S : sm_SV K L G ds rg pe ss sv a q) : sm_SV K L G ds (upd rg (a * 16 + g) v) pe ss sv a q := by
  intro t r ht c kf h1 h2
  have := cg_below hW hA ht c kf h1 h2
  rw [pk_un (by omega)]
  exact S t r ht c kf h1 h2
theorem sv_pe (hW : ∀ q, q < ds → tr_W K L q) (hA : cg_A K L H G ds nr bt tt co) {g : Nat} (hg : G q ≤ g) (v : Int32) (S : sm_SV K L G ds rg pe ss sv a q) : sm_SV K L G ds rg (upd pe (a * 16 + g) v) ss sv a q := by
  intro t r ht c kf h1 h2
  have := cg_below hW hA ht c kf h1 h2
  rw [pk_un (by omega)]
  exact S t r ht c kf h1 h2
/-- node q isn't kept while the run is at q itself or above -/
theorem sv_sv (hW : ∀ q, q < ds → tr_W K L q) (v : Int32) (S : sm_SV K L G ds rg pe ss sv a q) : sm_SV K L G ds rg pe ss (upd sv (a * 128 + q) v) a q := by
  intro t r ht c kf h1 h2
  have := tr_lt hW ht c
  rw [pk_un (by omega)]
  exact S t r ht c kf h1 h2
theorem sv_ss (hW : ∀ q, q < ds → tr_W K L q) (v : Int32) (S : sm_SV K L G ds rg pe ss sv a q) : sm_SV K L G ds rg pe (upd ss (a * 128 + q) v) sv a q := by
  intro t r ht c kf h1 h2
  have := tr_lt hW ht c
  rw [pk_un (by omega)]
  exact S t r ht c kf h1 h2
end
/-! the potential -/
section
variable {K L : Nat → Nat} {n : Nat}
theorem sm_inh (h : ∀ q, q < n → tr_W K L q) (g : Nat → Nat → Nat → Nat → Nat) : ∀ j, ∃ E : Nat → Nat, (∀ q k p, q < n → n ≤ p + j → tr_ch K L q k p → E p = g q k p (E q)) ∧ (∀ p, n ≤ p + j → (∀ q k, q < n → ¬ tr_ch K L q k p) → E p = 1) := by
  intro j
  induction j with
  | zero =>
    refine ⟨fun _ => 1, fun q k p hq hp c => ?_, fun _ _ _ => rfl⟩
    have := tr_lt h hq c
    omega
  | succ j ih =>
    obtain ⟨E, e1, e2⟩ := ih
    by_cases hj : n ≤ j
    · exact ⟨E, fun q k p hq hp c => e1 q k p hq (by omega) c, fun p hp hc => e2 p (by omega) hc⟩
    · by_cases hex : ∃ q k, q < n ∧ tr_ch K L q k (n - (j + 1))
      · obtain ⟨q0, k0, hq0, c0⟩ := hex
        have l0 := tr_lt h hq0 c0
        refine ⟨fun x => if x = n - (j + 1) then g q0 k0 (n - (j + 1)) (E q0) else E x, fun q k p hq hp c => ?_, fun p hp hc => ?_⟩
        · have l := tr_lt h hq c
          show (if p = n - (j + 1) then g q0 k0 (n - (j + 1)) (E q0) else E p) = g q k p (if q = n - (j + 1) then g q0 k0 (n - (j + 1)) (E q0) else E q)
          rw [if_neg (c := q = n - (j + 1)) (by omega)]
          by_cases z : p = n - (j + 1)
          · rw [if_pos z]
            subst z
            obtain ⟨x1, x2⟩ := tr_pun h hq hq0 c c0
            rw [x1, x2]
          · rw [if_neg z]
            exact e1 q k p hq (by omega) c
        · show (if p = n - (j + 1) then g q0 k0 (n - (j + 1)) (E q0) else E p) = 1
          by_cases z : p = n - (j + 1)
          · subst z
            exact absurd c0 (hc q0 k0 hq0)
          · rw [if_neg z]
            exact e2 p (by omega) hc
      · refine ⟨fun x => if x = n - (j + 1) then 1 else E x, fun q k p hq hp c => ?_, fun p hp hc => ?_⟩
        · have l := tr_lt h hq c
          show (if p = n - (j + 1) then 1 else E p) = g q k p (if q = n - (j + 1) then 1 else E q)
          rw [if_neg (c := q = n - (j + 1)) (by omega)]
          by_cases z : p = n - (j + 1)
          · subst z
            exact absurd ⟨q, k, hq, c⟩ hex
          · rw [if_neg z]
            exact e1 q k p hq (by omega) c
        · show (if p = n - (j + 1) then 1 else E p) = 1
          by_cases z : p = n - (j + 1)
          · rw [if_pos z]
          · rw [if_neg z]
            exact e2 p (by omega) hc
/-- E p: how many starts and ends may follow the end of p, if no turn is taken -/
def sm_E (K L E : Nat → Nat) (n : Nat) : Prop := (∀ q k p, q < n → tr_ch K L q k p → (K q = 11 → k = 1 → E p = E q + 1) ∧ (K q = 11 → k = 2 → E p + 2 * L q = E q + 1 + 2 * L p) ∧ (K q ≠ 11 → E p + 2 * p + 1 = E q + 2 * q)) ∧ ∀ p, (∀ q k, q < n → ¬ tr_ch K L q k p) → E p = 1
theorem sm_Eex (h : ∀ q, q < n → tr_W K L q) : ∃ E, sm_E K L E n := by
  obtain ⟨E, e1, e2⟩ := sm_inh h (fun q k p e => if K q = 11 then (if k = 1 then e + 1 else e + 1 + 2 * (L p - L q)) else e + 1 + 2 * (q - 1 - p)) n
  refine ⟨E, fun q k p hq c => ?_, fun p hp => e2 p (by omega) hp⟩
  have l := tr_lt h hq c
  have e := e1 q k p hq (by omega) c
  refine ⟨fun a b => ?_, fun a b => ?_, fun a => ?_⟩
  · rw [if_pos a, if_pos b] at e
    exact e
  · rw [if_pos a, if_neg (by omega)] at e
    omega
  · rw [if_neg a] at e
    omega
theorem sm_E1 {E : Nat → Nat} (h : ∀ q, q < n → tr_W K L q) (hE : sm_E K L E n) {q k p : Nat} (hq : q < n) (c : tr_ch K L q k p) : E q < E p ∧ E p + 2 * (p - L p) + 1 < E q + 2 * (q - L q) + 1 := by
  have l := tr_lt h hq c
  obtain ⟨a1, a2, a3⟩ := hE.1 q k p hq c
  by_cases z : K q = 11
  · have har : tr_ar (K q) = 2 := by rw [z]; rfl
    obtain ⟨c0, c1, c2, b1, b2, b3, b4, b5⟩ := tr_c2 h hq har
    have : k = 1 ∨ k = 2 := by omega
    rcases this with rfl | rfl
    · have e := tr_fun c c1
      subst e
      have := a1 z rfl
      omega
    · have e := tr_fun c c2
      subst e
      have := a2 z rfl
      omega
  · have := a3 z
    omega
theorem sm_E2 {E : Nat → Nat} (h : ∀ q, q < n → tr_W K L q) (hE : sm_E K L E n) {t : Nat} (ht : t < n) (e1 : E t = 1) : ∀ j p, L t ≤ p → p + j = t → E p + 2 * (p - L p) ≤ 2 * (t - L t) + 1 := by
  intro j
  induction j using Nat.strongRecOn with
  | _ j ih =>
    intro p h1 h2
    by_cases z : p = t
    · subst z
      omega
    · obtain ⟨q, k, c, hq⟩ := tr_pex h t ht p h1 (by omega)
      have l := tr_lt h (by omega) c
      have := sm_E1 h hE (by omega) c
      have := ih (t - q) (by omega) q (by omega) (by omega)
      omega
def sm_s (E pl : Nat → Nat) : Nat → Nat
  | 0 => 0
  | d + 1 => sm_s E pl d + E (pl d)
theorem sm_s_c {E pl pl' : Nat → Nat} : ∀ d, (∀ e, e < d → pl' e = pl e) → sm_s E pl' d = sm_s E pl d := by
  intro d
  induction d with
  | zero => exact fun _ => rfl
  | succ d ih =>
    intro h
    show sm_s E pl' d + E (pl' d) = sm_s E pl d + E (pl d)
    rw [ih (fun e he => h e (by omega)), h d (by omega)]
end
end
section
/-! the simulation: statements, facts of the code at a node -/
def sm_G (Q : Int32 → SX → SY → Prop) (XK : (Int32 → SX → Prop) → Prop) (YK : (Int32 → SY → Prop) → Prop) : Prop := ∃ r u v, Q r u v ∧ (∀ post, post r u → XK post) ∧ (∀ post, post r v → YK post)
theorem sm_G_m {Q : Int32 → SX → SY → Prop} {XK XK' : (Int32 → SX → Prop) → Prop} {YK YK' : (Int32 → SY → Prop) → Prop} (h : sm_G Q XK YK) (hx : ∀ post, XK post → XK' post) (hy : ∀ post, YK post → YK' post) : sm_G Q XK' YK' := by
  obtain ⟨r, u, v, h1, h2, h3⟩ := h
  exact ⟨r, u, v, h1, fun post hp => hx post (h2 post hp), fun post hp => hy post (h3 post hp)⟩
theorem sm_G_f {Q : Int32 → SX → SY → Prop} {XK : (Int32 → SX → Prop) → Prop} {YK : (Int32 → SY → Prop) → Prop} {r : Int32} {u : SX} {v : SY} (h : Q r u v) (hx : ∀ post, post r u → XK post) (hy : ∀ post, post r v → YK post) : sm_G Q XK YK := ⟨r, u, v, h, hx, hy⟩
/-- node p is started -/
def sm_TS (K L G AA rt E : Nat → Nat) (N ds nf DL TL i : Nat) (Q : Int32 → SX → SY → Prop) (f_opJump f_opJumpZero f_opTurn f_opPend f_opExit f_nodeLimit f_slotLimit f_draftStart f_rowSize f_codeSize : Int32) (a_kinds a_values a_heights a_loose a_parent a_place a_firstLeaf a_row a_nodeReg a_breakTo a_tryTo a_cleanupOf a_label a_codeOp a_codeReg a_codeArg a_codeNode a_roots a_entries b_kinds : Nat → Int32) (B : Nat) : Prop := ∀ (a_states a_results a_chain a_actFunction a_pcs a_locals a_regs a_pending a_cells b_place b_savedSort b_savedValue : Nat → Int32) (k j d p f tu : Nat) (x : Int32) (pl fl : Nat → Nat), sm_O K L G AA rt ds nf DL a_entries i d pl fl a_states a_chain a_actFunction a_pcs a_regs a_pending b_place b_savedSort b_savedValue → sm_C K L G rt ds nf i d f p a_actFunction a_regs a_pending b_savedSort b_savedValue → a_pcs (i * 4 + d) = nI (AA (L p)) → tu ≤ TL → E p + 2 * (p - L p) + 1 + sm_s E pl d + 256 * (TL - tu) ≤ B → k + 2 * B ≤ 60000 → j + B ≤ 19999 → sm_G Q (sm_X i k (f_opJump, f_opJumpZero, f_opTurn, f_opPend, f_opExit, f_nodeLimit, f_slotLimit, nI DL, nI TL, nI N, f_draftStart, f_rowSize, f_codeSize, nI nf, nI tu, 1, a_kinds, a_values, a_heights, a_loose, a_parent, a_place, a_firstLeaf, a_row, a_nodeReg, a_breakTo, a_tryTo, a_cleanupOf, a_label, a_codeOp, a_codeReg, a_codeArg, a_codeNode, a_roots, a_entries, a_states, a_results, a_chain, a_actFunction, a_pcs, a_locals, a_regs, a_pending, a_cells)) (sm_Y i j (nI p) 0 x (nI tu) (f_nodeLimit, f_slotLimit, nI DL, nI TL, nI N, nI nf, b_kinds, a_values, a_roots, a_cells, a_states, a_results, a_chain, a_actFunction, b_place, a_locals, b_savedSort, b_savedValue))
/-- node p has ended with value x -/
def sm_TN (K L G AA rt E : Nat → Nat) (N ds nf DL TL i : Nat) (Q : Int32 → SX → SY → Prop) (f_opJump f_opJumpZero f_opTurn f_opPend f_opExit f_nodeLimit f_slotLimit f_draftStart f_rowSize f_codeSize : Int32) (a_kinds a_values a_heights a_loose a_parent a_place a_firstLeaf a_row a_nodeReg a_breakTo a_tryTo a_cleanupOf a_label a_codeOp a_codeReg a_codeArg a_codeNode a_roots a_entries b_kinds : Nat → Int32) (B : Nat) : Prop := ∀ (a_states a_results a_chain a_actFunction a_pcs a_locals a_regs a_pending a_cells b_place b_savedSort b_savedValue : Nat → Int32) (k j d p f tu : Nat) (x : Int32) (pl fl : Nat → Nat), sm_O K L G AA rt ds nf DL a_entries i d pl fl a_states a_chain a_actFunction a_pcs a_regs a_pending b_place b_savedSort b_savedValue → sm_C K L G rt ds nf i d f p a_actFunction a_regs a_pending b_savedSort b_savedValue → a_pcs (i * 4 + d) = nI (AA p + cg_nn (K p)) → a_regs ((i * 4 + d) * 16 + G p) = x → tu ≤ TL → E p + sm_s E pl d + 256 * (TL - tu) ≤ B → k + 2 * B ≤ 60000 → j + B ≤ 19999 → sm_G Q (sm_X i k (f_opJump, f_opJumpZero, f_opTurn, f_opPend, f_opExit, f_nodeLimit, f_slotLimit, nI DL, nI TL, nI N, f_draftStart, f_rowSize, f_codeSize, nI nf, nI tu, 1, a_kinds, a_values, a_heights, a_loose, a_parent, a_place, a_firstLeaf, a_row, a_nodeReg, a_breakTo, a_tryTo, a_cleanupOf, a_label, a_codeOp, a_codeReg, a_codeArg, a_codeNode, a_roots, a_entries, a_states, a_results, a_chain, a_actFunction, a_pcs, a_locals, a_regs, a_pending, a_cells)) (sm_Y i j (nI p) 1 x (nI tu) (f_nodeLimit, f_slotLimit, nI DL, nI TL, nI N, nI nf, b_kinds, a_values, a_roots, a_cells, a_states, a_results, a_chain, a_actFunction, b_place, a_locals, b_savedSort, b_savedValue))
/-- node p has ended with outcome s; the component is inside raise -/
def sm_TA (K L G AA rt E : Nat → Nat) (N ds nf DL TL i : Nat) (Q : Int32 → SX → SY → Prop) (f_opJump f_opJumpZero f_opTurn f_opPend f_opExit f_nodeLimit f_slotLimit f_draftStart f_rowSize f_codeSize : Int32) (a_kinds a_values a_heights a_loose a_parent a_place a_firstLeaf a_row a_nodeReg a_breakTo a_tryTo a_cleanupOf a_label a_codeOp a_codeReg a_codeArg a_codeNode a_roots a_entries b_kinds : Nat → Int32) (B : Nat) : Prop := ∀ (a_states a_results a_chain a_actFunction a_pcs a_locals a_regs a_pending a_cells b_place b_savedSort b_savedValue : Nat → Int32) (k j d p f tu : Nat) (x : Int32) (pl fl : Nat → Nat) (s kk z : Nat), sm_O K L G AA rt ds nf DL a_entries i d pl fl a_states a_chain a_actFunction a_pcs a_regs a_pending b_place b_savedSort b_savedValue → sm_C K L G rt ds nf i d f p a_actFunction a_regs a_pending b_savedSort b_savedValue → (s = 2 ∨ s = 3 ∨ s = 4) → kk + d < 4 → z < 128 → (s = 2 → a_breakTo z = a_breakTo p) → (s ≠ 2 → a_tryTo z = a_tryTo p) → tu ≤ TL → E p + sm_s E pl d + 256 * (TL - tu) ≤ B → k + 2 * B ≤ 60000 → j + B ≤ 19999 → sm_G Q (sm_Ra i k kk (nI z) (nI s) x (f_opJump, f_opJumpZero, f_opTurn, f_opPend, f_opExit, f_nodeLimit, f_slotLimit, nI DL, nI TL, nI N, f_draftStart, f_rowSize, f_codeSize, nI nf, nI tu, 1, a_kinds, a_values, a_heights, a_loose, a_parent, a_place, a_firstLeaf, a_row, a_nodeReg, a_breakTo, a_tryTo, a_cleanupOf, a_label, a_codeOp, a_codeReg, a_codeArg, a_codeNode, a_roots, a_entries, a_states, a_results, a_chain, a_actFunction, a_pcs, a_locals, a_regs, a_pending, a_cells)) (sm_Y i j (nI p) (nI s) x (nI tu) (f_nodeLimit, f_slotLimit, nI DL, nI TL, nI N, nI nf, b_kinds, a_values, a_roots, a_cells, a_states, a_results, a_chain, a_actFunction, b_place, a_locals, b_savedSort, b_savedValue))
section
variable {K L H G AA rt : Nat → Nat} {cs ds : Nat} {nr bt tt co va lb cO cR cA cN : Nat → Int32} {p q kq : Nat}
theorem sm_un (hW : ∀ q, q < ds → tr_W K L q) (hA : cg_A K L H G ds nr bt tt co) (hC : cg_C K L G AA cs ds va lb cO cR cA cN) (hq : q < ds) (c : tr_ch K L q kq p) (hk : K q = 3 ∨ K q = 4 ∨ K q = 13 ∨ K q = 15 ∨ K q = 16) : kq = 1 ∧ p + 1 = q ∧ AA p + cg_nn (K p) = AA q ∧ G p = G q ∧ cg_I cO cR cA cN cs (AA q) (nI (K q)) (G q) (va q) q ∧ cg_nn (K q) = 1 ∧ G q < 16 := by
  have har := tr_ar1 hk
  obtain ⟨c1, q0, q1, q2⟩ := tr_c1 hW hq har
  have hl := tr_lt hW hq c
  have e : kq = 1 := by omega
  subst e
  have hp := tr_fun c c1
  have hpq : p + 1 = q := by omega
  have h1 := (hC.2 q 1 p hq c).1
  rw [hpq] at h1
  have h2 : cg_bb (K q) 1 = 0 := by
    unfold cg_bb
    rw [if_neg (by omega), if_neg (by omega)]
  have h3 : cg_nn (K q) = 1 := by
    unfold cg_nn
    rw [if_neg (by omega), if_neg (by omega)]
  refine ⟨rfl, hpq, by omega, (hA.2 q 1 p hq c).1 (by omega), (hC.1 q hq).1 (by omega) (by omega) (by omega), h3, (cg_G16 hA hq).2⟩
theorem sm_b2 (hW : ∀ q, q < ds → tr_W K L q) (hA : cg_A K L H G ds nr bt tt co) (hC : cg_C K L G AA cs ds va lb cO cR cA cN) (hq : q < ds) (c : tr_ch K L q 2 p) (hk : cg_kf (K q)) : p + 1 = q ∧ AA p + cg_nn (K p) = AA q ∧ G p = G q + 1 ∧ cg_I cO cR cA cN cs (AA q) (nI (K q)) (G q) (va q) q ∧ cg_nn (K q) = 1 ∧ G q < 15 := by
  have hk' : (5 ≤ K q ∧ K q ≤ 8) ∨ K q = 14 := hk
  have har : tr_ar (K q) = 2 := tr_ar2 (by omega) (by omega) (by omega)
  obtain ⟨c0, c1, c2, b1, b2, b3, b4, b5⟩ := tr_c2 hW hq har
  have hp := tr_fun c c2
  have hpq : p + 1 = q := by omega
  have h1 := (hC.2 q 2 p hq c).1
  rw [hpq] at h1
  have h2 : cg_bb (K q) 2 = 0 := by
    unfold cg_bb
    rw [if_neg (by omega), if_neg (by omega)]
  have h3 : cg_nn (K q) = 1 := by
    unfold cg_nn
    rw [if_neg (by omega), if_neg (by omega)]
  have h4 := (hA.2 q 2 p hq c).2.1 rfl hk
  have h5 := (cg_G16 hA (p := p) (by omega)).2
  exact ⟨hpq, by omega, h4, (hC.1 q hq).1 (by omega) (by omega) (by omega), h3, by omega⟩
/-- first operand of a node that keeps it: binary -/
theorem sm_b1 (hW : ∀ q, q < ds → tr_W K L q) (hA : cg_A K L H G ds nr bt tt co) (hC : cg_C K L G AA cs ds va lb cO cR cA cN) (hq : q < ds) (c : tr_ch K L q 1 p) (hk : (5 ≤ K q ∧ K q ≤ 9) ∨ K q = 14 ∨ K q = 11) : ∃ e, tr_ch K L q 2 e ∧ e + 1 = q ∧ L e = p + 1 ∧ p + 1 ≤ e ∧ L p = L q ∧ AA (L e) = AA p + cg_nn (K p) + cg_bb (K q) 1 ∧ G p = G q ∧ G q < 16 := by
  have har : tr_ar (K q) = 2 := tr_ar2 (by omega) (by omega) (by omega)
  obtain ⟨c0, c1, c2, b1, b2, b3, b4, b5⟩ := tr_c2 hW hq har
  have hp := tr_fun c c1
  subst hp
  have h1 := (hC.2 q 1 p hq c).1
  rw [← b3] at h1
  exact ⟨q - 1, c2, by omega, b3, b4, b1.symm, h1, (hA.2 q 1 p hq c).1 (by omega), (cg_G16 hA hq).2⟩
end
end
section
/-! cases of the simulation -/
section
variable {K L H G AA rt E : Nat → Nat} {N ds nf cs DL TL i : Nat} {Q : Int32 → SX → SY → Prop} {f_opJump f_opJumpZero f_opTurn f_opPend f_opExit f_nodeLimit f_slotLimit f_draftStart f_rowSize f_codeSize : Int32} {a_kinds a_values a_heights a_loose a_parent a_place a_firstLeaf a_row a_nodeReg a_breakTo a_tryTo a_cleanupOf a_label a_codeOp a_codeReg a_codeArg a_codeNode a_roots a_entries b_kinds : Nat → Int32}
variable {a_states a_results a_chain a_actFunction a_pcs a_locals a_regs a_pending a_cells b_place b_savedSort b_savedValue : Nat → Int32} {k j d p f tu q kq B s kk z : Nat} {x : Int32} {pl fl : Nat → Nat}
theorem ss_go (HS : sm_S K L H G AA rt N ds nf cs b_kinds a_kinds a_values a_parent a_place a_nodeReg a_breakTo a_tryTo a_cleanupOf a_label a_codeOp a_codeReg a_codeArg a_codeNode a_roots a_entries) (hE : sm_E K L E ds) (hD4 : DL ≤ 4) (hO : sm_O K L G AA rt ds nf DL a_entries i d pl fl a_states a_chain a_actFunction a_pcs a_regs a_pending b_place b_savedSort b_savedValue) (hCu : sm_C K L G rt ds nf i d f p a_actFunction a_regs a_pending b_savedSort b_savedValue) (hpc : a_pcs (i * 4 + d) = nI (AA (L p))) (htu : tu ≤ TL) (hB : E p + 2 * (p - L p) + 1 + sm_s E pl d + 256 * (TL - tu) ≤ B + 1) (hkB : k + 2 * (B + 1) ≤ 60000) (hjB : j + (B + 1) ≤ 19999) (IH : sm_TS K L G AA rt E N ds nf DL TL i Q f_opJump f_opJumpZero f_opTurn f_opPend f_opExit f_nodeLimit f_slotLimit f_draftStart f_rowSize f_codeSize a_kinds a_values a_heights a_loose a_parent a_place a_firstLeaf a_row a_nodeReg a_breakTo a_tryTo a_cleanupOf a_label a_codeOp a_codeReg a_codeArg a_codeNode a_roots a_entries b_kinds B) (hpd : p < ds) (har : 0 < tr_ar (K p)) : sm_G Q (sm_X i k (f_opJump, f_opJumpZero, f_opTurn, f_opPend, f_opExit, f_nodeLimit, f_slotLimit, nI DL, nI TL, nI N, f_draftStart, f_rowSize, f_codeSize, nI nf, nI tu, 1, a_kinds, a_values, a_heights, a_loose, a_parent, a_place, a_firstLeaf, a_row, a_nodeReg, a_breakTo, a_tryTo, a_cleanupOf, a_label, a_codeOp, a_codeReg, a_codeArg, a_codeNode, a_roots, a_entries, a_states, a_results, a_chain, a_actFunction, a_pcs, a_locals, a_regs, a_pending, a_cells)) (sm_Y i j (nI p) 0 x (nI tu) (f_nodeLimit, f_slotLimit, nI DL, nI TL, nI N, nI nf, b_kinds, a_values, a_roots, a_cells, a_states, a_results, a_chain, a_actFunction, b_place, a_locals, b_savedSort, b_savedValue)) := by
  obtain ⟨hFx, hFy, hds, hcs, hV, hP, hA, hC, hR⟩ := HS
  have hO0 := hO
  obtain ⟨hi, hd, hdD, hch, hwt, hot⟩ := hO0
  obtain ⟨hf, hfn, hp1, hp2, hSV⟩ := hCu
  have hN := hFx.1
  have hds8 : ds ≤ 128 := by omega
  have hW : ∀ q, q < ds → tr_W K L q := fun q h => tr_FW hFx q (by omega)
  have hG : ∀ t, t < ds → G t < 16 := fun t ht => (cg_G16 hA ht).2
  obtain ⟨hro, hrd, hpa, hG0, hb0, ht0, hc0, hen, hex⟩ := hR.2 f hf
  have hf6 : f < 6 := by have := hR.1; omega
  obtain ⟨e, c⟩ := tr_ex hW hpd (j := 1) (by omega) (by omega)
  have hl := tr_lt hW hpd c
  have hE1 := sm_E1 hW hE hpd c
  have hns := tr_nest hW (rt f) hrd p hp1 hp2
  have hL : L e = L p := by
    rcases tr_ar_c (K p) with ⟨w, -⟩ | ⟨w, -⟩ | ⟨w, -⟩ | ⟨w, -⟩
    · omega
    · obtain ⟨c1, q0, q1, q2⟩ := tr_c1 hW hpd w
      rw [tr_fun c c1, q1]
    · obtain ⟨x1, y1, c1, c2, c3, a1, a2, a3, a4, a5, a6, a7⟩ := tr_c3 hW hpd w
      rw [tr_fun c c1, a1]
    · obtain ⟨x1, c1, c2, a1, a2, a3, a4, a5⟩ := tr_c2 hW hpd w
      rw [tr_fun c c1, a1]
  refine sm_G_m (IH a_states a_results a_chain a_actFunction a_pcs a_locals a_regs a_pending a_cells b_place b_savedSort b_savedValue (k) (j + 1) (d) (e) (f) (tu) (x) pl fl hO ⟨hf, hfn, by omega, by omega, sv_dn hW hpd c hSV (fun w => absurd w (by decide))⟩ (by rw [hL]; exact hpc) htu (by omega) (by omega) (by omega)) (fun post h => h) (fun post h => ys_go hFy hi hd (by omega) hch (by omega) c h)
theorem ss_const (HS : sm_S K L H G AA rt N ds nf cs b_kinds a_kinds a_values a_parent a_place a_nodeReg a_breakTo a_tryTo a_cleanupOf a_label a_codeOp a_codeReg a_codeArg a_codeNode a_roots a_entries) (hE : sm_E K L E ds) (hD4 : DL ≤ 4) (hO : sm_O K L G AA rt ds nf DL a_entries i d pl fl a_states a_chain a_actFunction a_pcs a_regs a_pending b_place b_savedSort b_savedValue) (hCu : sm_C K L G rt ds nf i d f p a_actFunction a_regs a_pending b_savedSort b_savedValue) (hpc : a_pcs (i * 4 + d) = nI (AA (L p))) (htu : tu ≤ TL) (hB : E p + 2 * (p - L p) + 1 + sm_s E pl d + 256 * (TL - tu) ≤ B + 1) (hkB : k + 2 * (B + 1) ≤ 60000) (hjB : j + (B + 1) ≤ 19999) (IH : sm_TN K L G AA rt E N ds nf DL TL i Q f_opJump f_opJumpZero f_opTurn f_opPend f_opExit f_nodeLimit f_slotLimit f_draftStart f_rowSize f_codeSize a_kinds a_values a_heights a_loose a_parent a_place a_firstLeaf a_row a_nodeReg a_breakTo a_tryTo a_cleanupOf a_label a_codeOp a_codeReg a_codeArg a_codeNode a_roots a_entries b_kinds B) (hpd : p < ds) (hk : K p = 0) : sm_G Q (sm_X i k (f_opJump, f_opJumpZero, f_opTurn, f_opPend, f_opExit, f_nodeLimit, f_slotLimit, nI DL, nI TL, nI N, f_draftStart, f_rowSize, f_codeSize, nI nf, nI tu, 1, a_kinds, a_values, a_heights, a_loose, a_parent, a_place, a_firstLeaf, a_row, a_nodeReg, a_breakTo, a_tryTo, a_cleanupOf, a_label, a_codeOp, a_codeReg, a_codeArg, a_codeNode, a_roots, a_entries, a_states, a_results, a_chain, a_actFunction, a_pcs, a_locals, a_regs, a_pending, a_cells)) (sm_Y i j (nI p) 0 x (nI tu) (f_nodeLimit, f_slotLimit, nI DL, nI TL, nI N, nI nf, b_kinds, a_values, a_roots, a_cells, a_states, a_results, a_chain, a_actFunction, b_place, a_locals, b_savedSort, b_savedValue)) := by
  obtain ⟨hFx, hFy, hds, hcs, hV, hP, hA, hC, hR⟩ := HS
  have hO0 := hO
  obtain ⟨hi, hd, hdD, hch, hwt, hot⟩ := hO0
  obtain ⟨hf, hfn, hp1, hp2, hSV⟩ := hCu
  have hN := hFx.1
  have hds8 : ds ≤ 128 := by omega
  have hW : ∀ q, q < ds → tr_W K L q := fun q h => tr_FW hFx q (by omega)
  have hG : ∀ t, t < ds → G t < 16 := fun t ht => (cg_G16 hA ht).2
  obtain ⟨hro, hrd, hpa, hG0, hb0, ht0, hc0, hen, hex⟩ := hR.2 f hf
  have hf6 : f < 6 := by have := hR.1; omega
  have hLp : L p = p := by
    rcases hW p hpd with ⟨_, w⟩ | ⟨w, _⟩ | ⟨w, _⟩ | ⟨w, _⟩
    · exact w
    · rw [hk] at w
      exact absurd w (by decide)
    · rw [hk] at w
      exact absurd w (by decide)
    · rw [hk] at w
      exact absurd w (by decide)
  rw [hLp] at hpc hB
  obtain ⟨i1, i2, i3, i4, i5⟩ := (hC.1 p hpd).1 (by omega) (by omega) (by omega)
  have hop : a_codeOp (AA p) = 0 := by rw [i2, hk]; rfl
  have hg := hG p hpd
  have hnn : cg_nn (K p) = 1 := by rw [hk]; rfl
  refine sm_G_m (IH a_states a_results a_chain a_actFunction (upd a_pcs (i * 4 + d) (nI (AA p + 1))) a_locals (upd a_regs ((i * 4 + d) * 16 + G p) (a_values p)) a_pending a_cells b_place b_savedSort b_savedValue (k + 1) (j + 1) (d) (p) (f) (tu) ((a_values p)) pl fl (sm_O_fr hds8 hG (sm_frg (by omega) _) (sm_O_fr hds8 hG (sm_fp _) hO)) ⟨hf, hfn, hp1, hp2, sv_rg hW hA (Nat.le_refl _) _ hSV⟩ (by rw [pk_us, hnn]) (by rw [pk_us]) htu (by omega) (by omega) (by omega)) (fun post h => by rw [← i4] at h; exact xr_const hi hd (by omega) hch hpc (by omega) i3 (by omega) hop h) (fun post h => ys_const hFy hi hd (by omega) hch (by omega) hk h)
theorem ss_local (HS : sm_S K L H G AA rt N ds nf cs b_kinds a_kinds a_values a_parent a_place a_nodeReg a_breakTo a_tryTo a_cleanupOf a_label a_codeOp a_codeReg a_codeArg a_codeNode a_roots a_entries) (hE : sm_E K L E ds) (hD4 : DL ≤ 4) (hO : sm_O K L G AA rt ds nf DL a_entries i d pl fl a_states a_chain a_actFunction a_pcs a_regs a_pending b_place b_savedSort b_savedValue) (hCu : sm_C K L G rt ds nf i d f p a_actFunction a_regs a_pending b_savedSort b_savedValue) (hpc : a_pcs (i * 4 + d) = nI (AA (L p))) (htu : tu ≤ TL) (hB : E p + 2 * (p - L p) + 1 + sm_s E pl d + 256 * (TL - tu) ≤ B + 1) (hkB : k + 2 * (B + 1) ≤ 60000) (hjB : j + (B + 1) ≤ 19999) (IH : sm_TN K L G AA rt E N ds nf DL TL i Q f_opJump f_opJumpZero f_opTurn f_opPend f_opExit f_nodeLimit f_slotLimit f_draftStart f_rowSize f_codeSize a_kinds a_values a_heights a_loose a_parent a_place a_firstLeaf a_row a_nodeReg a_breakTo a_tryTo a_cleanupOf a_label a_codeOp a_codeReg a_codeArg a_codeNode a_roots a_entries b_kinds B) (hpd : p < ds) (hk : K p = 1) : sm_G Q (sm_X i k (f_opJump, f_opJumpZero, f_opTurn, f_opPend, f_opExit, f_nodeLimit, f_slotLimit, nI DL, nI TL, nI N, f_draftStart, f_rowSize, f_codeSize, nI nf, nI tu, 1, a_kinds, a_values, a_heights, a_loose, a_parent, a_place, a_firstLeaf, a_row, a_nodeReg, a_breakTo, a_tryTo, a_cleanupOf, a_label, a_codeOp, a_codeReg, a_codeArg, a_codeNode, a_roots, a_entries, a_states, a_results, a_chain, a_actFunction, a_pcs, a_locals, a_regs, a_pending, a_cells)) (sm_Y i j (nI p) 0 x (nI tu) (f_nodeLimit, f_slotLimit, nI DL, nI TL, nI N, nI nf, b_kinds, a_values, a_roots, a_cells, a_states, a_results, a_chain, a_actFunction, b_place, a_locals, b_savedSort, b_savedValue)) := by
  obtain ⟨hFx, hFy, hds, hcs, hV, hP, hA, hC, hR⟩ := HS
  have hO0 := hO
  obtain ⟨hi, hd, hdD, hch, hwt, hot⟩ := hO0
  obtain ⟨hf, hfn, hp1, hp2, hSV⟩ := hCu
  have hN := hFx.1
  have hds8 : ds ≤ 128 := by omega
  have hW : ∀ q, q < ds → tr_W K L q := fun q h => tr_FW hFx q (by omega)
  have hG : ∀ t, t < ds → G t < 16 := fun t ht => (cg_G16 hA ht).2
  obtain ⟨hro, hrd, hpa, hG0, hb0, ht0, hc0, hen, hex⟩ := hR.2 f hf
  have hf6 : f < 6 := by have := hR.1; omega
  have hLp : L p = p := by
    rcases hW p hpd with ⟨_, w⟩ | ⟨w, _⟩ | ⟨w, _⟩ | ⟨w, _⟩
    · exact w
    · rw [hk] at w
      exact absurd w (by decide)
    · rw [hk] at w
      exact absurd w (by decide)
    · rw [hk] at w
      exact absurd w (by decide)
  rw [hLp] at hpc hB
  obtain ⟨v, hv4, hv⟩ := (hV p (by omega)).1 (by omega) (by omega)
  obtain ⟨i1, i2, i3, i4, i5⟩ := (hC.1 p hpd).1 (by omega) (by omega) (by omega)
  have hop : a_codeOp (AA p) = 1 := by rw [i2, hk]; rfl
  have hg := hG p hpd
  have hnn : cg_nn (K p) = 1 := by rw [hk]; rfl
  refine sm_G_m (IH a_states a_results a_chain a_actFunction (upd a_pcs (i * 4 + d) (nI (AA p + 1))) a_locals (upd a_regs ((i * 4 + d) * 16 + G p) (a_locals ((i * 4 + d) * 4 + v))) a_pending a_cells b_place b_savedSort b_savedValue (k + 1) (j + 1) (d) (p) (f) (tu) ((a_locals ((i * 4 + d) * 4 + v))) pl fl (sm_O_fr hds8 hG (sm_frg (by omega) _) (sm_O_fr hds8 hG (sm_fp _) hO)) ⟨hf, hfn, hp1, hp2, sv_rg hW hA (Nat.le_refl _) _ hSV⟩ (by rw [pk_us, hnn]) (by rw [pk_us]) htu (by omega) (by omega) (by omega)) (fun post h => xr_local hi hd (by omega) hch hpc (by omega) i3 (by omega) hop (i4.trans hv) hv4 h) (fun post h => ys_local hFy hi hd (by omega) hch (by omega) hk hv hv4 h)
theorem ss_shared (HS : sm_S K L H G AA rt N ds nf cs b_kinds a_kinds a_values a_parent a_place a_nodeReg a_breakTo a_tryTo a_cleanupOf a_label a_codeOp a_codeReg a_codeArg a_codeNode a_roots a_entries) (hE : sm_E K L E ds) (hD4 : DL ≤ 4) (hO : sm_O K L G AA rt ds nf DL a_entries i d pl fl a_states a_chain a_actFunction a_pcs a_regs a_pending b_place b_savedSort b_savedValue) (hCu : sm_C K L G rt ds nf i d f p a_actFunction a_regs a_pending b_savedSort b_savedValue) (hpc : a_pcs (i * 4 + d) = nI (AA (L p))) (htu : tu ≤ TL) (hB : E p + 2 * (p - L p) + 1 + sm_s E pl d + 256 * (TL - tu) ≤ B + 1) (hkB : k + 2 * (B + 1) ≤ 60000) (hjB : j + (B + 1) ≤ 19999) (IH : sm_TN K L G AA rt E N ds nf DL TL i Q f_opJump f_opJumpZero f_opTurn f_opPend f_opExit f_nodeLimit f_slotLimit f_draftStart f_rowSize f_codeSize a_kinds a_values a_heights a_loose a_parent a_place a_firstLeaf a_row a_nodeReg a_breakTo a_tryTo a_cleanupOf a_label a_codeOp a_codeReg a_codeArg a_codeNode a_roots a_entries b_kinds B) (hpd : p < ds) (hk : K p = 2) : sm_G Q (sm_X i k (f_opJump, f_opJumpZero, f_opTurn, f_opPend, f_opExit, f_nodeLimit, f_slotLimit, nI DL, nI TL, nI N, f_draftStart, f_rowSize, f_codeSize, nI nf, nI tu, 1, a_kinds, a_values, a_heights, a_loose, a_parent, a_place, a_firstLeaf, a_row, a_nodeReg, a_breakTo, a_tryTo, a_cleanupOf, a_label, a_codeOp, a_codeReg, a_codeArg, a_codeNode, a_roots, a_entries, a_states, a_results, a_chain, a_actFunction, a_pcs, a_locals, a_regs, a_pending, a_cells)) (sm_Y i j (nI p) 0 x (nI tu) (f_nodeLimit, f_slotLimit, nI DL, nI TL, nI N, nI nf, b_kinds, a_values, a_roots, a_cells, a_states, a_results, a_chain, a_actFunction, b_place, a_locals, b_savedSort, b_savedValue)) := by
  obtain ⟨hFx, hFy, hds, hcs, hV, hP, hA, hC, hR⟩ := HS
  have hO0 := hO
  obtain ⟨hi, hd, hdD, hch, hwt, hot⟩ := hO0
  obtain ⟨hf, hfn, hp1, hp2, hSV⟩ := hCu
  have hN := hFx.1
  have hds8 : ds ≤ 128 := by omega
  have hW : ∀ q, q < ds → tr_W K L q := fun q h => tr_FW hFx q (by omega)
  have hG : ∀ t, t < ds → G t < 16 := fun t ht => (cg_G16 hA ht).2
  obtain ⟨hro, hrd, hpa, hG0, hb0, ht0, hc0, hen, hex⟩ := hR.2 f hf
  have hf6 : f < 6 := by have := hR.1; omega
  have hLp : L p = p := by
    rcases hW p hpd with ⟨_, w⟩ | ⟨w, _⟩ | ⟨w, _⟩ | ⟨w, _⟩
    · exact w
    · rw [hk] at w
      exact absurd w (by decide)
    · rw [hk] at w
      exact absurd w (by decide)
    · rw [hk] at w
      exact absurd w (by decide)
  rw [hLp] at hpc hB
  obtain ⟨v, hv4, hv⟩ := (hV p (by omega)).1 (by omega) (by omega)
  obtain ⟨i1, i2, i3, i4, i5⟩ := (hC.1 p hpd).1 (by omega) (by omega) (by omega)
  have hop : a_codeOp (AA p) = 2 := by rw [i2, hk]; rfl
  have hg := hG p hpd
  have hnn : cg_nn (K p) = 1 := by rw [hk]; rfl
  refine sm_G_m (IH a_states a_results a_chain a_actFunction (upd a_pcs (i * 4 + d) (nI (AA p + 1))) a_locals (upd a_regs ((i * 4 + d) * 16 + G p) (a_cells v)) a_pending a_cells b_place b_savedSort b_savedValue (k + 1) (j + 1) (d) (p) (f) (tu) ((a_cells v)) pl fl (sm_O_fr hds8 hG (sm_frg (by omega) _) (sm_O_fr hds8 hG (sm_fp _) hO)) ⟨hf, hfn, hp1, hp2, sv_rg hW hA (Nat.le_refl _) _ hSV⟩ (by rw [pk_us, hnn]) (by rw [pk_us]) htu (by omega) (by omega) (by omega)) (fun post h => xr_shared hi hd (by omega) hch hpc (by omega) i3 (by omega) hop (i4.trans hv) hv4 h) (fun post h => ys_shared hFy hi hd (by omega) hch (by omega) hk hv hv4 h)
theorem ss_break (HS : sm_S K L H G AA rt N ds nf cs b_kinds a_kinds a_values a_parent a_place a_nodeReg a_breakTo a_tryTo a_cleanupOf a_label a_codeOp a_codeReg a_codeArg a_codeNode a_roots a_entries) (hE : sm_E K L E ds) (hD4 : DL ≤ 4) (hO : sm_O K L G AA rt ds nf DL a_entries i d pl fl a_states a_chain a_actFunction a_pcs a_regs a_pending b_place b_savedSort b_savedValue) (hCu : sm_C K L G rt ds nf i d f p a_actFunction a_regs a_pending b_savedSort b_savedValue) (hpc : a_pcs (i * 4 + d) = nI (AA (L p))) (htu : tu ≤ TL) (hB : E p + 2 * (p - L p) + 1 + sm_s E pl d + 256 * (TL - tu) ≤ B + 1) (hkB : k + 2 * (B + 1) ≤ 60000) (hjB : j + (B + 1) ≤ 19999) (IH : sm_TA K L G AA rt E N ds nf DL TL i Q f_opJump f_opJumpZero f_opTurn f_opPend f_opExit f_nodeLimit f_slotLimit f_draftStart f_rowSize f_codeSize a_kinds a_values a_heights a_loose a_parent a_place a_firstLeaf a_row a_nodeReg a_breakTo a_tryTo a_cleanupOf a_label a_codeOp a_codeReg a_codeArg a_codeNode a_roots a_entries b_kinds B) (hpd : p < ds) (hk : K p = 12) : sm_G Q (sm_X i k (f_opJump, f_opJumpZero, f_opTurn, f_opPend, f_opExit, f_nodeLimit, f_slotLimit, nI DL, nI TL, nI N, f_draftStart, f_rowSize, f_codeSize, nI nf, nI tu, 1, a_kinds, a_values, a_heights, a_loose, a_parent, a_place, a_firstLeaf, a_row, a_nodeReg, a_breakTo, a_tryTo, a_cleanupOf, a_label, a_codeOp, a_codeReg, a_codeArg, a_codeNode, a_roots, a_entries, a_states, a_results, a_chain, a_actFunction, a_pcs, a_locals, a_regs, a_pending, a_cells)) (sm_Y i j (nI p) 0 x (nI tu) (f_nodeLimit, f_slotLimit, nI DL, nI TL, nI N, nI nf, b_kinds, a_values, a_roots, a_cells, a_states, a_results, a_chain, a_actFunction, b_place, a_locals, b_savedSort, b_savedValue)) := by
  obtain ⟨hFx, hFy, hds, hcs, hV, hP, hA, hC, hR⟩ := HS
  have hO0 := hO
  obtain ⟨hi, hd, hdD, hch, hwt, hot⟩ := hO0
  obtain ⟨hf, hfn, hp1, hp2, hSV⟩ := hCu
  have hN := hFx.1
  have hds8 : ds ≤ 128 := by omega
  have hW : ∀ q, q < ds → tr_W K L q := fun q h => tr_FW hFx q (by omega)
  have hG : ∀ t, t < ds → G t < 16 := fun t ht => (cg_G16 hA ht).2
  obtain ⟨hro, hrd, hpa, hG0, hb0, ht0, hc0, hen, hex⟩ := hR.2 f hf
  have hf6 : f < 6 := by have := hR.1; omega
  have hLp : L p = p := by
    rcases hW p hpd with ⟨_, w⟩ | ⟨w, _⟩ | ⟨w, _⟩ | ⟨w, _⟩
    · exact w
    · rw [hk] at w
      exact absurd w (by decide)
    · rw [hk] at w
      exact absurd w (by decide)
    · rw [hk] at w
      exact absurd w (by decide)
  rw [hLp] at hpc hB
  obtain ⟨i1, i2, i3, i4, i5⟩ := (hC.1 p hpd).1 (by omega) (by omega) (by omega)
  have hop : a_codeOp (AA p) = 12 := by rw [i2, hk]; rfl
  have hg := hG p hpd
  have hnn : cg_nn (K p) = 1 := by rw [hk]; rfl
  have hv0 : a_values p = 0 := (hV p (by omega)).2.2 hk
  refine sm_G_m (IH a_states a_results a_chain a_actFunction (upd a_pcs (i * 4 + d) (nI (AA p + 1))) a_locals a_regs a_pending a_cells b_place b_savedSort b_savedValue (k + 1) (j + 1) (d) (p) (f) (tu) (0) pl fl 2 0 p (sm_O_fr hds8 hG (sm_fp _) hO) ⟨hf, hfn, hp1, hp2, hSV⟩ (Or.inl rfl) (by omega) (by omega) (fun _ => rfl) (fun w => absurd rfl w) htu (by omega) (by omega) (by omega)) (fun post h => xr_brk hi hd (by omega) hch hpc (by omega) i3 (by omega) hop (by rw [i5]; exact h)) (fun post h => ys_break hFy hi hd (by omega) hch (by omega) hk (by rw [hv0]; exact h))
end
end
section
/-! cases of the simulation -/
section
variable {K L H G AA rt E : Nat → Nat} {N ds nf cs DL TL i : Nat} {Q : Int32 → SX → SY → Prop} {f_opJump f_opJumpZero f_opTurn f_opPend f_opExit f_nodeLimit f_slotLimit f_draftStart f_rowSize f_codeSize : Int32} {a_kinds a_values a_heights a_loose a_parent a_place a_firstLeaf a_row a_nodeReg a_breakTo a_tryTo a_cleanupOf a_label a_codeOp a_codeReg a_codeArg a_codeNode a_roots a_entries b_kinds : Nat → Int32}
variable {a_states a_results a_chain a_actFunction a_pcs a_locals a_regs a_pending a_cells b_place b_savedSort b_savedValue : Nat → Int32} {k j d p f tu q kq B s kk z : Nat} {x : Int32} {pl fl : Nat → Nat}
theorem sn_setl (HS : sm_S K L H G AA rt N ds nf cs b_kinds a_kinds a_values a_parent a_place a_nodeReg a_breakTo a_tryTo a_cleanupOf a_label a_codeOp a_codeReg a_codeArg a_codeNode a_roots a_entries) (hE : sm_E K L E ds) (hD4 : DL ≤ 4) (hO : sm_O K L G AA rt ds nf DL a_entries i d pl fl a_states a_chain a_actFunction a_pcs a_regs a_pending b_place b_savedSort b_savedValue) (hCu : sm_C K L G rt ds nf i d f p a_actFunction a_regs a_pending b_savedSort b_savedValue) (hpc : a_pcs (i * 4 + d) = nI (AA p + cg_nn (K p))) (hx : a_regs ((i * 4 + d) * 16 + G p) = x) (htu : tu ≤ TL) (hB : E p + sm_s E pl d + 256 * (TL - tu) ≤ B + 1) (hkB : k + 2 * (B + 1) ≤ 60000) (hjB : j + (B + 1) ≤ 19999) (IH : sm_TN K L G AA rt E N ds nf DL TL i Q f_opJump f_opJumpZero f_opTurn f_opPend f_opExit f_nodeLimit f_slotLimit f_draftStart f_rowSize f_codeSize a_kinds a_values a_heights a_loose a_parent a_place a_firstLeaf a_row a_nodeReg a_breakTo a_tryTo a_cleanupOf a_label a_codeOp a_codeReg a_codeArg a_codeNode a_roots a_entries b_kinds B) (hpr : p < rt f) (hq : q < ds) (c : tr_ch K L q kq p) (hk : K q = 3) : sm_G Q (sm_X i k (f_opJump, f_opJumpZero, f_opTurn, f_opPend, f_opExit, f_nodeLimit, f_slotLimit, nI DL, nI TL, nI N, f_draftStart, f_rowSize, f_codeSize, nI nf, nI tu, 1, a_kinds, a_values, a_heights, a_loose, a_parent, a_place, a_firstLeaf, a_row, a_nodeReg, a_breakTo, a_tryTo, a_cleanupOf, a_label, a_codeOp, a_codeReg, a_codeArg, a_codeNode, a_roots, a_entries, a_states, a_results, a_chain, a_actFunction, a_pcs, a_locals, a_regs, a_pending, a_cells)) (sm_Y i j (nI p) 1 x (nI tu) (f_nodeLimit, f_slotLimit, nI DL, nI TL, nI N, nI nf, b_kinds, a_values, a_roots, a_cells, a_states, a_results, a_chain, a_actFunction, b_place, a_locals, b_savedSort, b_savedValue)) := by
  obtain ⟨hFx, hFy, hds, hcs, hV, hP, hA, hC, hR⟩ := HS
  have hO0 := hO
  obtain ⟨hi, hd, hdD, hch, hwt, hot⟩ := hO0
  obtain ⟨hf, hfn, hp1, hp2, hSV⟩ := hCu
  have hN := hFx.1
  have hds8 : ds ≤ 128 := by omega
  have hW : ∀ q, q < ds → tr_W K L q := fun q h => tr_FW hFx q (by omega)
  have hG : ∀ t, t < ds → G t < 16 := fun t ht => (cg_G16 hA ht).2
  obtain ⟨hro, hrd, hpa, hG0, hb0, ht0, hc0, hen, hex⟩ := hR.2 f hf
  have hf6 : f < 6 := by have := hR.1; omega
  have hqn := hq
  have hE1 := sm_E1 hW hE hq c
  have hup := tr_up hW hq c (rt f) hrd hp1 hpr
  have hl := tr_lt hW hq c
  have hpne : p ≠ rt f := by omega
  have hqN : q < N := by omega
  obtain ⟨u1, u2, u3, u4, ⟨i1, i2, i3, i4, i5⟩, u6, u7⟩ := sm_un hW hA hC hq c (by omega)
  subst u1
  rw [u3] at hpc
  rw [u4] at hx
  have hop : a_codeOp (AA q) = 3 := by rw [i2, hk]; rfl
  have hSq := sv_up hW hq c hSV
  obtain ⟨v, hv4, hv⟩ := (hV q hqN).1 (by omega) (by omega)
  refine sm_G_m (IH a_states a_results a_chain a_actFunction (upd a_pcs (i * 4 + d) (nI (AA q + 1))) (upd a_locals ((i * 4 + d) * 4 + v) x) a_regs a_pending a_cells b_place b_savedSort b_savedValue (k + 1) (j + 1) (d) (q) (f) (tu) (x) pl fl (sm_O_fr hds8 hG (sm_fp _) hO) ⟨hf, hfn, by omega, by omega, hSq⟩ (by rw [pk_us, u6]) hx htu (by omega) (by omega) (by omega)) (fun post h => xr_setl hi hd (by omega) hch hpc (by omega) i3 (by omega) hop (i4.trans hv) hv4 (by rw [hx]; exact h)) (fun post h => ye_setl hFy hi hd (by omega) hch hfn hf6 hro (by omega) hpne hqN c hk hv hv4 h)
theorem sn_sets (HS : sm_S K L H G AA rt N ds nf cs b_kinds a_kinds a_values a_parent a_place a_nodeReg a_breakTo a_tryTo a_cleanupOf a_label a_codeOp a_codeReg a_codeArg a_codeNode a_roots a_entries) (hE : sm_E K L E ds) (hD4 : DL ≤ 4) (hO : sm_O K L G AA rt ds nf DL a_entries i d pl fl a_states a_chain a_actFunction a_pcs a_regs a_pending b_place b_savedSort b_savedValue) (hCu : sm_C K L G rt ds nf i d f p a_actFunction a_regs a_pending b_savedSort b_savedValue) (hpc : a_pcs (i * 4 + d) = nI (AA p + cg_nn (K p))) (hx : a_regs ((i * 4 + d) * 16 + G p) = x) (htu : tu ≤ TL) (hB : E p + sm_s E pl d + 256 * (TL - tu) ≤ B + 1) (hkB : k + 2 * (B + 1) ≤ 60000) (hjB : j + (B + 1) ≤ 19999) (IH : sm_TN K L G AA rt E N ds nf DL TL i Q f_opJump f_opJumpZero f_opTurn f_opPend f_opExit f_nodeLimit f_slotLimit f_draftStart f_rowSize f_codeSize a_kinds a_values a_heights a_loose a_parent a_place a_firstLeaf a_row a_nodeReg a_breakTo a_tryTo a_cleanupOf a_label a_codeOp a_codeReg a_codeArg a_codeNode a_roots a_entries b_kinds B) (hpr : p < rt f) (hq : q < ds) (c : tr_ch K L q kq p) (hk : K q = 4) : sm_G Q (sm_X i k (f_opJump, f_opJumpZero, f_opTurn, f_opPend, f_opExit, f_nodeLimit, f_slotLimit, nI DL, nI TL, nI N, f_draftStart, f_rowSize, f_codeSize, nI nf, nI tu, 1, a_kinds, a_values, a_heights, a_loose, a_parent, a_place, a_firstLeaf, a_row, a_nodeReg, a_breakTo, a_tryTo, a_cleanupOf, a_label, a_codeOp, a_codeReg, a_codeArg, a_codeNode, a_roots, a_entries, a_states, a_results, a_chain, a_actFunction, a_pcs, a_locals, a_regs, a_pending, a_cells)) (sm_Y i j (nI p) 1 x (nI tu) (f_nodeLimit, f_slotLimit, nI DL, nI TL, nI N, nI nf, b_kinds, a_values, a_roots, a_cells, a_states, a_results, a_chain, a_actFunction, b_place, a_locals, b_savedSort, b_savedValue)) := by
  obtain ⟨hFx, hFy, hds, hcs, hV, hP, hA, hC, hR⟩ := HS
  have hO0 := hO
  obtain ⟨hi, hd, hdD, hch, hwt, hot⟩ := hO0
  obtain ⟨hf, hfn, hp1, hp2, hSV⟩ := hCu
  have hN := hFx.1
  have hds8 : ds ≤ 128 := by omega
  have hW : ∀ q, q < ds → tr_W K L q := fun q h => tr_FW hFx q (by omega)
  have hG : ∀ t, t < ds → G t < 16 := fun t ht => (cg_G16 hA ht).2
  obtain ⟨hro, hrd, hpa, hG0, hb0, ht0, hc0, hen, hex⟩ := hR.2 f hf
  have hf6 : f < 6 := by have := hR.1; omega
  have hqn := hq
  have hE1 := sm_E1 hW hE hq c
  have hup := tr_up hW hq c (rt f) hrd hp1 hpr
  have hl := tr_lt hW hq c
  have hpne : p ≠ rt f := by omega
  have hqN : q < N := by omega
  obtain ⟨u1, u2, u3, u4, ⟨i1, i2, i3, i4, i5⟩, u6, u7⟩ := sm_un hW hA hC hq c (by omega)
  subst u1
  rw [u3] at hpc
  rw [u4] at hx
  have hop : a_codeOp (AA q) = 4 := by rw [i2, hk]; rfl
  have hSq := sv_up hW hq c hSV
  obtain ⟨v, hv4, hv⟩ := (hV q hqN).1 (by omega) (by omega)
  refine sm_G_m (IH a_states a_results a_chain a_actFunction (upd a_pcs (i * 4 + d) (nI (AA q + 1))) a_locals a_regs a_pending (upd a_cells v x) b_place b_savedSort b_savedValue (k + 1) (j + 1) (d) (q) (f) (tu) (x) pl fl (sm_O_fr hds8 hG (sm_fp _) hO) ⟨hf, hfn, by omega, by omega, hSq⟩ (by rw [pk_us, u6]) hx htu (by omega) (by omega) (by omega)) (fun post h => xr_sets hi hd (by omega) hch hpc (by omega) i3 (by omega) hop (i4.trans hv) hv4 (by rw [hx]; exact h)) (fun post h => ye_sets hFy hi hd (by omega) hch hfn hf6 hro (by omega) hpne hqN c hk hv hv4 h)
theorem sn_ret (HS : sm_S K L H G AA rt N ds nf cs b_kinds a_kinds a_values a_parent a_place a_nodeReg a_breakTo a_tryTo a_cleanupOf a_label a_codeOp a_codeReg a_codeArg a_codeNode a_roots a_entries) (hE : sm_E K L E ds) (hD4 : DL ≤ 4) (hO : sm_O K L G AA rt ds nf DL a_entries i d pl fl a_states a_chain a_actFunction a_pcs a_regs a_pending b_place b_savedSort b_savedValue) (hCu : sm_C K L G rt ds nf i d f p a_actFunction a_regs a_pending b_savedSort b_savedValue) (hpc : a_pcs (i * 4 + d) = nI (AA p + cg_nn (K p))) (hx : a_regs ((i * 4 + d) * 16 + G p) = x) (htu : tu ≤ TL) (hB : E p + sm_s E pl d + 256 * (TL - tu) ≤ B + 1) (hkB : k + 2 * (B + 1) ≤ 60000) (hjB : j + (B + 1) ≤ 19999) (IH : sm_TA K L G AA rt E N ds nf DL TL i Q f_opJump f_opJumpZero f_opTurn f_opPend f_opExit f_nodeLimit f_slotLimit f_draftStart f_rowSize f_codeSize a_kinds a_values a_heights a_loose a_parent a_place a_firstLeaf a_row a_nodeReg a_breakTo a_tryTo a_cleanupOf a_label a_codeOp a_codeReg a_codeArg a_codeNode a_roots a_entries b_kinds B) (hpr : p < rt f) (hq : q < ds) (c : tr_ch K L q kq p) (hk : K q = 13) : sm_G Q (sm_X i k (f_opJump, f_opJumpZero, f_opTurn, f_opPend, f_opExit, f_nodeLimit, f_slotLimit, nI DL, nI TL, nI N, f_draftStart, f_rowSize, f_codeSize, nI nf, nI tu, 1, a_kinds, a_values, a_heights, a_loose, a_parent, a_place, a_firstLeaf, a_row, a_nodeReg, a_breakTo, a_tryTo, a_cleanupOf, a_label, a_codeOp, a_codeReg, a_codeArg, a_codeNode, a_roots, a_entries, a_states, a_results, a_chain, a_actFunction, a_pcs, a_locals, a_regs, a_pending, a_cells)) (sm_Y i j (nI p) 1 x (nI tu) (f_nodeLimit, f_slotLimit, nI DL, nI TL, nI N, nI nf, b_kinds, a_values, a_roots, a_cells, a_states, a_results, a_chain, a_actFunction, b_place, a_locals, b_savedSort, b_savedValue)) := by
  obtain ⟨hFx, hFy, hds, hcs, hV, hP, hA, hC, hR⟩ := HS
  have hO0 := hO
  obtain ⟨hi, hd, hdD, hch, hwt, hot⟩ := hO0
  obtain ⟨hf, hfn, hp1, hp2, hSV⟩ := hCu
  have hN := hFx.1
  have hds8 : ds ≤ 128 := by omega
  have hW : ∀ q, q < ds → tr_W K L q := fun q h => tr_FW hFx q (by omega)
  have hG : ∀ t, t < ds → G t < 16 := fun t ht => (cg_G16 hA ht).2
  obtain ⟨hro, hrd, hpa, hG0, hb0, ht0, hc0, hen, hex⟩ := hR.2 f hf
  have hf6 : f < 6 := by have := hR.1; omega
  have hqn := hq
  have hE1 := sm_E1 hW hE hq c
  have hup := tr_up hW hq c (rt f) hrd hp1 hpr
  have hl := tr_lt hW hq c
  have hpne : p ≠ rt f := by omega
  have hqN : q < N := by omega
  obtain ⟨u1, u2, u3, u4, ⟨i1, i2, i3, i4, i5⟩, u6, u7⟩ := sm_un hW hA hC hq c (by omega)
  subst u1
  rw [u3] at hpc
  rw [u4] at hx
  have hop : a_codeOp (AA q) = 13 := by rw [i2, hk]; rfl
  have hSq := sv_up hW hq c hSV
  refine sm_G_m (IH a_states a_results a_chain a_actFunction (upd a_pcs (i * 4 + d) (nI (AA q + 1))) a_locals a_regs a_pending a_cells b_place b_savedSort b_savedValue (k + 1) (j + 1) (d) (q) (f) (tu) (x) pl fl 3 0 q (sm_O_fr hds8 hG (sm_fp _) hO) ⟨hf, hfn, by omega, by omega, hSq⟩ (Or.inr (Or.inl rfl)) (by omega) (by omega) (fun w => absurd w (by decide)) (fun _ => rfl) htu (by omega) (by omega) (by omega)) (fun post h => xr_ret hi hd (by omega) hch hpc (by omega) i3 (by omega) hop (by rw [i5, hx]; exact h)) (fun post h => ye_ret hFy hi hd (by omega) hch hfn hf6 hro (by omega) hpne hqN c hk h)
theorem sn_yield (HS : sm_S K L H G AA rt N ds nf cs b_kinds a_kinds a_values a_parent a_place a_nodeReg a_breakTo a_tryTo a_cleanupOf a_label a_codeOp a_codeReg a_codeArg a_codeNode a_roots a_entries) (hE : sm_E K L E ds) (hD4 : DL ≤ 4) (hO : sm_O K L G AA rt ds nf DL a_entries i d pl fl a_states a_chain a_actFunction a_pcs a_regs a_pending b_place b_savedSort b_savedValue) (hCu : sm_C K L G rt ds nf i d f p a_actFunction a_regs a_pending b_savedSort b_savedValue) (hpc : a_pcs (i * 4 + d) = nI (AA p + cg_nn (K p))) (hx : a_regs ((i * 4 + d) * 16 + G p) = x) (htu : tu ≤ TL) (hB : E p + sm_s E pl d + 256 * (TL - tu) ≤ B + 1) (hkB : k + 2 * (B + 1) ≤ 60000) (hjB : j + (B + 1) ≤ 19999) (hQ : ∀ (a_states a_results a_chain a_actFunction a_pcs a_locals a_regs a_pending a_cells b_place b_savedSort b_savedValue : Nat → Int32) (w : Int32), (∀ i', i' < 4 → sm_SL K L G AA rt ds nf DL a_entries a_states a_chain a_actFunction a_pcs a_regs a_pending b_place b_savedSort b_savedValue i') → Q (a_states i) (f_opJump, f_opJumpZero, f_opTurn, f_opPend, f_opExit, f_nodeLimit, f_slotLimit, nI DL, nI TL, nI N, f_draftStart, f_rowSize, f_codeSize, nI nf, w, 0, a_kinds, a_values, a_heights, a_loose, a_parent, a_place, a_firstLeaf, a_row, a_nodeReg, a_breakTo, a_tryTo, a_cleanupOf, a_label, a_codeOp, a_codeReg, a_codeArg, a_codeNode, a_roots, a_entries, a_states, a_results, a_chain, a_actFunction, a_pcs, a_locals, a_regs, a_pending, a_cells) (f_nodeLimit, f_slotLimit, nI DL, nI TL, nI N, nI nf, b_kinds, a_values, a_roots, a_cells, a_states, a_results, a_chain, a_actFunction, b_place, a_locals, b_savedSort, b_savedValue)) (hpr : p < rt f) (hq : q < ds) (c : tr_ch K L q kq p) (hk : K q = 15) : sm_G Q (sm_X i k (f_opJump, f_opJumpZero, f_opTurn, f_opPend, f_opExit, f_nodeLimit, f_slotLimit, nI DL, nI TL, nI N, f_draftStart, f_rowSize, f_codeSize, nI nf, nI tu, 1, a_kinds, a_values, a_heights, a_loose, a_parent, a_place, a_firstLeaf, a_row, a_nodeReg, a_breakTo, a_tryTo, a_cleanupOf, a_label, a_codeOp, a_codeReg, a_codeArg, a_codeNode, a_roots, a_entries, a_states, a_results, a_chain, a_actFunction, a_pcs, a_locals, a_regs, a_pending, a_cells)) (sm_Y i j (nI p) 1 x (nI tu) (f_nodeLimit, f_slotLimit, nI DL, nI TL, nI N, nI nf, b_kinds, a_values, a_roots, a_cells, a_states, a_results, a_chain, a_actFunction, b_place, a_locals, b_savedSort, b_savedValue)) := by
  obtain ⟨hFx, hFy, hds, hcs, hV, hP, hA, hC, hR⟩ := HS
  have hO0 := hO
  obtain ⟨hi, hd, hdD, hch, hwt, hot⟩ := hO0
  obtain ⟨hf, hfn, hp1, hp2, hSV⟩ := hCu
  have hN := hFx.1
  have hds8 : ds ≤ 128 := by omega
  have hW : ∀ q, q < ds → tr_W K L q := fun q h => tr_FW hFx q (by omega)
  have hG : ∀ t, t < ds → G t < 16 := fun t ht => (cg_G16 hA ht).2
  obtain ⟨hro, hrd, hpa, hG0, hb0, ht0, hc0, hen, hex⟩ := hR.2 f hf
  have hf6 : f < 6 := by have := hR.1; omega
  have hqn := hq
  have hE1 := sm_E1 hW hE hq c
  have hup := tr_up hW hq c (rt f) hrd hp1 hpr
  have hl := tr_lt hW hq c
  have hpne : p ≠ rt f := by omega
  have hqN : q < N := by omega
  obtain ⟨u1, u2, u3, u4, ⟨i1, i2, i3, i4, i5⟩, u6, u7⟩ := sm_un hW hA hC hq c (by omega)
  subst u1
  rw [u3] at hpc
  rw [u4] at hx
  have hop : a_codeOp (AA q) = 15 := by rw [i2, hk]; rfl
  have hSq := sv_up hW hq c hSV
  have hfin : ∀ i', i' < 4 → sm_SL K L G AA rt ds nf DL a_entries (upd a_states i 2) a_chain a_actFunction a_pcs a_regs a_pending (upd b_place (i * 4 + d) (nI q)) b_savedSort b_savedValue i' := by
    intro i' h4
    by_cases e : i' = i
    · subst e
      refine Or.inr (Or.inl ⟨pk_us, d, fun e => if e = d then q else pl e, fun e => if e = d then f else fl e, hd, hdD, hch, fun e he => ?_⟩)
      by_cases w : e = d
      · subst w
        dsimp only
        rw [if_pos rfl, if_pos rfl]
        exact ⟨Or.inl hk, hq, hf, hfn, hup.1, hup.2.1, hpc, pk_us, hSq⟩
      · dsimp only
        rw [if_neg w, if_neg w]
        exact sm_fr_WA (sm_fpl _) (by omega) hds8 hG (hwt e (by omega))
    · exact sm_fr_SL (sm_fpl _) (by omega) hds8 hG (pk_un e) rfl (hot i' h4 e)
  have hq2 := hQ (upd a_states i 2) (upd a_results i x) a_chain a_actFunction a_pcs a_locals a_regs a_pending a_cells (upd b_place (i * 4 + d) (nI q)) b_savedSort b_savedValue (nI tu) hfin
  refine sm_G_f hq2 (fun post h => xr_yield hi hd (by omega) hch hpc (by omega) i3 (by omega) hop (by rw [hx]; exact xf_end hi (by omega) h)) (fun post h => ye_yield hFy hi hd (by omega) hch hfn hf6 hro (by omega) hpne hqN c hk (by rw [pk_us] at h; exact h))
theorem sn_del (HS : sm_S K L H G AA rt N ds nf cs b_kinds a_kinds a_values a_parent a_place a_nodeReg a_breakTo a_tryTo a_cleanupOf a_label a_codeOp a_codeReg a_codeArg a_codeNode a_roots a_entries) (hE : sm_E K L E ds) (hD4 : DL ≤ 4) (hO : sm_O K L G AA rt ds nf DL a_entries i d pl fl a_states a_chain a_actFunction a_pcs a_regs a_pending b_place b_savedSort b_savedValue) (hCu : sm_C K L G rt ds nf i d f p a_actFunction a_regs a_pending b_savedSort b_savedValue) (hpc : a_pcs (i * 4 + d) = nI (AA p + cg_nn (K p))) (hx : a_regs ((i * 4 + d) * 16 + G p) = x) (htu : tu ≤ TL) (hB : E p + sm_s E pl d + 256 * (TL - tu) ≤ B + 1) (hkB : k + 2 * (B + 1) ≤ 60000) (hjB : j + (B + 1) ≤ 19999) (IH : sm_TN K L G AA rt E N ds nf DL TL i Q f_opJump f_opJumpZero f_opTurn f_opPend f_opExit f_nodeLimit f_slotLimit f_draftStart f_rowSize f_codeSize a_kinds a_values a_heights a_loose a_parent a_place a_firstLeaf a_row a_nodeReg a_breakTo a_tryTo a_cleanupOf a_label a_codeOp a_codeReg a_codeArg a_codeNode a_roots a_entries b_kinds B) (hpr : p < rt f) (hq : q < ds) (c : tr_ch K L q kq p) (hk : K q = 16) (hno : ∀ v, a_values q = nI v → v < 6 → nf ≤ v ∨ DL ≤ d + 1) : sm_G Q (sm_X i k (f_opJump, f_opJumpZero, f_opTurn, f_opPend, f_opExit, f_nodeLimit, f_slotLimit, nI DL, nI TL, nI N, f_draftStart, f_rowSize, f_codeSize, nI nf, nI tu, 1, a_kinds, a_values, a_heights, a_loose, a_parent, a_place, a_firstLeaf, a_row, a_nodeReg, a_breakTo, a_tryTo, a_cleanupOf, a_label, a_codeOp, a_codeReg, a_codeArg, a_codeNode, a_roots, a_entries, a_states, a_results, a_chain, a_actFunction, a_pcs, a_locals, a_regs, a_pending, a_cells)) (sm_Y i j (nI p) 1 x (nI tu) (f_nodeLimit, f_slotLimit, nI DL, nI TL, nI N, nI nf, b_kinds, a_values, a_roots, a_cells, a_states, a_results, a_chain, a_actFunction, b_place, a_locals, b_savedSort, b_savedValue)) := by
  obtain ⟨hFx, hFy, hds, hcs, hV, hP, hA, hC, hR⟩ := HS
  have hO0 := hO
  obtain ⟨hi, hd, hdD, hch, hwt, hot⟩ := hO0
  obtain ⟨hf, hfn, hp1, hp2, hSV⟩ := hCu
  have hN := hFx.1
  have hds8 : ds ≤ 128 := by omega
  have hW : ∀ q, q < ds → tr_W K L q := fun q h => tr_FW hFx q (by omega)
  have hG : ∀ t, t < ds → G t < 16 := fun t ht => (cg_G16 hA ht).2
  obtain ⟨hro, hrd, hpa, hG0, hb0, ht0, hc0, hen, hex⟩ := hR.2 f hf
  have hf6 : f < 6 := by have := hR.1; omega
  have hqn := hq
  have hE1 := sm_E1 hW hE hq c
  have hup := tr_up hW hq c (rt f) hrd hp1 hpr
  have hl := tr_lt hW hq c
  have hpne : p ≠ rt f := by omega
  have hqN : q < N := by omega
  obtain ⟨u1, u2, u3, u4, ⟨i1, i2, i3, i4, i5⟩, u6, u7⟩ := sm_un hW hA hC hq c (by omega)
  subst u1
  rw [u3] at hpc
  rw [u4] at hx
  have hop : a_codeOp (AA q) = 16 := by rw [i2, hk]; rfl
  have hSq := sv_up hW hq c hSV
  obtain ⟨v, hv6, hv⟩ := (hV q hqN).2.1 hk
  have hn7 := hR.1
  have hgo := IH a_states a_results a_chain a_actFunction (upd a_pcs (i * 4 + d) (nI (AA q + 1))) a_locals (upd a_regs ((i * 4 + d) * 16 + G q) (-1)) a_pending a_cells b_place b_savedSort b_savedValue (k + 1) (j + 1) (d) (q) (f) (tu) (-1) pl fl (sm_O_fr hds8 hG (sm_frg (by omega) _) (sm_O_fr hds8 hG (sm_fp _) hO)) ⟨hf, hfn, by omega, by omega, sv_rg hW hA (Nat.le_refl _) _ hSq⟩ (by rw [pk_us, u6]) (by rw [pk_us]) htu (by omega) (by omega) (by omega)
  by_cases w : nf ≤ v
  · exact sm_G_m hgo (fun post h => xr_del0 hi hd (by omega) hch hpc (by omega) i3 (by omega) hop (i4.trans hv) hv6 rfl (by omega) w h) (fun post h => ye_del0 hFy hi hd (by omega) hch hfn hf6 hro (by omega) hpne hqN c hk hv hv6 rfl w h)
  · have w2 : DL ≤ d + 1 := by
      rcases hno v hv hv6 with y | y
      · omega
      · exact y
    exact sm_G_m hgo (fun post h => xr_del1 hi hd (by omega) hch hpc (by omega) i3 (by omega) hop (i4.trans hv) hv6 rfl (by omega) (by omega) rfl w2 h) (fun post h => ye_del1 hFy hi hd (by omega) hch hfn hf6 hro (by omega) hpne hqN c hk hv hv6 rfl (by omega) (by omega) rfl w2 h)
theorem sn_dels (HS : sm_S K L H G AA rt N ds nf cs b_kinds a_kinds a_values a_parent a_place a_nodeReg a_breakTo a_tryTo a_cleanupOf a_label a_codeOp a_codeReg a_codeArg a_codeNode a_roots a_entries) (hE : sm_E K L E ds) (hD4 : DL ≤ 4) (hO : sm_O K L G AA rt ds nf DL a_entries i d pl fl a_states a_chain a_actFunction a_pcs a_regs a_pending b_place b_savedSort b_savedValue) (hCu : sm_C K L G rt ds nf i d f p a_actFunction a_regs a_pending b_savedSort b_savedValue) (hpc : a_pcs (i * 4 + d) = nI (AA p + cg_nn (K p))) (hx : a_regs ((i * 4 + d) * 16 + G p) = x) (htu : tu ≤ TL) (hTL : TL ≤ 48) (hB : E p + sm_s E pl d + 256 * (TL - tu) ≤ B + 1) (hkB : k + 2 * (B + 1) ≤ 60000) (hjB : j + (B + 1) ≤ 19999) (hQ : ∀ (a_states a_results a_chain a_actFunction a_pcs a_locals a_regs a_pending a_cells b_place b_savedSort b_savedValue : Nat → Int32) (w : Int32), (∀ i', i' < 4 → sm_SL K L G AA rt ds nf DL a_entries a_states a_chain a_actFunction a_pcs a_regs a_pending b_place b_savedSort b_savedValue i') → Q (a_states i) (f_opJump, f_opJumpZero, f_opTurn, f_opPend, f_opExit, f_nodeLimit, f_slotLimit, nI DL, nI TL, nI N, f_draftStart, f_rowSize, f_codeSize, nI nf, w, 0, a_kinds, a_values, a_heights, a_loose, a_parent, a_place, a_firstLeaf, a_row, a_nodeReg, a_breakTo, a_tryTo, a_cleanupOf, a_label, a_codeOp, a_codeReg, a_codeArg, a_codeNode, a_roots, a_entries, a_states, a_results, a_chain, a_actFunction, a_pcs, a_locals, a_regs, a_pending, a_cells) (f_nodeLimit, f_slotLimit, nI DL, nI TL, nI N, nI nf, b_kinds, a_values, a_roots, a_cells, a_states, a_results, a_chain, a_actFunction, b_place, a_locals, b_savedSort, b_savedValue)) (hpr : p < rt f) (hq : q < ds) (c : tr_ch K L q kq p) (hk : K q = 16) {v : Nat} (hv6 : v < nf) (hv : a_values q = nI v) (hdl : d + 1 < DL) (ht : tu = TL) : sm_G Q (sm_X i k (f_opJump, f_opJumpZero, f_opTurn, f_opPend, f_opExit, f_nodeLimit, f_slotLimit, nI DL, nI TL, nI N, f_draftStart, f_rowSize, f_codeSize, nI nf, nI tu, 1, a_kinds, a_values, a_heights, a_loose, a_parent, a_place, a_firstLeaf, a_row, a_nodeReg, a_breakTo, a_tryTo, a_cleanupOf, a_label, a_codeOp, a_codeReg, a_codeArg, a_codeNode, a_roots, a_entries, a_states, a_results, a_chain, a_actFunction, a_pcs, a_locals, a_regs, a_pending, a_cells)) (sm_Y i j (nI p) 1 x (nI tu) (f_nodeLimit, f_slotLimit, nI DL, nI TL, nI N, nI nf, b_kinds, a_values, a_roots, a_cells, a_states, a_results, a_chain, a_actFunction, b_place, a_locals, b_savedSort, b_savedValue)) := by
  obtain ⟨hFx, hFy, hds, hcs, hV, hP, hA, hC, hR⟩ := HS
  have hO0 := hO
  obtain ⟨hi, hd, hdD, hch, hwt, hot⟩ := hO0
  obtain ⟨hf, hfn, hp1, hp2, hSV⟩ := hCu
  have hN := hFx.1
  have hds8 : ds ≤ 128 := by omega
  have hW : ∀ q, q < ds → tr_W K L q := fun q h => tr_FW hFx q (by omega)
  have hG : ∀ t, t < ds → G t < 16 := fun t ht => (cg_G16 hA ht).2
  obtain ⟨hro, hrd, hpa, hG0, hb0, ht0, hc0, hen, hex⟩ := hR.2 f hf
  have hf6 : f < 6 := by have := hR.1; omega
  have hqn := hq
  have hE1 := sm_E1 hW hE hq c
  have hup := tr_up hW hq c (rt f) hrd hp1 hpr
  have hl := tr_lt hW hq c
  have hpne : p ≠ rt f := by omega
  have hqN : q < N := by omega
  obtain ⟨u1, u2, u3, u4, ⟨i1, i2, i3, i4, i5⟩, u6, u7⟩ := sm_un hW hA hC hq c (by omega)
  subst u1
  rw [u3] at hpc
  rw [u4] at hx
  have hop : a_codeOp (AA q) = 16 := by rw [i2, hk]; rfl
  have hSq := sv_up hW hq c hSV
  have hfin : ∀ i', i' < 4 → sm_SL K L G AA rt ds nf DL a_entries (upd a_states i 5) (upd a_chain i 0) a_actFunction (upd a_pcs (i * 4 + d) (nI (AA q + 1))) a_regs a_pending b_place b_savedSort b_savedValue i' := by
    intro i' h4
    by_cases e : i' = i
    · subst e
      exact Or.inr (Or.inr ⟨by rw [pk_us]; decide, pk_us⟩)
    · exact sm_fr_SL (a := i * 4 + d) (sm_fp _) (by omega) hds8 hG (pk_un e) (pk_un e) (hot i' h4 e)
  have hn7 := hR.1
  have hq2 := hQ (upd a_states i 5) (upd a_results i 0) (upd a_chain i 0) a_actFunction (upd a_pcs (i * 4 + d) (nI (AA q + 1))) a_locals a_regs a_pending a_cells b_place b_savedSort b_savedValue (nI tu) hfin
  refine sm_G_f hq2 (fun post h => xr_del2 hi hd (by omega) hch hpc (by omega) i3 (by omega) hop (i4.trans hv) (by omega) rfl (by omega) hv6 rfl hdl hD4 (by rw [ht]; exact nI_nlt (Nat.le_refl _) (by omega)) (xf_end hi (by omega) h)) (fun post h => ye_del2 hFy hi hd (by omega) hch hfn hf6 hro (by omega) hpne hqN c hk hv (by omega) rfl hv6 (by omega) rfl hdl (by omega) (by rw [ht]) (by rw [pk_us] at h; exact h))
theorem sn_delg (HS : sm_S K L H G AA rt N ds nf cs b_kinds a_kinds a_values a_parent a_place a_nodeReg a_breakTo a_tryTo a_cleanupOf a_label a_codeOp a_codeReg a_codeArg a_codeNode a_roots a_entries) (hE : sm_E K L E ds) (hD4 : DL ≤ 4) (hO : sm_O K L G AA rt ds nf DL a_entries i d pl fl a_states a_chain a_actFunction a_pcs a_regs a_pending b_place b_savedSort b_savedValue) (hCu : sm_C K L G rt ds nf i d f p a_actFunction a_regs a_pending b_savedSort b_savedValue) (hpc : a_pcs (i * 4 + d) = nI (AA p + cg_nn (K p))) (hx : a_regs ((i * 4 + d) * 16 + G p) = x) (htu : tu ≤ TL) (hTL : TL ≤ 48) (hB : E p + sm_s E pl d + 256 * (TL - tu) ≤ B + 1) (hkB : k + 2 * (B + 1) ≤ 60000) (hjB : j + (B + 1) ≤ 19999) (IH : sm_TS K L G AA rt E N ds nf DL TL i Q f_opJump f_opJumpZero f_opTurn f_opPend f_opExit f_nodeLimit f_slotLimit f_draftStart f_rowSize f_codeSize a_kinds a_values a_heights a_loose a_parent a_place a_firstLeaf a_row a_nodeReg a_breakTo a_tryTo a_cleanupOf a_label a_codeOp a_codeReg a_codeArg a_codeNode a_roots a_entries b_kinds B) (hpr : p < rt f) (hq : q < ds) (c : tr_ch K L q kq p) (hk : K q = 16) {v : Nat} (hv6 : v < nf) (hv : a_values q = nI v) (hdl : d + 1 < DL) (ht : tu < TL) : sm_G Q (sm_X i k (f_opJump, f_opJumpZero, f_opTurn, f_opPend, f_opExit, f_nodeLimit, f_slotLimit, nI DL, nI TL, nI N, f_draftStart, f_rowSize, f_codeSize, nI nf, nI tu, 1, a_kinds, a_values, a_heights, a_loose, a_parent, a_place, a_firstLeaf, a_row, a_nodeReg, a_breakTo, a_tryTo, a_cleanupOf, a_label, a_codeOp, a_codeReg, a_codeArg, a_codeNode, a_roots, a_entries, a_states, a_results, a_chain, a_actFunction, a_pcs, a_locals, a_regs, a_pending, a_cells)) (sm_Y i j (nI p) 1 x (nI tu) (f_nodeLimit, f_slotLimit, nI DL, nI TL, nI N, nI nf, b_kinds, a_values, a_roots, a_cells, a_states, a_results, a_chain, a_actFunction, b_place, a_locals, b_savedSort, b_savedValue)) := by
  obtain ⟨hFx, hFy, hds, hcs, hV, hP, hA, hC, hR⟩ := HS
  have hO0 := hO
  obtain ⟨hi, hd, hdD, hch, hwt, hot⟩ := hO0
  obtain ⟨hf, hfn, hp1, hp2, hSV⟩ := hCu
  have hN := hFx.1
  have hds8 : ds ≤ 128 := by omega
  have hW : ∀ q, q < ds → tr_W K L q := fun q h => tr_FW hFx q (by omega)
  have hG : ∀ t, t < ds → G t < 16 := fun t ht => (cg_G16 hA ht).2
  obtain ⟨hro, hrd, hpa, hG0, hb0, ht0, hc0, hen, hex⟩ := hR.2 f hf
  have hf6 : f < 6 := by have := hR.1; omega
  have hqn := hq
  have hE1 := sm_E1 hW hE hq c
  have hup := tr_up hW hq c (rt f) hrd hp1 hpr
  have hl := tr_lt hW hq c
  have hpne : p ≠ rt f := by omega
  have hqN : q < N := by omega
  obtain ⟨u1, u2, u3, u4, ⟨i1, i2, i3, i4, i5⟩, u6, u7⟩ := sm_un hW hA hC hq c (by omega)
  subst u1
  rw [u3] at hpc
  rw [u4] at hx
  have hop : a_codeOp (AA q) = 16 := by rw [i2, hk]; rfl
  have hSq := sv_up hW hq c hSV
  have hn7 := hR.1
  obtain ⟨vro, vrd, vpa, vG0, vb0, vt0, vc0, ven, vex⟩ := hR.2 v hv6
  have hWn : sm_WA K L G AA rt ds nf a_actFunction a_pcs a_regs a_pending (upd b_place (i * 4 + d) (nI q)) b_savedSort b_savedValue (i * 4 + d) q f := ⟨Or.inr hk, hq, hf, hfn, hup.1, hup.2.1, hpc, pk_us, hSq⟩
  have hfr : sm_fr (i * 4 + (d + 1)) a_actFunction a_pcs a_regs a_pending (upd b_place (i * 4 + d) (nI q)) b_savedSort b_savedValue (upd a_actFunction (i * 4 + (d + 1)) (nI v)) (upd a_pcs (i * 4 + (d + 1)) (a_entries v)) a_regs a_pending (upd (upd b_place (i * 4 + d) (nI q)) (i * 4 + (d + 1)) (-1)) b_savedSort b_savedValue := fun b hb => ⟨pk_un hb, pk_un hb, pk_un hb, fun _ _ => ⟨rfl, rfl⟩, fun _ _ => ⟨rfl, rfl⟩⟩
  have hO2 : sm_O K L G AA rt ds nf DL a_entries i (d + 1) (fun e => if e = d then q else pl e) (fun e => if e = d then f else fl e) a_states (upd a_chain i (nI (d + 2))) (upd a_actFunction (i * 4 + (d + 1)) (nI v)) (upd a_pcs (i * 4 + (d + 1)) (a_entries v)) a_regs a_pending (upd (upd b_place (i * 4 + d) (nI q)) (i * 4 + (d + 1)) (-1)) b_savedSort b_savedValue := by
    refine ⟨hi, by omega, hdl, pk_us, fun e he => ?_, fun i' h4 hne => ?_⟩
    · refine sm_fr_WA hfr (by omega) hds8 hG ?_
      by_cases w : e = d
      · subst w
        dsimp only
        rw [if_pos rfl, if_pos rfl]
        exact hWn
      · dsimp only
        rw [if_neg w, if_neg w]
        exact sm_fr_WA (sm_fpl _) (by omega) hds8 hG (hwt e (by omega))
    · exact sm_fr_SL (st := a_states) (ch := a_chain) hfr (by omega) hds8 hG rfl (pk_un hne) (sm_fr_SL (a := i * 4 + d) (sm_fpl _) (by omega) hds8 hG rfl rfl (hot i' h4 hne))
  have hEr : E (rt v) = 1 := hE.2 (rt v) (fun q' k' hq' cc => by
    have := (hP q' k' (rt v) (by omega) cc).1
    rw [vpa] at this
    exact tr_nn1 (by omega) this.symm)
  have hLr := tr_le hW (rt v) vrd
  have hSr : sm_SV K L G ds a_regs a_pending b_savedSort b_savedValue (i * 4 + (d + 1)) (rt v) := by
    intro t r ht' c' kf h1 h2
    exfalso
    have l' := tr_lt hW ht' c'
    by_cases e : rt v = r
    · subst e
      have := (hP t 2 (rt v) (by omega) c').1
      rw [vpa] at this
      exact tr_nn1 (by omega) this.symm
    · obtain ⟨q', k', c2, h3⟩ := tr_pex hW r (by omega) (rt v) h1 (by omega)
      have := (hP q' k' (rt v) (by omega) c2).1
      rw [vpa] at this
      exact tr_nn1 (by omega) this.symm
  have hs2 : sm_s E (fun e => if e = d then q else pl e) (d + 1) = sm_s E pl d + E q := by
    show sm_s E (fun e => if e = d then q else pl e) d + E (if d = d then q else pl d) = _
    rw [if_pos rfl, sm_s_c d (fun e he => if_neg (by omega))]
  refine sm_G_m (IH a_states a_results (upd a_chain i (nI (d + 2))) (upd a_actFunction (i * 4 + (d + 1)) (nI v)) (upd a_pcs (i * 4 + (d + 1)) (a_entries v)) (sm_lo a_locals (i * 4 + (d + 1)) x) a_regs a_pending a_cells (upd (upd b_place (i * 4 + d) (nI q)) (i * 4 + (d + 1)) (-1)) b_savedSort b_savedValue (k + 1) (j + 1) (d + 1) (rt v) (v) (tu + 1) (x) (fun e => if e = d then q else pl e) (fun e => if e = d then f else fl e) hO2 ⟨hv6, pk_us, hLr, Nat.le_refl _, hSr⟩ (by rw [pk_us, ven]) (by omega) (by rw [hs2, hEr]; omega) (by omega) (by omega)) (fun post h => xr_del3 hi hd (by omega) hch hpc (by omega) i3 (by omega) hop (i4.trans hv) (by omega) rfl (by omega) hv6 rfl hdl hD4 (nI_lt ht (by omega)) (by rw [i4, hv, hx]; exact h)) (fun post h => ye_del3 hFy hi hd (by omega) hch hfn hf6 hro (by omega) hpne hqN c hk hv (by omega) rfl hv6 (by omega) rfl hdl hD4 (fun w => absurd (tr_inj w (by omega) (by omega)) (by omega)) (by rw [vro, hv]; exact h))
end
end
section
/-! cases of the simulation -/
section
variable {K L H G AA rt E : Nat → Nat} {N ds nf cs DL TL i : Nat} {Q : Int32 → SX → SY → Prop} {f_opJump f_opJumpZero f_opTurn f_opPend f_opExit f_nodeLimit f_slotLimit f_draftStart f_rowSize f_codeSize : Int32} {a_kinds a_values a_heights a_loose a_parent a_place a_firstLeaf a_row a_nodeReg a_breakTo a_tryTo a_cleanupOf a_label a_codeOp a_codeReg a_codeArg a_codeNode a_roots a_entries b_kinds : Nat → Int32}
variable {a_states a_results a_chain a_actFunction a_pcs a_locals a_regs a_pending a_cells b_place b_savedSort b_savedValue : Nat → Int32} {k j d p f tu q kq B s kk z : Nat} {x : Int32} {pl fl : Nat → Nat}
theorem sn_seq1 (HS : sm_S K L H G AA rt N ds nf cs b_kinds a_kinds a_values a_parent a_place a_nodeReg a_breakTo a_tryTo a_cleanupOf a_label a_codeOp a_codeReg a_codeArg a_codeNode a_roots a_entries) (hE : sm_E K L E ds) (hD4 : DL ≤ 4) (hO : sm_O K L G AA rt ds nf DL a_entries i d pl fl a_states a_chain a_actFunction a_pcs a_regs a_pending b_place b_savedSort b_savedValue) (hCu : sm_C K L G rt ds nf i d f p a_actFunction a_regs a_pending b_savedSort b_savedValue) (hpc : a_pcs (i * 4 + d) = nI (AA p + cg_nn (K p))) (hx : a_regs ((i * 4 + d) * 16 + G p) = x) (htu : tu ≤ TL) (hB : E p + sm_s E pl d + 256 * (TL - tu) ≤ B + 1) (hkB : k + 2 * (B + 1) ≤ 60000) (hjB : j + (B + 1) ≤ 19999) (IH : sm_TS K L G AA rt E N ds nf DL TL i Q f_opJump f_opJumpZero f_opTurn f_opPend f_opExit f_nodeLimit f_slotLimit f_draftStart f_rowSize f_codeSize a_kinds a_values a_heights a_loose a_parent a_place a_firstLeaf a_row a_nodeReg a_breakTo a_tryTo a_cleanupOf a_label a_codeOp a_codeReg a_codeArg a_codeNode a_roots a_entries b_kinds B) (hpr : p < rt f) (hq : q < ds) (c : tr_ch K L q 1 p) (hk : K q = 9) : sm_G Q (sm_X i k (f_opJump, f_opJumpZero, f_opTurn, f_opPend, f_opExit, f_nodeLimit, f_slotLimit, nI DL, nI TL, nI N, f_draftStart, f_rowSize, f_codeSize, nI nf, nI tu, 1, a_kinds, a_values, a_heights, a_loose, a_parent, a_place, a_firstLeaf, a_row, a_nodeReg, a_breakTo, a_tryTo, a_cleanupOf, a_label, a_codeOp, a_codeReg, a_codeArg, a_codeNode, a_roots, a_entries, a_states, a_results, a_chain, a_actFunction, a_pcs, a_locals, a_regs, a_pending, a_cells)) (sm_Y i j (nI p) 1 x (nI tu) (f_nodeLimit, f_slotLimit, nI DL, nI TL, nI N, nI nf, b_kinds, a_values, a_roots, a_cells, a_states, a_results, a_chain, a_actFunction, b_place, a_locals, b_savedSort, b_savedValue)) := by
  obtain ⟨hFx, hFy, hds, hcs, hV, hP, hA, hC, hR⟩ := HS
  have hO0 := hO
  obtain ⟨hi, hd, hdD, hch, hwt, hot⟩ := hO0
  obtain ⟨hf, hfn, hp1, hp2, hSV⟩ := hCu
  have hN := hFx.1
  have hds8 : ds ≤ 128 := by omega
  have hW : ∀ q, q < ds → tr_W K L q := fun q h => tr_FW hFx q (by omega)
  have hG : ∀ t, t < ds → G t < 16 := fun t ht => (cg_G16 hA ht).2
  obtain ⟨hro, hrd, hpa, hG0, hb0, ht0, hc0, hen, hex⟩ := hR.2 f hf
  have hf6 : f < 6 := by have := hR.1; omega
  have hqn := hq
  have hE1 := sm_E1 hW hE hq c
  have hup := tr_up hW hq c (rt f) hrd hp1 hpr
  have hl := tr_lt hW hq c
  have hpne : p ≠ rt f := by omega
  have hqN : q < N := by omega
  obtain ⟨e, c2, b1, b2, b3, b4, b5, b6, b7⟩ := sm_b1 hW hA hC hq c (by omega)
  have hSq := sv_up hW hq c hSV
  have hEe := hE.1 q 2 e hq c2
  have hEp := hE.1 q 1 p hq c
  have hbb : cg_bb (K q) 1 = 0 := by unfold cg_bb; rw [if_neg (by omega), if_neg (by omega)]
  have hE2 := hEe.2.2 (by omega)
  have hE3 := hEp.2.2 (by omega)
  refine sm_G_m (IH a_states a_results a_chain a_actFunction a_pcs a_locals a_regs a_pending a_cells b_place b_savedSort b_savedValue (k) (j + 1) (d) (e) (f) (tu) (x) pl fl hO ⟨hf, hfn, by omega, by omega, sv_dn hW hq c2 hSq (fun _ w => absurd w (by unfold cg_kf; omega))⟩ (by rw [b5, hbb]; exact hpc) htu (by omega) (by omega) (by omega)) (fun post h => h) (fun post h => ye_seq1 hFy hi hd (by omega) hch hfn hf6 hro (by omega) hpne hqN c hk c2 h)
theorem sn_seq2 (HS : sm_S K L H G AA rt N ds nf cs b_kinds a_kinds a_values a_parent a_place a_nodeReg a_breakTo a_tryTo a_cleanupOf a_label a_codeOp a_codeReg a_codeArg a_codeNode a_roots a_entries) (hE : sm_E K L E ds) (hD4 : DL ≤ 4) (hO : sm_O K L G AA rt ds nf DL a_entries i d pl fl a_states a_chain a_actFunction a_pcs a_regs a_pending b_place b_savedSort b_savedValue) (hCu : sm_C K L G rt ds nf i d f p a_actFunction a_regs a_pending b_savedSort b_savedValue) (hpc : a_pcs (i * 4 + d) = nI (AA p + cg_nn (K p))) (hx : a_regs ((i * 4 + d) * 16 + G p) = x) (htu : tu ≤ TL) (hB : E p + sm_s E pl d + 256 * (TL - tu) ≤ B + 1) (hkB : k + 2 * (B + 1) ≤ 60000) (hjB : j + (B + 1) ≤ 19999) (IH : sm_TN K L G AA rt E N ds nf DL TL i Q f_opJump f_opJumpZero f_opTurn f_opPend f_opExit f_nodeLimit f_slotLimit f_draftStart f_rowSize f_codeSize a_kinds a_values a_heights a_loose a_parent a_place a_firstLeaf a_row a_nodeReg a_breakTo a_tryTo a_cleanupOf a_label a_codeOp a_codeReg a_codeArg a_codeNode a_roots a_entries b_kinds B) (hpr : p < rt f) (hq : q < ds) (c : tr_ch K L q 2 p) (hk : K q = 9) : sm_G Q (sm_X i k (f_opJump, f_opJumpZero, f_opTurn, f_opPend, f_opExit, f_nodeLimit, f_slotLimit, nI DL, nI TL, nI N, f_draftStart, f_rowSize, f_codeSize, nI nf, nI tu, 1, a_kinds, a_values, a_heights, a_loose, a_parent, a_place, a_firstLeaf, a_row, a_nodeReg, a_breakTo, a_tryTo, a_cleanupOf, a_label, a_codeOp, a_codeReg, a_codeArg, a_codeNode, a_roots, a_entries, a_states, a_results, a_chain, a_actFunction, a_pcs, a_locals, a_regs, a_pending, a_cells)) (sm_Y i j (nI p) 1 x (nI tu) (f_nodeLimit, f_slotLimit, nI DL, nI TL, nI N, nI nf, b_kinds, a_values, a_roots, a_cells, a_states, a_results, a_chain, a_actFunction, b_place, a_locals, b_savedSort, b_savedValue)) := by
  obtain ⟨hFx, hFy, hds, hcs, hV, hP, hA, hC, hR⟩ := HS
  have hO0 := hO
  obtain ⟨hi, hd, hdD, hch, hwt, hot⟩ := hO0
  obtain ⟨hf, hfn, hp1, hp2, hSV⟩ := hCu
  have hN := hFx.1
  have hds8 : ds ≤ 128 := by omega
  have hW : ∀ q, q < ds → tr_W K L q := fun q h => tr_FW hFx q (by omega)
  have hG : ∀ t, t < ds → G t < 16 := fun t ht => (cg_G16 hA ht).2
  obtain ⟨hro, hrd, hpa, hG0, hb0, ht0, hc0, hen, hex⟩ := hR.2 f hf
  have hf6 : f < 6 := by have := hR.1; omega
  have hqn := hq
  have hE1 := sm_E1 hW hE hq c
  have hup := tr_up hW hq c (rt f) hrd hp1 hpr
  have hl := tr_lt hW hq c
  have hpne : p ≠ rt f := by omega
  have hqN : q < N := by omega
  have hpq : p + 1 = q := by
    rcases tr_ar_c (K q) with ⟨w, w'⟩ | ⟨w, w'⟩ | ⟨w, w'⟩ | ⟨w, w'⟩
    · omega
    · omega
    · obtain ⟨x1, y1, c1, c2, c3, a1, a2, a3, a4, a5, a6, a7⟩ := tr_c3 hW hq w
      omega
    · obtain ⟨x1, c1, c2, a1, a2, a3, a4, a5⟩ := tr_c2 hW hq w
      have := tr_fun c c2
      omega
  have hSq := sv_up hW hq c hSV
  have h1 := (hC.2 q 2 p hq c).1
  rw [hpq] at h1
  have hbb : cg_bb (K q) 2 = 0 := by rw [hk]; rfl
  have hnn : cg_nn (K q) = 0 := by rw [hk]; rfl
  have hGp : G p = G q := (hA.2 q 2 p hq c).1 (by intro w; have := w.2; unfold cg_kf at this; omega)
  refine sm_G_m (IH a_states a_results a_chain a_actFunction a_pcs a_locals a_regs a_pending a_cells b_place b_savedSort b_savedValue (k) (j + 1) (d) (q) (f) (tu) (x) pl fl hO ⟨hf, hfn, by omega, by omega, hSq⟩ (by rw [hpc, hnn, h1, hbb]; rfl) (by rw [← hGp]; exact hx) htu (by omega) (by omega) (by omega)) (fun post h => h) (fun post h => ye_seq2 hFy hi hd (by omega) hch hfn hf6 hro (by omega) hpne hqN c hk h)
theorem sn_if1z (HS : sm_S K L H G AA rt N ds nf cs b_kinds a_kinds a_values a_parent a_place a_nodeReg a_breakTo a_tryTo a_cleanupOf a_label a_codeOp a_codeReg a_codeArg a_codeNode a_roots a_entries) (hE : sm_E K L E ds) (hD4 : DL ≤ 4) (hO : sm_O K L G AA rt ds nf DL a_entries i d pl fl a_states a_chain a_actFunction a_pcs a_regs a_pending b_place b_savedSort b_savedValue) (hCu : sm_C K L G rt ds nf i d f p a_actFunction a_regs a_pending b_savedSort b_savedValue) (hpc : a_pcs (i * 4 + d) = nI (AA p + cg_nn (K p))) (hx : a_regs ((i * 4 + d) * 16 + G p) = x) (htu : tu ≤ TL) (hB : E p + sm_s E pl d + 256 * (TL - tu) ≤ B + 1) (hkB : k + 2 * (B + 1) ≤ 60000) (hjB : j + (B + 1) ≤ 19999) (IH : sm_TS K L G AA rt E N ds nf DL TL i Q f_opJump f_opJumpZero f_opTurn f_opPend f_opExit f_nodeLimit f_slotLimit f_draftStart f_rowSize f_codeSize a_kinds a_values a_heights a_loose a_parent a_place a_firstLeaf a_row a_nodeReg a_breakTo a_tryTo a_cleanupOf a_label a_codeOp a_codeReg a_codeArg a_codeNode a_roots a_entries b_kinds B) (hpr : p < rt f) (hq : q < ds) (c : tr_ch K L q 1 p) (hk : K q = 10) (hx0 : x = 0) : sm_G Q (sm_X i k (f_opJump, f_opJumpZero, f_opTurn, f_opPend, f_opExit, f_nodeLimit, f_slotLimit, nI DL, nI TL, nI N, f_draftStart, f_rowSize, f_codeSize, nI nf, nI tu, 1, a_kinds, a_values, a_heights, a_loose, a_parent, a_place, a_firstLeaf, a_row, a_nodeReg, a_breakTo, a_tryTo, a_cleanupOf, a_label, a_codeOp, a_codeReg, a_codeArg, a_codeNode, a_roots, a_entries, a_states, a_results, a_chain, a_actFunction, a_pcs, a_locals, a_regs, a_pending, a_cells)) (sm_Y i j (nI p) 1 x (nI tu) (f_nodeLimit, f_slotLimit, nI DL, nI TL, nI N, nI nf, b_kinds, a_values, a_roots, a_cells, a_states, a_results, a_chain, a_actFunction, b_place, a_locals, b_savedSort, b_savedValue)) := by
  obtain ⟨hFx, hFy, hds, hcs, hV, hP, hA, hC, hR⟩ := HS
  have hO0 := hO
  obtain ⟨hi, hd, hdD, hch, hwt, hot⟩ := hO0
  obtain ⟨hf, hfn, hp1, hp2, hSV⟩ := hCu
  have hN := hFx.1
  have hds8 : ds ≤ 128 := by omega
  have hW : ∀ q, q < ds → tr_W K L q := fun q h => tr_FW hFx q (by omega)
  have hG : ∀ t, t < ds → G t < 16 := fun t ht => (cg_G16 hA ht).2
  obtain ⟨hro, hrd, hpa, hG0, hb0, ht0, hc0, hen, hex⟩ := hR.2 f hf
  have hf6 : f < 6 := by have := hR.1; omega
  have hqn := hq
  have hE1 := sm_E1 hW hE hq c
  have hup := tr_up hW hq c (rt f) hrd hp1 hpr
  have hl := tr_lt hW hq c
  have hpne : p ≠ rt f := by omega
  have hqN : q < N := by omega
  have har : tr_ar (K q) = 3 := by rw [hk]; rfl
  obtain ⟨e1, e2, d1, d2, d3, a1, a2, a3, a4, a5, a6, a7⟩ := tr_c3 hW hq har
  have hSq := sv_up hW hq c hSV
  have hGq := hG q hq
  have hp := tr_fun c d1
  subst hp
  obtain ⟨i1, i2, i3, i4, i5⟩ := (hC.2 q 1 p hq c).2.1 hk rfl e2 d2
  have hGp : G p = G q := (hA.2 q 1 p hq c).1 (by omega)
  rw [hGp] at hx
  have hE2 := (hE.1 q 3 (q - 1) hq d3).2.2 (by omega)
  have hE3 := (hE.1 q 1 p hq c).2.2 (by omega)
  refine sm_G_m (IH a_states a_results a_chain a_actFunction (upd a_pcs (i * 4 + d) (nI (AA (e2 + 1)))) a_locals a_regs a_pending a_cells b_place b_savedSort b_savedValue (k + 1) (j + 1) (d) (q - 1) (f) (tu) (x) pl fl (sm_O_fr hds8 hG (sm_fp _) hO) ⟨hf, hfn, by omega, by omega, sv_dn hW hq d3 hSq (fun w => absurd w (by decide))⟩ (by rw [pk_us, a5]) htu (by omega) (by omega) (by omega)) (fun post h => xr_jz0 hi hd (by omega) hch hpc (by omega) i3 (by omega) i2 (hx.trans hx0) (by rw [i4]; exact h)) (fun post h => ye_if1z hFy hi hd (by omega) hch hfn hf6 hro (by omega) hpne hqN c hk hx0 d3 h)
theorem sn_if1n (HS : sm_S K L H G AA rt N ds nf cs b_kinds a_kinds a_values a_parent a_place a_nodeReg a_breakTo a_tryTo a_cleanupOf a_label a_codeOp a_codeReg a_codeArg a_codeNode a_roots a_entries) (hE : sm_E K L E ds) (hD4 : DL ≤ 4) (hO : sm_O K L G AA rt ds nf DL a_entries i d pl fl a_states a_chain a_actFunction a_pcs a_regs a_pending b_place b_savedSort b_savedValue) (hCu : sm_C K L G rt ds nf i d f p a_actFunction a_regs a_pending b_savedSort b_savedValue) (hpc : a_pcs (i * 4 + d) = nI (AA p + cg_nn (K p))) (hx : a_regs ((i * 4 + d) * 16 + G p) = x) (htu : tu ≤ TL) (hB : E p + sm_s E pl d + 256 * (TL - tu) ≤ B + 1) (hkB : k + 2 * (B + 1) ≤ 60000) (hjB : j + (B + 1) ≤ 19999) (IH : sm_TS K L G AA rt E N ds nf DL TL i Q f_opJump f_opJumpZero f_opTurn f_opPend f_opExit f_nodeLimit f_slotLimit f_draftStart f_rowSize f_codeSize a_kinds a_values a_heights a_loose a_parent a_place a_firstLeaf a_row a_nodeReg a_breakTo a_tryTo a_cleanupOf a_label a_codeOp a_codeReg a_codeArg a_codeNode a_roots a_entries b_kinds B) (hpr : p < rt f) (hq : q < ds) (c : tr_ch K L q 1 p) (hk : K q = 10) (hx0 : ¬ x = 0) : sm_G Q (sm_X i k (f_opJump, f_opJumpZero, f_opTurn, f_opPend, f_opExit, f_nodeLimit, f_slotLimit, nI DL, nI TL, nI N, f_draftStart, f_rowSize, f_codeSize, nI nf, nI tu, 1, a_kinds, a_values, a_heights, a_loose, a_parent, a_place, a_firstLeaf, a_row, a_nodeReg, a_breakTo, a_tryTo, a_cleanupOf, a_label, a_codeOp, a_codeReg, a_codeArg, a_codeNode, a_roots, a_entries, a_states, a_results, a_chain, a_actFunction, a_pcs, a_locals, a_regs, a_pending, a_cells)) (sm_Y i j (nI p) 1 x (nI tu) (f_nodeLimit, f_slotLimit, nI DL, nI TL, nI N, nI nf, b_kinds, a_values, a_roots, a_cells, a_states, a_results, a_chain, a_actFunction, b_place, a_locals, b_savedSort, b_savedValue)) := by
  obtain ⟨hFx, hFy, hds, hcs, hV, hP, hA, hC, hR⟩ := HS
  have hO0 := hO
  obtain ⟨hi, hd, hdD, hch, hwt, hot⟩ := hO0
  obtain ⟨hf, hfn, hp1, hp2, hSV⟩ := hCu
  have hN := hFx.1
  have hds8 : ds ≤ 128 := by omega
  have hW : ∀ q, q < ds → tr_W K L q := fun q h => tr_FW hFx q (by omega)
  have hG : ∀ t, t < ds → G t < 16 := fun t ht => (cg_G16 hA ht).2
  obtain ⟨hro, hrd, hpa, hG0, hb0, ht0, hc0, hen, hex⟩ := hR.2 f hf
  have hf6 : f < 6 := by have := hR.1; omega
  have hqn := hq
  have hE1 := sm_E1 hW hE hq c
  have hup := tr_up hW hq c (rt f) hrd hp1 hpr
  have hl := tr_lt hW hq c
  have hpne : p ≠ rt f := by omega
  have hqN : q < N := by omega
  have har : tr_ar (K q) = 3 := by rw [hk]; rfl
  obtain ⟨e1, e2, d1, d2, d3, a1, a2, a3, a4, a5, a6, a7⟩ := tr_c3 hW hq har
  have hSq := sv_up hW hq c hSV
  have hGq := hG q hq
  have hp := tr_fun c d1
  subst hp
  obtain ⟨i1, i2, i3, i4, i5⟩ := (hC.2 q 1 p hq c).2.1 hk rfl e2 d2
  have h1 := (hC.2 q 1 p hq c).1
  have hbb : cg_bb (K q) 1 = 1 := by rw [hk]; rfl
  have hGp : G p = G q := (hA.2 q 1 p hq c).1 (by omega)
  rw [hGp] at hx
  have hE2 := (hE.1 q 2 e2 hq d2).2.2 (by omega)
  have hE3 := (hE.1 q 1 p hq c).2.2 (by omega)
  refine sm_G_m (IH a_states a_results a_chain a_actFunction (upd a_pcs (i * 4 + d) (nI (AA p + cg_nn (K p) + 1))) a_locals a_regs a_pending a_cells b_place b_savedSort b_savedValue (k + 1) (j + 1) (d) (e2) (f) (tu) (x) pl fl (sm_O_fr hds8 hG (sm_fp _) hO) ⟨hf, hfn, by omega, by omega, sv_dn hW hq d2 hSq (fun _ w => absurd w (by unfold cg_kf; omega))⟩ (by rw [pk_us, a3, h1, hbb]) htu (by omega) (by omega) (by omega)) (fun post h => xr_jz1 hi hd (by omega) hch hpc (by omega) i3 (by omega) i2 (by rw [hx]; exact hx0) h) (fun post h => ye_if1n hFy hi hd (by omega) hch hfn hf6 hro (by omega) hpne hqN c hk hx0 d2 h)
theorem sn_if2 (HS : sm_S K L H G AA rt N ds nf cs b_kinds a_kinds a_values a_parent a_place a_nodeReg a_breakTo a_tryTo a_cleanupOf a_label a_codeOp a_codeReg a_codeArg a_codeNode a_roots a_entries) (hE : sm_E K L E ds) (hD4 : DL ≤ 4) (hO : sm_O K L G AA rt ds nf DL a_entries i d pl fl a_states a_chain a_actFunction a_pcs a_regs a_pending b_place b_savedSort b_savedValue) (hCu : sm_C K L G rt ds nf i d f p a_actFunction a_regs a_pending b_savedSort b_savedValue) (hpc : a_pcs (i * 4 + d) = nI (AA p + cg_nn (K p))) (hx : a_regs ((i * 4 + d) * 16 + G p) = x) (htu : tu ≤ TL) (hB : E p + sm_s E pl d + 256 * (TL - tu) ≤ B + 1) (hkB : k + 2 * (B + 1) ≤ 60000) (hjB : j + (B + 1) ≤ 19999) (IH : sm_TN K L G AA rt E N ds nf DL TL i Q f_opJump f_opJumpZero f_opTurn f_opPend f_opExit f_nodeLimit f_slotLimit f_draftStart f_rowSize f_codeSize a_kinds a_values a_heights a_loose a_parent a_place a_firstLeaf a_row a_nodeReg a_breakTo a_tryTo a_cleanupOf a_label a_codeOp a_codeReg a_codeArg a_codeNode a_roots a_entries b_kinds B) (hpr : p < rt f) (hq : q < ds) (c : tr_ch K L q 2 p) (hk : K q = 10) : sm_G Q (sm_X i k (f_opJump, f_opJumpZero, f_opTurn, f_opPend, f_opExit, f_nodeLimit, f_slotLimit, nI DL, nI TL, nI N, f_draftStart, f_rowSize, f_codeSize, nI nf, nI tu, 1, a_kinds, a_values, a_heights, a_loose, a_parent, a_place, a_firstLeaf, a_row, a_nodeReg, a_breakTo, a_tryTo, a_cleanupOf, a_label, a_codeOp, a_codeReg, a_codeArg, a_codeNode, a_roots, a_entries, a_states, a_results, a_chain, a_actFunction, a_pcs, a_locals, a_regs, a_pending, a_cells)) (sm_Y i j (nI p) 1 x (nI tu) (f_nodeLimit, f_slotLimit, nI DL, nI TL, nI N, nI nf, b_kinds, a_values, a_roots, a_cells, a_states, a_results, a_chain, a_actFunction, b_place, a_locals, b_savedSort, b_savedValue)) := by
  obtain ⟨hFx, hFy, hds, hcs, hV, hP, hA, hC, hR⟩ := HS
  have hO0 := hO
  obtain ⟨hi, hd, hdD, hch, hwt, hot⟩ := hO0
  obtain ⟨hf, hfn, hp1, hp2, hSV⟩ := hCu
  have hN := hFx.1
  have hds8 : ds ≤ 128 := by omega
  have hW : ∀ q, q < ds → tr_W K L q := fun q h => tr_FW hFx q (by omega)
  have hG : ∀ t, t < ds → G t < 16 := fun t ht => (cg_G16 hA ht).2
  obtain ⟨hro, hrd, hpa, hG0, hb0, ht0, hc0, hen, hex⟩ := hR.2 f hf
  have hf6 : f < 6 := by have := hR.1; omega
  have hqn := hq
  have hE1 := sm_E1 hW hE hq c
  have hup := tr_up hW hq c (rt f) hrd hp1 hpr
  have hl := tr_lt hW hq c
  have hpne : p ≠ rt f := by omega
  have hqN : q < N := by omega
  have har : tr_ar (K q) = 3 := by rw [hk]; rfl
  obtain ⟨e1, e2, d1, d2, d3, a1, a2, a3, a4, a5, a6, a7⟩ := tr_c3 hW hq har
  have hSq := sv_up hW hq c hSV
  have hGq := hG q hq
  obtain ⟨i1, i2, i3, i4, i5⟩ := (hC.2 q 2 p hq c).2.2.1 hk rfl
  have hnn : cg_nn (K q) = 0 := by rw [hk]; rfl
  have hGp : G p = G q := (hA.2 q 2 p hq c).1 (by intro w; have := w.2; unfold cg_kf at this; omega)
  rw [hGp] at hx
  refine sm_G_m (IH a_states a_results a_chain a_actFunction (upd a_pcs (i * 4 + d) (nI (AA q))) a_locals a_regs a_pending a_cells b_place b_savedSort b_savedValue (k + 1) (j + 1) (d) (q) (f) (tu) (x) pl fl (sm_O_fr hds8 hG (sm_fp _) hO) ⟨hf, hfn, by omega, by omega, hSq⟩ (by rw [pk_us, hnn]; rfl) hx htu (by omega) (by omega) (by omega)) (fun post h => xr_jump hi hd (by omega) hch hpc (by omega) i3 (by omega) i2 (by rw [i4]; exact h)) (fun post h => ye_if2 hFy hi hd (by omega) hch hfn hf6 hro (by omega) hpne hqN c hk h)
theorem sn_if3 (HS : sm_S K L H G AA rt N ds nf cs b_kinds a_kinds a_values a_parent a_place a_nodeReg a_breakTo a_tryTo a_cleanupOf a_label a_codeOp a_codeReg a_codeArg a_codeNode a_roots a_entries) (hE : sm_E K L E ds) (hD4 : DL ≤ 4) (hO : sm_O K L G AA rt ds nf DL a_entries i d pl fl a_states a_chain a_actFunction a_pcs a_regs a_pending b_place b_savedSort b_savedValue) (hCu : sm_C K L G rt ds nf i d f p a_actFunction a_regs a_pending b_savedSort b_savedValue) (hpc : a_pcs (i * 4 + d) = nI (AA p + cg_nn (K p))) (hx : a_regs ((i * 4 + d) * 16 + G p) = x) (htu : tu ≤ TL) (hB : E p + sm_s E pl d + 256 * (TL - tu) ≤ B + 1) (hkB : k + 2 * (B + 1) ≤ 60000) (hjB : j + (B + 1) ≤ 19999) (IH : sm_TN K L G AA rt E N ds nf DL TL i Q f_opJump f_opJumpZero f_opTurn f_opPend f_opExit f_nodeLimit f_slotLimit f_draftStart f_rowSize f_codeSize a_kinds a_values a_heights a_loose a_parent a_place a_firstLeaf a_row a_nodeReg a_breakTo a_tryTo a_cleanupOf a_label a_codeOp a_codeReg a_codeArg a_codeNode a_roots a_entries b_kinds B) (hpr : p < rt f) (hq : q < ds) (c : tr_ch K L q 3 p) (hk : K q = 10) : sm_G Q (sm_X i k (f_opJump, f_opJumpZero, f_opTurn, f_opPend, f_opExit, f_nodeLimit, f_slotLimit, nI DL, nI TL, nI N, f_draftStart, f_rowSize, f_codeSize, nI nf, nI tu, 1, a_kinds, a_values, a_heights, a_loose, a_parent, a_place, a_firstLeaf, a_row, a_nodeReg, a_breakTo, a_tryTo, a_cleanupOf, a_label, a_codeOp, a_codeReg, a_codeArg, a_codeNode, a_roots, a_entries, a_states, a_results, a_chain, a_actFunction, a_pcs, a_locals, a_regs, a_pending, a_cells)) (sm_Y i j (nI p) 1 x (nI tu) (f_nodeLimit, f_slotLimit, nI DL, nI TL, nI N, nI nf, b_kinds, a_values, a_roots, a_cells, a_states, a_results, a_chain, a_actFunction, b_place, a_locals, b_savedSort, b_savedValue)) := by
  obtain ⟨hFx, hFy, hds, hcs, hV, hP, hA, hC, hR⟩ := HS
  have hO0 := hO
  obtain ⟨hi, hd, hdD, hch, hwt, hot⟩ := hO0
  obtain ⟨hf, hfn, hp1, hp2, hSV⟩ := hCu
  have hN := hFx.1
  have hds8 : ds ≤ 128 := by omega
  have hW : ∀ q, q < ds → tr_W K L q := fun q h => tr_FW hFx q (by omega)
  have hG : ∀ t, t < ds → G t < 16 := fun t ht => (cg_G16 hA ht).2
  obtain ⟨hro, hrd, hpa, hG0, hb0, ht0, hc0, hen, hex⟩ := hR.2 f hf
  have hf6 : f < 6 := by have := hR.1; omega
  have hqn := hq
  have hE1 := sm_E1 hW hE hq c
  have hup := tr_up hW hq c (rt f) hrd hp1 hpr
  have hl := tr_lt hW hq c
  have hpne : p ≠ rt f := by omega
  have hqN : q < N := by omega
  have har : tr_ar (K q) = 3 := by rw [hk]; rfl
  obtain ⟨e1, e2, d1, d2, d3, a1, a2, a3, a4, a5, a6, a7⟩ := tr_c3 hW hq har
  have hSq := sv_up hW hq c hSV
  have hGq := hG q hq
  have hp := tr_fun c d3
  have hpq : p + 1 = q := by omega
  have h1 := (hC.2 q 3 p hq c).1
  rw [hpq] at h1
  have hbb : cg_bb (K q) 3 = 0 := by rw [hk]; rfl
  have hnn : cg_nn (K q) = 0 := by rw [hk]; rfl
  have hGp : G p = G q := (hA.2 q 3 p hq c).1 (by omega)
  rw [hGp] at hx
  refine sm_G_m (IH a_states a_results a_chain a_actFunction a_pcs a_locals a_regs a_pending a_cells b_place b_savedSort b_savedValue (k) (j + 1) (d) (q) (f) (tu) (x) pl fl hO ⟨hf, hfn, by omega, by omega, hSq⟩ (by rw [hpc, hnn, h1, hbb]; rfl) hx htu (by omega) (by omega) (by omega)) (fun post h => h) (fun post h => ye_if3 hFy hi hd (by omega) hch hfn hf6 hro (by omega) hpne hqN c hk h)
theorem sn_bin1 (HS : sm_S K L H G AA rt N ds nf cs b_kinds a_kinds a_values a_parent a_place a_nodeReg a_breakTo a_tryTo a_cleanupOf a_label a_codeOp a_codeReg a_codeArg a_codeNode a_roots a_entries) (hE : sm_E K L E ds) (hD4 : DL ≤ 4) (hO : sm_O K L G AA rt ds nf DL a_entries i d pl fl a_states a_chain a_actFunction a_pcs a_regs a_pending b_place b_savedSort b_savedValue) (hCu : sm_C K L G rt ds nf i d f p a_actFunction a_regs a_pending b_savedSort b_savedValue) (hpc : a_pcs (i * 4 + d) = nI (AA p + cg_nn (K p))) (hx : a_regs ((i * 4 + d) * 16 + G p) = x) (htu : tu ≤ TL) (hB : E p + sm_s E pl d + 256 * (TL - tu) ≤ B + 1) (hkB : k + 2 * (B + 1) ≤ 60000) (hjB : j + (B + 1) ≤ 19999) (IH : sm_TS K L G AA rt E N ds nf DL TL i Q f_opJump f_opJumpZero f_opTurn f_opPend f_opExit f_nodeLimit f_slotLimit f_draftStart f_rowSize f_codeSize a_kinds a_values a_heights a_loose a_parent a_place a_firstLeaf a_row a_nodeReg a_breakTo a_tryTo a_cleanupOf a_label a_codeOp a_codeReg a_codeArg a_codeNode a_roots a_entries b_kinds B) (hpr : p < rt f) (hq : q < ds) (c : tr_ch K L q 1 p) (hk : 5 ≤ K q ∧ K q ≤ 8) : sm_G Q (sm_X i k (f_opJump, f_opJumpZero, f_opTurn, f_opPend, f_opExit, f_nodeLimit, f_slotLimit, nI DL, nI TL, nI N, f_draftStart, f_rowSize, f_codeSize, nI nf, nI tu, 1, a_kinds, a_values, a_heights, a_loose, a_parent, a_place, a_firstLeaf, a_row, a_nodeReg, a_breakTo, a_tryTo, a_cleanupOf, a_label, a_codeOp, a_codeReg, a_codeArg, a_codeNode, a_roots, a_entries, a_states, a_results, a_chain, a_actFunction, a_pcs, a_locals, a_regs, a_pending, a_cells)) (sm_Y i j (nI p) 1 x (nI tu) (f_nodeLimit, f_slotLimit, nI DL, nI TL, nI N, nI nf, b_kinds, a_values, a_roots, a_cells, a_states, a_results, a_chain, a_actFunction, b_place, a_locals, b_savedSort, b_savedValue)) := by
  obtain ⟨hFx, hFy, hds, hcs, hV, hP, hA, hC, hR⟩ := HS
  have hO0 := hO
  obtain ⟨hi, hd, hdD, hch, hwt, hot⟩ := hO0
  obtain ⟨hf, hfn, hp1, hp2, hSV⟩ := hCu
  have hN := hFx.1
  have hds8 : ds ≤ 128 := by omega
  have hW : ∀ q, q < ds → tr_W K L q := fun q h => tr_FW hFx q (by omega)
  have hG : ∀ t, t < ds → G t < 16 := fun t ht => (cg_G16 hA ht).2
  obtain ⟨hro, hrd, hpa, hG0, hb0, ht0, hc0, hen, hex⟩ := hR.2 f hf
  have hf6 : f < 6 := by have := hR.1; omega
  have hqn := hq
  have hE1 := sm_E1 hW hE hq c
  have hup := tr_up hW hq c (rt f) hrd hp1 hpr
  have hl := tr_lt hW hq c
  have hpne : p ≠ rt f := by omega
  have hqN : q < N := by omega
  obtain ⟨e, c2, b1, b2, b3, b4, b5, b6, b7⟩ := sm_b1 hW hA hC hq c (by omega)
  have hSq := sv_up hW hq c hSV
  have hEe := hE.1 q 2 e hq c2
  have hEp := hE.1 q 1 p hq c
  have hbb : cg_bb (K q) 1 = 0 := by unfold cg_bb; rw [if_neg (by omega), if_neg (by omega)]
  have hE2 := hEe.2.2 (by omega)
  have hE3 := hEp.2.2 (by omega)
  rw [b6] at hx
  refine sm_G_m (IH a_states a_results a_chain a_actFunction a_pcs a_locals a_regs a_pending a_cells b_place b_savedSort (upd b_savedValue ((i * 4 + d) * 128 + q) x) (k) (j + 1) (d) (e) (f) (tu) (x) pl fl (sm_O_fr hds8 hG (sm_fsv (by omega) _) hO) ⟨hf, hfn, by omega, by omega, sv_dn hW hq c2 (sv_sv hW _ hSq) (fun _ _ => ⟨by rw [pk_us, hx], fun w => by omega⟩)⟩ (by rw [b5, hbb]; exact hpc) htu (by omega) (by omega) (by omega)) (fun post h => h) (fun post h => ye_bin1 hFy hi hd (by omega) hch hfn hf6 hro (by omega) hpne hqN c hk c2 h)
theorem sn_add (HS : sm_S K L H G AA rt N ds nf cs b_kinds a_kinds a_values a_parent a_place a_nodeReg a_breakTo a_tryTo a_cleanupOf a_label a_codeOp a_codeReg a_codeArg a_codeNode a_roots a_entries) (hE : sm_E K L E ds) (hD4 : DL ≤ 4) (hO : sm_O K L G AA rt ds nf DL a_entries i d pl fl a_states a_chain a_actFunction a_pcs a_regs a_pending b_place b_savedSort b_savedValue) (hCu : sm_C K L G rt ds nf i d f p a_actFunction a_regs a_pending b_savedSort b_savedValue) (hpc : a_pcs (i * 4 + d) = nI (AA p + cg_nn (K p))) (hx : a_regs ((i * 4 + d) * 16 + G p) = x) (htu : tu ≤ TL) (hB : E p + sm_s E pl d + 256 * (TL - tu) ≤ B + 1) (hkB : k + 2 * (B + 1) ≤ 60000) (hjB : j + (B + 1) ≤ 19999) (IH : sm_TN K L G AA rt E N ds nf DL TL i Q f_opJump f_opJumpZero f_opTurn f_opPend f_opExit f_nodeLimit f_slotLimit f_draftStart f_rowSize f_codeSize a_kinds a_values a_heights a_loose a_parent a_place a_firstLeaf a_row a_nodeReg a_breakTo a_tryTo a_cleanupOf a_label a_codeOp a_codeReg a_codeArg a_codeNode a_roots a_entries b_kinds B) (hpr : p < rt f) (hq : q < ds) (c : tr_ch K L q 2 p) (hk : K q = 5) : sm_G Q (sm_X i k (f_opJump, f_opJumpZero, f_opTurn, f_opPend, f_opExit, f_nodeLimit, f_slotLimit, nI DL, nI TL, nI N, f_draftStart, f_rowSize, f_codeSize, nI nf, nI tu, 1, a_kinds, a_values, a_heights, a_loose, a_parent, a_place, a_firstLeaf, a_row, a_nodeReg, a_breakTo, a_tryTo, a_cleanupOf, a_label, a_codeOp, a_codeReg, a_codeArg, a_codeNode, a_roots, a_entries, a_states, a_results, a_chain, a_actFunction, a_pcs, a_locals, a_regs, a_pending, a_cells)) (sm_Y i j (nI p) 1 x (nI tu) (f_nodeLimit, f_slotLimit, nI DL, nI TL, nI N, nI nf, b_kinds, a_values, a_roots, a_cells, a_states, a_results, a_chain, a_actFunction, b_place, a_locals, b_savedSort, b_savedValue)) := by
  obtain ⟨hFx, hFy, hds, hcs, hV, hP, hA, hC, hR⟩ := HS
  have hO0 := hO
  obtain ⟨hi, hd, hdD, hch, hwt, hot⟩ := hO0
  obtain ⟨hf, hfn, hp1, hp2, hSV⟩ := hCu
  have hN := hFx.1
  have hds8 : ds ≤ 128 := by omega
  have hW : ∀ q, q < ds → tr_W K L q := fun q h => tr_FW hFx q (by omega)
  have hG : ∀ t, t < ds → G t < 16 := fun t ht => (cg_G16 hA ht).2
  obtain ⟨hro, hrd, hpa, hG0, hb0, ht0, hc0, hen, hex⟩ := hR.2 f hf
  have hf6 : f < 6 := by have := hR.1; omega
  have hqn := hq
  have hE1 := sm_E1 hW hE hq c
  have hup := tr_up hW hq c (rt f) hrd hp1 hpr
  have hl := tr_lt hW hq c
  have hpne : p ≠ rt f := by omega
  have hqN : q < N := by omega
  have hkf : cg_kf (K q) := by unfold cg_kf; omega
  obtain ⟨u2, u3, u4, ⟨i1, i2, i3, i4, i5⟩, u6, u7⟩ := sm_b2 hW hA hC hq c hkf
  have hSq := sv_up hW hq c hSV
  have hLp := tr_le hW p (by omega)
  have hsv := (hSV q p hq c hkf hLp (Nat.le_refl _)).1
  rw [u3] at hpc
  rw [u4] at hx
  have hx' : a_regs ((i * 4 + d) * 16 + G q + 1) = x := hx
  have hop : a_codeOp (AA q) = 5 := by rw [i2, hk]; rfl
  refine sm_G_m (IH a_states a_results a_chain a_actFunction (upd a_pcs (i * 4 + d) (nI (AA q + 1))) a_locals (upd a_regs ((i * 4 + d) * 16 + G q) (b_savedValue ((i * 4 + d) * 128 + q) + x)) a_pending a_cells b_place b_savedSort b_savedValue (k + 1) (j + 1) (d) (q) (f) (tu) (b_savedValue ((i * 4 + d) * 128 + q) + x) pl fl (sm_O_fr hds8 hG (sm_frg (by omega) _) (sm_O_fr hds8 hG (sm_fp _) hO)) ⟨hf, hfn, by omega, by omega, sv_rg hW hA (Nat.le_refl _) _ hSq⟩ (by rw [pk_us, u6]) (by rw [pk_us]) htu (by omega) (by omega) (by omega)) (fun post h => xr_add hi hd (by omega) hch hpc (by omega) i3 (by omega) hop u7 (by rw [hx', hsv]; exact h)) (fun post h => ye_add hFy hi hd (by omega) hch hfn hf6 hro (by omega) hpne hqN c hk h)
theorem sn_sub (HS : sm_S K L H G AA rt N ds nf cs b_kinds a_kinds a_values a_parent a_place a_nodeReg a_breakTo a_tryTo a_cleanupOf a_label a_codeOp a_codeReg a_codeArg a_codeNode a_roots a_entries) (hE : sm_E K L E ds) (hD4 : DL ≤ 4) (hO : sm_O K L G AA rt ds nf DL a_entries i d pl fl a_states a_chain a_actFunction a_pcs a_regs a_pending b_place b_savedSort b_savedValue) (hCu : sm_C K L G rt ds nf i d f p a_actFunction a_regs a_pending b_savedSort b_savedValue) (hpc : a_pcs (i * 4 + d) = nI (AA p + cg_nn (K p))) (hx : a_regs ((i * 4 + d) * 16 + G p) = x) (htu : tu ≤ TL) (hB : E p + sm_s E pl d + 256 * (TL - tu) ≤ B + 1) (hkB : k + 2 * (B + 1) ≤ 60000) (hjB : j + (B + 1) ≤ 19999) (IH : sm_TN K L G AA rt E N ds nf DL TL i Q f_opJump f_opJumpZero f_opTurn f_opPend f_opExit f_nodeLimit f_slotLimit f_draftStart f_rowSize f_codeSize a_kinds a_values a_heights a_loose a_parent a_place a_firstLeaf a_row a_nodeReg a_breakTo a_tryTo a_cleanupOf a_label a_codeOp a_codeReg a_codeArg a_codeNode a_roots a_entries b_kinds B) (hpr : p < rt f) (hq : q < ds) (c : tr_ch K L q 2 p) (hk : K q = 6) : sm_G Q (sm_X i k (f_opJump, f_opJumpZero, f_opTurn, f_opPend, f_opExit, f_nodeLimit, f_slotLimit, nI DL, nI TL, nI N, f_draftStart, f_rowSize, f_codeSize, nI nf, nI tu, 1, a_kinds, a_values, a_heights, a_loose, a_parent, a_place, a_firstLeaf, a_row, a_nodeReg, a_breakTo, a_tryTo, a_cleanupOf, a_label, a_codeOp, a_codeReg, a_codeArg, a_codeNode, a_roots, a_entries, a_states, a_results, a_chain, a_actFunction, a_pcs, a_locals, a_regs, a_pending, a_cells)) (sm_Y i j (nI p) 1 x (nI tu) (f_nodeLimit, f_slotLimit, nI DL, nI TL, nI N, nI nf, b_kinds, a_values, a_roots, a_cells, a_states, a_results, a_chain, a_actFunction, b_place, a_locals, b_savedSort, b_savedValue)) := by
  obtain ⟨hFx, hFy, hds, hcs, hV, hP, hA, hC, hR⟩ := HS
  have hO0 := hO
  obtain ⟨hi, hd, hdD, hch, hwt, hot⟩ := hO0
  obtain ⟨hf, hfn, hp1, hp2, hSV⟩ := hCu
  have hN := hFx.1
  have hds8 : ds ≤ 128 := by omega
  have hW : ∀ q, q < ds → tr_W K L q := fun q h => tr_FW hFx q (by omega)
  have hG : ∀ t, t < ds → G t < 16 := fun t ht => (cg_G16 hA ht).2
  obtain ⟨hro, hrd, hpa, hG0, hb0, ht0, hc0, hen, hex⟩ := hR.2 f hf
  have hf6 : f < 6 := by have := hR.1; omega
  have hqn := hq
  have hE1 := sm_E1 hW hE hq c
  have hup := tr_up hW hq c (rt f) hrd hp1 hpr
  have hl := tr_lt hW hq c
  have hpne : p ≠ rt f := by omega
  have hqN : q < N := by omega
  have hkf : cg_kf (K q) := by unfold cg_kf; omega
  obtain ⟨u2, u3, u4, ⟨i1, i2, i3, i4, i5⟩, u6, u7⟩ := sm_b2 hW hA hC hq c hkf
  have hSq := sv_up hW hq c hSV
  have hLp := tr_le hW p (by omega)
  have hsv := (hSV q p hq c hkf hLp (Nat.le_refl _)).1
  rw [u3] at hpc
  rw [u4] at hx
  have hx' : a_regs ((i * 4 + d) * 16 + G q + 1) = x := hx
  have hop : a_codeOp (AA q) = 6 := by rw [i2, hk]; rfl
  refine sm_G_m (IH a_states a_results a_chain a_actFunction (upd a_pcs (i * 4 + d) (nI (AA q + 1))) a_locals (upd a_regs ((i * 4 + d) * 16 + G q) (b_savedValue ((i * 4 + d) * 128 + q) - x)) a_pending a_cells b_place b_savedSort b_savedValue (k + 1) (j + 1) (d) (q) (f) (tu) (b_savedValue ((i * 4 + d) * 128 + q) - x) pl fl (sm_O_fr hds8 hG (sm_frg (by omega) _) (sm_O_fr hds8 hG (sm_fp _) hO)) ⟨hf, hfn, by omega, by omega, sv_rg hW hA (Nat.le_refl _) _ hSq⟩ (by rw [pk_us, u6]) (by rw [pk_us]) htu (by omega) (by omega) (by omega)) (fun post h => xr_sub hi hd (by omega) hch hpc (by omega) i3 (by omega) hop u7 (by rw [hx', hsv]; exact h)) (fun post h => ye_sub hFy hi hd (by omega) hch hfn hf6 hro (by omega) hpne hqN c hk h)
theorem sn_mul (HS : sm_S K L H G AA rt N ds nf cs b_kinds a_kinds a_values a_parent a_place a_nodeReg a_breakTo a_tryTo a_cleanupOf a_label a_codeOp a_codeReg a_codeArg a_codeNode a_roots a_entries) (hE : sm_E K L E ds) (hD4 : DL ≤ 4) (hO : sm_O K L G AA rt ds nf DL a_entries i d pl fl a_states a_chain a_actFunction a_pcs a_regs a_pending b_place b_savedSort b_savedValue) (hCu : sm_C K L G rt ds nf i d f p a_actFunction a_regs a_pending b_savedSort b_savedValue) (hpc : a_pcs (i * 4 + d) = nI (AA p + cg_nn (K p))) (hx : a_regs ((i * 4 + d) * 16 + G p) = x) (htu : tu ≤ TL) (hB : E p + sm_s E pl d + 256 * (TL - tu) ≤ B + 1) (hkB : k + 2 * (B + 1) ≤ 60000) (hjB : j + (B + 1) ≤ 19999) (IH : sm_TN K L G AA rt E N ds nf DL TL i Q f_opJump f_opJumpZero f_opTurn f_opPend f_opExit f_nodeLimit f_slotLimit f_draftStart f_rowSize f_codeSize a_kinds a_values a_heights a_loose a_parent a_place a_firstLeaf a_row a_nodeReg a_breakTo a_tryTo a_cleanupOf a_label a_codeOp a_codeReg a_codeArg a_codeNode a_roots a_entries b_kinds B) (hpr : p < rt f) (hq : q < ds) (c : tr_ch K L q 2 p) (hk : K q = 7) : sm_G Q (sm_X i k (f_opJump, f_opJumpZero, f_opTurn, f_opPend, f_opExit, f_nodeLimit, f_slotLimit, nI DL, nI TL, nI N, f_draftStart, f_rowSize, f_codeSize, nI nf, nI tu, 1, a_kinds, a_values, a_heights, a_loose, a_parent, a_place, a_firstLeaf, a_row, a_nodeReg, a_breakTo, a_tryTo, a_cleanupOf, a_label, a_codeOp, a_codeReg, a_codeArg, a_codeNode, a_roots, a_entries, a_states, a_results, a_chain, a_actFunction, a_pcs, a_locals, a_regs, a_pending, a_cells)) (sm_Y i j (nI p) 1 x (nI tu) (f_nodeLimit, f_slotLimit, nI DL, nI TL, nI N, nI nf, b_kinds, a_values, a_roots, a_cells, a_states, a_results, a_chain, a_actFunction, b_place, a_locals, b_savedSort, b_savedValue)) := by
  obtain ⟨hFx, hFy, hds, hcs, hV, hP, hA, hC, hR⟩ := HS
  have hO0 := hO
  obtain ⟨hi, hd, hdD, hch, hwt, hot⟩ := hO0
  obtain ⟨hf, hfn, hp1, hp2, hSV⟩ := hCu
  have hN := hFx.1
  have hds8 : ds ≤ 128 := by omega
  have hW : ∀ q, q < ds → tr_W K L q := fun q h => tr_FW hFx q (by omega)
  have hG : ∀ t, t < ds → G t < 16 := fun t ht => (cg_G16 hA ht).2
  obtain ⟨hro, hrd, hpa, hG0, hb0, ht0, hc0, hen, hex⟩ := hR.2 f hf
  have hf6 : f < 6 := by have := hR.1; omega
  have hqn := hq
  have hE1 := sm_E1 hW hE hq c
  have hup := tr_up hW hq c (rt f) hrd hp1 hpr
  have hl := tr_lt hW hq c
  have hpne : p ≠ rt f := by omega
  have hqN : q < N := by omega
  have hkf : cg_kf (K q) := by unfold cg_kf; omega
  obtain ⟨u2, u3, u4, ⟨i1, i2, i3, i4, i5⟩, u6, u7⟩ := sm_b2 hW hA hC hq c hkf
  have hSq := sv_up hW hq c hSV
  have hLp := tr_le hW p (by omega)
  have hsv := (hSV q p hq c hkf hLp (Nat.le_refl _)).1
  rw [u3] at hpc
  rw [u4] at hx
  have hx' : a_regs ((i * 4 + d) * 16 + G q + 1) = x := hx
  have hop : a_codeOp (AA q) = 7 := by rw [i2, hk]; rfl
  refine sm_G_m (IH a_states a_results a_chain a_actFunction (upd a_pcs (i * 4 + d) (nI (AA q + 1))) a_locals (upd a_regs ((i * 4 + d) * 16 + G q) (b_savedValue ((i * 4 + d) * 128 + q) * x)) a_pending a_cells b_place b_savedSort b_savedValue (k + 1) (j + 1) (d) (q) (f) (tu) (b_savedValue ((i * 4 + d) * 128 + q) * x) pl fl (sm_O_fr hds8 hG (sm_frg (by omega) _) (sm_O_fr hds8 hG (sm_fp _) hO)) ⟨hf, hfn, by omega, by omega, sv_rg hW hA (Nat.le_refl _) _ hSq⟩ (by rw [pk_us, u6]) (by rw [pk_us]) htu (by omega) (by omega) (by omega)) (fun post h => xr_mul hi hd (by omega) hch hpc (by omega) i3 (by omega) hop u7 (by rw [hx', hsv]; exact h)) (fun post h => ye_mul hFy hi hd (by omega) hch hfn hf6 hro (by omega) hpne hqN c hk h)
theorem sn_less (HS : sm_S K L H G AA rt N ds nf cs b_kinds a_kinds a_values a_parent a_place a_nodeReg a_breakTo a_tryTo a_cleanupOf a_label a_codeOp a_codeReg a_codeArg a_codeNode a_roots a_entries) (hE : sm_E K L E ds) (hD4 : DL ≤ 4) (hO : sm_O K L G AA rt ds nf DL a_entries i d pl fl a_states a_chain a_actFunction a_pcs a_regs a_pending b_place b_savedSort b_savedValue) (hCu : sm_C K L G rt ds nf i d f p a_actFunction a_regs a_pending b_savedSort b_savedValue) (hpc : a_pcs (i * 4 + d) = nI (AA p + cg_nn (K p))) (hx : a_regs ((i * 4 + d) * 16 + G p) = x) (htu : tu ≤ TL) (hB : E p + sm_s E pl d + 256 * (TL - tu) ≤ B + 1) (hkB : k + 2 * (B + 1) ≤ 60000) (hjB : j + (B + 1) ≤ 19999) (IH : sm_TN K L G AA rt E N ds nf DL TL i Q f_opJump f_opJumpZero f_opTurn f_opPend f_opExit f_nodeLimit f_slotLimit f_draftStart f_rowSize f_codeSize a_kinds a_values a_heights a_loose a_parent a_place a_firstLeaf a_row a_nodeReg a_breakTo a_tryTo a_cleanupOf a_label a_codeOp a_codeReg a_codeArg a_codeNode a_roots a_entries b_kinds B) (hpr : p < rt f) (hq : q < ds) (c : tr_ch K L q 2 p) (hk : K q = 8) : sm_G Q (sm_X i k (f_opJump, f_opJumpZero, f_opTurn, f_opPend, f_opExit, f_nodeLimit, f_slotLimit, nI DL, nI TL, nI N, f_draftStart, f_rowSize, f_codeSize, nI nf, nI tu, 1, a_kinds, a_values, a_heights, a_loose, a_parent, a_place, a_firstLeaf, a_row, a_nodeReg, a_breakTo, a_tryTo, a_cleanupOf, a_label, a_codeOp, a_codeReg, a_codeArg, a_codeNode, a_roots, a_entries, a_states, a_results, a_chain, a_actFunction, a_pcs, a_locals, a_regs, a_pending, a_cells)) (sm_Y i j (nI p) 1 x (nI tu) (f_nodeLimit, f_slotLimit, nI DL, nI TL, nI N, nI nf, b_kinds, a_values, a_roots, a_cells, a_states, a_results, a_chain, a_actFunction, b_place, a_locals, b_savedSort, b_savedValue)) := by
  obtain ⟨hFx, hFy, hds, hcs, hV, hP, hA, hC, hR⟩ := HS
  have hO0 := hO
  obtain ⟨hi, hd, hdD, hch, hwt, hot⟩ := hO0
  obtain ⟨hf, hfn, hp1, hp2, hSV⟩ := hCu
  have hN := hFx.1
  have hds8 : ds ≤ 128 := by omega
  have hW : ∀ q, q < ds → tr_W K L q := fun q h => tr_FW hFx q (by omega)
  have hG : ∀ t, t < ds → G t < 16 := fun t ht => (cg_G16 hA ht).2
  obtain ⟨hro, hrd, hpa, hG0, hb0, ht0, hc0, hen, hex⟩ := hR.2 f hf
  have hf6 : f < 6 := by have := hR.1; omega
  have hqn := hq
  have hE1 := sm_E1 hW hE hq c
  have hup := tr_up hW hq c (rt f) hrd hp1 hpr
  have hl := tr_lt hW hq c
  have hpne : p ≠ rt f := by omega
  have hqN : q < N := by omega
  have hkf : cg_kf (K q) := by unfold cg_kf; omega
  obtain ⟨u2, u3, u4, ⟨i1, i2, i3, i4, i5⟩, u6, u7⟩ := sm_b2 hW hA hC hq c hkf
  have hSq := sv_up hW hq c hSV
  have hLp := tr_le hW p (by omega)
  have hsv := (hSV q p hq c hkf hLp (Nat.le_refl _)).1
  rw [u3] at hpc
  rw [u4] at hx
  have hx' : a_regs ((i * 4 + d) * 16 + G q + 1) = x := hx
  have hop : a_codeOp (AA q) = 8 := by rw [i2, hk]; rfl
  by_cases w : x ≤ b_savedValue ((i * 4 + d) * 128 + q)
  · exact sm_G_m (IH a_states a_results a_chain a_actFunction (upd a_pcs (i * 4 + d) (nI (AA q + 1))) a_locals (upd a_regs ((i * 4 + d) * 16 + G q) 0) a_pending a_cells b_place b_savedSort b_savedValue (k + 1) (j + 1) (d) (q) (f) (tu) (0) pl fl (sm_O_fr hds8 hG (sm_frg (by omega) _) (sm_O_fr hds8 hG (sm_fp _) hO)) ⟨hf, hfn, by omega, by omega, sv_rg hW hA (Nat.le_refl _) _ hSq⟩ (by rw [pk_us, u6]) (by rw [pk_us]) htu (by omega) (by omega) (by omega)) (fun post h => xr_less0 hi hd (by omega) hch hpc (by omega) i3 (by omega) hop u7 (by rw [hx', hsv]; exact w) h) (fun post h => ye_less0 hFy hi hd (by omega) hch hfn hf6 hro (by omega) hpne hqN c hk w h)
  · exact sm_G_m (IH a_states a_results a_chain a_actFunction (upd a_pcs (i * 4 + d) (nI (AA q + 1))) a_locals (upd a_regs ((i * 4 + d) * 16 + G q) 1) a_pending a_cells b_place b_savedSort b_savedValue (k + 1) (j + 1) (d) (q) (f) (tu) (1) pl fl (sm_O_fr hds8 hG (sm_frg (by omega) _) (sm_O_fr hds8 hG (sm_fp _) hO)) ⟨hf, hfn, by omega, by omega, sv_rg hW hA (Nat.le_refl _) _ hSq⟩ (by rw [pk_us, u6]) (by rw [pk_us]) htu (by omega) (by omega) (by omega)) (fun post h => xr_less1 hi hd (by omega) hch hpc (by omega) i3 (by omega) hop u7 (by rw [hx', hsv]; exact w) h) (fun post h => ye_less1 hFy hi hd (by omega) hch hfn hf6 hro (by omega) hpne hqN c hk w h)
end
end
section
/-! cases of the simulation -/
section
variable {K L H G AA rt E : Nat → Nat} {N ds nf cs DL TL i : Nat} {Q : Int32 → SX → SY → Prop} {f_opJump f_opJumpZero f_opTurn f_opPend f_opExit f_nodeLimit f_slotLimit f_draftStart f_rowSize f_codeSize : Int32} {a_kinds a_values a_heights a_loose a_parent a_place a_firstLeaf a_row a_nodeReg a_breakTo a_tryTo a_cleanupOf a_label a_codeOp a_codeReg a_codeArg a_codeNode a_roots a_entries b_kinds : Nat → Int32}
variable {a_states a_results a_chain a_actFunction a_pcs a_locals a_regs a_pending a_cells b_place b_savedSort b_savedValue : Nat → Int32} {k j d p f tu q kq B s kk z : Nat} {x : Int32} {pl fl : Nat → Nat}
theorem sn_wh2 (HS : sm_S K L H G AA rt N ds nf cs b_kinds a_kinds a_values a_parent a_place a_nodeReg a_breakTo a_tryTo a_cleanupOf a_label a_codeOp a_codeReg a_codeArg a_codeNode a_roots a_entries) (hE : sm_E K L E ds) (hD4 : DL ≤ 4) (hO : sm_O K L G AA rt ds nf DL a_entries i d pl fl a_states a_chain a_actFunction a_pcs a_regs a_pending b_place b_savedSort b_savedValue) (hCu : sm_C K L G rt ds nf i d f p a_actFunction a_regs a_pending b_savedSort b_savedValue) (hpc : a_pcs (i * 4 + d) = nI (AA p + cg_nn (K p))) (hx : a_regs ((i * 4 + d) * 16 + G p) = x) (htu : tu ≤ TL) (hB : E p + sm_s E pl d + 256 * (TL - tu) ≤ B + 1) (hkB : k + 2 * (B + 1) ≤ 60000) (hjB : j + (B + 1) ≤ 19999) (IH : sm_TS K L G AA rt E N ds nf DL TL i Q f_opJump f_opJumpZero f_opTurn f_opPend f_opExit f_nodeLimit f_slotLimit f_draftStart f_rowSize f_codeSize a_kinds a_values a_heights a_loose a_parent a_place a_firstLeaf a_row a_nodeReg a_breakTo a_tryTo a_cleanupOf a_label a_codeOp a_codeReg a_codeArg a_codeNode a_roots a_entries b_kinds B) (hpr : p < rt f) (hq : q < ds) (c : tr_ch K L q 2 p) (hk : K q = 11) : sm_G Q (sm_X i k (f_opJump, f_opJumpZero, f_opTurn, f_opPend, f_opExit, f_nodeLimit, f_slotLimit, nI DL, nI TL, nI N, f_draftStart, f_rowSize, f_codeSize, nI nf, nI tu, 1, a_kinds, a_values, a_heights, a_loose, a_parent, a_place, a_firstLeaf, a_row, a_nodeReg, a_breakTo, a_tryTo, a_cleanupOf, a_label, a_codeOp, a_codeReg, a_codeArg, a_codeNode, a_roots, a_entries, a_states, a_results, a_chain, a_actFunction, a_pcs, a_locals, a_regs, a_pending, a_cells)) (sm_Y i j (nI p) 1 x (nI tu) (f_nodeLimit, f_slotLimit, nI DL, nI TL, nI N, nI nf, b_kinds, a_values, a_roots, a_cells, a_states, a_results, a_chain, a_actFunction, b_place, a_locals, b_savedSort, b_savedValue)) := by
  obtain ⟨hFx, hFy, hds, hcs, hV, hP, hA, hC, hR⟩ := HS
  have hO0 := hO
  obtain ⟨hi, hd, hdD, hch, hwt, hot⟩ := hO0
  obtain ⟨hf, hfn, hp1, hp2, hSV⟩ := hCu
  have hN := hFx.1
  have hds8 : ds ≤ 128 := by omega
  have hW : ∀ q, q < ds → tr_W K L q := fun q h => tr_FW hFx q (by omega)
  have hG : ∀ t, t < ds → G t < 16 := fun t ht => (cg_G16 hA ht).2
  obtain ⟨hro, hrd, hpa, hG0, hb0, ht0, hc0, hen, hex⟩ := hR.2 f hf
  have hf6 : f < 6 := by have := hR.1; omega
  have hqn := hq
  have hE1 := sm_E1 hW hE hq c
  have hup := tr_up hW hq c (rt f) hrd hp1 hpr
  have hl := tr_lt hW hq c
  have hpne : p ≠ rt f := by omega
  have hqN : q < N := by omega
  have har : tr_ar (K q) = 2 := by rw [hk]; rfl
  obtain ⟨e1, d1, d2, a1, a2, a3, a4, a5⟩ := tr_c2 hW hq har
  have hSq := sv_up hW hq c hSV
  have hGq := hG q hq
  obtain ⟨w1, w2, w3⟩ := (hC.1 q hq).2 hk
  have hnq : cg_nn (K q) = 2 := by rw [hk]; rfl
  obtain ⟨i1, i2, i3, i4, i5⟩ := w1
  have hp := tr_fun c d2
  have hpq : p + 1 = q := by omega
  have h1 := (hC.2 q 2 p hq c).1
  rw [hpq] at h1
  have hbb : cg_bb (K q) 2 = 0 := by rw [hk]; rfl
  have hpc2 : a_pcs (i * 4 + d) = nI (AA q) := by rw [hpc, h1, hbb]; rfl
  have hE2 := (hE.1 q 1 e1 hq d1).1 hk rfl
  have hE3 := (hE.1 q 2 p hq c).2.1 hk rfl
  have hLp : L p = e1 + 1 := by rw [hp]; exact a3
  refine sm_G_m (IH a_states a_results a_chain a_actFunction (upd a_pcs (i * 4 + d) (nI (AA (L q)))) a_locals a_regs a_pending a_cells b_place b_savedSort b_savedValue (k + 1) (j + 1) (d) (e1) (f) (tu) (x) pl fl (sm_O_fr hds8 hG (sm_fp _) hO) ⟨hf, hfn, by omega, by omega, sv_dn hW hq d1 hSq (fun w => absurd w (by decide))⟩ (by rw [pk_us, a1]) htu (by omega) (by omega) (by omega)) (fun post h => xr_jump hi hd (by omega) hch hpc2 (by omega) i3 (by omega) i2 (by rw [i4]; exact h)) (fun post h => ye_wh2 hFy hi hd (by omega) hch hfn hf6 hro (by omega) hpne hqN c hk d1 h)
theorem sn_wh1z (HS : sm_S K L H G AA rt N ds nf cs b_kinds a_kinds a_values a_parent a_place a_nodeReg a_breakTo a_tryTo a_cleanupOf a_label a_codeOp a_codeReg a_codeArg a_codeNode a_roots a_entries) (hE : sm_E K L E ds) (hD4 : DL ≤ 4) (hO : sm_O K L G AA rt ds nf DL a_entries i d pl fl a_states a_chain a_actFunction a_pcs a_regs a_pending b_place b_savedSort b_savedValue) (hCu : sm_C K L G rt ds nf i d f p a_actFunction a_regs a_pending b_savedSort b_savedValue) (hpc : a_pcs (i * 4 + d) = nI (AA p + cg_nn (K p))) (hx : a_regs ((i * 4 + d) * 16 + G p) = x) (htu : tu ≤ TL) (hB : E p + sm_s E pl d + 256 * (TL - tu) ≤ B + 1) (hkB : k + 2 * (B + 1) ≤ 60000) (hjB : j + (B + 1) ≤ 19999) (IH : sm_TN K L G AA rt E N ds nf DL TL i Q f_opJump f_opJumpZero f_opTurn f_opPend f_opExit f_nodeLimit f_slotLimit f_draftStart f_rowSize f_codeSize a_kinds a_values a_heights a_loose a_parent a_place a_firstLeaf a_row a_nodeReg a_breakTo a_tryTo a_cleanupOf a_label a_codeOp a_codeReg a_codeArg a_codeNode a_roots a_entries b_kinds B) (hpr : p < rt f) (hq : q < ds) (c : tr_ch K L q 1 p) (hk : K q = 11) (hx0 : x = 0) : sm_G Q (sm_X i k (f_opJump, f_opJumpZero, f_opTurn, f_opPend, f_opExit, f_nodeLimit, f_slotLimit, nI DL, nI TL, nI N, f_draftStart, f_rowSize, f_codeSize, nI nf, nI tu, 1, a_kinds, a_values, a_heights, a_loose, a_parent, a_place, a_firstLeaf, a_row, a_nodeReg, a_breakTo, a_tryTo, a_cleanupOf, a_label, a_codeOp, a_codeReg, a_codeArg, a_codeNode, a_roots, a_entries, a_states, a_results, a_chain, a_actFunction, a_pcs, a_locals, a_regs, a_pending, a_cells)) (sm_Y i j (nI p) 1 x (nI tu) (f_nodeLimit, f_slotLimit, nI DL, nI TL, nI N, nI nf, b_kinds, a_values, a_roots, a_cells, a_states, a_results, a_chain, a_actFunction, b_place, a_locals, b_savedSort, b_savedValue)) := by
  obtain ⟨hFx, hFy, hds, hcs, hV, hP, hA, hC, hR⟩ := HS
  have hO0 := hO
  obtain ⟨hi, hd, hdD, hch, hwt, hot⟩ := hO0
  obtain ⟨hf, hfn, hp1, hp2, hSV⟩ := hCu
  have hN := hFx.1
  have hds8 : ds ≤ 128 := by omega
  have hW : ∀ q, q < ds → tr_W K L q := fun q h => tr_FW hFx q (by omega)
  have hG : ∀ t, t < ds → G t < 16 := fun t ht => (cg_G16 hA ht).2
  obtain ⟨hro, hrd, hpa, hG0, hb0, ht0, hc0, hen, hex⟩ := hR.2 f hf
  have hf6 : f < 6 := by have := hR.1; omega
  have hqn := hq
  have hE1 := sm_E1 hW hE hq c
  have hup := tr_up hW hq c (rt f) hrd hp1 hpr
  have hl := tr_lt hW hq c
  have hpne : p ≠ rt f := by omega
  have hqN : q < N := by omega
  have har : tr_ar (K q) = 2 := by rw [hk]; rfl
  obtain ⟨e1, d1, d2, a1, a2, a3, a4, a5⟩ := tr_c2 hW hq har
  have hSq := sv_up hW hq c hSV
  have hGq := hG q hq
  obtain ⟨w1, w2, w3⟩ := (hC.1 q hq).2 hk
  have hnq : cg_nn (K q) = 2 := by rw [hk]; rfl
  have hp := tr_fun c d1
  subst hp
  obtain ⟨⟨i1, i2, i3, i4, i5⟩, ⟨n1, n2, n3, n4, n5⟩⟩ := (hC.2 q 1 p hq c).2.2.2.1 hk rfl
  have hGp : G p = G q := (hA.2 q 1 p hq c).1 (by omega)
  rw [hGp] at hx
  refine sm_G_m (IH a_states a_results a_chain a_actFunction (upd a_pcs (i * 4 + d) (nI (AA q + 2))) a_locals a_regs a_pending a_cells b_place b_savedSort b_savedValue (k + 1) (j + 1) (d) (q) (f) (tu) (x) pl fl (sm_O_fr hds8 hG (sm_fp _) hO) ⟨hf, hfn, by omega, by omega, hSq⟩ (by rw [pk_us, hnq]) hx htu (by omega) (by omega) (by omega)) (fun post h => xr_jz0 hi hd (by omega) hch hpc (by omega) i3 (by omega) i2 (hx.trans hx0) (by rw [i4]; exact h)) (fun post h => ye_wh1z hFy hi hd (by omega) hch hfn hf6 hro (by omega) hpne hqN c hk hx0 h)
theorem sn_wh1s (HS : sm_S K L H G AA rt N ds nf cs b_kinds a_kinds a_values a_parent a_place a_nodeReg a_breakTo a_tryTo a_cleanupOf a_label a_codeOp a_codeReg a_codeArg a_codeNode a_roots a_entries) (hE : sm_E K L E ds) (hD4 : DL ≤ 4) (hO : sm_O K L G AA rt ds nf DL a_entries i d pl fl a_states a_chain a_actFunction a_pcs a_regs a_pending b_place b_savedSort b_savedValue) (hCu : sm_C K L G rt ds nf i d f p a_actFunction a_regs a_pending b_savedSort b_savedValue) (hpc : a_pcs (i * 4 + d) = nI (AA p + cg_nn (K p))) (hx : a_regs ((i * 4 + d) * 16 + G p) = x) (htu : tu ≤ TL) (hTL : TL ≤ 48) (hB : E p + sm_s E pl d + 256 * (TL - tu) ≤ B + 1) (hkB : k + 2 * (B + 1) ≤ 60000) (hjB : j + (B + 1) ≤ 19999) (hQ : ∀ (a_states a_results a_chain a_actFunction a_pcs a_locals a_regs a_pending a_cells b_place b_savedSort b_savedValue : Nat → Int32) (w : Int32), (∀ i', i' < 4 → sm_SL K L G AA rt ds nf DL a_entries a_states a_chain a_actFunction a_pcs a_regs a_pending b_place b_savedSort b_savedValue i') → Q (a_states i) (f_opJump, f_opJumpZero, f_opTurn, f_opPend, f_opExit, f_nodeLimit, f_slotLimit, nI DL, nI TL, nI N, f_draftStart, f_rowSize, f_codeSize, nI nf, w, 0, a_kinds, a_values, a_heights, a_loose, a_parent, a_place, a_firstLeaf, a_row, a_nodeReg, a_breakTo, a_tryTo, a_cleanupOf, a_label, a_codeOp, a_codeReg, a_codeArg, a_codeNode, a_roots, a_entries, a_states, a_results, a_chain, a_actFunction, a_pcs, a_locals, a_regs, a_pending, a_cells) (f_nodeLimit, f_slotLimit, nI DL, nI TL, nI N, nI nf, b_kinds, a_values, a_roots, a_cells, a_states, a_results, a_chain, a_actFunction, b_place, a_locals, b_savedSort, b_savedValue)) (hpr : p < rt f) (hq : q < ds) (c : tr_ch K L q 1 p) (hk : K q = 11) (hx0 : ¬ x = 0) (ht : tu = TL) : sm_G Q (sm_X i k (f_opJump, f_opJumpZero, f_opTurn, f_opPend, f_opExit, f_nodeLimit, f_slotLimit, nI DL, nI TL, nI N, f_draftStart, f_rowSize, f_codeSize, nI nf, nI tu, 1, a_kinds, a_values, a_heights, a_loose, a_parent, a_place, a_firstLeaf, a_row, a_nodeReg, a_breakTo, a_tryTo, a_cleanupOf, a_label, a_codeOp, a_codeReg, a_codeArg, a_codeNode, a_roots, a_entries, a_states, a_results, a_chain, a_actFunction, a_pcs, a_locals, a_regs, a_pending, a_cells)) (sm_Y i j (nI p) 1 x (nI tu) (f_nodeLimit, f_slotLimit, nI DL, nI TL, nI N, nI nf, b_kinds, a_values, a_roots, a_cells, a_states, a_results, a_chain, a_actFunction, b_place, a_locals, b_savedSort, b_savedValue)) := by
  obtain ⟨hFx, hFy, hds, hcs, hV, hP, hA, hC, hR⟩ := HS
  have hO0 := hO
  obtain ⟨hi, hd, hdD, hch, hwt, hot⟩ := hO0
  obtain ⟨hf, hfn, hp1, hp2, hSV⟩ := hCu
  have hN := hFx.1
  have hds8 : ds ≤ 128 := by omega
  have hW : ∀ q, q < ds → tr_W K L q := fun q h => tr_FW hFx q (by omega)
  have hG : ∀ t, t < ds → G t < 16 := fun t ht => (cg_G16 hA ht).2
  obtain ⟨hro, hrd, hpa, hG0, hb0, ht0, hc0, hen, hex⟩ := hR.2 f hf
  have hf6 : f < 6 := by have := hR.1; omega
  have hqn := hq
  have hE1 := sm_E1 hW hE hq c
  have hup := tr_up hW hq c (rt f) hrd hp1 hpr
  have hl := tr_lt hW hq c
  have hpne : p ≠ rt f := by omega
  have hqN : q < N := by omega
  have har : tr_ar (K q) = 2 := by rw [hk]; rfl
  obtain ⟨e1, d1, d2, a1, a2, a3, a4, a5⟩ := tr_c2 hW hq har
  have hSq := sv_up hW hq c hSV
  have hGq := hG q hq
  obtain ⟨w1, w2, w3⟩ := (hC.1 q hq).2 hk
  have hnq : cg_nn (K q) = 2 := by rw [hk]; rfl
  have hp := tr_fun c d1
  subst hp
  obtain ⟨⟨i1, i2, i3, i4, i5⟩, ⟨n1, n2, n3, n4, n5⟩⟩ := (hC.2 q 1 p hq c).2.2.2.1 hk rfl
  have hGp : G p = G q := (hA.2 q 1 p hq c).1 (by omega)
  rw [hGp] at hx
  have hfin : ∀ i', i' < 4 → sm_SL K L G AA rt ds nf DL a_entries (upd a_states i 5) (upd a_chain i 0) a_actFunction (upd (upd a_pcs (i * 4 + d) (nI (AA p + cg_nn (K p) + 1))) (i * 4 + d) (nI (AA p + cg_nn (K p) + 1 + 1))) a_regs a_pending b_place b_savedSort b_savedValue i' := by
    intro i' h4
    by_cases e : i' = i
    · subst e
      exact Or.inr (Or.inr ⟨by rw [pk_us]; decide, pk_us⟩)
    · exact sm_fr_SL (a := i * 4 + d) (fun b hb => ⟨rfl, by rw [pk_un hb, pk_un hb], rfl, fun _ _ => ⟨rfl, rfl⟩, fun _ _ => ⟨rfl, rfl⟩⟩) (by omega) hds8 hG (pk_un e) (pk_un e) (hot i' h4 e)
  have hq2 := hQ (upd a_states i 5) (upd a_results i 0) (upd a_chain i 0) a_actFunction (upd (upd a_pcs (i * 4 + d) (nI (AA p + cg_nn (K p) + 1))) (i * 4 + d) (nI (AA p + cg_nn (K p) + 1 + 1))) a_locals a_regs a_pending a_cells b_place b_savedSort b_savedValue (nI tu) hfin
  refine sm_G_f hq2 (fun post h => xr_jz1 hi hd (by omega) hch hpc (by omega) i3 (by omega) i2 (by rw [hx]; exact hx0) (xr_turnS hi hd (by omega) hch pk_us (by omega) n3 (by omega) n2 (by rw [ht]; exact nI_nlt (Nat.le_refl _) (by omega)) (xf_end hi (by omega) h))) (fun post h => ye_wh1s hFy hi hd (by omega) hch hfn hf6 hro (by omega) hpne hqN c hk hx0 (by rw [ht]) (by rw [pk_us] at h; exact h))
theorem sn_wh1t (HS : sm_S K L H G AA rt N ds nf cs b_kinds a_kinds a_values a_parent a_place a_nodeReg a_breakTo a_tryTo a_cleanupOf a_label a_codeOp a_codeReg a_codeArg a_codeNode a_roots a_entries) (hE : sm_E K L E ds) (hD4 : DL ≤ 4) (hO : sm_O K L G AA rt ds nf DL a_entries i d pl fl a_states a_chain a_actFunction a_pcs a_regs a_pending b_place b_savedSort b_savedValue) (hCu : sm_C K L G rt ds nf i d f p a_actFunction a_regs a_pending b_savedSort b_savedValue) (hpc : a_pcs (i * 4 + d) = nI (AA p + cg_nn (K p))) (hx : a_regs ((i * 4 + d) * 16 + G p) = x) (htu : tu ≤ TL) (hTL : TL ≤ 48) (hB : E p + sm_s E pl d + 256 * (TL - tu) ≤ B + 1) (hkB : k + 2 * (B + 1) ≤ 60000) (hjB : j + (B + 1) ≤ 19999) (IH : sm_TS K L G AA rt E N ds nf DL TL i Q f_opJump f_opJumpZero f_opTurn f_opPend f_opExit f_nodeLimit f_slotLimit f_draftStart f_rowSize f_codeSize a_kinds a_values a_heights a_loose a_parent a_place a_firstLeaf a_row a_nodeReg a_breakTo a_tryTo a_cleanupOf a_label a_codeOp a_codeReg a_codeArg a_codeNode a_roots a_entries b_kinds B) (hpr : p < rt f) (hq : q < ds) (c : tr_ch K L q 1 p) (hk : K q = 11) (hx0 : ¬ x = 0) (ht : tu < TL) (hT : ∀ e, L (rt f) ≤ e → e ≤ rt f → E e + 2 * (e - L e) + 1 ≤ 256) : sm_G Q (sm_X i k (f_opJump, f_opJumpZero, f_opTurn, f_opPend, f_opExit, f_nodeLimit, f_slotLimit, nI DL, nI TL, nI N, f_draftStart, f_rowSize, f_codeSize, nI nf, nI tu, 1, a_kinds, a_values, a_heights, a_loose, a_parent, a_place, a_firstLeaf, a_row, a_nodeReg, a_breakTo, a_tryTo, a_cleanupOf, a_label, a_codeOp, a_codeReg, a_codeArg, a_codeNode, a_roots, a_entries, a_states, a_results, a_chain, a_actFunction, a_pcs, a_locals, a_regs, a_pending, a_cells)) (sm_Y i j (nI p) 1 x (nI tu) (f_nodeLimit, f_slotLimit, nI DL, nI TL, nI N, nI nf, b_kinds, a_values, a_roots, a_cells, a_states, a_results, a_chain, a_actFunction, b_place, a_locals, b_savedSort, b_savedValue)) := by
  obtain ⟨hFx, hFy, hds, hcs, hV, hP, hA, hC, hR⟩ := HS
  have hO0 := hO
  obtain ⟨hi, hd, hdD, hch, hwt, hot⟩ := hO0
  obtain ⟨hf, hfn, hp1, hp2, hSV⟩ := hCu
  have hN := hFx.1
  have hds8 : ds ≤ 128 := by omega
  have hW : ∀ q, q < ds → tr_W K L q := fun q h => tr_FW hFx q (by omega)
  have hG : ∀ t, t < ds → G t < 16 := fun t ht => (cg_G16 hA ht).2
  obtain ⟨hro, hrd, hpa, hG0, hb0, ht0, hc0, hen, hex⟩ := hR.2 f hf
  have hf6 : f < 6 := by have := hR.1; omega
  have hqn := hq
  have hE1 := sm_E1 hW hE hq c
  have hup := tr_up hW hq c (rt f) hrd hp1 hpr
  have hl := tr_lt hW hq c
  have hpne : p ≠ rt f := by omega
  have hqN : q < N := by omega
  have har : tr_ar (K q) = 2 := by rw [hk]; rfl
  obtain ⟨e1, d1, d2, a1, a2, a3, a4, a5⟩ := tr_c2 hW hq har
  have hSq := sv_up hW hq c hSV
  have hGq := hG q hq
  obtain ⟨w1, w2, w3⟩ := (hC.1 q hq).2 hk
  have hnq : cg_nn (K q) = 2 := by rw [hk]; rfl
  have hp := tr_fun c d1
  subst hp
  obtain ⟨⟨i1, i2, i3, i4, i5⟩, ⟨n1, n2, n3, n4, n5⟩⟩ := (hC.2 q 1 p hq c).2.2.2.1 hk rfl
  have hGp : G p = G q := (hA.2 q 1 p hq c).1 (by omega)
  rw [hGp] at hx
  have h1 := (hC.2 q 1 p hq c).1
  have hbb : cg_bb (K q) 1 = 2 := by rw [hk]; rfl
  have hTe := hT (q - 1) (by omega) (by omega)
  have hEp := hE.1 q 1 p hq c
  refine sm_G_m (IH a_states a_results a_chain a_actFunction (upd (upd a_pcs (i * 4 + d) (nI (AA p + cg_nn (K p) + 1))) (i * 4 + d) (nI (AA p + cg_nn (K p) + 1 + 1))) a_locals a_regs a_pending a_cells b_place b_savedSort b_savedValue (k + 1 + 1) (j + 1) (d) (q - 1) (f) (tu + 1) (x) pl fl (sm_O_fr hds8 hG (sm_fp _) (sm_O_fr hds8 hG (sm_fp _) hO)) ⟨hf, hfn, by omega, by omega, sv_dn hW hq d2 hSq (fun _ w => absurd w (by unfold cg_kf; omega))⟩ (by rw [pk_us, a3, h1, hbb]) (by omega) (by omega) (by omega) (by omega)) (fun post h => xr_jz1 hi hd (by omega) hch hpc (by omega) i3 (by omega) i2 (by rw [hx]; exact hx0) (xr_turn hi hd (by omega) hch pk_us (by omega) n3 (by omega) n2 (nI_lt ht (by omega)) h)) (fun post h => ye_wh1t hFy hi hd (by omega) hch hfn hf6 hro (by omega) hpne hqN c hk hx0 (fun w => absurd (tr_inj w (by omega) (by omega)) (by omega)) d2 h)
theorem sn_try1 (HS : sm_S K L H G AA rt N ds nf cs b_kinds a_kinds a_values a_parent a_place a_nodeReg a_breakTo a_tryTo a_cleanupOf a_label a_codeOp a_codeReg a_codeArg a_codeNode a_roots a_entries) (hE : sm_E K L E ds) (hD4 : DL ≤ 4) (hO : sm_O K L G AA rt ds nf DL a_entries i d pl fl a_states a_chain a_actFunction a_pcs a_regs a_pending b_place b_savedSort b_savedValue) (hCu : sm_C K L G rt ds nf i d f p a_actFunction a_regs a_pending b_savedSort b_savedValue) (hpc : a_pcs (i * 4 + d) = nI (AA p + cg_nn (K p))) (hx : a_regs ((i * 4 + d) * 16 + G p) = x) (htu : tu ≤ TL) (hB : E p + sm_s E pl d + 256 * (TL - tu) ≤ B + 1) (hkB : k + 2 * (B + 1) ≤ 60000) (hjB : j + (B + 1) ≤ 19999) (IH : sm_TS K L G AA rt E N ds nf DL TL i Q f_opJump f_opJumpZero f_opTurn f_opPend f_opExit f_nodeLimit f_slotLimit f_draftStart f_rowSize f_codeSize a_kinds a_values a_heights a_loose a_parent a_place a_firstLeaf a_row a_nodeReg a_breakTo a_tryTo a_cleanupOf a_label a_codeOp a_codeReg a_codeArg a_codeNode a_roots a_entries b_kinds B) (hpr : p < rt f) (hq : q < ds) (c : tr_ch K L q 1 p) (hk : K q = 14) : sm_G Q (sm_X i k (f_opJump, f_opJumpZero, f_opTurn, f_opPend, f_opExit, f_nodeLimit, f_slotLimit, nI DL, nI TL, nI N, f_draftStart, f_rowSize, f_codeSize, nI nf, nI tu, 1, a_kinds, a_values, a_heights, a_loose, a_parent, a_place, a_firstLeaf, a_row, a_nodeReg, a_breakTo, a_tryTo, a_cleanupOf, a_label, a_codeOp, a_codeReg, a_codeArg, a_codeNode, a_roots, a_entries, a_states, a_results, a_chain, a_actFunction, a_pcs, a_locals, a_regs, a_pending, a_cells)) (sm_Y i j (nI p) 1 x (nI tu) (f_nodeLimit, f_slotLimit, nI DL, nI TL, nI N, nI nf, b_kinds, a_values, a_roots, a_cells, a_states, a_results, a_chain, a_actFunction, b_place, a_locals, b_savedSort, b_savedValue)) := by
  obtain ⟨hFx, hFy, hds, hcs, hV, hP, hA, hC, hR⟩ := HS
  have hO0 := hO
  obtain ⟨hi, hd, hdD, hch, hwt, hot⟩ := hO0
  obtain ⟨hf, hfn, hp1, hp2, hSV⟩ := hCu
  have hN := hFx.1
  have hds8 : ds ≤ 128 := by omega
  have hW : ∀ q, q < ds → tr_W K L q := fun q h => tr_FW hFx q (by omega)
  have hG : ∀ t, t < ds → G t < 16 := fun t ht => (cg_G16 hA ht).2
  obtain ⟨hro, hrd, hpa, hG0, hb0, ht0, hc0, hen, hex⟩ := hR.2 f hf
  have hf6 : f < 6 := by have := hR.1; omega
  have hqn := hq
  have hE1 := sm_E1 hW hE hq c
  have hup := tr_up hW hq c (rt f) hrd hp1 hpr
  have hl := tr_lt hW hq c
  have hpne : p ≠ rt f := by omega
  have hqN : q < N := by omega
  obtain ⟨e, c2, b1, b2, b3, b4, b5, b6, b7⟩ := sm_b1 hW hA hC hq c (by omega)
  have hSq := sv_up hW hq c hSV
  have hEe := hE.1 q 2 e hq c2
  have hEp := hE.1 q 1 p hq c
  have hbb : cg_bb (K q) 1 = 1 := by rw [hk]; rfl
  obtain ⟨⟨i1, i2, i3, i4, i5⟩, hlb⟩ := (hC.2 q 1 p hq c).2.2.2.2 hk rfl
  have hE2 := hEe.2.2 (by omega)
  have hE3 := hEp.2.2 (by omega)
  rw [b6] at hx
  refine sm_G_m (IH a_states a_results a_chain a_actFunction (upd a_pcs (i * 4 + d) (nI (AA p + cg_nn (K p) + 1))) a_locals a_regs (upd a_pending ((i * 4 + d) * 16 + G q) 1) a_cells b_place (upd b_savedSort ((i * 4 + d) * 128 + q) 1) (upd b_savedValue ((i * 4 + d) * 128 + q) x) (k + 1) (j + 1) (d) (e) (f) (tu) (x) pl fl (sm_O_fr hds8 hG (sm_fsv (by omega) _) (sm_O_fr hds8 hG (sm_fss (by omega) _) (sm_O_fr hds8 hG (sm_fpe (by omega) _) (sm_O_fr hds8 hG (sm_fp _) hO)))) ⟨hf, hfn, by omega, by omega, sv_dn hW hq c2 (sv_sv hW _ (sv_ss hW _ (sv_pe hW hA (Nat.le_refl _) _ hSq))) (fun _ _ => ⟨by rw [pk_us, hx], fun _ => ⟨1, by omega, by omega, pk_us, pk_us⟩⟩)⟩ (by rw [pk_us, b5, hbb]) htu (by omega) (by omega) (by omega)) (fun post h => xr_pend hi hd (by omega) hch hpc (by omega) i3 (by omega) i2 (by rw [i4]; exact h)) (fun post h => ye_try1 hFy hi hd (by omega) hch hfn hf6 hro (by omega) hpne hqN c hk (by decide) c2 h)
theorem sn_try2 (HS : sm_S K L H G AA rt N ds nf cs b_kinds a_kinds a_values a_parent a_place a_nodeReg a_breakTo a_tryTo a_cleanupOf a_label a_codeOp a_codeReg a_codeArg a_codeNode a_roots a_entries) (hE : sm_E K L E ds) (hD4 : DL ≤ 4) (hO : sm_O K L G AA rt ds nf DL a_entries i d pl fl a_states a_chain a_actFunction a_pcs a_regs a_pending b_place b_savedSort b_savedValue) (hCu : sm_C K L G rt ds nf i d f p a_actFunction a_regs a_pending b_savedSort b_savedValue) (hpc : a_pcs (i * 4 + d) = nI (AA p + cg_nn (K p))) (hx : a_regs ((i * 4 + d) * 16 + G p) = x) (htu : tu ≤ TL) (hB : E p + sm_s E pl d + 256 * (TL - tu) ≤ B + 1) (hkB : k + 2 * (B + 1) ≤ 60000) (hjB : j + (B + 1) ≤ 19999) (IH : sm_TN K L G AA rt E N ds nf DL TL i Q f_opJump f_opJumpZero f_opTurn f_opPend f_opExit f_nodeLimit f_slotLimit f_draftStart f_rowSize f_codeSize a_kinds a_values a_heights a_loose a_parent a_place a_firstLeaf a_row a_nodeReg a_breakTo a_tryTo a_cleanupOf a_label a_codeOp a_codeReg a_codeArg a_codeNode a_roots a_entries b_kinds B) (IHA : sm_TA K L G AA rt E N ds nf DL TL i Q f_opJump f_opJumpZero f_opTurn f_opPend f_opExit f_nodeLimit f_slotLimit f_draftStart f_rowSize f_codeSize a_kinds a_values a_heights a_loose a_parent a_place a_firstLeaf a_row a_nodeReg a_breakTo a_tryTo a_cleanupOf a_label a_codeOp a_codeReg a_codeArg a_codeNode a_roots a_entries b_kinds B) (hpr : p < rt f) (hq : q < ds) (c : tr_ch K L q 2 p) (hk : K q = 14) : sm_G Q (sm_X i k (f_opJump, f_opJumpZero, f_opTurn, f_opPend, f_opExit, f_nodeLimit, f_slotLimit, nI DL, nI TL, nI N, f_draftStart, f_rowSize, f_codeSize, nI nf, nI tu, 1, a_kinds, a_values, a_heights, a_loose, a_parent, a_place, a_firstLeaf, a_row, a_nodeReg, a_breakTo, a_tryTo, a_cleanupOf, a_label, a_codeOp, a_codeReg, a_codeArg, a_codeNode, a_roots, a_entries, a_states, a_results, a_chain, a_actFunction, a_pcs, a_locals, a_regs, a_pending, a_cells)) (sm_Y i j (nI p) 1 x (nI tu) (f_nodeLimit, f_slotLimit, nI DL, nI TL, nI N, nI nf, b_kinds, a_values, a_roots, a_cells, a_states, a_results, a_chain, a_actFunction, b_place, a_locals, b_savedSort, b_savedValue)) := by
  obtain ⟨hFx, hFy, hds, hcs, hV, hP, hA, hC, hR⟩ := HS
  have hO0 := hO
  obtain ⟨hi, hd, hdD, hch, hwt, hot⟩ := hO0
  obtain ⟨hf, hfn, hp1, hp2, hSV⟩ := hCu
  have hN := hFx.1
  have hds8 : ds ≤ 128 := by omega
  have hW : ∀ q, q < ds → tr_W K L q := fun q h => tr_FW hFx q (by omega)
  have hG : ∀ t, t < ds → G t < 16 := fun t ht => (cg_G16 hA ht).2
  obtain ⟨hro, hrd, hpa, hG0, hb0, ht0, hc0, hen, hex⟩ := hR.2 f hf
  have hf6 : f < 6 := by have := hR.1; omega
  have hqn := hq
  have hE1 := sm_E1 hW hE hq c
  have hup := tr_up hW hq c (rt f) hrd hp1 hpr
  have hl := tr_lt hW hq c
  have hpne : p ≠ rt f := by omega
  have hqN : q < N := by omega
  have hkf : cg_kf (K q) := by unfold cg_kf; omega
  obtain ⟨u2, u3, u4, ⟨i1, i2, i3, i4, i5⟩, u6, u7⟩ := sm_b2 hW hA hC hq c hkf
  have hSq := sv_up hW hq c hSV
  have hLp := tr_le hW p (by omega)
  have hsv := (hSV q p hq c hkf hLp (Nat.le_refl _)).1
  rw [u3] at hpc
  rw [u4] at hx
  have hx' : a_regs ((i * 4 + d) * 16 + G q + 1) = x := hx
  have hop : a_codeOp (AA q) = 14 := by rw [i2, hk]; rfl
  obtain ⟨s, s1, s2, s3, s4⟩ := (hSV q p hq c hkf hLp (Nat.le_refl _)).2 hk
  by_cases w : s = 1
  · subst w
    exact sm_G_m (IH a_states a_results a_chain a_actFunction (upd a_pcs (i * 4 + d) (nI (AA q + 1))) a_locals a_regs a_pending a_cells b_place b_savedSort b_savedValue (k + 1) (j + 1) (d) (q) (f) (tu) (b_savedValue ((i * 4 + d) * 128 + q)) pl fl (sm_O_fr hds8 hG (sm_fp _) hO) ⟨hf, hfn, by omega, by omega, hSq⟩ (by rw [pk_us, u6]) hsv htu (by omega) (by omega) (by omega)) (fun post h => xr_try1 hi hd (by omega) hch hpc (by omega) i3 (by omega) hop s4 h) (fun post h => ye_try2n hFy hi hd (by omega) hch hfn hf6 hro (by omega) hpne hqN c hk (by rw [s3]; exact h))
  · have hne : ¬ a_pending ((i * 4 + d) * 16 + G q) = 1 := by
      rw [s4]
      exact fun y => absurd (tr_inj (b := 1) y (by omega) (by omega)) w
    exact sm_G_m (IHA a_states a_results a_chain a_actFunction (upd a_pcs (i * 4 + d) (nI (AA q + 1))) a_locals a_regs a_pending a_cells b_place b_savedSort b_savedValue (k + 1) (j + 1) (d) (q) (f) (tu) (b_savedValue ((i * 4 + d) * 128 + q)) pl fl s 0 q (sm_O_fr hds8 hG (sm_fp _) hO) ⟨hf, hfn, by omega, by omega, hSq⟩ (by omega) (by omega) (by omega) (fun _ => rfl) (fun _ => rfl) htu (by omega) (by omega) (by omega)) (fun post h => xr_try2 hi hd (by omega) hch hpc (by omega) i3 (by omega) hop hne (by rw [i5, s4, hsv]; exact h)) (fun post h => ye_try2n hFy hi hd (by omega) hch hfn hf6 hro (by omega) hpne hqN c hk (by rw [s3]; exact h))
theorem sn_fin (HS : sm_S K L H G AA rt N ds nf cs b_kinds a_kinds a_values a_parent a_place a_nodeReg a_breakTo a_tryTo a_cleanupOf a_label a_codeOp a_codeReg a_codeArg a_codeNode a_roots a_entries) (hE : sm_E K L E ds) (hD4 : DL ≤ 4) (hO : sm_O K L G AA rt ds nf DL a_entries i d pl fl a_states a_chain a_actFunction a_pcs a_regs a_pending b_place b_savedSort b_savedValue) (hCu : sm_C K L G rt ds nf i d f p a_actFunction a_regs a_pending b_savedSort b_savedValue) (hpc : a_pcs (i * 4 + d) = nI (AA p + cg_nn (K p))) (hx : a_regs ((i * 4 + d) * 16 + G p) = x) (htu : tu ≤ TL) (hB : E p + sm_s E pl d + 256 * (TL - tu) ≤ B + 1) (hkB : k + 2 * (B + 1) ≤ 60000) (hjB : j + (B + 1) ≤ 19999) (hQ : ∀ (a_states a_results a_chain a_actFunction a_pcs a_locals a_regs a_pending a_cells b_place b_savedSort b_savedValue : Nat → Int32) (w : Int32), (∀ i', i' < 4 → sm_SL K L G AA rt ds nf DL a_entries a_states a_chain a_actFunction a_pcs a_regs a_pending b_place b_savedSort b_savedValue i') → Q (a_states i) (f_opJump, f_opJumpZero, f_opTurn, f_opPend, f_opExit, f_nodeLimit, f_slotLimit, nI DL, nI TL, nI N, f_draftStart, f_rowSize, f_codeSize, nI nf, w, 0, a_kinds, a_values, a_heights, a_loose, a_parent, a_place, a_firstLeaf, a_row, a_nodeReg, a_breakTo, a_tryTo, a_cleanupOf, a_label, a_codeOp, a_codeReg, a_codeArg, a_codeNode, a_roots, a_entries, a_states, a_results, a_chain, a_actFunction, a_pcs, a_locals, a_regs, a_pending, a_cells) (f_nodeLimit, f_slotLimit, nI DL, nI TL, nI N, nI nf, b_kinds, a_values, a_roots, a_cells, a_states, a_results, a_chain, a_actFunction, b_place, a_locals, b_savedSort, b_savedValue)) (hpr : p = rt f) (hd0 : d = 0) : sm_G Q (sm_X i k (f_opJump, f_opJumpZero, f_opTurn, f_opPend, f_opExit, f_nodeLimit, f_slotLimit, nI DL, nI TL, nI N, f_draftStart, f_rowSize, f_codeSize, nI nf, nI tu, 1, a_kinds, a_values, a_heights, a_loose, a_parent, a_place, a_firstLeaf, a_row, a_nodeReg, a_breakTo, a_tryTo, a_cleanupOf, a_label, a_codeOp, a_codeReg, a_codeArg, a_codeNode, a_roots, a_entries, a_states, a_results, a_chain, a_actFunction, a_pcs, a_locals, a_regs, a_pending, a_cells)) (sm_Y i j (nI p) 1 x (nI tu) (f_nodeLimit, f_slotLimit, nI DL, nI TL, nI N, nI nf, b_kinds, a_values, a_roots, a_cells, a_states, a_results, a_chain, a_actFunction, b_place, a_locals, b_savedSort, b_savedValue)) := by
  obtain ⟨hFx, hFy, hds, hcs, hV, hP, hA, hC, hR⟩ := HS
  have hO0 := hO
  obtain ⟨hi, hd, hdD, hch, hwt, hot⟩ := hO0
  obtain ⟨hf, hfn, hp1, hp2, hSV⟩ := hCu
  have hN := hFx.1
  have hds8 : ds ≤ 128 := by omega
  have hW : ∀ q, q < ds → tr_W K L q := fun q h => tr_FW hFx q (by omega)
  have hG : ∀ t, t < ds → G t < 16 := fun t ht => (cg_G16 hA ht).2
  obtain ⟨hro, hrd, hpa, hG0, hb0, ht0, hc0, hen, hex⟩ := hR.2 f hf
  have hf6 : f < 6 := by have := hR.1; omega
  subst hpr hd0
  obtain ⟨i1, i2, i3, i4, i5⟩ := hex
  have hfin : ∀ i', i' < 4 → sm_SL K L G AA rt ds nf DL a_entries (upd a_states i 3) (upd a_chain i 0) a_actFunction (upd a_pcs (i * 4 + 0) (nI (AA (rt f) + cg_nn (K (rt f)) + 1))) a_regs a_pending b_place b_savedSort b_savedValue i' := by
    intro i' h4
    by_cases e : i' = i
    · subst e
      exact Or.inr (Or.inr ⟨by rw [pk_us]; decide, pk_us⟩)
    · exact sm_fr_SL (a := i * 4 + 0) (sm_fp _) (by omega) hds8 hG (pk_un e) (pk_un e) (hot i' h4 e)
  have hq2 := hQ (upd a_states i 3) (upd a_results i x) (upd a_chain i 0) a_actFunction (upd a_pcs (i * 4 + 0) (nI (AA (rt f) + cg_nn (K (rt f)) + 1))) a_locals a_regs a_pending a_cells b_place b_savedSort b_savedValue (nI tu) hfin
  rw [hG0] at hx
  refine sm_G_f hq2 (fun post h => xr_exit hi hd (by omega) hch hpc (by omega) i3 (by omega) i2 (by rw [i5, hx]; exact xa_fin hi (by omega) hch (by omega) (Or.inr ⟨by decide, ht0⟩) rfl (by decide) (xf_end hi (by omega) h))) (fun post h => ye_fin hi (by omega) hch hfn hf6 hro (by decide) (by decide) (by rw [pk_us] at h; exact h))
theorem sn_pop (HS : sm_S K L H G AA rt N ds nf cs b_kinds a_kinds a_values a_parent a_place a_nodeReg a_breakTo a_tryTo a_cleanupOf a_label a_codeOp a_codeReg a_codeArg a_codeNode a_roots a_entries) (hE : sm_E K L E ds) (hD4 : DL ≤ 4) (hO : sm_O K L G AA rt ds nf DL a_entries i d pl fl a_states a_chain a_actFunction a_pcs a_regs a_pending b_place b_savedSort b_savedValue) (hCu : sm_C K L G rt ds nf i d f p a_actFunction a_regs a_pending b_savedSort b_savedValue) (hpc : a_pcs (i * 4 + d) = nI (AA p + cg_nn (K p))) (hx : a_regs ((i * 4 + d) * 16 + G p) = x) (htu : tu ≤ TL) (hB : E p + sm_s E pl d + 256 * (TL - tu) ≤ B + 1) (hkB : k + 2 * (B + 1) ≤ 60000) (hjB : j + (B + 1) ≤ 19999) (IH : sm_TN K L G AA rt E N ds nf DL TL i Q f_opJump f_opJumpZero f_opTurn f_opPend f_opExit f_nodeLimit f_slotLimit f_draftStart f_rowSize f_codeSize a_kinds a_values a_heights a_loose a_parent a_place a_firstLeaf a_row a_nodeReg a_breakTo a_tryTo a_cleanupOf a_label a_codeOp a_codeReg a_codeArg a_codeNode a_roots a_entries b_kinds B) (hpr : p = rt f) (hd0 : 0 < d) : sm_G Q (sm_X i k (f_opJump, f_opJumpZero, f_opTurn, f_opPend, f_opExit, f_nodeLimit, f_slotLimit, nI DL, nI TL, nI N, f_draftStart, f_rowSize, f_codeSize, nI nf, nI tu, 1, a_kinds, a_values, a_heights, a_loose, a_parent, a_place, a_firstLeaf, a_row, a_nodeReg, a_breakTo, a_tryTo, a_cleanupOf, a_label, a_codeOp, a_codeReg, a_codeArg, a_codeNode, a_roots, a_entries, a_states, a_results, a_chain, a_actFunction, a_pcs, a_locals, a_regs, a_pending, a_cells)) (sm_Y i j (nI p) 1 x (nI tu) (f_nodeLimit, f_slotLimit, nI DL, nI TL, nI N, nI nf, b_kinds, a_values, a_roots, a_cells, a_states, a_results, a_chain, a_actFunction, b_place, a_locals, b_savedSort, b_savedValue)) := by
  obtain ⟨hFx, hFy, hds, hcs, hV, hP, hA, hC, hR⟩ := HS
  have hO0 := hO
  obtain ⟨hi, hd, hdD, hch, hwt, hot⟩ := hO0
  obtain ⟨hf, hfn, hp1, hp2, hSV⟩ := hCu
  have hN := hFx.1
  have hds8 : ds ≤ 128 := by omega
  have hW : ∀ q, q < ds → tr_W K L q := fun q h => tr_FW hFx q (by omega)
  have hG : ∀ t, t < ds → G t < 16 := fun t ht => (cg_G16 hA ht).2
  obtain ⟨hro, hrd, hpa, hG0, hb0, ht0, hc0, hen, hex⟩ := hR.2 f hf
  have hf6 : f < 6 := by have := hR.1; omega
  subst hpr
  obtain ⟨i1, i2, i3, i4, i5⟩ := hex
  obtain ⟨d, rfl⟩ : ∃ d', d = d' + 1 := ⟨d - 1, by omega⟩
  obtain ⟨w1, w2, w3, w4, w5, w6, w7, w8, w9⟩ := hwt d (by omega)
  obtain ⟨y1, y2, y3, y4, y5⟩ := (hC.1 (pl d) w2).1 (by omega) (by omega) (by omega)
  have hnn : cg_nn (K (pl d)) = 1 := by
    unfold cg_nn
    rw [if_neg (by omega), if_neg (by omega)]
  have hgp := hG (pl d) w2
  have hsd : sm_s E pl (d + 1) = sm_s E pl d + E (pl d) := rfl
  have hEr : E (rt f) = 1 := hE.2 (rt f) (fun q' k' hq' cc => by
    have := (hP q' k' (rt f) (by omega) cc).1
    rw [hpa] at this
    exact tr_nn1 (by omega) this.symm)
  have hO2 : sm_O K L G AA rt ds nf DL a_entries i d pl fl a_states (upd a_chain i (nI (d + 1))) a_actFunction (upd (upd a_pcs (i * 4 + (d + 1)) (nI (AA (rt f) + cg_nn (K (rt f)) + 1))) (i * 4 + d) (nI (AA (pl d) + 1))) (upd a_regs ((i * 4 + d) * 16 + G (pl d)) x) a_pending b_place b_savedSort b_savedValue := by
    refine ⟨hi, by omega, by omega, pk_us, fun e he => ?_, fun i' h4 hne => ?_⟩
    · exact sm_fr_WA (a := i * 4 + d) (sm_fp _) (by omega) hds8 hG (sm_fr_WA (a := i * 4 + d) (sm_frg (by omega) _) (by omega) hds8 hG (sm_fr_WA (a := i * 4 + (d + 1)) (sm_fp _) (by omega) hds8 hG (hwt e (by omega))))
    · exact sm_fr_SL (st := a_states) (ch := a_chain) (a := i * 4 + d) (sm_fp _) (by omega) hds8 hG rfl (pk_un hne) (sm_fr_SL (a := i * 4 + d) (sm_frg (by omega) _) (by omega) hds8 hG rfl rfl (sm_fr_SL (a := i * 4 + (d + 1)) (sm_fp _) (by omega) hds8 hG rfl rfl (hot i' h4 hne)))
  rw [hG0] at hx
  refine sm_G_m (IH a_states a_results (upd a_chain i (nI (d + 1))) a_actFunction (upd (upd a_pcs (i * 4 + (d + 1)) (nI (AA (rt f) + cg_nn (K (rt f)) + 1))) (i * 4 + d) (nI (AA (pl d) + 1))) a_locals (upd a_regs ((i * 4 + d) * 16 + G (pl d)) x) a_pending a_cells b_place b_savedSort b_savedValue (k + 1) (j + 1) (d) (pl d) (fl d) (tu) (x) pl fl hO2 ⟨w3, w4, w5, w6, sv_rg hW hA (Nat.le_refl _) _ w9⟩ (by rw [pk_us, hnn]) (by rw [pk_us]) htu (by omega) (by omega) (by omega)) (fun post h => xr_exit hi hd (by omega) hch hpc (by omega) i3 (by omega) i2 (by rw [i5, hx]; exact xa_dlv hi (by omega) (by omega) hch (by omega) (Or.inr ⟨by decide, ht0⟩) rfl (by decide) (by rw [pk_un (by omega)]; exact w7) (by omega) y3 (by omega) h)) (fun post h => ye_pop hi (by omega) (by omega) hch hfn hf6 hro (by decide) (by decide) (by rw [w8]; exact h))
end
end
section
/-! cases of the simulation -/
section
variable {K L H G AA rt E : Nat → Nat} {N ds nf cs DL TL i : Nat} {Q : Int32 → SX → SY → Prop} {f_opJump f_opJumpZero f_opTurn f_opPend f_opExit f_nodeLimit f_slotLimit f_draftStart f_rowSize f_codeSize : Int32} {a_kinds a_values a_heights a_loose a_parent a_place a_firstLeaf a_row a_nodeReg a_breakTo a_tryTo a_cleanupOf a_label a_codeOp a_codeReg a_codeArg a_codeNode a_roots a_entries b_kinds : Nat → Int32}
variable {a_states a_results a_chain a_actFunction a_pcs a_locals a_regs a_pending a_cells b_place b_savedSort b_savedValue : Nat → Int32} {k j d p f tu q kq B s kk z : Nat} {x : Int32} {pl fl : Nat → Nat}
theorem sa_try1 (HS : sm_S K L H G AA rt N ds nf cs b_kinds a_kinds a_values a_parent a_place a_nodeReg a_breakTo a_tryTo a_cleanupOf a_label a_codeOp a_codeReg a_codeArg a_codeNode a_roots a_entries) (hE : sm_E K L E ds) (hD4 : DL ≤ 4) (hO : sm_O K L G AA rt ds nf DL a_entries i d pl fl a_states a_chain a_actFunction a_pcs a_regs a_pending b_place b_savedSort b_savedValue) (hCu : sm_C K L G rt ds nf i d f p a_actFunction a_regs a_pending b_savedSort b_savedValue) (hs : s = 2 ∨ s = 3 ∨ s = 4) (hkk : kk + d < 4) (hz : z < 128) (hzb : s = 2 → a_breakTo z = a_breakTo p) (hzt : s ≠ 2 → a_tryTo z = a_tryTo p) (htu : tu ≤ TL) (hB : E p + sm_s E pl d + 256 * (TL - tu) ≤ B + 1) (hkB : k + 2 * (B + 1) ≤ 60000) (hjB : j + (B + 1) ≤ 19999) (IH : sm_TS K L G AA rt E N ds nf DL TL i Q f_opJump f_opJumpZero f_opTurn f_opPend f_opExit f_nodeLimit f_slotLimit f_draftStart f_rowSize f_codeSize a_kinds a_values a_heights a_loose a_parent a_place a_firstLeaf a_row a_nodeReg a_breakTo a_tryTo a_cleanupOf a_label a_codeOp a_codeReg a_codeArg a_codeNode a_roots a_entries b_kinds B) (hpr : p < rt f) (hq : q < ds) (c : tr_ch K L q 1 p) (hk : K q = 14) : sm_G Q (sm_Ra i k kk (nI z) (nI s) x (f_opJump, f_opJumpZero, f_opTurn, f_opPend, f_opExit, f_nodeLimit, f_slotLimit, nI DL, nI TL, nI N, f_draftStart, f_rowSize, f_codeSize, nI nf, nI tu, 1, a_kinds, a_values, a_heights, a_loose, a_parent, a_place, a_firstLeaf, a_row, a_nodeReg, a_breakTo, a_tryTo, a_cleanupOf, a_label, a_codeOp, a_codeReg, a_codeArg, a_codeNode, a_roots, a_entries, a_states, a_results, a_chain, a_actFunction, a_pcs, a_locals, a_regs, a_pending, a_cells)) (sm_Y i j (nI p) (nI s) x (nI tu) (f_nodeLimit, f_slotLimit, nI DL, nI TL, nI N, nI nf, b_kinds, a_values, a_roots, a_cells, a_states, a_results, a_chain, a_actFunction, b_place, a_locals, b_savedSort, b_savedValue)) := by
  obtain ⟨hFx, hFy, hds, hcs, hV, hP, hA, hC, hR⟩ := HS
  have hO0 := hO
  obtain ⟨hi, hd, hdD, hch, hwt, hot⟩ := hO0
  obtain ⟨hf, hfn, hp1, hp2, hSV⟩ := hCu
  have hN := hFx.1
  have hds8 : ds ≤ 128 := by omega
  have hW : ∀ q, q < ds → tr_W K L q := fun q h => tr_FW hFx q (by omega)
  have hG : ∀ t, t < ds → G t < 16 := fun t ht => (cg_G16 hA ht).2
  obtain ⟨hro, hrd, hpa, hG0, hb0, ht0, hc0, hen, hex⟩ := hR.2 f hf
  have hf6 : f < 6 := by have := hR.1; omega
  have hqn := hq
  have hE1 := sm_E1 hW hE hq c
  have hup := tr_up hW hq c (rt f) hrd hp1 hpr
  have hl := tr_lt hW hq c
  have hpne : p ≠ rt f := by omega
  have hqN : q < N := by omega
  obtain ⟨e, c2, b1, b2, b3, b4, b5, b6, b7⟩ := sm_b1 hW hA hC hq c (by omega)
  have hSq := sv_up hW hq c hSV
  have hEe := hE.1 q 2 e hq c2
  have hEp := hE.1 q 1 p hq c
  have hbb : cg_bb (K q) 1 = 1 := by rw [hk]; rfl
  obtain ⟨⟨i1, i2, i3, i4, i5⟩, hlb⟩ := (hC.2 q 1 p hq c).2.2.2.2 hk rfl
  have hE2 := hEe.2.2 (by omega)
  have hE3 := hEp.2.2 (by omega)
  have hzz : ∀ w, (s = 2 → a_breakTo p = w) → (s ≠ 2 → a_tryTo p = w) → (nI s = 2 ∧ a_breakTo z = w) ∨ (¬ nI s = 2 ∧ a_tryTo z = w) := by
    intro w h1 h2
    by_cases e : s = 2
    · exact Or.inl ⟨by rw [e]; rfl, by rw [hzb e, h1 e]⟩
    · exact Or.inr ⟨fun y => e (tr_inj (b := 2) y (by omega) (by omega)), by rw [hzt e, h2 e]⟩
  have hs0 : ¬ nI s = 0 := nI_ne0 (by omega) (by omega)
  have hs1 : ¬ nI s = 1 := fun y => absurd (tr_inj (b := 1) y (by omega) (by omega)) (by omega)
  have hkt : a_kinds q = 14 := by rw [(hFx.2 q hqN).2.1, hk]; rfl
  refine sm_G_m (IH a_states a_results a_chain a_actFunction (upd a_pcs (i * 4 + d) (a_label (3 * q + 1))) a_locals (upd a_regs ((i * 4 + d) * 16 + G q) x) (upd a_pending ((i * 4 + d) * 16 + G q) (nI s)) a_cells b_place (upd b_savedSort ((i * 4 + d) * 128 + q) (nI s)) (upd b_savedValue ((i * 4 + d) * 128 + q) x) (k) (j + 1) (d) (e) (f) (tu) (x) pl fl (sm_O_fr hds8 hG (sm_fsv (by omega) _) (sm_O_fr hds8 hG (sm_fss (by omega) _) (sm_O_fr hds8 hG (sm_fpe (by omega) _) (sm_O_fr hds8 hG (sm_frg (by omega) _) (sm_O_fr hds8 hG (sm_fp _) hO))))) ⟨hf, hfn, by omega, by omega, sv_dn hW hq c2 (sv_sv hW _ (sv_ss hW _ (sv_pe hW hA (Nat.le_refl _) _ (sv_rg hW hA (Nat.le_refl _) _ hSq)))) (fun _ _ => ⟨by rw [pk_us, pk_us], fun _ => ⟨s, by omega, by omega, pk_us, pk_us⟩⟩)⟩ (by rw [pk_us, hlb, b2]) htu (by omega) (by omega) (by omega)) (fun post h => xa_land hi hd (by omega) hch hz (hzz (nI q) (fun _ => (hA.2 q 1 p hq c).2.2.1 (Or.inr ⟨hk, rfl⟩)) (fun _ => (hA.2 q 1 p hq c).2.2.2.2.1 hk rfl)) rfl (by omega) hkt (cg_G16 hA hq).1 (by omega) h) (fun post h => ye_try1 hFy hi hd (by omega) hch hfn hf6 hro (by omega) hpne hqN c hk hs0 c2 h)
theorem sa_try2 (HS : sm_S K L H G AA rt N ds nf cs b_kinds a_kinds a_values a_parent a_place a_nodeReg a_breakTo a_tryTo a_cleanupOf a_label a_codeOp a_codeReg a_codeArg a_codeNode a_roots a_entries) (hE : sm_E K L E ds) (hD4 : DL ≤ 4) (hO : sm_O K L G AA rt ds nf DL a_entries i d pl fl a_states a_chain a_actFunction a_pcs a_regs a_pending b_place b_savedSort b_savedValue) (hCu : sm_C K L G rt ds nf i d f p a_actFunction a_regs a_pending b_savedSort b_savedValue) (hs : s = 2 ∨ s = 3 ∨ s = 4) (hkk : kk + d < 4) (hz : z < 128) (hzb : s = 2 → a_breakTo z = a_breakTo p) (hzt : s ≠ 2 → a_tryTo z = a_tryTo p) (htu : tu ≤ TL) (hB : E p + sm_s E pl d + 256 * (TL - tu) ≤ B + 1) (hkB : k + 2 * (B + 1) ≤ 60000) (hjB : j + (B + 1) ≤ 19999) (IH : sm_TA K L G AA rt E N ds nf DL TL i Q f_opJump f_opJumpZero f_opTurn f_opPend f_opExit f_nodeLimit f_slotLimit f_draftStart f_rowSize f_codeSize a_kinds a_values a_heights a_loose a_parent a_place a_firstLeaf a_row a_nodeReg a_breakTo a_tryTo a_cleanupOf a_label a_codeOp a_codeReg a_codeArg a_codeNode a_roots a_entries b_kinds B) (hpr : p < rt f) (hq : q < ds) (c : tr_ch K L q 2 p) (hk : K q = 14) : sm_G Q (sm_Ra i k kk (nI z) (nI s) x (f_opJump, f_opJumpZero, f_opTurn, f_opPend, f_opExit, f_nodeLimit, f_slotLimit, nI DL, nI TL, nI N, f_draftStart, f_rowSize, f_codeSize, nI nf, nI tu, 1, a_kinds, a_values, a_heights, a_loose, a_parent, a_place, a_firstLeaf, a_row, a_nodeReg, a_breakTo, a_tryTo, a_cleanupOf, a_label, a_codeOp, a_codeReg, a_codeArg, a_codeNode, a_roots, a_entries, a_states, a_results, a_chain, a_actFunction, a_pcs, a_locals, a_regs, a_pending, a_cells)) (sm_Y i j (nI p) (nI s) x (nI tu) (f_nodeLimit, f_slotLimit, nI DL, nI TL, nI N, nI nf, b_kinds, a_values, a_roots, a_cells, a_states, a_results, a_chain, a_actFunction, b_place, a_locals, b_savedSort, b_savedValue)) := by
  obtain ⟨hFx, hFy, hds, hcs, hV, hP, hA, hC, hR⟩ := HS
  have hO0 := hO
  obtain ⟨hi, hd, hdD, hch, hwt, hot⟩ := hO0
  obtain ⟨hf, hfn, hp1, hp2, hSV⟩ := hCu
  have hN := hFx.1
  have hds8 : ds ≤ 128 := by omega
  have hW : ∀ q, q < ds → tr_W K L q := fun q h => tr_FW hFx q (by omega)
  have hG : ∀ t, t < ds → G t < 16 := fun t ht => (cg_G16 hA ht).2
  obtain ⟨hro, hrd, hpa, hG0, hb0, ht0, hc0, hen, hex⟩ := hR.2 f hf
  have hf6 : f < 6 := by have := hR.1; omega
  have hqn := hq
  have hE1 := sm_E1 hW hE hq c
  have hup := tr_up hW hq c (rt f) hrd hp1 hpr
  have hl := tr_lt hW hq c
  have hpne : p ≠ rt f := by omega
  have hqN : q < N := by omega
  have hSq := sv_up hW hq c hSV
  have hzz : ∀ w, (s = 2 → a_breakTo p = w) → (s ≠ 2 → a_tryTo p = w) → (nI s = 2 ∧ a_breakTo z = w) ∨ (¬ nI s = 2 ∧ a_tryTo z = w) := by
    intro w h1 h2
    by_cases e : s = 2
    · exact Or.inl ⟨by rw [e]; rfl, by rw [hzb e, h1 e]⟩
    · exact Or.inr ⟨fun y => e (tr_inj (b := 2) y (by omega) (by omega)), by rw [hzt e, h2 e]⟩
  have hs0 : ¬ nI s = 0 := nI_ne0 (by omega) (by omega)
  have hs1 : ¬ nI s = 1 := fun y => absurd (tr_inj (b := 1) y (by omega) (by omega)) (by omega)
  refine sm_G_m (IH a_states a_results a_chain a_actFunction a_pcs a_locals a_regs a_pending a_cells b_place b_savedSort b_savedValue (k) (j + 1) (d) (q) (f) (tu) (x) pl fl s kk z hO ⟨hf, hfn, by omega, by omega, hSq⟩ hs hkk hz (fun e => (hzb e).trans ((hA.2 q _ p hq c).2.2.2.1 (by omega))) (fun e => (hzt e).trans ((hA.2 q _ p hq c).2.2.2.2.2.1 (by omega))) htu (by omega) (by omega) (by omega)) (fun post h => h) (fun post h => ye_try2a hFy hi hd (by omega) hch hfn hf6 hro (by omega) hpne hqN c hk hs0 hs1 h)
theorem sa_abn (HS : sm_S K L H G AA rt N ds nf cs b_kinds a_kinds a_values a_parent a_place a_nodeReg a_breakTo a_tryTo a_cleanupOf a_label a_codeOp a_codeReg a_codeArg a_codeNode a_roots a_entries) (hE : sm_E K L E ds) (hD4 : DL ≤ 4) (hO : sm_O K L G AA rt ds nf DL a_entries i d pl fl a_states a_chain a_actFunction a_pcs a_regs a_pending b_place b_savedSort b_savedValue) (hCu : sm_C K L G rt ds nf i d f p a_actFunction a_regs a_pending b_savedSort b_savedValue) (hs : s = 2 ∨ s = 3 ∨ s = 4) (hkk : kk + d < 4) (hz : z < 128) (hzb : s = 2 → a_breakTo z = a_breakTo p) (hzt : s ≠ 2 → a_tryTo z = a_tryTo p) (htu : tu ≤ TL) (hB : E p + sm_s E pl d + 256 * (TL - tu) ≤ B + 1) (hkB : k + 2 * (B + 1) ≤ 60000) (hjB : j + (B + 1) ≤ 19999) (IH : sm_TA K L G AA rt E N ds nf DL TL i Q f_opJump f_opJumpZero f_opTurn f_opPend f_opExit f_nodeLimit f_slotLimit f_draftStart f_rowSize f_codeSize a_kinds a_values a_heights a_loose a_parent a_place a_firstLeaf a_row a_nodeReg a_breakTo a_tryTo a_cleanupOf a_label a_codeOp a_codeReg a_codeArg a_codeNode a_roots a_entries b_kinds B) (hpr : p < rt f) (hq : q < ds) (c : tr_ch K L q kq p) (hk : K q ≠ 14) (hk2 : K q = 11 → s ≠ 2) : sm_G Q (sm_Ra i k kk (nI z) (nI s) x (f_opJump, f_opJumpZero, f_opTurn, f_opPend, f_opExit, f_nodeLimit, f_slotLimit, nI DL, nI TL, nI N, f_draftStart, f_rowSize, f_codeSize, nI nf, nI tu, 1, a_kinds, a_values, a_heights, a_loose, a_parent, a_place, a_firstLeaf, a_row, a_nodeReg, a_breakTo, a_tryTo, a_cleanupOf, a_label, a_codeOp, a_codeReg, a_codeArg, a_codeNode, a_roots, a_entries, a_states, a_results, a_chain, a_actFunction, a_pcs, a_locals, a_regs, a_pending, a_cells)) (sm_Y i j (nI p) (nI s) x (nI tu) (f_nodeLimit, f_slotLimit, nI DL, nI TL, nI N, nI nf, b_kinds, a_values, a_roots, a_cells, a_states, a_results, a_chain, a_actFunction, b_place, a_locals, b_savedSort, b_savedValue)) := by
  obtain ⟨hFx, hFy, hds, hcs, hV, hP, hA, hC, hR⟩ := HS
  have hO0 := hO
  obtain ⟨hi, hd, hdD, hch, hwt, hot⟩ := hO0
  obtain ⟨hf, hfn, hp1, hp2, hSV⟩ := hCu
  have hN := hFx.1
  have hds8 : ds ≤ 128 := by omega
  have hW : ∀ q, q < ds → tr_W K L q := fun q h => tr_FW hFx q (by omega)
  have hG : ∀ t, t < ds → G t < 16 := fun t ht => (cg_G16 hA ht).2
  obtain ⟨hro, hrd, hpa, hG0, hb0, ht0, hc0, hen, hex⟩ := hR.2 f hf
  have hf6 : f < 6 := by have := hR.1; omega
  have hqn := hq
  have hE1 := sm_E1 hW hE hq c
  have hup := tr_up hW hq c (rt f) hrd hp1 hpr
  have hl := tr_lt hW hq c
  have hpne : p ≠ rt f := by omega
  have hqN : q < N := by omega
  have hSq := sv_up hW hq c hSV
  have hzz : ∀ w, (s = 2 → a_breakTo p = w) → (s ≠ 2 → a_tryTo p = w) → (nI s = 2 ∧ a_breakTo z = w) ∨ (¬ nI s = 2 ∧ a_tryTo z = w) := by
    intro w h1 h2
    by_cases e : s = 2
    · exact Or.inl ⟨by rw [e]; rfl, by rw [hzb e, h1 e]⟩
    · exact Or.inr ⟨fun y => e (tr_inj (b := 2) y (by omega) (by omega)), by rw [hzt e, h2 e]⟩
  have hs0 : ¬ nI s = 0 := nI_ne0 (by omega) (by omega)
  have hs1 : ¬ nI s = 1 := fun y => absurd (tr_inj (b := 1) y (by omega) (by omega)) (by omega)
  refine sm_G_m (IH a_states a_results a_chain a_actFunction a_pcs a_locals a_regs a_pending a_cells b_place b_savedSort b_savedValue (k) (j + 1) (d) (q) (f) (tu) (x) pl fl s kk z hO ⟨hf, hfn, by omega, by omega, hSq⟩ hs hkk hz (fun e => (hzb e).trans ((hA.2 q _ p hq c).2.2.2.1 (by omega))) (fun e => (hzt e).trans ((hA.2 q _ p hq c).2.2.2.2.2.1 (by omega))) htu (by omega) (by omega) (by omega)) (fun post h => h) (fun post h => ye_abn hFy hi hd (by omega) hch hfn hf6 hro (by omega) hpne hqN c hk (fun e y => hk2 e (tr_inj (b := 2) y (by omega) (by omega))) hs0 hs1 h)
theorem sa_whb (HS : sm_S K L H G AA rt N ds nf cs b_kinds a_kinds a_values a_parent a_place a_nodeReg a_breakTo a_tryTo a_cleanupOf a_label a_codeOp a_codeReg a_codeArg a_codeNode a_roots a_entries) (hE : sm_E K L E ds) (hD4 : DL ≤ 4) (hO : sm_O K L G AA rt ds nf DL a_entries i d pl fl a_states a_chain a_actFunction a_pcs a_regs a_pending b_place b_savedSort b_savedValue) (hCu : sm_C K L G rt ds nf i d f p a_actFunction a_regs a_pending b_savedSort b_savedValue) (hs : s = 2 ∨ s = 3 ∨ s = 4) (hkk : kk + d < 4) (hz : z < 128) (hzb : s = 2 → a_breakTo z = a_breakTo p) (hzt : s ≠ 2 → a_tryTo z = a_tryTo p) (htu : tu ≤ TL) (hB : E p + sm_s E pl d + 256 * (TL - tu) ≤ B + 1) (hkB : k + 2 * (B + 1) ≤ 60000) (hjB : j + (B + 1) ≤ 19999) (IH : sm_TN K L G AA rt E N ds nf DL TL i Q f_opJump f_opJumpZero f_opTurn f_opPend f_opExit f_nodeLimit f_slotLimit f_draftStart f_rowSize f_codeSize a_kinds a_values a_heights a_loose a_parent a_place a_firstLeaf a_row a_nodeReg a_breakTo a_tryTo a_cleanupOf a_label a_codeOp a_codeReg a_codeArg a_codeNode a_roots a_entries b_kinds B) (hpr : p < rt f) (hq : q < ds) (c : tr_ch K L q kq p) (hk : K q = 11) (hs2 : s = 2) : sm_G Q (sm_Ra i k kk (nI z) (nI s) x (f_opJump, f_opJumpZero, f_opTurn, f_opPend, f_opExit, f_nodeLimit, f_slotLimit, nI DL, nI TL, nI N, f_draftStart, f_rowSize, f_codeSize, nI nf, nI tu, 1, a_kinds, a_values, a_heights, a_loose, a_parent, a_place, a_firstLeaf, a_row, a_nodeReg, a_breakTo, a_tryTo, a_cleanupOf, a_label, a_codeOp, a_codeReg, a_codeArg, a_codeNode, a_roots, a_entries, a_states, a_results, a_chain, a_actFunction, a_pcs, a_locals, a_regs, a_pending, a_cells)) (sm_Y i j (nI p) (nI s) x (nI tu) (f_nodeLimit, f_slotLimit, nI DL, nI TL, nI N, nI nf, b_kinds, a_values, a_roots, a_cells, a_states, a_results, a_chain, a_actFunction, b_place, a_locals, b_savedSort, b_savedValue)) := by
  obtain ⟨hFx, hFy, hds, hcs, hV, hP, hA, hC, hR⟩ := HS
  have hO0 := hO
  obtain ⟨hi, hd, hdD, hch, hwt, hot⟩ := hO0
  obtain ⟨hf, hfn, hp1, hp2, hSV⟩ := hCu
  have hN := hFx.1
  have hds8 : ds ≤ 128 := by omega
  have hW : ∀ q, q < ds → tr_W K L q := fun q h => tr_FW hFx q (by omega)
  have hG : ∀ t, t < ds → G t < 16 := fun t ht => (cg_G16 hA ht).2
  obtain ⟨hro, hrd, hpa, hG0, hb0, ht0, hc0, hen, hex⟩ := hR.2 f hf
  have hf6 : f < 6 := by have := hR.1; omega
  have hqn := hq
  have hE1 := sm_E1 hW hE hq c
  have hup := tr_up hW hq c (rt f) hrd hp1 hpr
  have hl := tr_lt hW hq c
  have hpne : p ≠ rt f := by omega
  have hqN : q < N := by omega
  have hSq := sv_up hW hq c hSV
  have hzz : ∀ w, (s = 2 → a_breakTo p = w) → (s ≠ 2 → a_tryTo p = w) → (nI s = 2 ∧ a_breakTo z = w) ∨ (¬ nI s = 2 ∧ a_tryTo z = w) := by
    intro w h1 h2
    by_cases e : s = 2
    · exact Or.inl ⟨by rw [e]; rfl, by rw [hzb e, h1 e]⟩
    · exact Or.inr ⟨fun y => e (tr_inj (b := 2) y (by omega) (by omega)), by rw [hzt e, h2 e]⟩
  have hs0 : ¬ nI s = 0 := nI_ne0 (by omega) (by omega)
  have hs1 : ¬ nI s = 1 := fun y => absurd (tr_inj (b := 1) y (by omega) (by omega)) (by omega)
  subst hs2
  have hkt : ¬ a_kinds q = 14 := by
    rw [(hFx.2 q hqN).2.1, hk]
    decide
  obtain ⟨v1, ⟨i1, i2, i3, i4, i5⟩, v3⟩ := (hC.1 q hq).2 hk
  have hGq := hG q hq
  have hnn : cg_nn (K q) = 2 := by rw [hk]; rfl
  refine sm_G_m (IH a_states a_results a_chain a_actFunction (upd (upd a_pcs (i * 4 + d) (a_label (3 * q + 1))) (i * 4 + d) (nI (AA q + 1 + 1))) a_locals (upd a_regs ((i * 4 + d) * 16 + G q) 1) a_pending a_cells b_place b_savedSort b_savedValue (k + 1) (j + 1) (d) (q) (f) (tu) (1) pl fl (sm_O_fr hds8 hG (sm_frg (by omega) _) (sm_O_fr hds8 hG (sm_fp _) (sm_O_fr hds8 hG (sm_fp _) hO))) ⟨hf, hfn, by omega, by omega, sv_rg hW hA (Nat.le_refl _) _ hSq⟩ (by rw [pk_us, hnn]) (by rw [pk_us]) htu (by omega) (by omega) (by omega)) (fun post h => xa_landw hi hd (by omega) hch hz (hzz (nI q) (fun _ => (hA.2 q _ p hq c).2.2.1 (Or.inl hk)) (fun y => absurd rfl y)) rfl (by omega) hkt (xr_const hi hd (by omega) hch (by rw [pk_us, v3]) (by omega) i3 (by omega) i2 (by rw [i4]; exact h))) (fun post h => ye_whb hFy hi hd (by omega) hch hfn hf6 hro (by omega) hpne hqN c hk h)
theorem sa_fin (HS : sm_S K L H G AA rt N ds nf cs b_kinds a_kinds a_values a_parent a_place a_nodeReg a_breakTo a_tryTo a_cleanupOf a_label a_codeOp a_codeReg a_codeArg a_codeNode a_roots a_entries) (hE : sm_E K L E ds) (hD4 : DL ≤ 4) (hO : sm_O K L G AA rt ds nf DL a_entries i d pl fl a_states a_chain a_actFunction a_pcs a_regs a_pending b_place b_savedSort b_savedValue) (hCu : sm_C K L G rt ds nf i d f p a_actFunction a_regs a_pending b_savedSort b_savedValue) (hs : s = 2 ∨ s = 3 ∨ s = 4) (hkk : kk + d < 4) (hz : z < 128) (hzb : s = 2 → a_breakTo z = a_breakTo p) (hzt : s ≠ 2 → a_tryTo z = a_tryTo p) (htu : tu ≤ TL) (hB : E p + sm_s E pl d + 256 * (TL - tu) ≤ B + 1) (hkB : k + 2 * (B + 1) ≤ 60000) (hjB : j + (B + 1) ≤ 19999) (hQ : ∀ (a_states a_results a_chain a_actFunction a_pcs a_locals a_regs a_pending a_cells b_place b_savedSort b_savedValue : Nat → Int32) (w : Int32), (∀ i', i' < 4 → sm_SL K L G AA rt ds nf DL a_entries a_states a_chain a_actFunction a_pcs a_regs a_pending b_place b_savedSort b_savedValue i') → Q (a_states i) (f_opJump, f_opJumpZero, f_opTurn, f_opPend, f_opExit, f_nodeLimit, f_slotLimit, nI DL, nI TL, nI N, f_draftStart, f_rowSize, f_codeSize, nI nf, w, 0, a_kinds, a_values, a_heights, a_loose, a_parent, a_place, a_firstLeaf, a_row, a_nodeReg, a_breakTo, a_tryTo, a_cleanupOf, a_label, a_codeOp, a_codeReg, a_codeArg, a_codeNode, a_roots, a_entries, a_states, a_results, a_chain, a_actFunction, a_pcs, a_locals, a_regs, a_pending, a_cells) (f_nodeLimit, f_slotLimit, nI DL, nI TL, nI N, nI nf, b_kinds, a_values, a_roots, a_cells, a_states, a_results, a_chain, a_actFunction, b_place, a_locals, b_savedSort, b_savedValue)) (hpr : p = rt f) (hd0 : d = 0) : sm_G Q (sm_Ra i k kk (nI z) (nI s) x (f_opJump, f_opJumpZero, f_opTurn, f_opPend, f_opExit, f_nodeLimit, f_slotLimit, nI DL, nI TL, nI N, f_draftStart, f_rowSize, f_codeSize, nI nf, nI tu, 1, a_kinds, a_values, a_heights, a_loose, a_parent, a_place, a_firstLeaf, a_row, a_nodeReg, a_breakTo, a_tryTo, a_cleanupOf, a_label, a_codeOp, a_codeReg, a_codeArg, a_codeNode, a_roots, a_entries, a_states, a_results, a_chain, a_actFunction, a_pcs, a_locals, a_regs, a_pending, a_cells)) (sm_Y i j (nI p) (nI s) x (nI tu) (f_nodeLimit, f_slotLimit, nI DL, nI TL, nI N, nI nf, b_kinds, a_values, a_roots, a_cells, a_states, a_results, a_chain, a_actFunction, b_place, a_locals, b_savedSort, b_savedValue)) := by
  obtain ⟨hFx, hFy, hds, hcs, hV, hP, hA, hC, hR⟩ := HS
  have hO0 := hO
  obtain ⟨hi, hd, hdD, hch, hwt, hot⟩ := hO0
  obtain ⟨hf, hfn, hp1, hp2, hSV⟩ := hCu
  have hN := hFx.1
  have hds8 : ds ≤ 128 := by omega
  have hW : ∀ q, q < ds → tr_W K L q := fun q h => tr_FW hFx q (by omega)
  have hG : ∀ t, t < ds → G t < 16 := fun t ht => (cg_G16 hA ht).2
  obtain ⟨hro, hrd, hpa, hG0, hb0, ht0, hc0, hen, hex⟩ := hR.2 f hf
  have hf6 : f < 6 := by have := hR.1; omega
  subst hpr hd0
  have hzz : (nI s = 2 ∧ a_breakTo z = -1) ∨ (¬ nI s = 2 ∧ a_tryTo z = -1) := by
    by_cases e : s = 2
    · exact Or.inl ⟨by rw [e]; rfl, by rw [hzb e, hb0]⟩
    · exact Or.inr ⟨fun y => e (tr_inj (b := 2) y (by omega) (by omega)), by rw [hzt e, ht0]⟩
  have hs0 : ¬ nI s = 0 := nI_ne0 (by omega) (by omega)
  by_cases e4 : s = 4
  · subst e4
    have hfin : ∀ i', i' < 4 → sm_SL K L G AA rt ds nf DL a_entries (upd a_states i 4) (upd a_chain i 0) a_actFunction a_pcs a_regs a_pending b_place b_savedSort b_savedValue i' := by
      intro i' h4
      by_cases e : i' = i
      · subst e
        exact Or.inr (Or.inr ⟨by rw [pk_us]; decide, pk_us⟩)
      · exact sm_fr_SL (a := i * 4 + 0) (fun b hb => ⟨rfl, rfl, rfl, fun _ _ => ⟨rfl, rfl⟩, fun _ _ => ⟨rfl, rfl⟩⟩) (by omega) hds8 hG (pk_un e) (pk_un e) (hot i' h4 e)
    have hq2 := hQ (upd a_states i 4) (upd a_results i x) (upd a_chain i 0) a_actFunction a_pcs a_locals a_regs a_pending a_cells b_place b_savedSort b_savedValue (nI tu) hfin
    exact sm_G_f hq2 (fun post h => xa_fin4 hi (by omega) hch hz hzz rfl rfl (xf_end hi (by omega) h)) (fun post h => ye_fin4 hi (by omega) hch hfn hf6 hro (by rw [pk_us] at h; exact h))
  · have hs4 : ¬ nI s = 4 := fun y => e4 (tr_inj (b := 4) y (by omega) (by omega))
    have hfin : ∀ i', i' < 4 → sm_SL K L G AA rt ds nf DL a_entries (upd a_states i 3) (upd a_chain i 0) a_actFunction a_pcs a_regs a_pending b_place b_savedSort b_savedValue i' := by
      intro i' h4
      by_cases e : i' = i
      · subst e
        exact Or.inr (Or.inr ⟨by rw [pk_us]; decide, pk_us⟩)
      · exact sm_fr_SL (a := i * 4 + 0) (fun b hb => ⟨rfl, rfl, rfl, fun _ _ => ⟨rfl, rfl⟩, fun _ _ => ⟨rfl, rfl⟩⟩) (by omega) hds8 hG (pk_un e) (pk_un e) (hot i' h4 e)
    have hq2 := hQ (upd a_states i 3) (upd a_results i x) (upd a_chain i 0) a_actFunction a_pcs a_locals a_regs a_pending a_cells b_place b_savedSort b_savedValue (nI tu) hfin
    exact sm_G_f hq2 (fun post h => xa_fin hi (by omega) hch hz hzz rfl hs4 (xf_end hi (by omega) h)) (fun post h => ye_fin hi (by omega) hch hfn hf6 hro hs0 hs4 (by rw [pk_us] at h; exact h))
theorem sa_pop (HS : sm_S K L H G AA rt N ds nf cs b_kinds a_kinds a_values a_parent a_place a_nodeReg a_breakTo a_tryTo a_cleanupOf a_label a_codeOp a_codeReg a_codeArg a_codeNode a_roots a_entries) (hE : sm_E K L E ds) (hD4 : DL ≤ 4) (hO : sm_O K L G AA rt ds nf DL a_entries i d pl fl a_states a_chain a_actFunction a_pcs a_regs a_pending b_place b_savedSort b_savedValue) (hCu : sm_C K L G rt ds nf i d f p a_actFunction a_regs a_pending b_savedSort b_savedValue) (hs : s = 2 ∨ s = 3 ∨ s = 4) (hkk : kk + d < 4) (hz : z < 128) (hzb : s = 2 → a_breakTo z = a_breakTo p) (hzt : s ≠ 2 → a_tryTo z = a_tryTo p) (htu : tu ≤ TL) (hB : E p + sm_s E pl d + 256 * (TL - tu) ≤ B + 1) (hkB : k + 2 * (B + 1) ≤ 60000) (hjB : j + (B + 1) ≤ 19999) (IH : sm_TN K L G AA rt E N ds nf DL TL i Q f_opJump f_opJumpZero f_opTurn f_opPend f_opExit f_nodeLimit f_slotLimit f_draftStart f_rowSize f_codeSize a_kinds a_values a_heights a_loose a_parent a_place a_firstLeaf a_row a_nodeReg a_breakTo a_tryTo a_cleanupOf a_label a_codeOp a_codeReg a_codeArg a_codeNode a_roots a_entries b_kinds B) (hpr : p = rt f) (hd0 : 0 < d) (e4 : s ≠ 4) : sm_G Q (sm_Ra i k kk (nI z) (nI s) x (f_opJump, f_opJumpZero, f_opTurn, f_opPend, f_opExit, f_nodeLimit, f_slotLimit, nI DL, nI TL, nI N, f_draftStart, f_rowSize, f_codeSize, nI nf, nI tu, 1, a_kinds, a_values, a_heights, a_loose, a_parent, a_place, a_firstLeaf, a_row, a_nodeReg, a_breakTo, a_tryTo, a_cleanupOf, a_label, a_codeOp, a_codeReg, a_codeArg, a_codeNode, a_roots, a_entries, a_states, a_results, a_chain, a_actFunction, a_pcs, a_locals, a_regs, a_pending, a_cells)) (sm_Y i j (nI p) (nI s) x (nI tu) (f_nodeLimit, f_slotLimit, nI DL, nI TL, nI N, nI nf, b_kinds, a_values, a_roots, a_cells, a_states, a_results, a_chain, a_actFunction, b_place, a_locals, b_savedSort, b_savedValue)) := by
  obtain ⟨hFx, hFy, hds, hcs, hV, hP, hA, hC, hR⟩ := HS
  have hO0 := hO
  obtain ⟨hi, hd, hdD, hch, hwt, hot⟩ := hO0
  obtain ⟨hf, hfn, hp1, hp2, hSV⟩ := hCu
  have hN := hFx.1
  have hds8 : ds ≤ 128 := by omega
  have hW : ∀ q, q < ds → tr_W K L q := fun q h => tr_FW hFx q (by omega)
  have hG : ∀ t, t < ds → G t < 16 := fun t ht => (cg_G16 hA ht).2
  obtain ⟨hro, hrd, hpa, hG0, hb0, ht0, hc0, hen, hex⟩ := hR.2 f hf
  have hf6 : f < 6 := by have := hR.1; omega
  subst hpr
  have hzz : (nI s = 2 ∧ a_breakTo z = -1) ∨ (¬ nI s = 2 ∧ a_tryTo z = -1) := by
    by_cases e : s = 2
    · exact Or.inl ⟨by rw [e]; rfl, by rw [hzb e, hb0]⟩
    · exact Or.inr ⟨fun y => e (tr_inj (b := 2) y (by omega) (by omega)), by rw [hzt e, ht0]⟩
  have hs0 : ¬ nI s = 0 := nI_ne0 (by omega) (by omega)
  obtain ⟨d, rfl⟩ : ∃ d', d = d' + 1 := ⟨d - 1, by omega⟩
  obtain ⟨w1, w2, w3, w4, w5, w6, w7, w8, w9⟩ := hwt d (by omega)
  obtain ⟨y1, y2, y3, y4, y5⟩ := (hC.1 (pl d) w2).1 (by omega) (by omega) (by omega)
  have hnn : cg_nn (K (pl d)) = 1 := by
    unfold cg_nn
    rw [if_neg (by omega), if_neg (by omega)]
  have hgp := hG (pl d) w2
  have hsd : sm_s E pl (d + 1) = sm_s E pl d + E (pl d) := rfl
  have hEr : E (rt f) = 1 := hE.2 (rt f) (fun q' k' hq' cc => by
    have := (hP q' k' (rt f) (by omega) cc).1
    rw [hpa] at this
    exact tr_nn1 (by omega) this.symm)
  have hO2 : sm_O K L G AA rt ds nf DL a_entries i d pl fl a_states (upd a_chain i (nI (d + 1))) a_actFunction (upd a_pcs (i * 4 + d) (nI (AA (pl d) + 1))) (upd a_regs ((i * 4 + d) * 16 + G (pl d)) x) a_pending b_place b_savedSort b_savedValue := by
    refine ⟨hi, by omega, by omega, pk_us, fun e he => ?_, fun i' h4 hne => ?_⟩
    · exact sm_fr_WA (a := i * 4 + d) (sm_fp _) (by omega) hds8 hG (sm_fr_WA (a := i * 4 + d) (sm_frg (by omega) _) (by omega) hds8 hG (hwt e (by omega)))
    · exact sm_fr_SL (st := a_states) (ch := a_chain) (a := i * 4 + d) (sm_fp _) (by omega) hds8 hG rfl (pk_un hne) (sm_fr_SL (a := i * 4 + d) (sm_frg (by omega) _) (by omega) hds8 hG rfl rfl (hot i' h4 hne))
  have hs4 : ¬ nI s = 4 := fun y => e4 (tr_inj (b := 4) y (by omega) (by omega))
  refine sm_G_m (IH a_states a_results (upd a_chain i (nI (d + 1))) a_actFunction (upd a_pcs (i * 4 + d) (nI (AA (pl d) + 1))) a_locals (upd a_regs ((i * 4 + d) * 16 + G (pl d)) x) a_pending a_cells b_place b_savedSort b_savedValue (k) (j + 1) (d) (pl d) (fl d) (tu) (x) pl fl hO2 ⟨w3, w4, w5, w6, sv_rg hW hA (Nat.le_refl _) _ w9⟩ (by rw [pk_us, hnn]) (by rw [pk_us]) htu (by omega) (by omega) (by omega)) (fun post h => xa_dlv hi (by omega) (by omega) hch hz hzz rfl hs4 w7 (by omega) y3 (by omega) h) (fun post h => ye_pop hi (by omega) (by omega) hch hfn hf6 hro hs0 hs4 (by rw [w8]; exact h))
theorem sa_pop4 (HS : sm_S K L H G AA rt N ds nf cs b_kinds a_kinds a_values a_parent a_place a_nodeReg a_breakTo a_tryTo a_cleanupOf a_label a_codeOp a_codeReg a_codeArg a_codeNode a_roots a_entries) (hE : sm_E K L E ds) (hD4 : DL ≤ 4) (hO : sm_O K L G AA rt ds nf DL a_entries i d pl fl a_states a_chain a_actFunction a_pcs a_regs a_pending b_place b_savedSort b_savedValue) (hCu : sm_C K L G rt ds nf i d f p a_actFunction a_regs a_pending b_savedSort b_savedValue) (hs : s = 2 ∨ s = 3 ∨ s = 4) (hkk : kk + d < 4) (hz : z < 128) (hzb : s = 2 → a_breakTo z = a_breakTo p) (hzt : s ≠ 2 → a_tryTo z = a_tryTo p) (htu : tu ≤ TL) (hB : E p + sm_s E pl d + 256 * (TL - tu) ≤ B + 1) (hkB : k + 2 * (B + 1) ≤ 60000) (hjB : j + (B + 1) ≤ 19999) (IH : sm_TA K L G AA rt E N ds nf DL TL i Q f_opJump f_opJumpZero f_opTurn f_opPend f_opExit f_nodeLimit f_slotLimit f_draftStart f_rowSize f_codeSize a_kinds a_values a_heights a_loose a_parent a_place a_firstLeaf a_row a_nodeReg a_breakTo a_tryTo a_cleanupOf a_label a_codeOp a_codeReg a_codeArg a_codeNode a_roots a_entries b_kinds B) (hpr : p = rt f) (hd0 : 0 < d) (e4 : s = 4) : sm_G Q (sm_Ra i k kk (nI z) (nI s) x (f_opJump, f_opJumpZero, f_opTurn, f_opPend, f_opExit, f_nodeLimit, f_slotLimit, nI DL, nI TL, nI N, f_draftStart, f_rowSize, f_codeSize, nI nf, nI tu, 1, a_kinds, a_values, a_heights, a_loose, a_parent, a_place, a_firstLeaf, a_row, a_nodeReg, a_breakTo, a_tryTo, a_cleanupOf, a_label, a_codeOp, a_codeReg, a_codeArg, a_codeNode, a_roots, a_entries, a_states, a_results, a_chain, a_actFunction, a_pcs, a_locals, a_regs, a_pending, a_cells)) (sm_Y i j (nI p) (nI s) x (nI tu) (f_nodeLimit, f_slotLimit, nI DL, nI TL, nI N, nI nf, b_kinds, a_values, a_roots, a_cells, a_states, a_results, a_chain, a_actFunction, b_place, a_locals, b_savedSort, b_savedValue)) := by
  obtain ⟨hFx, hFy, hds, hcs, hV, hP, hA, hC, hR⟩ := HS
  have hO0 := hO
  obtain ⟨hi, hd, hdD, hch, hwt, hot⟩ := hO0
  obtain ⟨hf, hfn, hp1, hp2, hSV⟩ := hCu
  have hN := hFx.1
  have hds8 : ds ≤ 128 := by omega
  have hW : ∀ q, q < ds → tr_W K L q := fun q h => tr_FW hFx q (by omega)
  have hG : ∀ t, t < ds → G t < 16 := fun t ht => (cg_G16 hA ht).2
  obtain ⟨hro, hrd, hpa, hG0, hb0, ht0, hc0, hen, hex⟩ := hR.2 f hf
  have hf6 : f < 6 := by have := hR.1; omega
  subst hpr
  have hzz : (nI s = 2 ∧ a_breakTo z = -1) ∨ (¬ nI s = 2 ∧ a_tryTo z = -1) := by
    by_cases e : s = 2
    · exact Or.inl ⟨by rw [e]; rfl, by rw [hzb e, hb0]⟩
    · exact Or.inr ⟨fun y => e (tr_inj (b := 2) y (by omega) (by omega)), by rw [hzt e, ht0]⟩
  have hs0 : ¬ nI s = 0 := nI_ne0 (by omega) (by omega)
  subst e4
  obtain ⟨d, rfl⟩ : ∃ d', d = d' + 1 := ⟨d - 1, by omega⟩
  obtain ⟨w1, w2, w3, w4, w5, w6, w7, w8, w9⟩ := hwt d (by omega)
  obtain ⟨y1, y2, y3, y4, y5⟩ := (hC.1 (pl d) w2).1 (by omega) (by omega) (by omega)
  have hnn : cg_nn (K (pl d)) = 1 := by
    unfold cg_nn
    rw [if_neg (by omega), if_neg (by omega)]
  have hgp := hG (pl d) w2
  have hsd : sm_s E pl (d + 1) = sm_s E pl d + E (pl d) := rfl
  have hEr : E (rt f) = 1 := hE.2 (rt f) (fun q' k' hq' cc => by
    have := (hP q' k' (rt f) (by omega) cc).1
    rw [hpa] at this
    exact tr_nn1 (by omega) this.symm)
  have hO2 : sm_O K L G AA rt ds nf DL a_entries i d pl fl a_states (upd a_chain i (nI (d + 1))) a_actFunction (a_pcs) (a_regs) a_pending b_place b_savedSort b_savedValue := by
    refine ⟨hi, by omega, by omega, pk_us, fun e he => ?_, fun i' h4 hne => ?_⟩
    · exact hwt e (by omega)
    · exact sm_fr_SL (st := a_states) (ch := a_chain) (a := i * 4 + d) (fun b hb => ⟨rfl, rfl, rfl, fun _ _ => ⟨rfl, rfl⟩, fun _ _ => ⟨rfl, rfl⟩⟩) (by omega) hds8 hG rfl (pk_un hne) (hot i' h4 hne)
  refine sm_G_m (IH a_states a_results (upd a_chain i (nI (d + 1))) a_actFunction a_pcs a_locals a_regs a_pending a_cells b_place b_savedSort b_savedValue (k) (j + 1) (d) (pl d) (fl d) (tu) (x) pl fl 4 (kk + 1) (pl d) hO2 ⟨w3, w4, w5, w6, w9⟩ (by omega) (by omega) (by omega) (fun w => absurd w (by decide)) (fun _ => rfl) htu (by omega) (by omega) (by omega)) (fun post h => xa_pop hi (by omega) (by omega) hch hz hzz rfl rfl w7 (by omega) (by rw [y5]; exact h)) (fun post h => ye_pop4 hi (by omega) (by omega) hch hfn hf6 hro (by rw [w8]; exact h))
end
end
section
/-! the simulation, put together -/
section
variable {K L H G AA rt E : Nat → Nat} {N ds nf cs DL TL i : Nat} {Q : Int32 → SX → SY → Prop} {f_opJump f_opJumpZero f_opTurn f_opPend f_opExit f_nodeLimit f_slotLimit f_draftStart f_rowSize f_codeSize : Int32} {a_kinds a_values a_heights a_loose a_parent a_place a_firstLeaf a_row a_nodeReg a_breakTo a_tryTo a_cleanupOf a_label a_codeOp a_codeReg a_codeArg a_codeNode a_roots a_entries b_kinds : Nat → Int32}
variable {a_states a_results a_chain a_actFunction a_pcs a_locals a_regs a_pending a_cells b_place b_savedSort b_savedValue : Nat → Int32} {k j d p f tu q kq B s kk z : Nat} {x : Int32} {pl fl : Nat → Nat}

theorem sm_Epos {n : Nat} (h : ∀ q, q < n → tr_W K L q) (hE : sm_E K L E n) (p : Nat) : 1 ≤ E p := by
  by_cases z : ∃ q k, q < n ∧ tr_ch K L q k p
  · obtain ⟨q, k, hq, c⟩ := z
    have := sm_E1 h hE hq c
    omega
  · have := hE.2 p (fun q k hq c => z ⟨q, k, hq, c⟩)
    omega
theorem sm_Ert (HS : sm_S K L H G AA rt N ds nf cs b_kinds a_kinds a_values a_parent a_place a_nodeReg a_breakTo a_tryTo a_cleanupOf a_label a_codeOp a_codeReg a_codeArg a_codeNode a_roots a_entries) (hE : sm_E K L E ds) (hD4 : DL ≤ 4) {f : Nat} (hf : f < nf) : E (rt f) = 1 ∧ ∀ e, L (rt f) ≤ e → e ≤ rt f → E e + 2 * (e - L e) + 1 ≤ 256 := by
  obtain ⟨hFx, hFy, hds, hcs, hV, hP, hA, hC, hR⟩ := HS
  obtain ⟨hro, hrd, hpa, hG0, hb0, ht0, hc0, hen, hex⟩ := hR.2 f hf
  have hN := hFx.1
  have hW : ∀ q, q < ds → tr_W K L q := fun q h => tr_FW hFx q (by omega)
  have hEr : E (rt f) = 1 := hE.2 (rt f) (fun q' k' hq' cc => by
    have := (hP q' k' (rt f) (by omega) cc).1
    rw [hpa] at this
    exact tr_nn1 (by omega) this.symm)
  refine ⟨hEr, fun e h1 h2 => ?_⟩
  have := sm_E2 hW hE hrd hEr (rt f - e) e h1 (by omega)
  omega
theorem sm_stepS (HS : sm_S K L H G AA rt N ds nf cs b_kinds a_kinds a_values a_parent a_place a_nodeReg a_breakTo a_tryTo a_cleanupOf a_label a_codeOp a_codeReg a_codeArg a_codeNode a_roots a_entries) (hE : sm_E K L E ds) (hD4 : DL ≤ 4) (hO : sm_O K L G AA rt ds nf DL a_entries i d pl fl a_states a_chain a_actFunction a_pcs a_regs a_pending b_place b_savedSort b_savedValue) (hCu : sm_C K L G rt ds nf i d f p a_actFunction a_regs a_pending b_savedSort b_savedValue) (hpc : a_pcs (i * 4 + d) = nI (AA (L p))) (htu : tu ≤ TL) (hB : E p + 2 * (p - L p) + 1 + sm_s E pl d + 256 * (TL - tu) ≤ B + 1) (hkB : k + 2 * (B + 1) ≤ 60000) (hjB : j + (B + 1) ≤ 19999) (IHS : sm_TS K L G AA rt E N ds nf DL TL i Q f_opJump f_opJumpZero f_opTurn f_opPend f_opExit f_nodeLimit f_slotLimit f_draftStart f_rowSize f_codeSize a_kinds a_values a_heights a_loose a_parent a_place a_firstLeaf a_row a_nodeReg a_breakTo a_tryTo a_cleanupOf a_label a_codeOp a_codeReg a_codeArg a_codeNode a_roots a_entries b_kinds B) (IHN : sm_TN K L G AA rt E N ds nf DL TL i Q f_opJump f_opJumpZero f_opTurn f_opPend f_opExit f_nodeLimit f_slotLimit f_draftStart f_rowSize f_codeSize a_kinds a_values a_heights a_loose a_parent a_place a_firstLeaf a_row a_nodeReg a_breakTo a_tryTo a_cleanupOf a_label a_codeOp a_codeReg a_codeArg a_codeNode a_roots a_entries b_kinds B) (IHA : sm_TA K L G AA rt E N ds nf DL TL i Q f_opJump f_opJumpZero f_opTurn f_opPend f_opExit f_nodeLimit f_slotLimit f_draftStart f_rowSize f_codeSize a_kinds a_values a_heights a_loose a_parent a_place a_firstLeaf a_row a_nodeReg a_breakTo a_tryTo a_cleanupOf a_label a_codeOp a_codeReg a_codeArg a_codeNode a_roots a_entries b_kinds B) : sm_G Q (sm_X i k (f_opJump, f_opJumpZero, f_opTurn, f_opPend, f_opExit, f_nodeLimit, f_slotLimit, nI DL, nI TL, nI N, f_draftStart, f_rowSize, f_codeSize, nI nf, nI tu, 1, a_kinds, a_values, a_heights, a_loose, a_parent, a_place, a_firstLeaf, a_row, a_nodeReg, a_breakTo, a_tryTo, a_cleanupOf, a_label, a_codeOp, a_codeReg, a_codeArg, a_codeNode, a_roots, a_entries, a_states, a_results, a_chain, a_actFunction, a_pcs, a_locals, a_regs, a_pending, a_cells)) (sm_Y i j (nI p) 0 x (nI tu) (f_nodeLimit, f_slotLimit, nI DL, nI TL, nI N, nI nf, b_kinds, a_values, a_roots, a_cells, a_states, a_results, a_chain, a_actFunction, b_place, a_locals, b_savedSort, b_savedValue)) := by
  have hpd : p < ds := by
    have := (HS.2.2.2.2.2.2.2.2.2 f hCu.1).2.1
    have := hCu.2.2.2.1
    omega
  rcases tr_ar_c (K p) with ⟨w, w'⟩ | ⟨w, w'⟩ | ⟨w, w'⟩ | ⟨w, w'⟩
  · have : K p = 0 ∨ K p = 1 ∨ K p = 2 ∨ K p = 12 := by omega
    rcases this with e | e | e | e
    · exact ss_const HS hE hD4 hO hCu hpc htu hB hkB hjB IHN hpd e
    · exact ss_local HS hE hD4 hO hCu hpc htu hB hkB hjB IHN hpd e
    · exact ss_shared HS hE hD4 hO hCu hpc htu hB hkB hjB IHN hpd e
    · exact ss_break HS hE hD4 hO hCu hpc htu hB hkB hjB IHA hpd e
  · exact ss_go HS hE hD4 hO hCu hpc htu hB hkB hjB IHS hpd (by omega)
  · exact ss_go HS hE hD4 hO hCu hpc htu hB hkB hjB IHS hpd (by omega)
  · exact ss_go HS hE hD4 hO hCu hpc htu hB hkB hjB IHS hpd (by omega)
theorem sm_stepN (HS : sm_S K L H G AA rt N ds nf cs b_kinds a_kinds a_values a_parent a_place a_nodeReg a_breakTo a_tryTo a_cleanupOf a_label a_codeOp a_codeReg a_codeArg a_codeNode a_roots a_entries) (hE : sm_E K L E ds) (hD4 : DL ≤ 4) (hO : sm_O K L G AA rt ds nf DL a_entries i d pl fl a_states a_chain a_actFunction a_pcs a_regs a_pending b_place b_savedSort b_savedValue) (hCu : sm_C K L G rt ds nf i d f p a_actFunction a_regs a_pending b_savedSort b_savedValue) (hpc : a_pcs (i * 4 + d) = nI (AA p + cg_nn (K p))) (hx : a_regs ((i * 4 + d) * 16 + G p) = x) (htu : tu ≤ TL) (hTL : TL ≤ 48) (hB : E p + sm_s E pl d + 256 * (TL - tu) ≤ B + 1) (hkB : k + 2 * (B + 1) ≤ 60000) (hjB : j + (B + 1) ≤ 19999) (hQ : ∀ (a_states a_results a_chain a_actFunction a_pcs a_locals a_regs a_pending a_cells b_place b_savedSort b_savedValue : Nat → Int32) (w : Int32), (∀ i', i' < 4 → sm_SL K L G AA rt ds nf DL a_entries a_states a_chain a_actFunction a_pcs a_regs a_pending b_place b_savedSort b_savedValue i') → Q (a_states i) (f_opJump, f_opJumpZero, f_opTurn, f_opPend, f_opExit, f_nodeLimit, f_slotLimit, nI DL, nI TL, nI N, f_draftStart, f_rowSize, f_codeSize, nI nf, w, 0, a_kinds, a_values, a_heights, a_loose, a_parent, a_place, a_firstLeaf, a_row, a_nodeReg, a_breakTo, a_tryTo, a_cleanupOf, a_label, a_codeOp, a_codeReg, a_codeArg, a_codeNode, a_roots, a_entries, a_states, a_results, a_chain, a_actFunction, a_pcs, a_locals, a_regs, a_pending, a_cells) (f_nodeLimit, f_slotLimit, nI DL, nI TL, nI N, nI nf, b_kinds, a_values, a_roots, a_cells, a_states, a_results, a_chain, a_actFunction, b_place, a_locals, b_savedSort, b_savedValue)) (IHS : sm_TS K L G AA rt E N ds nf DL TL i Q f_opJump f_opJumpZero f_opTurn f_opPend f_opExit f_nodeLimit f_slotLimit f_draftStart f_rowSize f_codeSize a_kinds a_values a_heights a_loose a_parent a_place a_firstLeaf a_row a_nodeReg a_breakTo a_tryTo a_cleanupOf a_label a_codeOp a_codeReg a_codeArg a_codeNode a_roots a_entries b_kinds B) (IHN : sm_TN K L G AA rt E N ds nf DL TL i Q f_opJump f_opJumpZero f_opTurn f_opPend f_opExit f_nodeLimit f_slotLimit f_draftStart f_rowSize f_codeSize a_kinds a_values a_heights a_loose a_parent a_place a_firstLeaf a_row a_nodeReg a_breakTo a_tryTo a_cleanupOf a_label a_codeOp a_codeReg a_codeArg a_codeNode a_roots a_entries b_kinds B) (IHA : sm_TA K L G AA rt E N ds nf DL TL i Q f_opJump f_opJumpZero f_opTurn f_opPend f_opExit f_nodeLimit f_slotLimit f_draftStart f_rowSize f_codeSize a_kinds a_values a_heights a_loose a_parent a_place a_firstLeaf a_row a_nodeReg a_breakTo a_tryTo a_cleanupOf a_label a_codeOp a_codeReg a_codeArg a_codeNode a_roots a_entries b_kinds B) : sm_G Q (sm_X i k (f_opJump, f_opJumpZero, f_opTurn, f_opPend, f_opExit, f_nodeLimit, f_slotLimit, nI DL, nI TL, nI N, f_draftStart, f_rowSize, f_codeSize, nI nf, nI tu, 1, a_kinds, a_values, a_heights, a_loose, a_parent, a_place, a_firstLeaf, a_row, a_nodeReg, a_breakTo, a_tryTo, a_cleanupOf, a_label, a_codeOp, a_codeReg, a_codeArg, a_codeNode, a_roots, a_entries, a_states, a_results, a_chain, a_actFunction, a_pcs, a_locals, a_regs, a_pending, a_cells)) (sm_Y i j (nI p) 1 x (nI tu) (f_nodeLimit, f_slotLimit, nI DL, nI TL, nI N, nI nf, b_kinds, a_values, a_roots, a_cells, a_states, a_results, a_chain, a_actFunction, b_place, a_locals, b_savedSort, b_savedValue)) := by
  have hrt := HS.2.2.2.2.2.2.2.2.2 f hCu.1
  by_cases hpr : p = rt f
  · by_cases hd0 : d = 0
    · exact sn_fin HS hE hD4 hO hCu hpc hx htu hB hkB hjB hQ hpr hd0
    · exact sn_pop HS hE hD4 hO hCu hpc hx htu hB hkB hjB IHN hpr (by omega)
  · have hW : ∀ q, q < ds → tr_W K L q := fun q h => tr_FW HS.1 q (by have := HS.2.2.1; omega)
    have hlt : p < rt f := by
      have := hCu.2.2.2.1
      omega
    obtain ⟨q, kq, c, hqr⟩ := tr_pex hW (rt f) hrt.2.1 p hCu.2.2.1 hlt
    have hq : q < ds := by
      have := hrt.2.1
      omega
    have hl := tr_lt hW hq c
    have h16 := (HS.1.2 q (by have := HS.2.2.1; omega)).2.2
    by_cases e : K q = 3
    · exact sn_setl HS hE hD4 hO hCu hpc hx htu hB hkB hjB IHN hlt hq c e
    by_cases e : K q = 4
    · exact sn_sets HS hE hD4 hO hCu hpc hx htu hB hkB hjB IHN hlt hq c e
    by_cases e : K q = 13
    · exact sn_ret HS hE hD4 hO hCu hpc hx htu hB hkB hjB IHA hlt hq c e
    by_cases e : K q = 15
    · exact sn_yield HS hE hD4 hO hCu hpc hx htu hB hkB hjB hQ hlt hq c e
    by_cases e : K q = 16
    · obtain ⟨v, hv6, hv⟩ := (HS.2.2.2.2.1 q (by have := HS.2.2.1; omega)).2.1 e
      by_cases w : v < nf ∧ d + 1 < DL
      · by_cases ht : tu = TL
        · exact sn_dels HS hE hD4 hO hCu hpc hx htu hTL hB hkB hjB hQ hlt hq c e w.1 hv w.2 ht
        · exact sn_delg HS hE hD4 hO hCu hpc hx htu hTL hB hkB hjB IHS hlt hq c e w.1 hv w.2 (by omega)
      · refine sn_del HS hE hD4 hO hCu hpc hx htu hB hkB hjB IHN hlt hq c e (fun v' hv' hv6' => ?_)
        have : v' = v := tr_inj (hv'.symm.trans hv) (by omega) (by omega)
        omega
    rcases tr_ar_c (K q) with ⟨w, w'⟩ | ⟨w, w'⟩ | ⟨w, w'⟩ | ⟨w, w'⟩
    · omega
    · omega
    · have : kq = 1 ∨ kq = 2 ∨ kq = 3 := by omega
      rcases this with rfl | rfl | rfl
      · by_cases z : x = 0
        · exact sn_if1z HS hE hD4 hO hCu hpc hx htu hB hkB hjB IHS hlt hq c w' z
        · exact sn_if1n HS hE hD4 hO hCu hpc hx htu hB hkB hjB IHS hlt hq c w' z
      · exact sn_if2 HS hE hD4 hO hCu hpc hx htu hB hkB hjB IHN hlt hq c w'
      · exact sn_if3 HS hE hD4 hO hCu hpc hx htu hB hkB hjB IHN hlt hq c w'
    · have : kq = 1 ∨ kq = 2 := by omega
      rcases this with rfl | rfl
      · by_cases z : K q = 9
        · exact sn_seq1 HS hE hD4 hO hCu hpc hx htu hB hkB hjB IHS hlt hq c z
        by_cases z : K q = 14
        · exact sn_try1 HS hE hD4 hO hCu hpc hx htu hB hkB hjB IHS hlt hq c z
        by_cases z : K q = 11
        · by_cases y : x = 0
          · exact sn_wh1z HS hE hD4 hO hCu hpc hx htu hB hkB hjB IHN hlt hq c z y
          · by_cases ht : tu = TL
            · exact sn_wh1s HS hE hD4 hO hCu hpc hx htu hTL hB hkB hjB hQ hlt hq c z y ht
            · exact sn_wh1t HS hE hD4 hO hCu hpc hx htu hTL hB hkB hjB IHS hlt hq c z y (by omega) (sm_Ert HS hE hD4 hCu.1).2
        exact sn_bin1 HS hE hD4 hO hCu hpc hx htu hB hkB hjB IHS hlt hq c (by omega)
      · by_cases z : K q = 9
        · exact sn_seq2 HS hE hD4 hO hCu hpc hx htu hB hkB hjB IHN hlt hq c z
        by_cases z : K q = 14
        · exact sn_try2 HS hE hD4 hO hCu hpc hx htu hB hkB hjB IHN IHA hlt hq c z
        by_cases z : K q = 11
        · exact sn_wh2 HS hE hD4 hO hCu hpc hx htu hB hkB hjB IHS hlt hq c z
        by_cases z : K q = 5
        · exact sn_add HS hE hD4 hO hCu hpc hx htu hB hkB hjB IHN hlt hq c z
        by_cases z : K q = 6
        · exact sn_sub HS hE hD4 hO hCu hpc hx htu hB hkB hjB IHN hlt hq c z
        by_cases z : K q = 7
        · exact sn_mul HS hE hD4 hO hCu hpc hx htu hB hkB hjB IHN hlt hq c z
        exact sn_less HS hE hD4 hO hCu hpc hx htu hB hkB hjB IHN hlt hq c (by omega)
theorem sm_stepA (HS : sm_S K L H G AA rt N ds nf cs b_kinds a_kinds a_values a_parent a_place a_nodeReg a_breakTo a_tryTo a_cleanupOf a_label a_codeOp a_codeReg a_codeArg a_codeNode a_roots a_entries) (hE : sm_E K L E ds) (hD4 : DL ≤ 4) (hO : sm_O K L G AA rt ds nf DL a_entries i d pl fl a_states a_chain a_actFunction a_pcs a_regs a_pending b_place b_savedSort b_savedValue) (hCu : sm_C K L G rt ds nf i d f p a_actFunction a_regs a_pending b_savedSort b_savedValue) (hs : s = 2 ∨ s = 3 ∨ s = 4) (hkk : kk + d < 4) (hz : z < 128) (hzb : s = 2 → a_breakTo z = a_breakTo p) (hzt : s ≠ 2 → a_tryTo z = a_tryTo p) (htu : tu ≤ TL) (hB : E p + sm_s E pl d + 256 * (TL - tu) ≤ B + 1) (hkB : k + 2 * (B + 1) ≤ 60000) (hjB : j + (B + 1) ≤ 19999) (hQ : ∀ (a_states a_results a_chain a_actFunction a_pcs a_locals a_regs a_pending a_cells b_place b_savedSort b_savedValue : Nat → Int32) (w : Int32), (∀ i', i' < 4 → sm_SL K L G AA rt ds nf DL a_entries a_states a_chain a_actFunction a_pcs a_regs a_pending b_place b_savedSort b_savedValue i') → Q (a_states i) (f_opJump, f_opJumpZero, f_opTurn, f_opPend, f_opExit, f_nodeLimit, f_slotLimit, nI DL, nI TL, nI N, f_draftStart, f_rowSize, f_codeSize, nI nf, w, 0, a_kinds, a_values, a_heights, a_loose, a_parent, a_place, a_firstLeaf, a_row, a_nodeReg, a_breakTo, a_tryTo, a_cleanupOf, a_label, a_codeOp, a_codeReg, a_codeArg, a_codeNode, a_roots, a_entries, a_states, a_results, a_chain, a_actFunction, a_pcs, a_locals, a_regs, a_pending, a_cells) (f_nodeLimit, f_slotLimit, nI DL, nI TL, nI N, nI nf, b_kinds, a_values, a_roots, a_cells, a_states, a_results, a_chain, a_actFunction, b_place, a_locals, b_savedSort, b_savedValue)) (IHS : sm_TS K L G AA rt E N ds nf DL TL i Q f_opJump f_opJumpZero f_opTurn f_opPend f_opExit f_nodeLimit f_slotLimit f_draftStart f_rowSize f_codeSize a_kinds a_values a_heights a_loose a_parent a_place a_firstLeaf a_row a_nodeReg a_breakTo a_tryTo a_cleanupOf a_label a_codeOp a_codeReg a_codeArg a_codeNode a_roots a_entries b_kinds B) (IHN : sm_TN K L G AA rt E N ds nf DL TL i Q f_opJump f_opJumpZero f_opTurn f_opPend f_opExit f_nodeLimit f_slotLimit f_draftStart f_rowSize f_codeSize a_kinds a_values a_heights a_loose a_parent a_place a_firstLeaf a_row a_nodeReg a_breakTo a_tryTo a_cleanupOf a_label a_codeOp a_codeReg a_codeArg a_codeNode a_roots a_entries b_kinds B) (IHA : sm_TA K L G AA rt E N ds nf DL TL i Q f_opJump f_opJumpZero f_opTurn f_opPend f_opExit f_nodeLimit f_slotLimit f_draftStart f_rowSize f_codeSize a_kinds a_values a_heights a_loose a_parent a_place a_firstLeaf a_row a_nodeReg a_breakTo a_tryTo a_cleanupOf a_label a_codeOp a_codeReg a_codeArg a_codeNode a_roots a_entries b_kinds B) : sm_G Q (sm_Ra i k kk (nI z) (nI s) x (f_opJump, f_opJumpZero, f_opTurn, f_opPend, f_opExit, f_nodeLimit, f_slotLimit, nI DL, nI TL, nI N, f_draftStart, f_rowSize, f_codeSize, nI nf, nI tu, 1, a_kinds, a_values, a_heights, a_loose, a_parent, a_place, a_firstLeaf, a_row, a_nodeReg, a_breakTo, a_tryTo, a_cleanupOf, a_label, a_codeOp, a_codeReg, a_codeArg, a_codeNode, a_roots, a_entries, a_states, a_results, a_chain, a_actFunction, a_pcs, a_locals, a_regs, a_pending, a_cells)) (sm_Y i j (nI p) (nI s) x (nI tu) (f_nodeLimit, f_slotLimit, nI DL, nI TL, nI N, nI nf, b_kinds, a_values, a_roots, a_cells, a_states, a_results, a_chain, a_actFunction, b_place, a_locals, b_savedSort, b_savedValue)) := by
  have hrt := HS.2.2.2.2.2.2.2.2.2 f hCu.1
  by_cases hpr : p = rt f
  · by_cases hd0 : d = 0
    · exact sa_fin HS hE hD4 hO hCu hs hkk hz hzb hzt htu hB hkB hjB hQ hpr hd0
    · by_cases e4 : s = 4
      · exact sa_pop4 HS hE hD4 hO hCu hs hkk hz hzb hzt htu hB hkB hjB IHA hpr (by omega) e4
      · exact sa_pop HS hE hD4 hO hCu hs hkk hz hzb hzt htu hB hkB hjB IHN hpr (by omega) e4
  · have hW : ∀ q, q < ds → tr_W K L q := fun q h => tr_FW HS.1 q (by have := HS.2.2.1; omega)
    have hlt : p < rt f := by
      have := hCu.2.2.2.1
      omega
    obtain ⟨q, kq, c, hqr⟩ := tr_pex hW (rt f) hrt.2.1 p hCu.2.2.1 hlt
    have hq : q < ds := by
      have := hrt.2.1
      omega
    have hl := tr_lt hW hq c
    by_cases e : K q = 14
    · have har : tr_ar (K q) = 2 := by rw [e]; rfl
      have : kq = 1 ∨ kq = 2 := by omega
      rcases this with rfl | rfl
      · exact sa_try1 HS hE hD4 hO hCu hs hkk hz hzb hzt htu hB hkB hjB IHS hlt hq c e
      · exact sa_try2 HS hE hD4 hO hCu hs hkk hz hzb hzt htu hB hkB hjB IHA hlt hq c e
    · by_cases w : K q = 11 ∧ s = 2
      · exact sa_whb HS hE hD4 hO hCu hs hkk hz hzb hzt htu hB hkB hjB IHN hlt hq c w.1 w.2
      · exact sa_abn HS hE hD4 hO hCu hs hkk hz hzb hzt htu hB hkB hjB IHA hlt hq c e (by omega)
theorem sm_all (HS : sm_S K L H G AA rt N ds nf cs b_kinds a_kinds a_values a_parent a_place a_nodeReg a_breakTo a_tryTo a_cleanupOf a_label a_codeOp a_codeReg a_codeArg a_codeNode a_roots a_entries) (hE : sm_E K L E ds) (hD4 : DL ≤ 4) (hTL : TL ≤ 48) (hQ : ∀ (a_states a_results a_chain a_actFunction a_pcs a_locals a_regs a_pending a_cells b_place b_savedSort b_savedValue : Nat → Int32) (w : Int32), (∀ i', i' < 4 → sm_SL K L G AA rt ds nf DL a_entries a_states a_chain a_actFunction a_pcs a_regs a_pending b_place b_savedSort b_savedValue i') → Q (a_states i) (f_opJump, f_opJumpZero, f_opTurn, f_opPend, f_opExit, f_nodeLimit, f_slotLimit, nI DL, nI TL, nI N, f_draftStart, f_rowSize, f_codeSize, nI nf, w, 0, a_kinds, a_values, a_heights, a_loose, a_parent, a_place, a_firstLeaf, a_row, a_nodeReg, a_breakTo, a_tryTo, a_cleanupOf, a_label, a_codeOp, a_codeReg, a_codeArg, a_codeNode, a_roots, a_entries, a_states, a_results, a_chain, a_actFunction, a_pcs, a_locals, a_regs, a_pending, a_cells) (f_nodeLimit, f_slotLimit, nI DL, nI TL, nI N, nI nf, b_kinds, a_values, a_roots, a_cells, a_states, a_results, a_chain, a_actFunction, b_place, a_locals, b_savedSort, b_savedValue)) : ∀ B, sm_TS K L G AA rt E N ds nf DL TL i Q f_opJump f_opJumpZero f_opTurn f_opPend f_opExit f_nodeLimit f_slotLimit f_draftStart f_rowSize f_codeSize a_kinds a_values a_heights a_loose a_parent a_place a_firstLeaf a_row a_nodeReg a_breakTo a_tryTo a_cleanupOf a_label a_codeOp a_codeReg a_codeArg a_codeNode a_roots a_entries b_kinds B ∧ sm_TN K L G AA rt E N ds nf DL TL i Q f_opJump f_opJumpZero f_opTurn f_opPend f_opExit f_nodeLimit f_slotLimit f_draftStart f_rowSize f_codeSize a_kinds a_values a_heights a_loose a_parent a_place a_firstLeaf a_row a_nodeReg a_breakTo a_tryTo a_cleanupOf a_label a_codeOp a_codeReg a_codeArg a_codeNode a_roots a_entries b_kinds B ∧ sm_TA K L G AA rt E N ds nf DL TL i Q f_opJump f_opJumpZero f_opTurn f_opPend f_opExit f_nodeLimit f_slotLimit f_draftStart f_rowSize f_codeSize a_kinds a_values a_heights a_loose a_parent a_place a_firstLeaf a_row a_nodeReg a_breakTo a_tryTo a_cleanupOf a_label a_codeOp a_codeReg a_codeArg a_codeNode a_roots a_entries b_kinds B := by
  have hW : ∀ q, q < ds → tr_W K L q := fun q h => tr_FW HS.1 q (by have := HS.2.2.1; omega)
  intro B
  induction B with
  | zero =>
    refine ⟨?_, ?_, ?_⟩
    · intro a_states a_results a_chain a_actFunction a_pcs a_locals a_regs a_pending a_cells b_place b_savedSort b_savedValue k j d p f tu x pl fl hO hCu hpc htu hB
      exact absurd hB (by omega)
    · intro a_states a_results a_chain a_actFunction a_pcs a_locals a_regs a_pending a_cells b_place b_savedSort b_savedValue k j d p f tu x pl fl hO hCu hpc hx htu hB
      have := sm_Epos hW hE p
      exact absurd hB (by omega)
    · intro a_states a_results a_chain a_actFunction a_pcs a_locals a_regs a_pending a_cells b_place b_savedSort b_savedValue k j d p f tu x pl fl s kk z hO hCu hs hkk hz hzb hzt htu hB
      have := sm_Epos hW hE p
      exact absurd hB (by omega)
  | succ B ih =>
    obtain ⟨IHS, IHN, IHA⟩ := ih
    refine ⟨?_, ?_, ?_⟩
    · intro a_states a_results a_chain a_actFunction a_pcs a_locals a_regs a_pending a_cells b_place b_savedSort b_savedValue k j d p f tu x pl fl hO hCu hpc htu hB hkB hjB
      exact sm_stepS HS hE hD4 hO hCu hpc htu hB hkB hjB IHS IHN IHA
    · intro a_states a_results a_chain a_actFunction a_pcs a_locals a_regs a_pending a_cells b_place b_savedSort b_savedValue k j d p f tu x pl fl hO hCu hpc hx htu hB hkB hjB
      exact sm_stepN HS hE hD4 hO hCu hpc hx htu hTL hB hkB hjB hQ IHS IHN IHA
    · intro a_states a_results a_chain a_actFunction a_pcs a_locals a_regs a_pending a_cells b_place b_savedSort b_savedValue k j d p f tu x pl fl s kk z hO hCu hs hkk hz hzb hzt htu hB hkB hjB
      exact sm_stepA HS hE hD4 hO hCu hs hkk hz hzb hzt htu hB hkB hjB hQ IHS IHN IHA
theorem sm_sb {E pl : Nat → Nat} : ∀ d, (∀ e, e < d → E (pl e) ≤ 256) → sm_s E pl d ≤ 256 * d := by
  intro d
  induction d with
  | zero => exact fun _ => Nat.le_refl _
  | succ d ih =>
    intro h
    have := ih (fun e he => h e (by omega))
    have := h d (by omega)
    show sm_s E pl d + E (pl d) ≤ _
    omega
theorem sm_runS (HS : sm_S K L H G AA rt N ds nf cs b_kinds a_kinds a_values a_parent a_place a_nodeReg a_breakTo a_tryTo a_cleanupOf a_label a_codeOp a_codeReg a_codeArg a_codeNode a_roots a_entries) (hD4 : DL ≤ 4) (hO : sm_O K L G AA rt ds nf DL a_entries i d pl fl a_states a_chain a_actFunction a_pcs a_regs a_pending b_place b_savedSort b_savedValue) (hCu : sm_C K L G rt ds nf i d f p a_actFunction a_regs a_pending b_savedSort b_savedValue) (hTL : TL ≤ 48) (hQ : ∀ (a_states a_results a_chain a_actFunction a_pcs a_locals a_regs a_pending a_cells b_place b_savedSort b_savedValue : Nat → Int32) (w : Int32), (∀ i', i' < 4 → sm_SL K L G AA rt ds nf DL a_entries a_states a_chain a_actFunction a_pcs a_regs a_pending b_place b_savedSort b_savedValue i') → Q (a_states i) (f_opJump, f_opJumpZero, f_opTurn, f_opPend, f_opExit, f_nodeLimit, f_slotLimit, nI DL, nI TL, nI N, f_draftStart, f_rowSize, f_codeSize, nI nf, w, 0, a_kinds, a_values, a_heights, a_loose, a_parent, a_place, a_firstLeaf, a_row, a_nodeReg, a_breakTo, a_tryTo, a_cleanupOf, a_label, a_codeOp, a_codeReg, a_codeArg, a_codeNode, a_roots, a_entries, a_states, a_results, a_chain, a_actFunction, a_pcs, a_locals, a_regs, a_pending, a_cells) (f_nodeLimit, f_slotLimit, nI DL, nI TL, nI N, nI nf, b_kinds, a_values, a_roots, a_cells, a_states, a_results, a_chain, a_actFunction, b_place, a_locals, b_savedSort, b_savedValue)) (hpc : a_pcs (i * 4 + d) = nI (AA (L p))) : sm_G Q (sm_X i 0 (f_opJump, f_opJumpZero, f_opTurn, f_opPend, f_opExit, f_nodeLimit, f_slotLimit, nI DL, nI TL, nI N, f_draftStart, f_rowSize, f_codeSize, nI nf, nI 0, 1, a_kinds, a_values, a_heights, a_loose, a_parent, a_place, a_firstLeaf, a_row, a_nodeReg, a_breakTo, a_tryTo, a_cleanupOf, a_label, a_codeOp, a_codeReg, a_codeArg, a_codeNode, a_roots, a_entries, a_states, a_results, a_chain, a_actFunction, a_pcs, a_locals, a_regs, a_pending, a_cells)) (sm_Y i 0 (nI p) 0 x (nI 0) (f_nodeLimit, f_slotLimit, nI DL, nI TL, nI N, nI nf, b_kinds, a_values, a_roots, a_cells, a_states, a_results, a_chain, a_actFunction, b_place, a_locals, b_savedSort, b_savedValue)) := by
  have hW : ∀ q, q < ds → tr_W K L q := fun q h => tr_FW HS.1 q (by have := HS.2.2.1; omega)
  obtain ⟨E, hE⟩ := sm_Eex hW
  have hp := (sm_Ert HS hE hD4 hCu.1).2 p hCu.2.2.1 hCu.2.2.2.1
  have hd := hO.2.1
  have hs := sm_sb (E := E) (pl := pl) d (fun e he => by
    obtain ⟨w1, w2, w3, w4, w5, w6, -⟩ := hO.2.2.2.2.1 e he
    have := (sm_Ert HS hE hD4 w3).2 (pl e) w5 w6
    omega)
  exact (sm_all HS hE hD4 hTL hQ 13312).1 a_states a_results a_chain a_actFunction a_pcs a_locals a_regs a_pending a_cells b_place b_savedSort b_savedValue 0 0 d p f 0 x pl fl hO hCu hpc (by omega) (by omega) (by omega) (by omega)
theorem sm_runN (HS : sm_S K L H G AA rt N ds nf cs b_kinds a_kinds a_values a_parent a_place a_nodeReg a_breakTo a_tryTo a_cleanupOf a_label a_codeOp a_codeReg a_codeArg a_codeNode a_roots a_entries) (hD4 : DL ≤ 4) (hO : sm_O K L G AA rt ds nf DL a_entries i d pl fl a_states a_chain a_actFunction a_pcs a_regs a_pending b_place b_savedSort b_savedValue) (hCu : sm_C K L G rt ds nf i d f p a_actFunction a_regs a_pending b_savedSort b_savedValue) (hTL : TL ≤ 48) (hQ : ∀ (a_states a_results a_chain a_actFunction a_pcs a_locals a_regs a_pending a_cells b_place b_savedSort b_savedValue : Nat → Int32) (w : Int32), (∀ i', i' < 4 → sm_SL K L G AA rt ds nf DL a_entries a_states a_chain a_actFunction a_pcs a_regs a_pending b_place b_savedSort b_savedValue i') → Q (a_states i) (f_opJump, f_opJumpZero, f_opTurn, f_opPend, f_opExit, f_nodeLimit, f_slotLimit, nI DL, nI TL, nI N, f_draftStart, f_rowSize, f_codeSize, nI nf, w, 0, a_kinds, a_values, a_heights, a_loose, a_parent, a_place, a_firstLeaf, a_row, a_nodeReg, a_breakTo, a_tryTo, a_cleanupOf, a_label, a_codeOp, a_codeReg, a_codeArg, a_codeNode, a_roots, a_entries, a_states, a_results, a_chain, a_actFunction, a_pcs, a_locals, a_regs, a_pending, a_cells) (f_nodeLimit, f_slotLimit, nI DL, nI TL, nI N, nI nf, b_kinds, a_values, a_roots, a_cells, a_states, a_results, a_chain, a_actFunction, b_place, a_locals, b_savedSort, b_savedValue)) (hpc : a_pcs (i * 4 + d) = nI (AA p + cg_nn (K p))) (hx : a_regs ((i * 4 + d) * 16 + G p) = x) : sm_G Q (sm_X i 0 (f_opJump, f_opJumpZero, f_opTurn, f_opPend, f_opExit, f_nodeLimit, f_slotLimit, nI DL, nI TL, nI N, f_draftStart, f_rowSize, f_codeSize, nI nf, nI 0, 1, a_kinds, a_values, a_heights, a_loose, a_parent, a_place, a_firstLeaf, a_row, a_nodeReg, a_breakTo, a_tryTo, a_cleanupOf, a_label, a_codeOp, a_codeReg, a_codeArg, a_codeNode, a_roots, a_entries, a_states, a_results, a_chain, a_actFunction, a_pcs, a_locals, a_regs, a_pending, a_cells)) (sm_Y i 0 (nI p) 1 x (nI 0) (f_nodeLimit, f_slotLimit, nI DL, nI TL, nI N, nI nf, b_kinds, a_values, a_roots, a_cells, a_states, a_results, a_chain, a_actFunction, b_place, a_locals, b_savedSort, b_savedValue)) := by
  have hW : ∀ q, q < ds → tr_W K L q := fun q h => tr_FW HS.1 q (by have := HS.2.2.1; omega)
  obtain ⟨E, hE⟩ := sm_Eex hW
  have hp := (sm_Ert HS hE hD4 hCu.1).2 p hCu.2.2.1 hCu.2.2.2.1
  have hd := hO.2.1
  have hs := sm_sb (E := E) (pl := pl) d (fun e he => by
    obtain ⟨w1, w2, w3, w4, w5, w6, -⟩ := hO.2.2.2.2.1 e he
    have := (sm_Ert HS hE hD4 w3).2 (pl e) w5 w6
    omega)
  exact (sm_all HS hE hD4 hTL hQ 13312).2.1 a_states a_results a_chain a_actFunction a_pcs a_locals a_regs a_pending a_cells b_place b_savedSort b_savedValue 0 0 d p f 0 x pl fl hO hCu hpc hx (by omega) (by omega) (by omega) (by omega)
theorem sm_runA (HS : sm_S K L H G AA rt N ds nf cs b_kinds a_kinds a_values a_parent a_place a_nodeReg a_breakTo a_tryTo a_cleanupOf a_label a_codeOp a_codeReg a_codeArg a_codeNode a_roots a_entries) (hD4 : DL ≤ 4) (hO : sm_O K L G AA rt ds nf DL a_entries i d pl fl a_states a_chain a_actFunction a_pcs a_regs a_pending b_place b_savedSort b_savedValue) (hCu : sm_C K L G rt ds nf i d f p a_actFunction a_regs a_pending b_savedSort b_savedValue) (hTL : TL ≤ 48) (hQ : ∀ (a_states a_results a_chain a_actFunction a_pcs a_locals a_regs a_pending a_cells b_place b_savedSort b_savedValue : Nat → Int32) (w : Int32), (∀ i', i' < 4 → sm_SL K L G AA rt ds nf DL a_entries a_states a_chain a_actFunction a_pcs a_regs a_pending b_place b_savedSort b_savedValue i') → Q (a_states i) (f_opJump, f_opJumpZero, f_opTurn, f_opPend, f_opExit, f_nodeLimit, f_slotLimit, nI DL, nI TL, nI N, f_draftStart, f_rowSize, f_codeSize, nI nf, w, 0, a_kinds, a_values, a_heights, a_loose, a_parent, a_place, a_firstLeaf, a_row, a_nodeReg, a_breakTo, a_tryTo, a_cleanupOf, a_label, a_codeOp, a_codeReg, a_codeArg, a_codeNode, a_roots, a_entries, a_states, a_results, a_chain, a_actFunction, a_pcs, a_locals, a_regs, a_pending, a_cells) (f_nodeLimit, f_slotLimit, nI DL, nI TL, nI N, nI nf, b_kinds, a_values, a_roots, a_cells, a_states, a_results, a_chain, a_actFunction, b_place, a_locals, b_savedSort, b_savedValue))  : sm_G Q (sm_Ra i 0 0 (nI p) 4 x (f_opJump, f_opJumpZero, f_opTurn, f_opPend, f_opExit, f_nodeLimit, f_slotLimit, nI DL, nI TL, nI N, f_draftStart, f_rowSize, f_codeSize, nI nf, nI 0, 1, a_kinds, a_values, a_heights, a_loose, a_parent, a_place, a_firstLeaf, a_row, a_nodeReg, a_breakTo, a_tryTo, a_cleanupOf, a_label, a_codeOp, a_codeReg, a_codeArg, a_codeNode, a_roots, a_entries, a_states, a_results, a_chain, a_actFunction, a_pcs, a_locals, a_regs, a_pending, a_cells)) (sm_Y i 0 (nI p) 4 x (nI 0) (f_nodeLimit, f_slotLimit, nI DL, nI TL, nI N, nI nf, b_kinds, a_values, a_roots, a_cells, a_states, a_results, a_chain, a_actFunction, b_place, a_locals, b_savedSort, b_savedValue)) := by
  have hW : ∀ q, q < ds → tr_W K L q := fun q h => tr_FW HS.1 q (by have := HS.2.2.1; omega)
  obtain ⟨E, hE⟩ := sm_Eex hW
  have hp := (sm_Ert HS hE hD4 hCu.1).2 p hCu.2.2.1 hCu.2.2.2.1
  have hd := hO.2.1
  have hs := sm_sb (E := E) (pl := pl) d (fun e he => by
    obtain ⟨w1, w2, w3, w4, w5, w6, -⟩ := hO.2.2.2.2.1 e he
    have := (sm_Ert HS hE hD4 w3).2 (pl e) w5 w6
    omega)
  exact (sm_all HS hE hD4 hTL hQ 13312).2.2 a_states a_results a_chain a_actFunction a_pcs a_locals a_regs a_pending a_cells b_place b_savedSort b_savedValue 0 0 d p f 0 x pl fl 4 0 p hO hCu (by omega) (by omega) (by have := HS.1.1; have := HS.2.2.1; have := (HS.2.2.2.2.2.2.2.2.2 f hCu.1).2.1; have := hCu.2.2.2.1; omega) (fun w => absurd w (by decide)) (fun _ => rfl) (by omega) (by omega) (by omega) (by omega)
end
end
section
/-! the relation -/
/-- the draft's row of trees -/
def rl_D (K L R : Nat → Nat) (N ds m : Nat) (a_row a_parent : Nat → Int32) : Prop := m + ds ≤ N ∧ (m = 0 → N = ds) ∧ (0 < m → R (m - 1) + 1 = N ∧ L (R 0) = ds) ∧ (∀ j, j + 1 < m → L (R (j + 1)) = R j + 1) ∧ (∀ j, j < m → a_row j = nI (R j) ∧ R j < N ∧ ds ≤ L (R j) ∧ a_parent (R j) = -1) ∧ tr_sum K ds (N - ds) = nI m
/-- first leaves, heights, loose breaks -/
def rl_H (K L H : Nat → Nat) (N : Nat) (a_firstLeaf a_heights a_loose : Nat → Int32) : Prop := ∀ q, q < N → a_firstLeaf q = nI (L q) ∧ a_heights q = nI (H q) ∧ tr_H L q (H q) ∧ H q ≤ 16 ∧ ((a_loose q = 1 ∧ tr_lb K L q) ∨ (a_loose q = 0 ∧ ¬ tr_lb K L q))
def rl_I (K L H G AA rt R : Nat → Nat) (NL SL DL TL N ds m nf cs : Nat) (a_kinds a_values a_heights a_loose a_parent a_place a_firstLeaf a_row a_nodeReg a_breakTo a_tryTo a_cleanupOf a_label a_codeOp a_codeReg a_codeArg a_codeNode a_roots a_entries a_states a_chain a_actFunction a_pcs a_regs a_pending b_kinds b_place b_savedSort b_savedValue : Nat → Int32) : Prop :=
  (16 ≤ NL ∧ NL ≤ 128 ∧ 1 ≤ SL ∧ SL ≤ 4 ∧ 1 ≤ DL ∧ DL ≤ 4 ∧ 1 ≤ TL ∧ TL ≤ 48 ∧ N ≤ NL ∧ cs ≤ 4 * ds + nf) ∧ sm_S K L H G AA rt N ds nf cs b_kinds a_kinds a_values a_parent a_place a_nodeReg a_breakTo a_tryTo a_cleanupOf a_label a_codeOp a_codeReg a_codeArg a_codeNode a_roots a_entries ∧ rl_D K L R N ds m a_row a_parent ∧ rl_H K L H N a_firstLeaf a_heights a_loose ∧ tr_ds a_roots nf ds ∧ ∀ i, i < 4 → sm_SL K L G AA rt ds nf DL a_entries a_states a_chain a_actFunction a_pcs a_regs a_pending b_place b_savedSort b_savedValue i
/-- the relation at the head of a turn -/
def i_Rel (_ : Nat) (u : SX) (v : SY) : Prop := match u with
  | (f_opJump, f_opJumpZero, f_opTurn, f_opPend, f_opExit, f_nodeLimit, f_slotLimit, f_depthLimit, f_turnLimit, f_programSize, f_draftStart, f_rowSize, f_codeSize, f_defined, f_turnsUsed, f_going, a_kinds, a_values, a_heights, a_loose, a_parent, a_place, a_firstLeaf, a_row, a_nodeReg, a_breakTo, a_tryTo, a_cleanupOf, a_label, a_codeOp, a_codeReg, a_codeArg, a_codeNode, a_roots, a_entries, a_states, a_results, a_chain, a_actFunction, a_pcs, a_locals, a_regs, a_pending, a_cells) => match v with
    | (c_nodeLimit, c_slots, c_depthLimit, c_turnLimit, c_count, c_functions, c_kinds, c_values, c_roots, c_cells, c_slotState, c_slotValue, c_chain, c_func, c_place, c_locals, c_savedSort, c_savedValue) => ∃ (K L H G AA rt R : Nat → Nat) (NL SL DL TL N ds m nf cs : Nat), (f_nodeLimit = nI NL ∧ f_slotLimit = nI SL ∧ f_depthLimit = nI DL ∧ f_turnLimit = nI TL ∧ f_programSize = nI N ∧ f_draftStart = nI ds ∧ f_rowSize = nI m ∧ f_codeSize = nI cs ∧ f_defined = nI nf ∧ c_nodeLimit = nI NL ∧ c_slots = nI SL ∧ c_depthLimit = nI DL ∧ c_turnLimit = nI TL ∧ c_count = nI N ∧ c_functions = nI nf ∧ c_values = a_values ∧ c_roots = a_roots ∧ c_cells = a_cells ∧ c_slotState = a_states ∧ c_slotValue = a_results ∧ c_chain = a_chain ∧ c_func = a_actFunction ∧ c_locals = a_locals) ∧ rl_I K L H G AA rt R NL SL DL TL N ds m nf cs a_kinds a_values a_heights a_loose a_parent a_place a_firstLeaf a_row a_nodeReg a_breakTo a_tryTo a_cleanupOf a_label a_codeOp a_codeReg a_codeArg a_codeNode a_roots a_entries a_states a_chain a_actFunction a_pcs a_regs a_pending c_kinds c_place c_savedSort c_savedValue
theorem i_up {k : Nat} {u : SX} {v : SY} (h : i_Rel k u v) : i_Rel (k + 3) u v := h
section
variable {K L H G AA rt R : Nat → Nat} {NL SL DL TL N ds m nf cs : Nat} {f_opJump f_opJumpZero f_opTurn f_opPend f_opExit f_nodeLimit f_slotLimit f_depthLimit f_turnLimit f_programSize f_draftStart f_rowSize f_codeSize f_defined f_turnsUsed f_going : Int32} {a_kinds a_values a_heights a_loose a_parent a_place a_firstLeaf a_row a_nodeReg a_breakTo a_tryTo a_cleanupOf a_label a_codeOp a_codeReg a_codeArg a_codeNode a_roots a_entries a_states a_results a_chain a_actFunction a_pcs a_locals a_regs a_pending a_cells b_kinds b_place b_savedSort b_savedValue : Nat → Int32}

theorem zz_in {k : Nat} (h : rl_I K L H G AA rt R NL SL DL TL N ds m nf cs a_kinds a_values a_heights a_loose a_parent a_place a_firstLeaf a_row a_nodeReg a_breakTo a_tryTo a_cleanupOf a_label a_codeOp a_codeReg a_codeArg a_codeNode a_roots a_entries a_states a_chain a_actFunction a_pcs a_regs a_pending b_kinds b_place b_savedSort b_savedValue) : i_Rel k (f_opJump, f_opJumpZero, f_opTurn, f_opPend, f_opExit, nI NL, nI SL, nI DL, nI TL, nI N, nI ds, nI m, nI cs, nI nf, f_turnsUsed, f_going, a_kinds, a_values, a_heights, a_loose, a_parent, a_place, a_firstLeaf, a_row, a_nodeReg, a_breakTo, a_tryTo, a_cleanupOf, a_label, a_codeOp, a_codeReg, a_codeArg, a_codeNode, a_roots, a_entries, a_states, a_results, a_chain, a_actFunction, a_pcs, a_locals, a_regs, a_pending, a_cells) (nI NL, nI SL, nI DL, nI TL, nI N, nI nf, b_kinds, a_values, a_roots, a_cells, a_states, a_results, a_chain, a_actFunction, b_place, a_locals, b_savedSort, b_savedValue) := ⟨K, L, H, G, AA, rt, R, NL, SL, DL, TL, N, ds, m, nf, cs, ⟨rfl, rfl, rfl, rfl, rfl, rfl, rfl, rfl, rfl, rfl, rfl, rfl, rfl, rfl, rfl, rfl, rfl, rfl, rfl, rfl, rfl, rfl, rfl⟩, h⟩
end
theorem zz_el {P : SX → SY → Prop} {k : Nat} {u : SX} {v : SY} (h : ∀ (K L H G AA rt R : Nat → Nat) (NL SL DL TL N ds m nf cs : Nat) (f_opJump f_opJumpZero f_opTurn f_opPend f_opExit f_turnsUsed f_going : Int32) (a_kinds a_values a_heights a_loose a_parent a_place a_firstLeaf a_row a_nodeReg a_breakTo a_tryTo a_cleanupOf a_label a_codeOp a_codeReg a_codeArg a_codeNode a_roots a_entries a_states a_results a_chain a_actFunction a_pcs a_locals a_regs a_pending a_cells b_kinds b_place b_savedSort b_savedValue : Nat → Int32), rl_I K L H G AA rt R NL SL DL TL N ds m nf cs a_kinds a_values a_heights a_loose a_parent a_place a_firstLeaf a_row a_nodeReg a_breakTo a_tryTo a_cleanupOf a_label a_codeOp a_codeReg a_codeArg a_codeNode a_roots a_entries a_states a_chain a_actFunction a_pcs a_regs a_pending b_kinds b_place b_savedSort b_savedValue → P (f_opJump, f_opJumpZero, f_opTurn, f_opPend, f_opExit, nI NL, nI SL, nI DL, nI TL, nI N, nI ds, nI m, nI cs, nI nf, f_turnsUsed, f_going, a_kinds, a_values, a_heights, a_loose, a_parent, a_place, a_firstLeaf, a_row, a_nodeReg, a_breakTo, a_tryTo, a_cleanupOf, a_label, a_codeOp, a_codeReg, a_codeArg, a_codeNode, a_roots, a_entries, a_states, a_results, a_chain, a_actFunction, a_pcs, a_locals, a_regs, a_pending, a_cells) (nI NL, nI SL, nI DL, nI TL, nI N, nI nf, b_kinds, a_values, a_roots, a_cells, a_states, a_results, a_chain, a_actFunction, b_place, a_locals, b_savedSort, b_savedValue)) (I : i_Rel k u v) : P u v := by
  obtain ⟨f_opJump, f_opJumpZero, f_opTurn, f_opPend, f_opExit, f_nodeLimit, f_slotLimit, f_depthLimit, f_turnLimit, f_programSize, f_draftStart, f_rowSize, f_codeSize, f_defined, f_turnsUsed, f_going, a_kinds, a_values, a_heights, a_loose, a_parent, a_place, a_firstLeaf, a_row, a_nodeReg, a_breakTo, a_tryTo, a_cleanupOf, a_label, a_codeOp, a_codeReg, a_codeArg, a_codeNode, a_roots, a_entries, a_states, a_results, a_chain, a_actFunction, a_pcs, a_locals, a_regs, a_pending, a_cells⟩ := u
  obtain ⟨c_nodeLimit, c_slots, c_depthLimit, c_turnLimit, c_count, c_functions, c_kinds, c_values, c_roots, c_cells, c_slotState, c_slotValue, c_chain, c_func, c_place, c_locals, c_savedSort, c_savedValue⟩ := v
  obtain ⟨K, L, H, G, AA, rt, R, NL, SL, DL, TL, N, ds, m, nf, cs, ⟨e1, e2, e3, e4, e5, e6, e7, e8, e9, e10, e11, e12, e13, e14, e15, e16, e17, e18, e19, e20, e21, e22, e23⟩, hI⟩ := I
  subst e1 e2 e3 e4 e5 e6 e7 e8 e9 e10 e11 e12 e13 e14 e15
  subst e16 e17 e18 e19 e20 e21 e22 e23
  exact h _ _ _ _ _ _ _ _ _ _ _ _ _ _ _ _ _ _ _ _ _ _ _ _ _ _ _ _ _ _ _ _ _ _ _ _ _ _ _ _ _ _ _ _ _ _ _ _ _ _ _ _ _ _ _ hI
end
section
/-! constructors, getters -/
theorem rx_c (x : Int32) {n : Nat} (hn : n < 2 ^ 31) : x < 0 ∨ (¬ x < 0 ∧ nI n ≤ x ∧ ¬ x < nI n) ∨ ∃ j : Nat, j < n ∧ x = nI j ∧ ¬ nI j < 0 ∧ nI j < nI n ∧ ¬ nI n ≤ nI j := by
  rcases pk_ix x hn with h | h | ⟨j, hj, e⟩
  · exact Or.inl h
  · exact Or.inr (Or.inl ⟨Int32.not_lt.mpr (Int32.le_trans (nI_pos' hn) h), h, Int32.not_lt.mpr h⟩)
  · exact Or.inr (Or.inr ⟨j, hj, e, nI_pos (by omega), nI_lt hj hn, nI_ge hj hn⟩)
theorem xc_clamp (p : Int32) (lo hi : Nat) (h1 : lo ≤ hi) (h2 : hi < 1000) : ∃ n, lo ≤ n ∧ n ≤ hi ∧ (∀ (post : Int32 → Prop) (u : SX), post (nI n) → wpX_clamp post u p (nI lo) (nI hi)) ∧ (∀ (post : Int32 → Prop) (u : SY), post (nI n) → wpY_clamp post u p (nI lo) (nI hi)) := by
  by_cases a : nI lo ≤ p
  · obtain ⟨j, hj, rfl⟩ := nI_of (x := p) (Int32.not_lt.mpr (Int32.le_trans (nI_pos' (by omega)) a))
    have a' := (nI_leI (by omega) hj).mp a
    by_cases b : j ≤ hi
    · exact ⟨j, a', b, fun post u h => match u with | ⟨_, _, _, _, _, _, _, _, _, _, _, _, _, _, _, _, _, _, _, _, _, _, _, _, _, _, _, _, _, _, _, _, _, _, _, _, _, _, _, _, _, _, _, _⟩ => br_t a (br_t (nI_le b (by omega)) h), fun post u h => match u with | ⟨_, _, _, _, _, _, _, _, _, _, _, _, _, _, _, _, _, _⟩ => br_t a (br_t (nI_le b (by omega)) h)⟩
    · exact ⟨hi, h1, Nat.le_refl _, fun post u h => match u with | ⟨_, _, _, _, _, _, _, _, _, _, _, _, _, _, _, _, _, _, _, _, _, _, _, _, _, _, _, _, _, _, _, _, _, _, _, _, _, _, _, _, _, _, _, _⟩ => br_t a (br_f (nI_ge (by omega) hj) h), fun post u h => match u with | ⟨_, _, _, _, _, _, _, _, _, _, _, _, _, _, _, _, _, _⟩ => br_t a (br_f (nI_ge (by omega) hj) h)⟩
  · exact ⟨lo, Nat.le_refl _, h1, fun post u h => match u with | ⟨_, _, _, _, _, _, _, _, _, _, _, _, _, _, _, _, _, _, _, _, _, _, _, _, _, _, _, _, _, _, _, _, _, _, _, _, _, _, _, _, _, _, _, _⟩ => br_f a h, fun post u h => match u with | ⟨_, _, _, _, _, _, _, _, _, _, _, _, _, _, _, _, _, _⟩ => br_f a h⟩
theorem i_vc0 (k0 : Int32) (k1 : Int32) (k2 : Int32) (k3 : Int32) : wpX_init (fun u => wpY_init (fun v => i_Rel 4 u v) k0 k1 k2 k3) k0 k1 k2 k3 := by
  obtain ⟨NL, a1, a2, a3, a4⟩ := xc_clamp k0 16 128 (by omega) (by omega)
  obtain ⟨SL, b1, b2, b3, b4⟩ := xc_clamp k1 1 4 (by omega) (by omega)
  obtain ⟨DL, c1, c2, c3, c4⟩ := xc_clamp k2 1 4 (by omega) (by omega)
  obtain ⟨TL, d1, d2, d3, d4⟩ := xc_clamp k3 1 48 (by omega) (by omega)
  unfold wpX_init
  refine a3 _ _ (b3 _ _ (c3 _ _ (d3 _ _ ?_)))
  unfold wpY_init
  refine a4 _ _ (b4 _ _ (c4 _ _ (d4 _ _ ?_)))
  have hF : tr_F (fun _ => 0) (fun _ => 0) (fun _ => 0) 0 := ⟨by omega, fun q h => absurd h (by omega)⟩
  refine zz_in (K := fun _ => 0) (L := fun _ => 0) (H := fun _ => 0) (G := fun _ => 0) (AA := fun _ => 0) (rt := fun _ => 0) (R := fun _ => 0) (NL := NL) (SL := SL) (DL := DL) (TL := TL) (N := 0) (ds := 0) (m := 0) (nf := 0) (cs := 0) ?_
  refine ⟨by omega, ⟨hF, hF, by omega, by omega, fun q h => absurd h (by omega), fun q k p h => absurd h (by omega), ⟨fun q h => absurd h (by omega), fun q k p h => absurd h (by omega)⟩, ⟨fun q h => absurd h (by omega), fun q k p h => absurd h (by omega)⟩, by omega, fun f h => absurd h (by omega)⟩, ⟨by omega, fun _ => rfl, fun h => absurd h (by omega), fun j h => absurd h (by omega), fun j h => absurd h (by omega), rfl⟩, fun q h => absurd h (by omega), ⟨by omega, fun _ => rfl, fun h => absurd h (by omega)⟩, fun i hi => Or.inr (Or.inr ⟨Or.inl rfl, rfl⟩)⟩
theorem i_vc_nodeCount {k : Nat} {u : SX} {v : SY} (I : i_Rel k u v) (hk : k + 3 ≤ 1540) : wpX_nodeCount (fun r => wpY_nodeCount (fun r' => r' = r ∧ i_Rel (k + 3) u v) v) u := by
  refine zz_el (P := fun u v => wpX_nodeCount (fun r => wpY_nodeCount (fun r' => r' = r ∧ i_Rel (k + 3) u v) v) u) ?_ I
  intro K L H G AA rt R NL SL DL TL N ds m nf cs f_opJump f_opJumpZero f_opTurn f_opPend f_opExit f_turnsUsed f_going a_kinds a_values a_heights a_loose a_parent a_place a_firstLeaf a_row a_nodeReg a_breakTo a_tryTo a_cleanupOf a_label a_codeOp a_codeReg a_codeArg a_codeNode a_roots a_entries a_states a_results a_chain a_actFunction a_pcs a_locals a_regs a_pending a_cells b_kinds b_place b_savedSort b_savedValue hI
  exact And.intro rfl (zz_in hI)
theorem i_vc_functionCount {k : Nat} {u : SX} {v : SY} (I : i_Rel k u v) (hk : k + 3 ≤ 1540) : wpX_functionCount (fun r => wpY_functionCount (fun r' => r' = r ∧ i_Rel (k + 3) u v) v) u := by
  refine zz_el (P := fun u v => wpX_functionCount (fun r => wpY_functionCount (fun r' => r' = r ∧ i_Rel (k + 3) u v) v) u) ?_ I
  intro K L H G AA rt R NL SL DL TL N ds m nf cs f_opJump f_opJumpZero f_opTurn f_opPend f_opExit f_turnsUsed f_going a_kinds a_values a_heights a_loose a_parent a_place a_firstLeaf a_row a_nodeReg a_breakTo a_tryTo a_cleanupOf a_label a_codeOp a_codeReg a_codeArg a_codeNode a_roots a_entries a_states a_results a_chain a_actFunction a_pcs a_locals a_regs a_pending a_cells b_kinds b_place b_savedSort b_savedValue hI
  exact And.intro rfl (zz_in hI)
theorem i_vc_nodeKind {k : Nat} {u : SX} {v : SY} (I : i_Rel k u v) (hk : k + 3 ≤ 1540) (v1 : Int32) : wpX_nodeKind (fun r => wpY_nodeKind (fun r' => r' = r ∧ i_Rel (k + 3) u v) v v1) u v1 := by
  refine zz_el (P := fun u v => wpX_nodeKind (fun r => wpY_nodeKind (fun r' => r' = r ∧ i_Rel (k + 3) u v) v v1) u v1) ?_ I
  intro K L H G AA rt R NL SL DL TL N ds m nf cs f_opJump f_opJumpZero f_opTurn f_opPend f_opExit f_turnsUsed f_going a_kinds a_values a_heights a_loose a_parent a_place a_firstLeaf a_row a_nodeReg a_breakTo a_tryTo a_cleanupOf a_label a_codeOp a_codeReg a_codeArg a_codeNode a_roots a_entries a_states a_results a_chain a_actFunction a_pcs a_locals a_regs a_pending a_cells b_kinds b_place b_savedSort b_savedValue hI
  obtain ⟨hb, hS, -⟩ := id hI
  rcases rx_c v1 (n := N) (by omega) with h | ⟨h, h2, h3⟩ | ⟨j, hj, rfl, h, h2, h3⟩
  · exact br_t h (br_t h (And.intro rfl (zz_in hI)))
  · exact br_f h (br_f h3 (br_f h (br_f h3 (And.intro rfl (zz_in hI)))))
  · have hv : vp_in (nI j) 128 := vp_in_nI (by omega) (by decide)
    refine br_f h (br_t h2 ⟨hv, br_f h (br_t h2 ⟨hv, ?_⟩)⟩)
    rw [nI_clamp (by omega)]
    exact And.intro ((hS.2.1.2 j hj).2.1.trans (hS.1.2 j hj).2.1.symm) (zz_in hI)
theorem i_vc_nodeValue {k : Nat} {u : SX} {v : SY} (I : i_Rel k u v) (hk : k + 3 ≤ 1540) (v1 : Int32) : wpX_nodeValue (fun r => wpY_nodeValue (fun r' => r' = r ∧ i_Rel (k + 3) u v) v v1) u v1 := by
  refine zz_el (P := fun u v => wpX_nodeValue (fun r => wpY_nodeValue (fun r' => r' = r ∧ i_Rel (k + 3) u v) v v1) u v1) ?_ I
  intro K L H G AA rt R NL SL DL TL N ds m nf cs f_opJump f_opJumpZero f_opTurn f_opPend f_opExit f_turnsUsed f_going a_kinds a_values a_heights a_loose a_parent a_place a_firstLeaf a_row a_nodeReg a_breakTo a_tryTo a_cleanupOf a_label a_codeOp a_codeReg a_codeArg a_codeNode a_roots a_entries a_states a_results a_chain a_actFunction a_pcs a_locals a_regs a_pending a_cells b_kinds b_place b_savedSort b_savedValue hI
  obtain ⟨hb, hS, -⟩ := id hI
  rcases rx_c v1 (n := N) (by omega) with h | ⟨h, h2, h3⟩ | ⟨j, hj, rfl, h, h2, h3⟩
  · exact br_t h (br_t h (And.intro rfl (zz_in hI)))
  · exact br_f h (br_f h3 (br_f h (br_f h3 (And.intro rfl (zz_in hI)))))
  · have hv : vp_in (nI j) 128 := vp_in_nI (by omega) (by decide)
    exact br_f h (br_t h2 ⟨hv, br_f h (br_t h2 ⟨hv, And.intro rfl (zz_in hI)⟩)⟩)
theorem i_vc_rootOf {k : Nat} {u : SX} {v : SY} (I : i_Rel k u v) (hk : k + 3 ≤ 1540) (v1 : Int32) : wpX_rootOf (fun r => wpY_rootOf (fun r' => r' = r ∧ i_Rel (k + 3) u v) v v1) u v1 := by
  refine zz_el (P := fun u v => wpX_rootOf (fun r => wpY_rootOf (fun r' => r' = r ∧ i_Rel (k + 3) u v) v v1) u v1) ?_ I
  intro K L H G AA rt R NL SL DL TL N ds m nf cs f_opJump f_opJumpZero f_opTurn f_opPend f_opExit f_turnsUsed f_going a_kinds a_values a_heights a_loose a_parent a_place a_firstLeaf a_row a_nodeReg a_breakTo a_tryTo a_cleanupOf a_label a_codeOp a_codeReg a_codeArg a_codeNode a_roots a_entries a_states a_results a_chain a_actFunction a_pcs a_locals a_regs a_pending a_cells b_kinds b_place b_savedSort b_savedValue hI
  obtain ⟨hb, hS, -⟩ := id hI
  have hn6 := hS.2.2.2.2.2.2.2.2.1
  rcases rx_c v1 (n := nf) (by omega) with h | ⟨h, h2, h3⟩ | ⟨j, hj, rfl, h, h2, h3⟩
  · exact br_t h (br_t h (And.intro rfl (zz_in hI)))
  · exact br_f h (br_f h3 (br_f h (br_f h3 (And.intro rfl (zz_in hI)))))
  · have hv : vp_in (nI j) 6 := vp_in_nI (by omega) (by decide)
    exact br_f h (br_t h2 ⟨hv, br_f h (br_t h2 ⟨hv, And.intro rfl (zz_in hI)⟩)⟩)
theorem i_vc_shared {k : Nat} {u : SX} {v : SY} (I : i_Rel k u v) (hk : k + 3 ≤ 1540) (v1 : Int32) : wpX_shared (fun r => wpY_shared (fun r' => r' = r ∧ i_Rel (k + 3) u v) v v1) u v1 := by
  refine zz_el (P := fun u v => wpX_shared (fun r => wpY_shared (fun r' => r' = r ∧ i_Rel (k + 3) u v) v v1) u v1) ?_ I
  intro K L H G AA rt R NL SL DL TL N ds m nf cs f_opJump f_opJumpZero f_opTurn f_opPend f_opExit f_turnsUsed f_going a_kinds a_values a_heights a_loose a_parent a_place a_firstLeaf a_row a_nodeReg a_breakTo a_tryTo a_cleanupOf a_label a_codeOp a_codeReg a_codeArg a_codeNode a_roots a_entries a_states a_results a_chain a_actFunction a_pcs a_locals a_regs a_pending a_cells b_kinds b_place b_savedSort b_savedValue hI
  rcases rx_c v1 (n := 4) (by omega) with h | ⟨h, h2, h3⟩ | ⟨j, hj, rfl, h, h2, h3⟩
  · exact br_t h (br_t h (And.intro rfl (zz_in hI)))
  · have h4 : ¬ v1 ≤ 3 := fun z => absurd (Int32.le_trans h2 z) (by decide)
    exact br_f h (br_f h3 (br_f h (br_f h4 (And.intro rfl (zz_in hI)))))
  · have hv : vp_in (nI j) 4 := vp_in_nI (by omega) (by decide)
    have h4 : nI j ≤ 3 := nI_le (b := 3) (by omega) (by decide)
    exact br_f h (br_t h2 ⟨hv, br_f h (br_t h4 ⟨hv, And.intro rfl (zz_in hI)⟩)⟩)
theorem i_vc_setShared {k : Nat} {u : SX} {v : SY} (I : i_Rel k u v) (hk : k + 3 ≤ 1540) (v1 : Int32) (v2 : Int32) : wpX_setShared (fun r u' => wpY_setShared (fun r' v' => r' = r ∧ i_Rel (k + 3) u' v') v v1 v2) u v1 v2 := by
  refine zz_el (P := fun u v => wpX_setShared (fun r u' => wpY_setShared (fun r' v' => r' = r ∧ i_Rel (k + 3) u' v') v v1 v2) u v1 v2) ?_ I
  intro K L H G AA rt R NL SL DL TL N ds m nf cs f_opJump f_opJumpZero f_opTurn f_opPend f_opExit f_turnsUsed f_going a_kinds a_values a_heights a_loose a_parent a_place a_firstLeaf a_row a_nodeReg a_breakTo a_tryTo a_cleanupOf a_label a_codeOp a_codeReg a_codeArg a_codeNode a_roots a_entries a_states a_results a_chain a_actFunction a_pcs a_locals a_regs a_pending a_cells b_kinds b_place b_savedSort b_savedValue hI
  rcases rx_c v1 (n := 4) (by omega) with h | ⟨h, h2, h3⟩ | ⟨j, hj, rfl, h, h2, h3⟩
  · exact br_t h (br_t h (And.intro rfl (zz_in hI)))
  · have h4 : ¬ v1 ≤ 3 := fun z => absurd (Int32.le_trans h2 z) (by decide)
    exact br_f h (br_f h3 (br_f h (br_f h4 (And.intro rfl (zz_in hI)))))
  · have hv : vp_in (nI j) 4 := vp_in_nI (by omega) (by decide)
    have h4 : nI j ≤ 3 := nI_le (b := 3) (by omega) (by decide)
    exact br_f h (br_t h2 ⟨hv, nm_e (br_f h (br_t h4 ⟨hv, nm_e (And.intro rfl (zz_in hI))⟩))⟩)
section
variable {K L H G AA rt R : Nat → Nat} {NL SL DL TL N ds m nf cs : Nat} {f_opJump f_opJumpZero f_opTurn f_opPend f_opExit f_nodeLimit f_slotLimit f_depthLimit f_turnLimit f_programSize f_draftStart f_rowSize f_codeSize f_defined f_turnsUsed f_going : Int32} {a_kinds a_values a_heights a_loose a_parent a_place a_firstLeaf a_row a_nodeReg a_breakTo a_tryTo a_cleanupOf a_label a_codeOp a_codeReg a_codeArg a_codeNode a_roots a_entries a_states a_results a_chain a_actFunction a_pcs a_locals a_regs a_pending a_cells b_kinds b_place b_savedSort b_savedValue : Nat → Int32}
variable {i : Nat} {v1 : Int32} {post : Int32 → Prop}
theorem xs_no (h : v1 < 0 ∨ (¬ v1 < 0 ∧ nI SL ≤ v1 ∧ ¬ v1 < nI SL)) (hp : post 0) : wpX_isSlot post (f_opJump, f_opJumpZero, f_opTurn, f_opPend, f_opExit, f_nodeLimit, nI SL, f_depthLimit, f_turnLimit, f_programSize, f_draftStart, f_rowSize, f_codeSize, f_defined, f_turnsUsed, f_going, a_kinds, a_values, a_heights, a_loose, a_parent, a_place, a_firstLeaf, a_row, a_nodeReg, a_breakTo, a_tryTo, a_cleanupOf, a_label, a_codeOp, a_codeReg, a_codeArg, a_codeNode, a_roots, a_entries, a_states, a_results, a_chain, a_actFunction, a_pcs, a_locals, a_regs, a_pending, a_cells) v1 := by
  rcases h with h | ⟨h, h2, h3⟩
  · exact br_t h hp
  · exact br_f h (br_t h2 hp)
theorem xs_yes (hi : i < SL) (h4 : SL ≤ 4) (hp : post 1) : wpX_isSlot post (f_opJump, f_opJumpZero, f_opTurn, f_opPend, f_opExit, f_nodeLimit, nI SL, f_depthLimit, f_turnLimit, f_programSize, f_draftStart, f_rowSize, f_codeSize, f_defined, f_turnsUsed, f_going, a_kinds, a_values, a_heights, a_loose, a_parent, a_place, a_firstLeaf, a_row, a_nodeReg, a_breakTo, a_tryTo, a_cleanupOf, a_label, a_codeOp, a_codeReg, a_codeArg, a_codeNode, a_roots, a_entries, a_states, a_results, a_chain, a_actFunction, a_pcs, a_locals, a_regs, a_pending, a_cells) (nI i) := br_f (nI_pos (by omega)) (br_f (nI_ge hi (by omega)) hp)
theorem xu_no (h : v1 < 0 ∨ (¬ v1 < 0 ∧ nI SL ≤ v1 ∧ ¬ v1 < nI SL)) (hp : post 0) : wpX_isUsed post (f_opJump, f_opJumpZero, f_opTurn, f_opPend, f_opExit, f_nodeLimit, nI SL, f_depthLimit, f_turnLimit, f_programSize, f_draftStart, f_rowSize, f_codeSize, f_defined, f_turnsUsed, f_going, a_kinds, a_values, a_heights, a_loose, a_parent, a_place, a_firstLeaf, a_row, a_nodeReg, a_breakTo, a_tryTo, a_cleanupOf, a_label, a_codeOp, a_codeReg, a_codeArg, a_codeNode, a_roots, a_entries, a_states, a_results, a_chain, a_actFunction, a_pcs, a_locals, a_regs, a_pending, a_cells) v1 := by
  unfold wpX_isUsed
  exact xs_no h (br_t rfl hp)
theorem xu_free (hi : i < SL) (h4 : SL ≤ 4) (h0 : a_states i = 0) (hp : post 0) : wpX_isUsed post (f_opJump, f_opJumpZero, f_opTurn, f_opPend, f_opExit, f_nodeLimit, nI SL, f_depthLimit, f_turnLimit, f_programSize, f_draftStart, f_rowSize, f_codeSize, f_defined, f_turnsUsed, f_going, a_kinds, a_values, a_heights, a_loose, a_parent, a_place, a_firstLeaf, a_row, a_nodeReg, a_breakTo, a_tryTo, a_cleanupOf, a_label, a_codeOp, a_codeReg, a_codeArg, a_codeNode, a_roots, a_entries, a_states, a_results, a_chain, a_actFunction, a_pcs, a_locals, a_regs, a_pending, a_cells) (nI i) := by
  unfold wpX_isUsed
  exact xs_yes hi h4 (br_f (by decide) ⟨vp_in_nI (by omega) (by decide), br_t (by rw [nI_clamp (by omega)]; exact h0) hp⟩)
theorem xu_yes (hi : i < SL) (h4 : SL ≤ 4) (h0 : ¬ a_states i = 0) (hp : post 1) : wpX_isUsed post (f_opJump, f_opJumpZero, f_opTurn, f_opPend, f_opExit, f_nodeLimit, nI SL, f_depthLimit, f_turnLimit, f_programSize, f_draftStart, f_rowSize, f_codeSize, f_defined, f_turnsUsed, f_going, a_kinds, a_values, a_heights, a_loose, a_parent, a_place, a_firstLeaf, a_row, a_nodeReg, a_breakTo, a_tryTo, a_cleanupOf, a_label, a_codeOp, a_codeReg, a_codeArg, a_codeNode, a_roots, a_entries, a_states, a_results, a_chain, a_actFunction, a_pcs, a_locals, a_regs, a_pending, a_cells) (nI i) := by
  unfold wpX_isUsed
  exact xs_yes hi h4 (br_f (by decide) ⟨vp_in_nI (by omega) (by decide), br_f (by rw [nI_clamp (by omega)]; exact h0) hp⟩)
theorem ya_no (h : v1 < 0 ∨ (¬ v1 < 0 ∧ nI SL ≤ v1 ∧ ¬ v1 < nI SL)) (hp : post 1) : wpY_absent post (f_nodeLimit, nI SL, f_depthLimit, f_turnLimit, f_programSize, f_defined, b_kinds, a_values, a_roots, a_cells, a_states, a_results, a_chain, a_actFunction, b_place, a_locals, b_savedSort, b_savedValue) v1 := by
  rcases h with h | ⟨h, h2, h3⟩
  · exact br_t h hp
  · exact br_f h (br_t h2 hp)
theorem ya_free (hi : i < SL) (h4 : SL ≤ 4) (h0 : a_states i = 0) (hp : post 1) : wpY_absent post (f_nodeLimit, nI SL, f_depthLimit, f_turnLimit, f_programSize, f_defined, b_kinds, a_values, a_roots, a_cells, a_states, a_results, a_chain, a_actFunction, b_place, a_locals, b_savedSort, b_savedValue) (nI i) := br_f (nI_pos (by omega)) (br_f (nI_ge hi (by omega)) ⟨vp_in_nI (by omega) (by decide), br_t (by rw [nI_clamp (by omega)]; exact h0) hp⟩)
theorem ya_yes (hi : i < SL) (h4 : SL ≤ 4) (h0 : ¬ a_states i = 0) (hp : post 0) : wpY_absent post (f_nodeLimit, nI SL, f_depthLimit, f_turnLimit, f_programSize, f_defined, b_kinds, a_values, a_roots, a_cells, a_states, a_results, a_chain, a_actFunction, b_place, a_locals, b_savedSort, b_savedValue) (nI i) := br_f (nI_pos (by omega)) (br_f (nI_ge hi (by omega)) ⟨vp_in_nI (by omega) (by decide), br_f (by rw [nI_clamp (by omega)]; exact h0) hp⟩)
theorem xr_no (h : v1 < 0 ∨ (¬ v1 < 0 ∧ nI SL ≤ v1 ∧ ¬ v1 < nI SL)) (hp : post (-9)) : wpX_refusal post (f_opJump, f_opJumpZero, f_opTurn, f_opPend, f_opExit, f_nodeLimit, nI SL, f_depthLimit, f_turnLimit, f_programSize, f_draftStart, f_rowSize, f_codeSize, f_defined, f_turnsUsed, f_going, a_kinds, a_values, a_heights, a_loose, a_parent, a_place, a_firstLeaf, a_row, a_nodeReg, a_breakTo, a_tryTo, a_cleanupOf, a_label, a_codeOp, a_codeReg, a_codeArg, a_codeNode, a_roots, a_entries, a_states, a_results, a_chain, a_actFunction, a_pcs, a_locals, a_regs, a_pending, a_cells) v1 := by
  unfold wpX_refusal
  exact xu_no h (br_t rfl hp)
theorem xr_free (hi : i < SL) (h4 : SL ≤ 4) (h0 : a_states i = 0) (hp : post (-9)) : wpX_refusal post (f_opJump, f_opJumpZero, f_opTurn, f_opPend, f_opExit, f_nodeLimit, nI SL, f_depthLimit, f_turnLimit, f_programSize, f_draftStart, f_rowSize, f_codeSize, f_defined, f_turnsUsed, f_going, a_kinds, a_values, a_heights, a_loose, a_parent, a_place, a_firstLeaf, a_row, a_nodeReg, a_breakTo, a_tryTo, a_cleanupOf, a_label, a_codeOp, a_codeReg, a_codeArg, a_codeNode, a_roots, a_entries, a_states, a_results, a_chain, a_actFunction, a_pcs, a_locals, a_regs, a_pending, a_cells) (nI i) := by
  unfold wpX_refusal
  exact xu_free hi h4 h0 (br_t rfl hp)
theorem xr_1 (hi : i < SL) (h4 : SL ≤ 4) (h0 : a_states i = 1) (hp : post 0) : wpX_refusal post (f_opJump, f_opJumpZero, f_opTurn, f_opPend, f_opExit, f_nodeLimit, nI SL, f_depthLimit, f_turnLimit, f_programSize, f_draftStart, f_rowSize, f_codeSize, f_defined, f_turnsUsed, f_going, a_kinds, a_values, a_heights, a_loose, a_parent, a_place, a_firstLeaf, a_row, a_nodeReg, a_breakTo, a_tryTo, a_cleanupOf, a_label, a_codeOp, a_codeReg, a_codeArg, a_codeNode, a_roots, a_entries, a_states, a_results, a_chain, a_actFunction, a_pcs, a_locals, a_regs, a_pending, a_cells) (nI i) := by
  unfold wpX_refusal
  exact xu_yes hi h4 (by rw [h0]; decide) (br_f (by decide) ⟨vp_in_nI (by omega) (by decide), br_t (by rw [nI_clamp (by omega)]; exact h0) hp⟩)
theorem xr_2 (hi : i < SL) (h4 : SL ≤ 4) (h0 : a_states i = 2) (hp : post 0) : wpX_refusal post (f_opJump, f_opJumpZero, f_opTurn, f_opPend, f_opExit, f_nodeLimit, nI SL, f_depthLimit, f_turnLimit, f_programSize, f_draftStart, f_rowSize, f_codeSize, f_defined, f_turnsUsed, f_going, a_kinds, a_values, a_heights, a_loose, a_parent, a_place, a_firstLeaf, a_row, a_nodeReg, a_breakTo, a_tryTo, a_cleanupOf, a_label, a_codeOp, a_codeReg, a_codeArg, a_codeNode, a_roots, a_entries, a_states, a_results, a_chain, a_actFunction, a_pcs, a_locals, a_regs, a_pending, a_cells) (nI i) := by
  unfold wpX_refusal
  have hv : vp_in (nI i) 4 := vp_in_nI (by omega) (by decide)
  exact xu_yes hi h4 (by rw [h0]; decide) (br_f (by decide) ⟨hv, br_f (by rw [nI_clamp (by omega), h0]; decide) ⟨hv, br_t (by rw [nI_clamp (by omega)]; exact h0) hp⟩⟩)
theorem xr_3 (hi : i < SL) (h4 : SL ≤ 4) (h0 : a_states i = 3 ∨ a_states i = 4 ∨ a_states i = 5) (hp : post (-10)) : wpX_refusal post (f_opJump, f_opJumpZero, f_opTurn, f_opPend, f_opExit, f_nodeLimit, nI SL, f_depthLimit, f_turnLimit, f_programSize, f_draftStart, f_rowSize, f_codeSize, f_defined, f_turnsUsed, f_going, a_kinds, a_values, a_heights, a_loose, a_parent, a_place, a_firstLeaf, a_row, a_nodeReg, a_breakTo, a_tryTo, a_cleanupOf, a_label, a_codeOp, a_codeReg, a_codeArg, a_codeNode, a_roots, a_entries, a_states, a_results, a_chain, a_actFunction, a_pcs, a_locals, a_regs, a_pending, a_cells) (nI i) := by
  unfold wpX_refusal
  have hv : vp_in (nI i) 4 := vp_in_nI (by omega) (by decide)
  have n0 : ¬ a_states i = 0 := by rcases h0 with h | h | h <;> rw [h] <;> decide
  have n1 : ¬ a_states i = 1 := by rcases h0 with h | h | h <;> rw [h] <;> decide
  have n2 : ¬ a_states i = 2 := by rcases h0 with h | h | h <;> rw [h] <;> decide
  exact xu_yes hi h4 n0 (br_f (by decide) ⟨hv, br_f (by rw [nI_clamp (by omega)]; exact n1) ⟨hv, br_f (by rw [nI_clamp (by omega)]; exact n2) hp⟩⟩)
theorem xd_no (h : v1 < 0 ∨ (¬ v1 < 0 ∧ nI SL ≤ v1 ∧ ¬ v1 < nI SL)) (hp : post 0) : wpX_depth post (f_opJump, f_opJumpZero, f_opTurn, f_opPend, f_opExit, f_nodeLimit, nI SL, f_depthLimit, f_turnLimit, f_programSize, f_draftStart, f_rowSize, f_codeSize, f_defined, f_turnsUsed, f_going, a_kinds, a_values, a_heights, a_loose, a_parent, a_place, a_firstLeaf, a_row, a_nodeReg, a_breakTo, a_tryTo, a_cleanupOf, a_label, a_codeOp, a_codeReg, a_codeArg, a_codeNode, a_roots, a_entries, a_states, a_results, a_chain, a_actFunction, a_pcs, a_locals, a_regs, a_pending, a_cells) v1 := by
  unfold wpX_depth
  exact xs_no h (br_t rfl hp)
theorem xd_yes (hi : i < SL) (h4 : SL ≤ 4) (hp : post (a_chain i)) : wpX_depth post (f_opJump, f_opJumpZero, f_opTurn, f_opPend, f_opExit, f_nodeLimit, nI SL, f_depthLimit, f_turnLimit, f_programSize, f_draftStart, f_rowSize, f_codeSize, f_defined, f_turnsUsed, f_going, a_kinds, a_values, a_heights, a_loose, a_parent, a_place, a_firstLeaf, a_row, a_nodeReg, a_breakTo, a_tryTo, a_cleanupOf, a_label, a_codeOp, a_codeReg, a_codeArg, a_codeNode, a_roots, a_entries, a_states, a_results, a_chain, a_actFunction, a_pcs, a_locals, a_regs, a_pending, a_cells) (nI i) := by
  unfold wpX_depth
  exact xs_yes hi h4 (br_f (by decide) ⟨vp_in_nI (by omega) (by decide), by rw [nI_clamp (by omega)]; exact hp⟩)
theorem yd_no (h : v1 < 0 ∨ (¬ v1 < 0 ∧ nI SL ≤ v1 ∧ ¬ v1 < nI SL)) (hp : post 0) : wpY_depth post (f_nodeLimit, nI SL, f_depthLimit, f_turnLimit, f_programSize, f_defined, b_kinds, a_values, a_roots, a_cells, a_states, a_results, a_chain, a_actFunction, b_place, a_locals, b_savedSort, b_savedValue) v1 := by
  rcases h with h | ⟨h, h2, h3⟩
  · exact br_t h hp
  · exact br_f h (br_f h3 hp)
theorem yd_yes (hi : i < SL) (h4 : SL ≤ 4) (hp : post (a_chain i)) : wpY_depth post (f_nodeLimit, nI SL, f_depthLimit, f_turnLimit, f_programSize, f_defined, b_kinds, a_values, a_roots, a_cells, a_states, a_results, a_chain, a_actFunction, b_place, a_locals, b_savedSort, b_savedValue) (nI i) := br_f (nI_pos (by omega)) (br_t (nI_lt hi (by omega)) ⟨vp_in_nI (by omega) (by decide), by rw [nI_clamp (by omega)]; exact hp⟩)
/-- the depth of a slot -/
theorem rl_dep (h : sm_SL K L G AA rt ds nf DL a_entries a_states a_chain a_actFunction a_pcs a_regs a_pending b_place b_savedSort b_savedValue i) (hD : DL ≤ 4) : ∃ c, c ≤ 4 ∧ a_chain i = nI c := by
  rcases h with ⟨_, h, _⟩ | ⟨_, c, _, _, h1, h2, h3, _⟩ | ⟨_, h⟩
  · exact ⟨1, by omega, h⟩
  · exact ⟨c + 1, by omega, h3⟩
  · exact ⟨0, by omega, h⟩
end
theorem i_vc_state {k : Nat} {u : SX} {v : SY} (I : i_Rel k u v) (hk : k + 3 ≤ 1540) (v1 : Int32) : wpX_state (fun r => wpY_state (fun r' => r' = r ∧ i_Rel (k + 3) u v) v v1) u v1 := by
  refine zz_el (P := fun u v => wpX_state (fun r => wpY_state (fun r' => r' = r ∧ i_Rel (k + 3) u v) v v1) u v1) ?_ I
  intro K L H G AA rt R NL SL DL TL N ds m nf cs f_opJump f_opJumpZero f_opTurn f_opPend f_opExit f_turnsUsed f_going a_kinds a_values a_heights a_loose a_parent a_place a_firstLeaf a_row a_nodeReg a_breakTo a_tryTo a_cleanupOf a_label a_codeOp a_codeReg a_codeArg a_codeNode a_roots a_entries a_states a_results a_chain a_actFunction a_pcs a_locals a_regs a_pending a_cells b_kinds b_place b_savedSort b_savedValue hI
  obtain ⟨hb, hS, -⟩ := id hI
  unfold wpX_state
  rcases rx_c v1 (n := SL) (by omega) with h | ⟨h, h2, h3⟩ | ⟨j, hj, rfl, h, h2, h3⟩
  · exact xs_no (Or.inl h) (br_t rfl (br_t h (And.intro rfl (zz_in hI))))
  · exact xs_no (Or.inr ⟨h, h2, h3⟩) (br_t rfl (br_f h (br_f h3 (And.intro rfl (zz_in hI)))))
  · have hv : vp_in (nI j) 4 := vp_in_nI (by omega) (by decide)
    exact xs_yes hj (by omega) (br_f (by decide) ⟨hv, br_f h (br_t h2 ⟨hv, And.intro rfl (zz_in hI)⟩)⟩)
theorem i_vc_value {k : Nat} {u : SX} {v : SY} (I : i_Rel k u v) (hk : k + 3 ≤ 1540) (v1 : Int32) : wpX_value (fun r => wpY_value (fun r' => r' = r ∧ i_Rel (k + 3) u v) v v1) u v1 := by
  refine zz_el (P := fun u v => wpX_value (fun r => wpY_value (fun r' => r' = r ∧ i_Rel (k + 3) u v) v v1) u v1) ?_ I
  intro K L H G AA rt R NL SL DL TL N ds m nf cs f_opJump f_opJumpZero f_opTurn f_opPend f_opExit f_turnsUsed f_going a_kinds a_values a_heights a_loose a_parent a_place a_firstLeaf a_row a_nodeReg a_breakTo a_tryTo a_cleanupOf a_label a_codeOp a_codeReg a_codeArg a_codeNode a_roots a_entries a_states a_results a_chain a_actFunction a_pcs a_locals a_regs a_pending a_cells b_kinds b_place b_savedSort b_savedValue hI
  obtain ⟨hb, hS, -⟩ := id hI
  unfold wpX_value
  rcases rx_c v1 (n := SL) (by omega) with h | ⟨h, h2, h3⟩ | ⟨j, hj, rfl, h, h2, h3⟩
  · exact xs_no (Or.inl h) (br_t rfl (br_t h (And.intro rfl (zz_in hI))))
  · exact xs_no (Or.inr ⟨h, h2, h3⟩) (br_t rfl (br_f h (br_f h3 (And.intro rfl (zz_in hI)))))
  · have hv : vp_in (nI j) 4 := vp_in_nI (by omega) (by decide)
    exact xs_yes hj (by omega) (br_f (by decide) ⟨hv, br_f h (br_t h2 ⟨hv, And.intro rfl (zz_in hI)⟩)⟩)
theorem i_vc_depth {k : Nat} {u : SX} {v : SY} (I : i_Rel k u v) (hk : k + 3 ≤ 1540) (v1 : Int32) : wpX_depth (fun r => wpY_depth (fun r' => r' = r ∧ i_Rel (k + 3) u v) v v1) u v1 := by
  refine zz_el (P := fun u v => wpX_depth (fun r => wpY_depth (fun r' => r' = r ∧ i_Rel (k + 3) u v) v v1) u v1) ?_ I
  intro K L H G AA rt R NL SL DL TL N ds m nf cs f_opJump f_opJumpZero f_opTurn f_opPend f_opExit f_turnsUsed f_going a_kinds a_values a_heights a_loose a_parent a_place a_firstLeaf a_row a_nodeReg a_breakTo a_tryTo a_cleanupOf a_label a_codeOp a_codeReg a_codeArg a_codeNode a_roots a_entries a_states a_results a_chain a_actFunction a_pcs a_locals a_regs a_pending a_cells b_kinds b_place b_savedSort b_savedValue hI
  obtain ⟨hb, hS, -⟩ := id hI
  rcases rx_c v1 (n := SL) (by omega) with h | h | ⟨j, hj, rfl, h, h2, h3⟩
  · exact xd_no (Or.inl h) (yd_no (Or.inl h) (And.intro rfl (zz_in hI)))
  · exact xd_no (Or.inr h) (yd_no (Or.inr h) (And.intro rfl (zz_in hI)))
  · exact xd_yes hj (by omega) (yd_yes hj (by omega) (And.intro rfl (zz_in hI)))
theorem i_vc_functionAt {k : Nat} {u : SX} {v : SY} (I : i_Rel k u v) (hk : k + 3 ≤ 1540) (v1 : Int32) (v2 : Int32) : wpX_functionAt (fun r => wpY_functionAt (fun r' => r' = r ∧ i_Rel (k + 3) u v) v v1 v2) u v1 v2 := by
  refine zz_el (P := fun u v => wpX_functionAt (fun r => wpY_functionAt (fun r' => r' = r ∧ i_Rel (k + 3) u v) v v1 v2) u v1 v2) ?_ I
  intro K L H G AA rt R NL SL DL TL N ds m nf cs f_opJump f_opJumpZero f_opTurn f_opPend f_opExit f_turnsUsed f_going a_kinds a_values a_heights a_loose a_parent a_place a_firstLeaf a_row a_nodeReg a_breakTo a_tryTo a_cleanupOf a_label a_codeOp a_codeReg a_codeArg a_codeNode a_roots a_entries a_states a_results a_chain a_actFunction a_pcs a_locals a_regs a_pending a_cells b_kinds b_place b_savedSort b_savedValue hI
  obtain ⟨hb, hS, hD, hH, hds, hSl⟩ := id hI
  unfold wpX_functionAt
  rcases rx_c v1 (n := SL) (by omega) with h | h | ⟨j, hj, rfl, h, h2, h3⟩
  · refine xd_no (Or.inl h) (br_c (fun z => br_t z (And.intro rfl (zz_in hI))) (fun z => br_f z (br_f z (yd_no (Or.inl h) (br_f z (And.intro rfl (zz_in hI)))))))
  · refine xd_no (Or.inr h) (br_c (fun z => br_t z (And.intro rfl (zz_in hI))) (fun z => br_f z (br_f z (yd_no (Or.inr h) (br_f z (And.intro rfl (zz_in hI)))))))
  · obtain ⟨c, hc, ec⟩ := rl_dep (hSl j (by omega)) (by omega)
    refine xd_yes hj (by omega) ?_
    rw [ec]
    rcases rx_c v2 (n := c) (by omega) with g | ⟨g, g2, g3⟩ | ⟨d, hd, rfl, g, g2, g3⟩
    · exact br_t g (br_t g (And.intro rfl (zz_in hI)))
    · exact br_f g (br_f g3 (br_f g (yd_yes hj (by omega) (by rw [ec]; exact br_f g3 (And.intro rfl (zz_in hI))))))
    · have hv : vp_in (nI j * 4 + nI d) 16 := pk_in (j * 4 + d) 16 (by omega) (tr_i4 _ _)
      exact br_f g (br_t g2 ⟨hv, br_f g (yd_yes hj (by omega) (by rw [ec]; exact br_t g2 ⟨hv, And.intro rfl (zz_in hI)⟩))⟩)
theorem i_vc_release {k : Nat} {u : SX} {v : SY} (I : i_Rel k u v) (hk : k + 3 ≤ 1540) (v1 : Int32) : wpX_release (fun r u' => wpY_release (fun r' v' => r' = r ∧ i_Rel (k + 3) u' v') v v1) u v1 := by
  refine zz_el (P := fun u v => wpX_release (fun r u' => wpY_release (fun r' v' => r' = r ∧ i_Rel (k + 3) u' v') v v1) u v1) ?_ I
  intro K L H G AA rt R NL SL DL TL N ds m nf cs f_opJump f_opJumpZero f_opTurn f_opPend f_opExit f_turnsUsed f_going a_kinds a_values a_heights a_loose a_parent a_place a_firstLeaf a_row a_nodeReg a_breakTo a_tryTo a_cleanupOf a_label a_codeOp a_codeReg a_codeArg a_codeNode a_roots a_entries a_states a_results a_chain a_actFunction a_pcs a_locals a_regs a_pending a_cells b_kinds b_place b_savedSort b_savedValue hI
  obtain ⟨hb, hS, hD, hH, hds, hSl⟩ := id hI
  unfold wpX_release
  rcases rx_c v1 (n := SL) (by omega) with h | h | ⟨i, hj, rfl, h, h2, h3⟩
  · refine xu_no (Or.inl h) (br_t rfl ?_)
    unfold wpY_release
    exact ya_no (Or.inl h) (br_f (by decide) (And.intro rfl (zz_in hI)))
  · refine xu_no (Or.inr h) (br_t rfl ?_)
    unfold wpY_release
    exact ya_no (Or.inr h) (br_f (by decide) (And.intro rfl (zz_in hI)))
  · have hv : vp_in (nI i) 4 := vp_in_nI (by omega) (by decide)
    have hc : a_states (nI i).toNatClampNeg = a_states i := tr_fc (by omega) _
    by_cases z0 : a_states i = 0
    · refine xu_free hj (by omega) z0 (br_t rfl ?_)
      unfold wpY_release
      exact ya_free hj (by omega) z0 (br_f (by decide) (And.intro rfl (zz_in hI)))
    · by_cases z1 : a_states i = 1
      · refine xu_yes hj (by omega) z0 (br_f (by decide) ⟨hv, br_t (hc.trans z1) ?_⟩)
        unfold wpY_release
        exact ya_yes hj (by omega) z0 (br_t rfl ⟨hv, br_f (by rw [hc, z1]; decide) (And.intro rfl (zz_in hI))⟩)
      · by_cases z2 : a_states i = 2
        · refine xu_yes hj (by omega) z0 (br_f (by decide) ⟨hv, br_f (by rw [hc]; exact z1) ⟨hv, br_t (hc.trans z2) ?_⟩⟩)
          unfold wpY_release
          exact ya_yes hj (by omega) z0 (br_t rfl ⟨hv, br_f (by rw [hc, z2]; decide) (And.intro rfl (zz_in hI))⟩)
        · have hs3 : a_states i = 3 ∨ a_states i = 4 ∨ a_states i = 5 := by
            rcases hSl i (by omega) with ⟨a, _⟩ | ⟨a, _⟩ | ⟨a, _⟩
            · exact absurd a z1
            · exact absurd a z2
            · rcases a with a | a
              · exact absurd a z0
              · exact a
          have hgt : (2 : Int32) < a_states (nI i).toNatClampNeg := by
            rw [hc]
            rcases hs3 with a | a | a <;> rw [a] <;> decide
          have hI' : rl_I K L H G AA rt R NL SL DL TL N ds m nf cs a_kinds a_values a_heights a_loose a_parent a_place a_firstLeaf a_row a_nodeReg a_breakTo a_tryTo a_cleanupOf a_label a_codeOp a_codeReg a_codeArg a_codeNode a_roots a_entries (upd a_states i 0) (upd a_chain i 0) a_actFunction a_pcs a_regs a_pending b_kinds b_place b_savedSort b_savedValue := ⟨hb, hS, hD, hH, hds, fun i' h4 => by
            by_cases e : i' = i
            · subst e
              exact Or.inr (Or.inr ⟨Or.inl pk_us, pk_us⟩)
            · exact sm_fr_SL (a := i * 4) (fun b hb => ⟨rfl, rfl, rfl, fun _ _ => ⟨rfl, rfl⟩, fun _ _ => ⟨rfl, rfl⟩⟩) (by omega) (by have := hS.1.1; have := hS.2.2.1; omega) (fun t ht => (cg_G16 hS.2.2.2.2.2.2.1 ht).2) (pk_un e) (pk_un e) (hSl i' h4)⟩
          refine xu_yes hj (by omega) z0 (br_f (by decide) ⟨hv, br_f (by rw [hc]; exact z1) ⟨hv, br_f (by rw [hc]; exact z2) ⟨hv, nm_r (tr_uc (by omega) _ _) ⟨hv, nm_r (tr_uc (by omega) _ _) ⟨hv, nm_r (tr_uc (by omega) _ _) ?_⟩⟩⟩⟩⟩)
          unfold wpY_release
          exact ya_yes hj (by omega) z0 (br_t rfl ⟨hv, br_t hgt (And.intro hv (nm_r (tr_uc (by omega) _ _) ⟨hv, nm_r (tr_uc (by omega) _ _) ⟨hv, nm_r (tr_uc (by omega) _ _) (And.intro rfl (zz_in hI'))⟩⟩))⟩)
theorem i_vc_discard {k : Nat} {u : SX} {v : SY} (I : i_Rel k u v) (hk : k + 3 ≤ 1540) : wpX_discard (fun r u' => wpY_discard (fun r' v' => r' = r ∧ i_Rel (k + 3) u' v') v) u := by
  refine zz_el (P := fun u v => wpX_discard (fun r u' => wpY_discard (fun r' v' => r' = r ∧ i_Rel (k + 3) u' v') v) u) ?_ I
  intro K L H G AA rt R NL SL DL TL N ds m nf cs f_opJump f_opJumpZero f_opTurn f_opPend f_opExit f_turnsUsed f_going a_kinds a_values a_heights a_loose a_parent a_place a_firstLeaf a_row a_nodeReg a_breakTo a_tryTo a_cleanupOf a_label a_codeOp a_codeReg a_codeArg a_codeNode a_roots a_entries a_states a_results a_chain a_actFunction a_pcs a_locals a_regs a_pending a_cells b_kinds b_place b_savedSort b_savedValue hI
  obtain ⟨hb, hS, hD, hH, hds, hSl⟩ := id hI
  have hds1 := hS.2.2.1
  refine nm_r (pk_sub hds1) ?_
  unfold wpY_discard
  refine yt_ds hds (nm_r (pk_sub hds1) (nm_r (show nI N - nI (N - ds) = nI ds by rw [pk_sub (by omega)]; congr 1; omega) (And.intro rfl (zz_in (K := K) (L := L) (H := H) (G := G) (AA := AA) (rt := rt) (R := R) (m := 0) ?_))))
  obtain ⟨hFx, hFy, hd2, hcs, hV, hP, hA, hC, hR⟩ := hS
  exact ⟨by omega, ⟨⟨by have := hFx.1; omega, fun q hq => hFx.2 q (by omega)⟩, ⟨by have := hFx.1; omega, fun q hq => hFy.2 q (by omega)⟩, Nat.le_refl _, hcs, fun q hq => hV q (by omega), fun q k p hq => hP q k p (by omega), hA, hC, hR⟩, ⟨by omega, fun _ => rfl, fun h => absurd h (by omega), fun j h => absurd h (by omega), fun j h => absurd h (by omega), by rw [Nat.sub_self]; rfl⟩, fun q hq => hH q (by omega), hds, hSl⟩
end
section
/-! create; resume, send, close by the simulation -/
section
variable {K L H G AA rt R : Nat → Nat} {NL SL DL TL N ds m nf cs : Nat} {f_opJump f_opJumpZero f_opTurn f_opPend f_opExit f_nodeLimit f_slotLimit f_depthLimit f_turnLimit f_programSize f_draftStart f_rowSize f_codeSize f_defined f_turnsUsed f_going : Int32} {a_kinds a_values a_heights a_loose a_parent a_place a_firstLeaf a_row a_nodeReg a_breakTo a_tryTo a_cleanupOf a_label a_codeOp a_codeReg a_codeArg a_codeNode a_roots a_entries a_states a_results a_chain a_actFunction a_pcs a_locals a_regs a_pending a_cells b_kinds b_place b_savedSort b_savedValue : Nat → Int32}
variable {k i : Nat} {x : Int32}
theorem fs_l (h4 : SL ≤ 4) : ∀ d j, j + d = SL → (∃ i, i < SL ∧ a_states i = 0 ∧ (∀ post, post (nI i) → wX_freeSlot_2 post f_opJump f_opJumpZero f_opTurn f_opPend f_opExit f_nodeLimit (nI SL) f_depthLimit f_turnLimit f_programSize f_draftStart f_rowSize f_codeSize f_defined f_turnsUsed f_going a_kinds a_values a_heights a_loose a_parent a_place a_firstLeaf a_row a_nodeReg a_breakTo a_tryTo a_cleanupOf a_label a_codeOp a_codeReg a_codeArg a_codeNode a_roots a_entries a_states a_results a_chain a_actFunction a_pcs a_locals a_regs a_pending a_cells (d + 1) (nI j)) ∧ (∀ post, post (nI i) → wY_freeSlot_2 post f_nodeLimit (nI SL) f_depthLimit f_turnLimit f_programSize f_defined b_kinds a_values a_roots a_cells a_states a_results a_chain a_actFunction b_place a_locals b_savedSort b_savedValue (d + 1) (nI j))) ∨ ((∀ post, post (-1) → wX_freeSlot_2 post f_opJump f_opJumpZero f_opTurn f_opPend f_opExit f_nodeLimit (nI SL) f_depthLimit f_turnLimit f_programSize f_draftStart f_rowSize f_codeSize f_defined f_turnsUsed f_going a_kinds a_values a_heights a_loose a_parent a_place a_firstLeaf a_row a_nodeReg a_breakTo a_tryTo a_cleanupOf a_label a_codeOp a_codeReg a_codeArg a_codeNode a_roots a_entries a_states a_results a_chain a_actFunction a_pcs a_locals a_regs a_pending a_cells (d + 1) (nI j)) ∧ (∀ post, post (-1) → wY_freeSlot_2 post f_nodeLimit (nI SL) f_depthLimit f_turnLimit f_programSize f_defined b_kinds a_values a_roots a_cells a_states a_results a_chain a_actFunction b_place a_locals b_savedSort b_savedValue (d + 1) (nI j))) := by
  intro d
  induction d with
  | zero =>
    intro j hj
    have h : nI SL ≤ nI j := nI_le (by omega) (by omega)
    exact Or.inr ⟨fun post hp => br_t h hp, fun post hp => br_t h hp⟩
  | succ d ih =>
    intro j hj
    have h : ¬ nI SL ≤ nI j := nI_ge (by omega) (by omega)
    have hv : vp_in (nI j) 4 := vp_in_nI (by omega) (by decide)
    have hc : a_states (nI j).toNatClampNeg = a_states j := tr_fc (by omega) _
    by_cases z : a_states j = 0
    · exact Or.inl ⟨j, by omega, z, fun post hp => br_f h ⟨hv, br_t (hc.trans z) hp⟩, fun post hp => br_f h ⟨hv, br_t (hc.trans z) hp⟩⟩
    · have z' : ¬ a_states (nI j).toNatClampNeg = 0 := by rw [hc]; exact z
      rcases ih (j + 1) (by omega) with ⟨i, a1, a2, a3, a4⟩ | ⟨a3, a4⟩
      · exact Or.inl ⟨i, a1, a2, fun post hp => br_f h ⟨hv, br_f z' (nm_r (nI_1 j) (a3 post hp))⟩, fun post hp => br_f h ⟨hv, br_f z' (nm_r (nI_1 j) (a4 post hp))⟩⟩
      · exact Or.inr ⟨fun post hp => br_f h ⟨hv, br_f z' (nm_r (nI_1 j) (a3 post hp))⟩, fun post hp => br_f h ⟨hv, br_f z' (nm_r (nI_1 j) (a4 post hp))⟩⟩
theorem fs (h4 : SL ≤ 4) : (∃ i, i < SL ∧ a_states i = 0 ∧ (∀ post, post (nI i) → wpX_freeSlot post (f_opJump, f_opJumpZero, f_opTurn, f_opPend, f_opExit, f_nodeLimit, nI SL, f_depthLimit, f_turnLimit, f_programSize, f_draftStart, f_rowSize, f_codeSize, f_defined, f_turnsUsed, f_going, a_kinds, a_values, a_heights, a_loose, a_parent, a_place, a_firstLeaf, a_row, a_nodeReg, a_breakTo, a_tryTo, a_cleanupOf, a_label, a_codeOp, a_codeReg, a_codeArg, a_codeNode, a_roots, a_entries, a_states, a_results, a_chain, a_actFunction, a_pcs, a_locals, a_regs, a_pending, a_cells)) ∧ (∀ post, post (nI i) → wpY_freeSlot post (f_nodeLimit, nI SL, f_depthLimit, f_turnLimit, f_programSize, f_defined, b_kinds, a_values, a_roots, a_cells, a_states, a_results, a_chain, a_actFunction, b_place, a_locals, b_savedSort, b_savedValue))) ∨ ((∀ post, post (-1) → wpX_freeSlot post (f_opJump, f_opJumpZero, f_opTurn, f_opPend, f_opExit, f_nodeLimit, nI SL, f_depthLimit, f_turnLimit, f_programSize, f_draftStart, f_rowSize, f_codeSize, f_defined, f_turnsUsed, f_going, a_kinds, a_values, a_heights, a_loose, a_parent, a_place, a_firstLeaf, a_row, a_nodeReg, a_breakTo, a_tryTo, a_cleanupOf, a_label, a_codeOp, a_codeReg, a_codeArg, a_codeNode, a_roots, a_entries, a_states, a_results, a_chain, a_actFunction, a_pcs, a_locals, a_regs, a_pending, a_cells)) ∧ (∀ post, post (-1) → wpY_freeSlot post (f_nodeLimit, nI SL, f_depthLimit, f_turnLimit, f_programSize, f_defined, b_kinds, a_values, a_roots, a_cells, a_states, a_results, a_chain, a_actFunction, b_place, a_locals, b_savedSort, b_savedValue))) := by
  rcases fs_l (SL := SL) (f_opJump := f_opJump) (f_opJumpZero := f_opJumpZero) (f_opTurn := f_opTurn) (f_opPend := f_opPend) (f_opExit := f_opExit) (f_nodeLimit := f_nodeLimit) (f_depthLimit := f_depthLimit) (f_turnLimit := f_turnLimit) (f_programSize := f_programSize) (f_draftStart := f_draftStart) (f_rowSize := f_rowSize) (f_codeSize := f_codeSize) (f_defined := f_defined) (f_turnsUsed := f_turnsUsed) (f_going := f_going) (a_kinds := a_kinds) (a_values := a_values) (a_heights := a_heights) (a_loose := a_loose) (a_parent := a_parent) (a_place := a_place) (a_firstLeaf := a_firstLeaf) (a_row := a_row) (a_nodeReg := a_nodeReg) (a_breakTo := a_breakTo) (a_tryTo := a_tryTo) (a_cleanupOf := a_cleanupOf) (a_label := a_label) (a_codeOp := a_codeOp) (a_codeReg := a_codeReg) (a_codeArg := a_codeArg) (a_codeNode := a_codeNode) (a_roots := a_roots) (a_entries := a_entries) (a_states := a_states) (a_results := a_results) (a_chain := a_chain) (a_actFunction := a_actFunction) (a_pcs := a_pcs) (a_locals := a_locals) (a_regs := a_regs) (a_pending := a_pending) (a_cells := a_cells) (b_kinds := b_kinds) (b_place := b_place) (b_savedSort := b_savedSort) (b_savedValue := b_savedValue) h4 SL 0 (by omega) with ⟨i, a1, a2, a3, a4⟩ | ⟨a3, a4⟩
  · exact Or.inl ⟨i, a1, a2, fun post hp => Exists.intro (SL + 1) (a3 post hp), fun post hp => Exists.intro (SL + 1) (a4 post hp)⟩
  · exact Or.inr ⟨fun post hp => Exists.intro (SL + 1) (a3 post hp), fun post hp => Exists.intro (SL + 1) (a4 post hp)⟩
theorem rl_G16 (hI : rl_I K L H G AA rt R NL SL DL TL N ds m nf cs a_kinds a_values a_heights a_loose a_parent a_place a_firstLeaf a_row a_nodeReg a_breakTo a_tryTo a_cleanupOf a_label a_codeOp a_codeReg a_codeArg a_codeNode a_roots a_entries a_states a_chain a_actFunction a_pcs a_regs a_pending b_kinds b_place b_savedSort b_savedValue) : ds ≤ 128 ∧ (∀ q, q < ds → tr_W K L q) ∧ (∀ t, t < ds → G t < 16) := by
  have h1 := hI.2.1.1.1
  have h2 := hI.2.1.2.2.1
  exact ⟨by omega, fun q h => tr_FW hI.2.1.1 q (by omega), fun t ht => (cg_G16 hI.2.1.2.2.2.2.2.2.1 ht).2⟩
theorem sv_root (hI : rl_I K L H G AA rt R NL SL DL TL N ds m nf cs a_kinds a_values a_heights a_loose a_parent a_place a_firstLeaf a_row a_nodeReg a_breakTo a_tryTo a_cleanupOf a_label a_codeOp a_codeReg a_codeArg a_codeNode a_roots a_entries a_states a_chain a_actFunction a_pcs a_regs a_pending b_kinds b_place b_savedSort b_savedValue) {f a : Nat} (hf : f < nf) : sm_SV K L G ds a_regs a_pending b_savedSort b_savedValue a (rt f) := by
  obtain ⟨h8, hW, hG⟩ := rl_G16 hI
  have hS := hI.2.1
  have hds := hS.2.2.1
  have hP := hS.2.2.2.2.2.1
  obtain ⟨vro, vrd, vpa, -⟩ := hS.2.2.2.2.2.2.2.2.2 f hf
  intro t r ht' c' kf h1 h2
  exfalso
  have l' := tr_lt hW ht' c'
  by_cases e : rt f = r
  · subst e
    have := (hP t 2 (rt f) (by omega) c').1
    rw [vpa] at this
    exact tr_nn1 (by omega) this.symm
  · obtain ⟨q', k', c2, h3⟩ := tr_pex hW r (by omega) (rt f) h1 (by omega)
    have := (hP q' k' (rt f) (by omega) c2).1
    rw [vpa] at this
    exact tr_nn1 (by omega) this.symm
theorem rn_S (hI : rl_I K L H G AA rt R NL SL DL TL N ds m nf cs a_kinds a_values a_heights a_loose a_parent a_place a_firstLeaf a_row a_nodeReg a_breakTo a_tryTo a_cleanupOf a_label a_codeOp a_codeReg a_codeArg a_codeNode a_roots a_entries a_states a_chain a_actFunction a_pcs a_regs a_pending b_kinds b_place b_savedSort b_savedValue) (hi : i < SL) (h1 : a_states i = 1) : ∃ f, f < nf ∧ a_actFunction (i * 4) = nI f ∧ rt f < 128 ∧ a_roots f = nI (rt f) ∧ sm_G (fun _ u v => i_Rel k u v) (sm_X i 0 (f_opJump, f_opJumpZero, f_opTurn, f_opPend, f_opExit, nI NL, nI SL, nI DL, nI TL, nI N, nI ds, nI m, nI cs, nI nf, nI 0, 1, a_kinds, a_values, a_heights, a_loose, a_parent, a_place, a_firstLeaf, a_row, a_nodeReg, a_breakTo, a_tryTo, a_cleanupOf, a_label, a_codeOp, a_codeReg, a_codeArg, a_codeNode, a_roots, a_entries, a_states, a_results, a_chain, a_actFunction, a_pcs, a_locals, a_regs, a_pending, a_cells)) (sm_Y i 0 (nI (rt f)) 0 x (nI 0) (nI NL, nI SL, nI DL, nI TL, nI N, nI nf, b_kinds, a_values, a_roots, a_cells, a_states, a_results, a_chain, a_actFunction, b_place, a_locals, b_savedSort, b_savedValue)) := by
  obtain ⟨h8, hW, hG⟩ := rl_G16 hI
  obtain ⟨hb, hS, hD, hH, hds, hSl⟩ := id hI
  rcases hSl i (by omega) with ⟨_, a2, f, a3, a4, a5⟩ | ⟨a1, _⟩ | ⟨a1, _⟩
  · obtain ⟨vro, vrd, vpa, vG0, vb0, vt0, vc0, ven, vex⟩ := hS.2.2.2.2.2.2.2.2.2 f a3
    have hLr := tr_le hW (rt f) vrd
    refine ⟨f, a3, a4, by omega, vro, ?_⟩
    exact sm_runS (Q := fun _ u v => i_Rel k u v) (d := 0) (p := rt f) (f := f) (pl := fun _ => 0) (fl := fun _ => 0) hS (by omega) ⟨by omega, by omega, by omega, a2, fun e he => absurd he (by omega), fun i' h4 _ => hSl i' h4⟩ ⟨a3, a4, hLr, Nat.le_refl _, sv_root hI a3⟩ (by omega) (fun a_states a_results a_chain a_actFunction a_pcs a_locals a_regs a_pending a_cells b_place b_savedSort b_savedValue w h => zz_in ⟨hb, hS, hD, hH, hds, h⟩) (by rw [← ven]; exact a5)
  · rw [h1] at a1
    exact absurd a1 (by decide)
  · rw [h1] at a1
    rcases a1 with a | a | a | a <;> exact absurd a (by decide)
theorem rn_N (hI : rl_I K L H G AA rt R NL SL DL TL N ds m nf cs a_kinds a_values a_heights a_loose a_parent a_place a_firstLeaf a_row a_nodeReg a_breakTo a_tryTo a_cleanupOf a_label a_codeOp a_codeReg a_codeArg a_codeNode a_roots a_entries a_states a_chain a_actFunction a_pcs a_regs a_pending b_kinds b_place b_savedSort b_savedValue) (hi : i < SL) (h2 : a_states i = 2) : ∃ c q pc g, c < 4 ∧ a_chain i = nI (c + 1) ∧ b_place (i * 4 + c) = nI q ∧ a_pcs (i * 4 + c) = nI pc ∧ pc < 640 ∧ a_codeReg pc = nI g ∧ g < 16 ∧ sm_G (fun _ u v => i_Rel k u v) (sm_X i 0 (f_opJump, f_opJumpZero, f_opTurn, f_opPend, f_opExit, nI NL, nI SL, nI DL, nI TL, nI N, nI ds, nI m, nI cs, nI nf, nI 0, 1, a_kinds, a_values, a_heights, a_loose, a_parent, a_place, a_firstLeaf, a_row, a_nodeReg, a_breakTo, a_tryTo, a_cleanupOf, a_label, a_codeOp, a_codeReg, a_codeArg, a_codeNode, a_roots, a_entries, a_states, a_results, a_chain, a_actFunction, upd a_pcs (i * 4 + c) (nI (pc + 1)), a_locals, upd a_regs ((i * 4 + c) * 16 + g) x, a_pending, a_cells)) (sm_Y i 0 (nI q) 1 x (nI 0) (nI NL, nI SL, nI DL, nI TL, nI N, nI nf, b_kinds, a_values, a_roots, a_cells, a_states, a_results, a_chain, a_actFunction, b_place, a_locals, b_savedSort, b_savedValue)) := by
  obtain ⟨h8, hW, hG⟩ := rl_G16 hI
  obtain ⟨hb, hS, hD, hH, hds, hSl⟩ := id hI
  rcases hSl i (by omega) with ⟨a1, _⟩ | ⟨_, c, pl, fl, c4, cD, ec, hw⟩ | ⟨a1, _⟩
  · rw [h2] at a1
    exact absurd a1 (by decide)
  · obtain ⟨w1, w2, w3, w4, w5, w6, w7, w8, w9⟩ := hw c (Nat.le_refl _)
    obtain ⟨y1, y2, y3, y4, y5⟩ := (hS.2.2.2.2.2.2.2.1.1 (pl c) w2).1 (by omega) (by omega) (by omega)
    have hcs := hS.2.2.2.1
    have hnn : cg_nn (K (pl c)) = 1 := by
      unfold cg_nn
      rw [if_neg (by omega), if_neg (by omega)]
    have hO : sm_O K L G AA rt ds nf DL a_entries i c pl fl a_states a_chain a_actFunction a_pcs a_regs a_pending b_place b_savedSort b_savedValue := ⟨by omega, c4, cD, ec, fun e he => hw e (by omega), fun i' h4 _ => hSl i' h4⟩
    refine ⟨c, pl c, AA (pl c), G (pl c), c4, ec, w8, w7, by omega, y3, hG _ w2, ?_⟩
    exact sm_runN (Q := fun _ u v => i_Rel k u v) (d := c) (p := pl c) (f := fl c) (pl := pl) (fl := fl) hS (by omega) (sm_O_fr h8 hG (sm_fp _) (sm_O_fr h8 hG (sm_frg (hG _ w2) _) hO)) ⟨w3, w4, w5, w6, sv_rg hW hS.2.2.2.2.2.2.1 (Nat.le_refl _) _ w9⟩ (by omega) (fun a_states a_results a_chain a_actFunction a_pcs a_locals a_regs a_pending a_cells b_place b_savedSort b_savedValue w h => zz_in ⟨hb, hS, hD, hH, hds, h⟩) (by rw [pk_us, hnn]) pk_us
  · rw [h2] at a1
    rcases a1 with a | a | a | a <;> exact absurd a (by decide)
theorem rn_A (hI : rl_I K L H G AA rt R NL SL DL TL N ds m nf cs a_kinds a_values a_heights a_loose a_parent a_place a_firstLeaf a_row a_nodeReg a_breakTo a_tryTo a_cleanupOf a_label a_codeOp a_codeReg a_codeArg a_codeNode a_roots a_entries a_states a_chain a_actFunction a_pcs a_regs a_pending b_kinds b_place b_savedSort b_savedValue) (hi : i < SL) (h2 : a_states i = 2) : ∃ c q pc g, c < 4 ∧ a_chain i = nI (c + 1) ∧ b_place (i * 4 + c) = nI q ∧ a_pcs (i * 4 + c) = nI pc ∧ pc < 640 ∧ a_codeReg pc = nI g ∧ g < 16 ∧ a_codeNode pc = nI q ∧ sm_G (fun _ u v => i_Rel k u v) (sm_Ra i 0 0 (nI q) 4 x (f_opJump, f_opJumpZero, f_opTurn, f_opPend, f_opExit, nI NL, nI SL, nI DL, nI TL, nI N, nI ds, nI m, nI cs, nI nf, nI 0, 1, a_kinds, a_values, a_heights, a_loose, a_parent, a_place, a_firstLeaf, a_row, a_nodeReg, a_breakTo, a_tryTo, a_cleanupOf, a_label, a_codeOp, a_codeReg, a_codeArg, a_codeNode, a_roots, a_entries, a_states, a_results, a_chain, a_actFunction, a_pcs, a_locals, a_regs, a_pending, a_cells)) (sm_Y i 0 (nI q) 4 x (nI 0) (nI NL, nI SL, nI DL, nI TL, nI N, nI nf, b_kinds, a_values, a_roots, a_cells, a_states, a_results, a_chain, a_actFunction, b_place, a_locals, b_savedSort, b_savedValue)) := by
  obtain ⟨h8, hW, hG⟩ := rl_G16 hI
  obtain ⟨hb, hS, hD, hH, hds, hSl⟩ := id hI
  rcases hSl i (by omega) with ⟨a1, _⟩ | ⟨_, c, pl, fl, c4, cD, ec, hw⟩ | ⟨a1, _⟩
  · rw [h2] at a1
    exact absurd a1 (by decide)
  · obtain ⟨w1, w2, w3, w4, w5, w6, w7, w8, w9⟩ := hw c (Nat.le_refl _)
    obtain ⟨y1, y2, y3, y4, y5⟩ := (hS.2.2.2.2.2.2.2.1.1 (pl c) w2).1 (by omega) (by omega) (by omega)
    have hcs := hS.2.2.2.1
    have hnn : cg_nn (K (pl c)) = 1 := by
      unfold cg_nn
      rw [if_neg (by omega), if_neg (by omega)]
    have hO : sm_O K L G AA rt ds nf DL a_entries i c pl fl a_states a_chain a_actFunction a_pcs a_regs a_pending b_place b_savedSort b_savedValue := ⟨by omega, c4, cD, ec, fun e he => hw e (by omega), fun i' h4 _ => hSl i' h4⟩
    refine ⟨c, pl c, AA (pl c), G (pl c), c4, ec, w8, w7, by omega, y3, hG _ w2, y5, ?_⟩
    exact sm_runA (Q := fun _ u v => i_Rel k u v) (d := c) (p := pl c) (f := fl c) (pl := pl) (fl := fl) hS (by omega) hO ⟨w3, w4, w5, w6, w9⟩ (by omega) (fun a_states a_results a_chain a_actFunction a_pcs a_locals a_regs a_pending a_cells b_place b_savedSort b_savedValue w h => zz_in ⟨hb, hS, hD, hH, hds, h⟩)
  · rw [h2] at a1
    rcases a1 with a | a | a | a <;> exact absurd a (by decide)
end
theorem i_vc_create {k : Nat} {u : SX} {v : SY} (I : i_Rel k u v) (hk : k + 3 ≤ 1540) (v1 : Int32) (v2 : Int32) : wpX_create (fun r u' => wpY_create (fun r' v' => r' = r ∧ i_Rel (k + 3) u' v') v v1 v2) u v1 v2 := by
  refine zz_el (P := fun u v => wpX_create (fun r u' => wpY_create (fun r' v' => r' = r ∧ i_Rel (k + 3) u' v') v v1 v2) u v1 v2) ?_ I
  intro K L H G AA rt R NL SL DL TL N ds m nf cs f_opJump f_opJumpZero f_opTurn f_opPend f_opExit f_turnsUsed f_going a_kinds a_values a_heights a_loose a_parent a_place a_firstLeaf a_row a_nodeReg a_breakTo a_tryTo a_cleanupOf a_label a_codeOp a_codeReg a_codeArg a_codeNode a_roots a_entries a_states a_results a_chain a_actFunction a_pcs a_locals a_regs a_pending a_cells b_kinds b_place b_savedSort b_savedValue hI
  obtain ⟨h8, hW, hG⟩ := rl_G16 hI
  obtain ⟨hb, hS, hD, hH, hds, hSl⟩ := id hI
  have hn6 := hS.2.2.2.2.2.2.2.2.1
  rcases rx_c v1 (n := nf) (by omega) with h | ⟨h, h2, h3⟩ | ⟨f, hf, rfl, h, h2, h3⟩
  · exact br_t h (br_t h (And.intro rfl (zz_in hI)))
  · exact br_f h (br_f h3 (br_f h (br_f h3 (And.intro rfl (zz_in hI)))))
  · refine br_f h (br_t h2 ?_)
    rcases fs (SL := SL) (f_opJump := f_opJump) (f_opJumpZero := f_opJumpZero) (f_opTurn := f_opTurn) (f_opPend := f_opPend) (f_opExit := f_opExit) (f_nodeLimit := nI NL) (f_depthLimit := nI DL) (f_turnLimit := nI TL) (f_programSize := nI N) (f_draftStart := nI ds) (f_rowSize := nI m) (f_codeSize := nI cs) (f_defined := nI nf) (f_turnsUsed := f_turnsUsed) (f_going := f_going) (a_kinds := a_kinds) (a_values := a_values) (a_heights := a_heights) (a_loose := a_loose) (a_parent := a_parent) (a_place := a_place) (a_firstLeaf := a_firstLeaf) (a_row := a_row) (a_nodeReg := a_nodeReg) (a_breakTo := a_breakTo) (a_tryTo := a_tryTo) (a_cleanupOf := a_cleanupOf) (a_label := a_label) (a_codeOp := a_codeOp) (a_codeReg := a_codeReg) (a_codeArg := a_codeArg) (a_codeNode := a_codeNode) (a_roots := a_roots) (a_entries := a_entries) (a_states := a_states) (a_results := a_results) (a_chain := a_chain) (a_actFunction := a_actFunction) (a_pcs := a_pcs) (a_locals := a_locals) (a_regs := a_regs) (a_pending := a_pending) (a_cells := a_cells) (b_kinds := b_kinds) (b_place := b_place) (b_savedSort := b_savedSort) (b_savedValue := b_savedValue) (by omega) with ⟨i, hi, z0, fx, fy⟩ | ⟨fx, fy⟩
    · have hv : vp_in (nI i) 4 := vp_in_nI (by omega) (by decide)
      have hp0 : (0 : Int32) ≤ nI i := nI_pos' (by omega)
      have hc0 : a_chain i = 0 := by
        rcases hSl i (by omega) with ⟨a, _⟩ | ⟨a, _⟩ | ⟨_, a⟩
        · rw [z0] at a
          exact absurd a (by decide)
        · rw [z0] at a
          exact absurd a (by decide)
        · exact a
      have hI' : rl_I K L H G AA rt R NL SL DL TL N ds m nf cs a_kinds a_values a_heights a_loose a_parent a_place a_firstLeaf a_row a_nodeReg a_breakTo a_tryTo a_cleanupOf a_label a_codeOp a_codeReg a_codeArg a_codeNode a_roots a_entries (upd a_states i 1) (upd a_chain i 1) (upd a_actFunction (i * 4) (nI f)) (upd a_pcs (i * 4) (a_entries f)) a_regs a_pending b_kinds (upd b_place (i * 4) (-1)) b_savedSort b_savedValue := ⟨hb, hS, hD, hH, hds, fun i' h4 => by
        by_cases e : i' = i
        · subst e
          exact Or.inl ⟨pk_us, pk_us, f, hf, pk_us, pk_us⟩
        · exact sm_fr_SL (a := i * 4) (fun b hb => ⟨pk_un hb, pk_un hb, pk_un hb, fun _ _ => ⟨rfl, rfl⟩, fun _ _ => ⟨rfl, rfl⟩⟩) (by omega) h8 hG (pk_un e) (pk_un e) (hSl i' h4)⟩
      refine fx _ (br_t hp0 ⟨hv, nm_r (tr_uc (by omega) _ _) ⟨hv, nm_r (tr_uc (by omega) _ _) ⟨hv, nm_r (tr_uc (by omega) _ _) ?_⟩⟩⟩)
      refine xb_push0 (by omega) pk_us (v := f) (by omega) rfl ?_
      rw [tr_uu]
      refine br_f h (br_t h2 (fy _ (br_t hp0 ⟨hv, nm_r (tr_uc (by omega) _ _) ⟨hv, nm_r (tr_uc (by omega) _ _) ?_⟩⟩)))
      exact yb_beg0 (by omega) hc0 _ _ (And.intro rfl (zz_in hI'))
    · have hn : ¬ (0 : Int32) ≤ -1 := by decide
      exact fx _ (br_f hn (br_f h (br_t h2 (fy _ (br_f hn (And.intro rfl (zz_in hI)))))))
theorem i_vc_resume {k : Nat} {u : SX} {v : SY} (I : i_Rel k u v) (hk : k + 3 ≤ 1540) (v1 : Int32) : wpX_resume (fun r u' => wpY_resume (fun r' v' => r' = r ∧ i_Rel (k + 3) u' v') v v1) u v1 := by
  refine zz_el (P := fun u v => wpX_resume (fun r u' => wpY_resume (fun r' v' => r' = r ∧ i_Rel (k + 3) u' v') v v1) u v1) ?_ I
  intro K L H G AA rt R NL SL DL TL N ds m nf cs f_opJump f_opJumpZero f_opTurn f_opPend f_opExit f_turnsUsed f_going a_kinds a_values a_heights a_loose a_parent a_place a_firstLeaf a_row a_nodeReg a_breakTo a_tryTo a_cleanupOf a_label a_codeOp a_codeReg a_codeArg a_codeNode a_roots a_entries a_states a_results a_chain a_actFunction a_pcs a_locals a_regs a_pending a_cells b_kinds b_place b_savedSort b_savedValue hI
  obtain ⟨hb, hS, hD, hH, hds, hSl⟩ := id hI
  unfold wpX_resume
  rcases rx_c v1 (n := SL) (by omega) with h | h | ⟨i, hi, rfl, h, h2, h3⟩
  · refine xr_no (Or.inl h) (br_f (by decide) ?_)
    unfold wpY_resume
    exact ya_no (Or.inl h) (br_f (by decide) (And.intro rfl (zz_in hI)))
  · refine xr_no (Or.inr h) (br_f (by decide) ?_)
    unfold wpY_resume
    exact ya_no (Or.inr h) (br_f (by decide) (And.intro rfl (zz_in hI)))
  · have hv : vp_in (nI i) 4 := vp_in_nI (by omega) (by decide)
    have hc : a_states (nI i).toNatClampNeg = a_states i := tr_fc (by omega) _
    have hcase : a_states i = 0 ∨ a_states i = 1 ∨ a_states i = 2 ∨ (a_states i = 3 ∨ a_states i = 4 ∨ a_states i = 5) := by
      rcases hSl i (by omega) with ⟨a, _⟩ | ⟨a, _⟩ | ⟨a, _⟩
      · exact Or.inr (Or.inl a)
      · exact Or.inr (Or.inr (Or.inl a))
      · rcases a with a | a
        · exact Or.inl a
        · exact Or.inr (Or.inr (Or.inr a))
    rcases hcase with z | z | z | z
    · refine xr_free hi (by omega) z (br_f (by decide) ?_)
      unfold wpY_resume
      exact ya_free hi (by omega) z (br_f (by decide) (And.intro rfl (zz_in hI)))
    · refine xr_1 hi (by omega) z (br_t rfl ?_)
      obtain ⟨f, hf, hfn, hr8, hro, hs⟩ := rn_S (k := k + 3) (i := i) (x := 0) hI hi z
      have hn6 := hS.2.2.2.2.2.2.2.2.1
      obtain ⟨r, u', v', hq, hX, hY⟩ := hs
      obtain ⟨w1, w2, w3, w4, w5, w6, w7, w8, w9, w10, w11, w12, w13, w14, w15, w16, w17, w18, w19, w20, w21, w22, w23, w24, w25, w26, w27, w28, w29, w30, w31, w32, w33, w34, w35, w36, w37, w38, w39, w40, w41, w42, w43, w44⟩ := u'
      obtain ⟨q1, q2, q3, q4, q5, q6, q7, q8, q9, q10, q11, q12, q13, q14, q15, q16, q17, q18⟩ := v'
      refine And.intro hv (br_f (by rw [hc, z]; decide) ?_)
      refine Exists.intro 65537 (hX _ ?_ 65537 (by omega))
      show wpY_resume _ _ _
      unfold wpY_resume
      have e1 : a_actFunction (nI i * 4).toNatClampNeg = nI f := by rw [tr_4i, nI_clamp (by omega), hfn]
      have e2 : a_roots (a_actFunction (nI i * 4).toNatClampNeg).toNatClampNeg = nI (rt f) := by rw [e1, nI_clamp (by omega), hro]
      refine ya_yes hi (by omega) (by rw [z]; decide) (br_t rfl ⟨hv, br_t (by rw [hc, z]; decide) ⟨hv, br_t (hc.trans z) ⟨pk_in _ _ (by omega) (tr_4i _), pk_in _ _ (by omega) e1, ?_⟩⟩⟩)
      rw [e2]
      exact Exists.intro 20001 (hY _ ⟨rfl, hq⟩ 20001 (by omega))
    · refine xr_2 hi (by omega) z (br_t rfl ?_)
      obtain ⟨c, q, pc, g, c4, ec, ep, epc, hp6, erg, hg, hs⟩ := rn_N (k := k + 3) (i := i) (x := 0) hI hi z
      obtain ⟨r, u', v', hq, hX, hY⟩ := hs
      obtain ⟨w1, w2, w3, w4, w5, w6, w7, w8, w9, w10, w11, w12, w13, w14, w15, w16, w17, w18, w19, w20, w21, w22, w23, w24, w25, w26, w27, w28, w29, w30, w31, w32, w33, w34, w35, w36, w37, w38, w39, w40, w41, w42, w43, w44⟩ := u'
      obtain ⟨q1, q2, q3, q4, q5, q6, q7, q8, q9, q10, q11, q12, q13, q14, q15, q16, q17, q18⟩ := v'
      refine And.intro hv (br_t (hc.trans z) ?_)
      refine xd_dlv (by omega) c4 ec epc hp6 erg hg ?_
      refine Exists.intro 65537 (hX _ ?_ 65537 (by omega))
      show wpY_resume _ _ _
      unfold wpY_resume
      have e1 : nI i * 4 + a_chain (nI i).toNatClampNeg - 1 = nI (i * 4 + c) := by rw [nI_clamp (by omega), ec, tr_i4d]
      have e2 : b_place (nI i * 4 + a_chain (nI i).toNatClampNeg - 1).toNatClampNeg = nI q := by rw [e1, nI_clamp (by omega), ep]
      refine ya_yes hi (by omega) (by rw [z]; decide) (br_t rfl ⟨hv, br_t (by rw [hc, z]; decide) ⟨hv, br_f (by rw [hc, z]; decide) ⟨hv, pk_in _ _ (by omega) e1, ?_⟩⟩⟩)
      rw [e2]
      exact Exists.intro 20001 (hY _ ⟨rfl, hq⟩ 20001 (by omega))
    · refine xr_3 hi (by omega) z (br_f (by decide) ?_)
      unfold wpY_resume
      have n0 : ¬ a_states i = 0 := by rcases z with h | h | h <;> rw [h] <;> decide
      have n2 : ¬ a_states i ≤ 2 := by rcases z with h | h | h <;> rw [h] <;> decide
      exact ya_yes hi (by omega) n0 (br_t rfl ⟨hv, br_f (by rw [hc]; exact n2) (And.intro rfl (zz_in hI))⟩)
theorem i_vc_send {k : Nat} {u : SX} {v : SY} (I : i_Rel k u v) (hk : k + 3 ≤ 1540) (v1 : Int32) (v2 : Int32) : wpX_send (fun r u' => wpY_send (fun r' v' => r' = r ∧ i_Rel (k + 3) u' v') v v1 v2) u v1 v2 := by
  refine zz_el (P := fun u v => wpX_send (fun r u' => wpY_send (fun r' v' => r' = r ∧ i_Rel (k + 3) u' v') v v1 v2) u v1 v2) ?_ I
  intro K L H G AA rt R NL SL DL TL N ds m nf cs f_opJump f_opJumpZero f_opTurn f_opPend f_opExit f_turnsUsed f_going a_kinds a_values a_heights a_loose a_parent a_place a_firstLeaf a_row a_nodeReg a_breakTo a_tryTo a_cleanupOf a_label a_codeOp a_codeReg a_codeArg a_codeNode a_roots a_entries a_states a_results a_chain a_actFunction a_pcs a_locals a_regs a_pending a_cells b_kinds b_place b_savedSort b_savedValue hI
  obtain ⟨hb, hS, hD, hH, hds, hSl⟩ := id hI
  unfold wpX_send
  rcases rx_c v1 (n := SL) (by omega) with h | h | ⟨i, hi, rfl, h, h2, h3⟩
  · refine xr_no (Or.inl h) (br_f (by decide) ?_)
    unfold wpY_send
    exact ya_no (Or.inl h) (br_f (by decide) (And.intro rfl (zz_in hI)))
  · refine xr_no (Or.inr h) (br_f (by decide) ?_)
    unfold wpY_send
    exact ya_no (Or.inr h) (br_f (by decide) (And.intro rfl (zz_in hI)))
  · have hv : vp_in (nI i) 4 := vp_in_nI (by omega) (by decide)
    have hc : a_states (nI i).toNatClampNeg = a_states i := tr_fc (by omega) _
    have hcase : a_states i = 0 ∨ a_states i = 1 ∨ a_states i = 2 ∨ (a_states i = 3 ∨ a_states i = 4 ∨ a_states i = 5) := by
      rcases hSl i (by omega) with ⟨a, _⟩ | ⟨a, _⟩ | ⟨a, _⟩
      · exact Or.inr (Or.inl a)
      · exact Or.inr (Or.inr (Or.inl a))
      · rcases a with a | a
        · exact Or.inl a
        · exact Or.inr (Or.inr (Or.inr a))
    rcases hcase with z | z | z | z
    · refine xr_free hi (by omega) z (br_f (by decide) ?_)
      unfold wpY_send
      exact ya_free hi (by omega) z (br_f (by decide) (And.intro rfl (zz_in hI)))
    · refine xr_1 hi (by omega) z (br_t rfl ?_)
      refine And.intro hv (br_t (hc.trans z) ?_)
      unfold wpY_send
      exact ya_yes hi (by omega) (by rw [z]; decide) (br_t rfl ⟨hv, br_t (by rw [hc, z]; decide) ⟨hv, br_t (hc.trans z) (And.intro rfl (zz_in hI))⟩⟩)
    · refine xr_2 hi (by omega) z (br_t rfl ?_)
      obtain ⟨c, q, pc, g, c4, ec, ep, epc, hp6, erg, hg, hs⟩ := rn_N (k := k + 3) (i := i) (x := v2) hI hi z
      obtain ⟨r, u', v', hq, hX, hY⟩ := hs
      obtain ⟨w1, w2, w3, w4, w5, w6, w7, w8, w9, w10, w11, w12, w13, w14, w15, w16, w17, w18, w19, w20, w21, w22, w23, w24, w25, w26, w27, w28, w29, w30, w31, w32, w33, w34, w35, w36, w37, w38, w39, w40, w41, w42, w43, w44⟩ := u'
      obtain ⟨q1, q2, q3, q4, q5, q6, q7, q8, q9, q10, q11, q12, q13, q14, q15, q16, q17, q18⟩ := v'
      refine And.intro hv (br_f (by rw [hc, z]; decide) ?_)
      unfold wpX_begin
      dsimp only
      refine xd_dlv (by omega) c4 ec epc hp6 erg hg ?_
      refine Exists.intro 65537 (hX _ ?_ 65537 (by omega))
      show wpY_send _ _ _ _
      unfold wpY_send
      have e1 : nI i * 4 + a_chain (nI i).toNatClampNeg - 1 = nI (i * 4 + c) := by rw [nI_clamp (by omega), ec, tr_i4d]
      have e2 : b_place (nI i * 4 + a_chain (nI i).toNatClampNeg - 1).toNatClampNeg = nI q := by rw [e1, nI_clamp (by omega), ep]
      refine ya_yes hi (by omega) (by rw [z]; decide) (br_t rfl ⟨hv, br_t (by rw [hc, z]; decide) ⟨hv, br_f (by rw [hc, z]; decide) ⟨hv, pk_in _ _ (by omega) e1, ?_⟩⟩⟩)
      rw [e2]
      exact Exists.intro 20001 (hY _ ⟨rfl, hq⟩ 20001 (by omega))
    · refine xr_3 hi (by omega) z (br_f (by decide) ?_)
      unfold wpY_send
      have n0 : ¬ a_states i = 0 := by rcases z with h | h | h <;> rw [h] <;> decide
      have n2 : ¬ a_states i ≤ 2 := by rcases z with h | h | h <;> rw [h] <;> decide
      exact ya_yes hi (by omega) n0 (br_t rfl ⟨hv, br_f (by rw [hc]; exact n2) (And.intro rfl (zz_in hI))⟩)
theorem i_vc_close {k : Nat} {u : SX} {v : SY} (I : i_Rel k u v) (hk : k + 3 ≤ 1540) (v1 : Int32) (v2 : Int32) : wpX_close (fun r u' => wpY_close (fun r' v' => r' = r ∧ i_Rel (k + 3) u' v') v v1 v2) u v1 v2 := by
  refine zz_el (P := fun u v => wpX_close (fun r u' => wpY_close (fun r' v' => r' = r ∧ i_Rel (k + 3) u' v') v v1 v2) u v1 v2) ?_ I
  intro K L H G AA rt R NL SL DL TL N ds m nf cs f_opJump f_opJumpZero f_opTurn f_opPend f_opExit f_turnsUsed f_going a_kinds a_values a_heights a_loose a_parent a_place a_firstLeaf a_row a_nodeReg a_breakTo a_tryTo a_cleanupOf a_label a_codeOp a_codeReg a_codeArg a_codeNode a_roots a_entries a_states a_results a_chain a_actFunction a_pcs a_locals a_regs a_pending a_cells b_kinds b_place b_savedSort b_savedValue hI
  obtain ⟨hb, hS, hD, hH, hds, hSl⟩ := id hI
  unfold wpX_close
  rcases rx_c v1 (n := SL) (by omega) with h | h | ⟨i, hi, rfl, h, h2, h3⟩
  · refine xr_no (Or.inl h) (br_f (by decide) ?_)
    unfold wpY_close
    exact ya_no (Or.inl h) (br_f (by decide) (And.intro rfl (zz_in hI)))
  · refine xr_no (Or.inr h) (br_f (by decide) ?_)
    unfold wpY_close
    exact ya_no (Or.inr h) (br_f (by decide) (And.intro rfl (zz_in hI)))
  · have hv : vp_in (nI i) 4 := vp_in_nI (by omega) (by decide)
    have hc : a_states (nI i).toNatClampNeg = a_states i := tr_fc (by omega) _
    have hcase : a_states i = 0 ∨ a_states i = 1 ∨ a_states i = 2 ∨ (a_states i = 3 ∨ a_states i = 4 ∨ a_states i = 5) := by
      rcases hSl i (by omega) with ⟨a, _⟩ | ⟨a, _⟩ | ⟨a, _⟩
      · exact Or.inr (Or.inl a)
      · exact Or.inr (Or.inr (Or.inl a))
      · rcases a with a | a
        · exact Or.inl a
        · exact Or.inr (Or.inr (Or.inr a))
    rcases hcase with z | z | z | z
    · refine xr_free hi (by omega) z (br_f (by decide) ?_)
      unfold wpY_close
      exact ya_free hi (by omega) z (br_f (by decide) (And.intro rfl (zz_in hI)))
    · refine xr_1 hi (by omega) z (br_t rfl ?_)
      obtain ⟨h8, hW, hG⟩ := rl_G16 hI
      have hI' : rl_I K L H G AA rt R NL SL DL TL N ds m nf cs a_kinds a_values a_heights a_loose a_parent a_place a_firstLeaf a_row a_nodeReg a_breakTo a_tryTo a_cleanupOf a_label a_codeOp a_codeReg a_codeArg a_codeNode a_roots a_entries (upd a_states i 4) (upd a_chain i 0) a_actFunction a_pcs a_regs a_pending b_kinds b_place b_savedSort b_savedValue := ⟨hb, hS, hD, hH, hds, fun i' h4 => by
        by_cases e : i' = i
        · subst e
          exact Or.inr (Or.inr ⟨Or.inr (Or.inr (Or.inl pk_us)), pk_us⟩)
        · exact sm_fr_SL (a := i * 4) (fun b hb => ⟨rfl, rfl, rfl, fun _ _ => ⟨rfl, rfl⟩, fun _ _ => ⟨rfl, rfl⟩⟩) (by omega) h8 hG (pk_un e) (pk_un e) (hSl i' h4)⟩
      refine And.intro hv (br_t (hc.trans z) (And.intro hv (nm_r (tr_uc (by omega) _ _) ⟨hv, nm_r (tr_uc (by omega) _ _) ⟨hv, nm_r (tr_uc (by omega) _ _) ?_⟩⟩)))
      show wpY_close _ _ _ _
      unfold wpY_close
      exact ya_yes hi (by omega) (by rw [z]; decide) (br_t rfl ⟨hv, br_t (by rw [hc, z]; decide) ⟨hv, br_t (hc.trans z) (And.intro hv (nm_r (tr_uc (by omega) _ _) ⟨hv, nm_r (tr_uc (by omega) _ _) ⟨hv, nm_r (tr_uc (by omega) _ _) (And.intro rfl (zz_in hI'))⟩⟩))⟩⟩)
    · refine xr_2 hi (by omega) z (br_t rfl ?_)
      obtain ⟨c, q, pc, g, c4, ec, ep, epc, hp6, erg, hg, ecn, hs⟩ := rn_A (k := k + 3) (i := i) (x := v2) hI hi z
      obtain ⟨r, u', v', hq, hX, hY⟩ := hs
      obtain ⟨w1, w2, w3, w4, w5, w6, w7, w8, w9, w10, w11, w12, w13, w14, w15, w16, w17, w18, w19, w20, w21, w22, w23, w24, w25, w26, w27, w28, w29, w30, w31, w32, w33, w34, w35, w36, w37, w38, w39, w40, w41, w42, w43, w44⟩ := u'
      obtain ⟨q1, q2, q3, q4, q5, q6, q7, q8, q9, q10, q11, q12, q13, q14, q15, q16, q17, q18⟩ := v'
      have e1 : nI i * 4 + a_chain (nI i).toNatClampNeg - 1 = nI (i * 4 + c) := by rw [nI_clamp (by omega), ec, tr_i4d]
      have e2 : b_place (nI i * 4 + a_chain (nI i).toNatClampNeg - 1).toNatClampNeg = nI q := by rw [e1, nI_clamp (by omega), ep]
      have e3 : a_pcs (nI (i * 4 + c)).toNatClampNeg = nI pc := by rw [nI_clamp (by omega), epc]
      have e4 : a_codeNode (a_pcs (nI (i * 4 + c)).toNatClampNeg).toNatClampNeg = nI q := by rw [e3, nI_clamp (by omega), ecn]
      refine And.intro hv (br_f (by rw [hc, z]; decide) ⟨hv, nm_r e1 ⟨vp_in_nI (by omega) (by decide), pk_in _ _ hp6 e3, nm_r e4 ?_⟩⟩)
      refine Exists.intro 5 (hX _ ?_ _ (fun u' hu' => match u', hu' with | (f_opJump, f_opJumpZero, f_opTurn, f_opPend, f_opExit, f_nodeLimit, f_slotLimit, f_depthLimit, f_turnLimit, f_programSize, f_draftStart, f_rowSize, f_codeSize, f_defined, f_turnsUsed, f_going, a_kinds, a_values, a_heights, a_loose, a_parent, a_place, a_firstLeaf, a_row, a_nodeReg, a_breakTo, a_tryTo, a_cleanupOf, a_label, a_codeOp, a_codeReg, a_codeArg, a_codeNode, a_roots, a_entries, a_states, a_results, a_chain, a_actFunction, a_pcs, a_locals, a_regs, a_pending, a_cells), hu' => Exists.intro 65537 (hu' 65537 (by omega))) 5 (by omega))
      show wpY_close _ _ _ _
      unfold wpY_close
      refine ya_yes hi (by omega) (by rw [z]; decide) (br_t rfl ⟨hv, br_t (by rw [hc, z]; decide) ⟨hv, br_f (by rw [hc, z]; decide) ⟨hv, pk_in _ _ (by omega) e1, ?_⟩⟩⟩)
      rw [e2]
      exact Exists.intro 20001 (hY _ ⟨rfl, hq⟩ 20001 (by omega))
    · refine xr_3 hi (by omega) z (br_f (by decide) ?_)
      unfold wpY_close
      have n0 : ¬ a_states i = 0 := by rcases z with h | h | h <;> rw [h] <;> decide
      have n2 : ¬ a_states i ≤ 2 := by rcases z with h | h | h <;> rw [h] <;> decide
      exact ya_yes hi (by omega) n0 (br_t rfl ⟨hv, br_f (by rw [hc]; exact n2) (And.intro rfl (zz_in hI))⟩)
end
section
/-! copy; positionAt, pendingAt -/
def rl_cp (w i j m : Nat) (f : Nat → Int32) : Nat → Int32 := fun t => if j * w ≤ t ∧ t < j * w + m then f (i * w + (t - j * w)) else f t
theorem rl_cp_0 (w i j : Nat) (f : Nat → Int32) : rl_cp w i j 0 f = f := by
  funext t
  exact if_neg (by omega)
theorem rl_cp_s {w i j m : Nat} (f : Nat → Int32) (hne : i * w + w ≤ j * w ∨ j * w + w ≤ i * w) (hm : m < w) : upd (rl_cp w i j m f) (j * w + m) (rl_cp w i j m f (i * w + m)) = rl_cp w i j (m + 1) f := by
  funext t
  unfold upd rl_cp
  rw [if_neg (c := j * w ≤ i * w + m ∧ i * w + m < j * w + m) (by omega)]
  by_cases e : t = j * w + m
  · rw [if_pos e, if_pos (by omega), e]
    congr 1
    omega
  · rw [if_neg e]
    by_cases z : j * w ≤ t ∧ t < j * w + m
    · rw [if_pos z, if_pos (by omega)]
    · rw [if_neg z, if_neg (by omega)]
theorem rl_cp_in {w i j e : Nat} (f : Nat → Int32) (he : e < w) : rl_cp w i j w f (j * w + e) = f (i * w + e) := by
  unfold rl_cp
  rw [if_pos (by omega)]
  congr 1
  omega
theorem rl_cp_out {w i j t : Nat} (f : Nat → Int32) (h : t < j * w ∨ j * w + w ≤ t) : rl_cp w i j w f t = f t := if_neg (by omega)
section
variable {K L H G AA rt : Nat → Nat} {ds nf DL a b q f i j : Nat} {fn pcs rg pe pla ss sv fn' pcs' rg' pe' pla' ss' sv' en st ch st' ch' : Nat → Int32}
theorem sm_WA_tr (hd : ds ≤ 128) (hG : ∀ t, t < ds → G t < 16) (h : fn' b = fn a ∧ pcs' b = pcs a ∧ pla' b = pla a ∧ (∀ g, g < 16 → rg' (b * 16 + g) = rg (a * 16 + g) ∧ pe' (b * 16 + g) = pe (a * 16 + g)) ∧ (∀ t, t < 128 → ss' (b * 128 + t) = ss (a * 128 + t) ∧ sv' (b * 128 + t) = sv (a * 128 + t))) (S : sm_WA K L G AA rt ds nf fn pcs rg pe pla ss sv a q f) : sm_WA K L G AA rt ds nf fn' pcs' rg' pe' pla' ss' sv' b q f := by
  obtain ⟨s1, s2, s3, s4, s5, s6, s7, s8, s9⟩ := S
  obtain ⟨a1, a2, a3, a4, a5⟩ := h
  refine ⟨s1, s2, s3, by rw [a1, s4], s5, s6, by rw [a2, s7], by rw [a3, s8], ?_⟩
  intro t p ht c kf h1 h2
  obtain ⟨x1, x2⟩ := s9 t p ht c kf h1 h2
  have b1 := a4 (G t) (hG t ht)
  have b2 := a5 t (by omega)
  refine ⟨by rw [b1.1, b2.2, x1], fun k => ?_⟩
  rw [b1.2, b2.1]
  exact x2 k
theorem sm_SL_tr (hd : ds ≤ 128) (hG : ∀ t, t < ds → G t < 16) (hs : st' j = st i) (hc : ch' j = ch i) (h : ∀ e, e < 4 → fn' (j * 4 + e) = fn (i * 4 + e) ∧ pcs' (j * 4 + e) = pcs (i * 4 + e) ∧ pla' (j * 4 + e) = pla (i * 4 + e) ∧ (∀ g, g < 16 → rg' ((j * 4 + e) * 16 + g) = rg ((i * 4 + e) * 16 + g) ∧ pe' ((j * 4 + e) * 16 + g) = pe ((i * 4 + e) * 16 + g)) ∧ (∀ t, t < 128 → ss' ((j * 4 + e) * 128 + t) = ss ((i * 4 + e) * 128 + t) ∧ sv' ((j * 4 + e) * 128 + t) = sv ((i * 4 + e) * 128 + t))) (S : sm_SL K L G AA rt ds nf DL en st ch fn pcs rg pe pla ss sv i) : sm_SL K L G AA rt ds nf DL en st' ch' fn' pcs' rg' pe' pla' ss' sv' j := by
  rcases S with ⟨s1, s2, f, s3, s4, s5⟩ | ⟨s1, c, pl, fl, s2, s3, s4, s5⟩ | ⟨s1, s2⟩
  · obtain ⟨a1, a2, -⟩ := h 0 (by omega)
    exact Or.inl ⟨by rw [hs, s1], by rw [hc, s2], f, s3, a1.trans s4, a2.trans s5⟩
  · exact Or.inr (Or.inl ⟨by rw [hs, s1], c, pl, fl, s2, s3, by rw [hc, s4], fun e he => sm_WA_tr hd hG (h e (by omega)) (s5 e he)⟩)
  · exact Or.inr (Or.inr ⟨by rw [hs]; exact s1, by rw [hc, s2]⟩)
end
section
variable {K L H G AA rt R : Nat → Nat} {NL SL DL TL N ds m nf cs : Nat} {f_opJump f_opJumpZero f_opTurn f_opPend f_opExit f_nodeLimit f_slotLimit f_depthLimit f_turnLimit f_programSize f_draftStart f_rowSize f_codeSize f_defined f_turnsUsed f_going : Int32} {a_kinds a_values a_heights a_loose a_parent a_place a_firstLeaf a_row a_nodeReg a_breakTo a_tryTo a_cleanupOf a_label a_codeOp a_codeReg a_codeArg a_codeNode a_roots a_entries a_states a_results a_chain a_actFunction a_pcs a_locals a_regs a_pending a_cells b_kinds b_place b_savedSort b_savedValue : Nat → Int32}
variable {i j : Nat}
theorem xc_162 {post : Int32 → SX → Prop} (hi : i < 4) (hj : j < 4) (hne : i ≠ j) (h : post (nI j) (f_opJump, f_opJumpZero, f_opTurn, f_opPend, f_opExit, f_nodeLimit, f_slotLimit, f_depthLimit, f_turnLimit, f_programSize, f_draftStart, f_rowSize, f_codeSize, f_defined, f_turnsUsed, f_going, a_kinds, a_values, a_heights, a_loose, a_parent, a_place, a_firstLeaf, a_row, a_nodeReg, a_breakTo, a_tryTo, a_cleanupOf, a_label, a_codeOp, a_codeReg, a_codeArg, a_codeNode, a_roots, a_entries, a_states, a_results, a_chain, a_actFunction, a_pcs, a_locals, rl_cp 64 i j 64 a_regs, rl_cp 64 i j 64 a_pending, a_cells)) : ∀ d mm, mm + d = 64 → wX_copy_162 post (nI i) (nI j) f_opJump f_opJumpZero f_opTurn f_opPend f_opExit f_nodeLimit f_slotLimit f_depthLimit f_turnLimit f_programSize f_draftStart f_rowSize f_codeSize f_defined f_turnsUsed f_going (d + 1) (nI mm) a_kinds a_values a_heights a_loose a_parent a_place a_firstLeaf a_row a_nodeReg a_breakTo a_tryTo a_cleanupOf a_label a_codeOp a_codeReg a_codeArg a_codeNode a_roots a_entries a_states a_results a_chain a_actFunction a_pcs a_locals (rl_cp 64 i j mm a_regs) (rl_cp 64 i j mm a_pending) a_cells := by
  intro d
  induction d with
  | zero =>
    intro mm hm
    have : mm = 64 := by omega
    subst this
    exact br_t (by decide) h
  | succ d ih =>
    intro mm hm
    have e1 : nI i * 64 + nI mm = nI (i * 64 + mm) := tr_i64 i mm
    have e2 : nI j * 64 + nI mm = nI (j * 64 + mm) := tr_i64 j mm
    have v1 : vp_in (nI i * 64 + nI mm) 256 := pk_in _ _ (by omega) e1
    have v2 : vp_in (nI j * 64 + nI mm) 256 := pk_in _ _ (by omega) e2
    have g : ∀ f : Nat → Int32, upd (rl_cp 64 i j mm f) (nI j * 64 + nI mm).toNatClampNeg (rl_cp 64 i j mm f (nI i * 64 + nI mm).toNatClampNeg) = rl_cp 64 i j (mm + 1) f := fun f => by
      rw [e1, e2, nI_clamp (by omega), nI_clamp (by omega)]
      exact rl_cp_s f (by omega) (by omega)
    exact br_f (nI_ge (b := 64) (by omega) (by decide)) ⟨v1, v2, nm_r (g _) ⟨v1, v2, nm_r (g _) (nm_r (nI_1 mm) (ih (mm + 1) (by omega)))⟩⟩
theorem xc_122 {post : Int32 → SX → Prop} (hi : i < 4) (hj : j < 4) (hne : i ≠ j) (h : ∃ n162 : Nat, wX_copy_162 post (nI i) (nI j) f_opJump f_opJumpZero f_opTurn f_opPend f_opExit f_nodeLimit f_slotLimit f_depthLimit f_turnLimit f_programSize f_draftStart f_rowSize f_codeSize f_defined f_turnsUsed f_going n162 0 a_kinds a_values a_heights a_loose a_parent a_place a_firstLeaf a_row a_nodeReg a_breakTo a_tryTo a_cleanupOf a_label a_codeOp a_codeReg a_codeArg a_codeNode a_roots a_entries a_states a_results a_chain a_actFunction a_pcs (rl_cp 16 i j 16 a_locals) a_regs a_pending a_cells) : ∀ d mm, mm + d = 16 → wX_copy_122 post (nI i) (nI j) f_opJump f_opJumpZero f_opTurn f_opPend f_opExit f_nodeLimit f_slotLimit f_depthLimit f_turnLimit f_programSize f_draftStart f_rowSize f_codeSize f_defined f_turnsUsed f_going (d + 1) (nI mm) a_kinds a_values a_heights a_loose a_parent a_place a_firstLeaf a_row a_nodeReg a_breakTo a_tryTo a_cleanupOf a_label a_codeOp a_codeReg a_codeArg a_codeNode a_roots a_entries a_states a_results a_chain a_actFunction a_pcs (rl_cp 16 i j mm a_locals) a_regs a_pending a_cells := by
  intro d
  induction d with
  | zero =>
    intro mm hm
    have : mm = 16 := by omega
    subst this
    exact br_t (by decide) h
  | succ d ih =>
    intro mm hm
    have e1 : nI i * 16 + nI mm = nI (i * 16 + mm) := tr_i16 i mm
    have e2 : nI j * 16 + nI mm = nI (j * 16 + mm) := tr_i16 j mm
    have v1 : vp_in (nI i * 16 + nI mm) 64 := pk_in _ _ (by omega) e1
    have v2 : vp_in (nI j * 16 + nI mm) 64 := pk_in _ _ (by omega) e2
    have g : ∀ f : Nat → Int32, upd (rl_cp 16 i j mm f) (nI j * 16 + nI mm).toNatClampNeg (rl_cp 16 i j mm f (nI i * 16 + nI mm).toNatClampNeg) = rl_cp 16 i j (mm + 1) f := fun f => by
      rw [e1, e2, nI_clamp (by omega), nI_clamp (by omega)]
      exact rl_cp_s f (by omega) (by omega)
    exact br_f (nI_ge (b := 16) (by omega) (by decide)) ⟨v1, v2, nm_r (g _) (nm_r (nI_1 mm) (ih (mm + 1) (by omega)))⟩
theorem xc_63 {post : Int32 → SX → Prop} (hi : i < 4) (hj : j < 4) (hne : i ≠ j) (h : ∃ n122 : Nat, wX_copy_122 post (nI i) (nI j) f_opJump f_opJumpZero f_opTurn f_opPend f_opExit f_nodeLimit f_slotLimit f_depthLimit f_turnLimit f_programSize f_draftStart f_rowSize f_codeSize f_defined f_turnsUsed f_going n122 0 a_kinds a_values a_heights a_loose a_parent a_place a_firstLeaf a_row a_nodeReg a_breakTo a_tryTo a_cleanupOf a_label a_codeOp a_codeReg a_codeArg a_codeNode a_roots a_entries a_states a_results a_chain (rl_cp 4 i j 4 a_actFunction) (rl_cp 4 i j 4 a_pcs) a_locals a_regs a_pending a_cells) : ∀ d mm, mm + d = 4 → wX_copy_63 post (nI i) (nI j) f_opJump f_opJumpZero f_opTurn f_opPend f_opExit f_nodeLimit f_slotLimit f_depthLimit f_turnLimit f_programSize f_draftStart f_rowSize f_codeSize f_defined f_turnsUsed f_going (d + 1) (nI mm) a_kinds a_values a_heights a_loose a_parent a_place a_firstLeaf a_row a_nodeReg a_breakTo a_tryTo a_cleanupOf a_label a_codeOp a_codeReg a_codeArg a_codeNode a_roots a_entries a_states a_results a_chain (rl_cp 4 i j mm a_actFunction) (rl_cp 4 i j mm a_pcs) a_locals a_regs a_pending a_cells := by
  intro d
  induction d with
  | zero =>
    intro mm hm
    have : mm = 4 := by omega
    subst this
    exact br_t (by decide) h
  | succ d ih =>
    intro mm hm
    have e1 : nI i * 4 + nI mm = nI (i * 4 + mm) := tr_i4 i mm
    have e2 : nI j * 4 + nI mm = nI (j * 4 + mm) := tr_i4 j mm
    have v1 : vp_in (nI i * 4 + nI mm) 16 := pk_in _ _ (by omega) e1
    have v2 : vp_in (nI j * 4 + nI mm) 16 := pk_in _ _ (by omega) e2
    have g : ∀ f : Nat → Int32, upd (rl_cp 4 i j mm f) (nI j * 4 + nI mm).toNatClampNeg (rl_cp 4 i j mm f (nI i * 4 + nI mm).toNatClampNeg) = rl_cp 4 i j (mm + 1) f := fun f => by
      rw [e1, e2, nI_clamp (by omega), nI_clamp (by omega)]
      exact rl_cp_s f (by omega) (by omega)
    exact br_f (nI_ge (b := 4) (by omega) (by decide)) ⟨v1, v2, nm_r (g _) ⟨v1, v2, nm_r (g _) (nm_r (nI_1 mm) (ih (mm + 1) (by omega)))⟩⟩
theorem yc_163 {post : Int32 → SY → Prop} (hi : i < 4) (hj : j < 4) (hne : i ≠ j) (h : post (nI j) (f_nodeLimit, f_slotLimit, f_depthLimit, f_turnLimit, f_programSize, f_defined, b_kinds, a_values, a_roots, a_cells, a_states, a_results, a_chain, a_actFunction, b_place, a_locals, rl_cp 512 i j 512 b_savedSort, rl_cp 512 i j 512 b_savedValue)) : ∀ d mm, mm + d = 512 → wY_copy_163 post (nI i) (nI j) f_nodeLimit f_slotLimit f_depthLimit f_turnLimit f_programSize f_defined (d + 1) (nI mm) b_kinds a_values a_roots a_cells a_states a_results a_chain a_actFunction b_place a_locals (rl_cp 512 i j mm b_savedSort) (rl_cp 512 i j mm b_savedValue) := by
  intro d
  induction d with
  | zero =>
    intro mm hm
    have : mm = 512 := by omega
    subst this
    exact br_t (by decide) h
  | succ d ih =>
    intro mm hm
    have e1 : nI i * 512 + nI mm = nI (i * 512 + mm) := tr_i512 i mm
    have e2 : nI j * 512 + nI mm = nI (j * 512 + mm) := tr_i512 j mm
    have v1 : vp_in (nI i * 512 + nI mm) 2048 := pk_in _ _ (by omega) e1
    have v2 : vp_in (nI j * 512 + nI mm) 2048 := pk_in _ _ (by omega) e2
    have g : ∀ f : Nat → Int32, upd (rl_cp 512 i j mm f) (nI j * 512 + nI mm).toNatClampNeg (rl_cp 512 i j mm f (nI i * 512 + nI mm).toNatClampNeg) = rl_cp 512 i j (mm + 1) f := fun f => by
      rw [e1, e2, nI_clamp (by omega), nI_clamp (by omega)]
      exact rl_cp_s f (by omega) (by omega)
    exact br_f (nI_ge (b := 512) (by omega) (by decide)) ⟨v1, v2, nm_r (g _) ⟨v1, v2, nm_r (g _) (nm_r (nI_1 mm) (ih (mm + 1) (by omega)))⟩⟩
theorem yc_127 {post : Int32 → SY → Prop} (hi : i < 4) (hj : j < 4) (hne : i ≠ j) (h : ∃ n163 : Nat, wY_copy_163 post (nI i) (nI j) f_nodeLimit f_slotLimit f_depthLimit f_turnLimit f_programSize f_defined n163 0 b_kinds a_values a_roots a_cells a_states a_results a_chain a_actFunction b_place (rl_cp 16 i j 16 a_locals) b_savedSort b_savedValue) : ∀ d mm, mm + d = 16 → wY_copy_127 post (nI i) (nI j) f_nodeLimit f_slotLimit f_depthLimit f_turnLimit f_programSize f_defined (d + 1) (nI mm) b_kinds a_values a_roots a_cells a_states a_results a_chain a_actFunction b_place (rl_cp 16 i j mm a_locals) b_savedSort b_savedValue := by
  intro d
  induction d with
  | zero =>
    intro mm hm
    have : mm = 16 := by omega
    subst this
    exact br_t (by decide) h
  | succ d ih =>
    intro mm hm
    have e1 : nI i * 16 + nI mm = nI (i * 16 + mm) := tr_i16 i mm
    have e2 : nI j * 16 + nI mm = nI (j * 16 + mm) := tr_i16 j mm
    have v1 : vp_in (nI i * 16 + nI mm) 64 := pk_in _ _ (by omega) e1
    have v2 : vp_in (nI j * 16 + nI mm) 64 := pk_in _ _ (by omega) e2
    have g : ∀ f : Nat → Int32, upd (rl_cp 16 i j mm f) (nI j * 16 + nI mm).toNatClampNeg (rl_cp 16 i j mm f (nI i * 16 + nI mm).toNatClampNeg) = rl_cp 16 i j (mm + 1) f := fun f => by
      rw [e1, e2, nI_clamp (by omega), nI_clamp (by omega)]
      exact rl_cp_s f (by omega) (by omega)
    exact br_f (nI_ge (b := 16) (by omega) (by decide)) ⟨v1, v2, nm_r (g _) (nm_r (nI_1 mm) (ih (mm + 1) (by omega)))⟩
theorem yc_74 {post : Int32 → SY → Prop} (hi : i < 4) (hj : j < 4) (hne : i ≠ j) (h : ∃ n127 : Nat, wY_copy_127 post (nI i) (nI j) f_nodeLimit f_slotLimit f_depthLimit f_turnLimit f_programSize f_defined n127 0 b_kinds a_values a_roots a_cells a_states a_results a_chain (rl_cp 4 i j 4 a_actFunction) (rl_cp 4 i j 4 b_place) a_locals b_savedSort b_savedValue) : ∀ d mm, mm + d = 4 → wY_copy_74 post (nI i) (nI j) f_nodeLimit f_slotLimit f_depthLimit f_turnLimit f_programSize f_defined (d + 1) (nI mm) b_kinds a_values a_roots a_cells a_states a_results a_chain (rl_cp 4 i j mm a_actFunction) (rl_cp 4 i j mm b_place) a_locals b_savedSort b_savedValue := by
  intro d
  induction d with
  | zero =>
    intro mm hm
    have : mm = 4 := by omega
    subst this
    exact br_t (by decide) h
  | succ d ih =>
    intro mm hm
    have e1 : nI i * 4 + nI mm = nI (i * 4 + mm) := tr_i4 i mm
    have e2 : nI j * 4 + nI mm = nI (j * 4 + mm) := tr_i4 j mm
    have v1 : vp_in (nI i * 4 + nI mm) 16 := pk_in _ _ (by omega) e1
    have v2 : vp_in (nI j * 4 + nI mm) 16 := pk_in _ _ (by omega) e2
    have g : ∀ f : Nat → Int32, upd (rl_cp 4 i j mm f) (nI j * 4 + nI mm).toNatClampNeg (rl_cp 4 i j mm f (nI i * 4 + nI mm).toNatClampNeg) = rl_cp 4 i j (mm + 1) f := fun f => by
      rw [e1, e2, nI_clamp (by omega), nI_clamp (by omega)]
      exact rl_cp_s f (by omega) (by omega)
    exact br_f (nI_ge (b := 4) (by omega) (by decide)) ⟨v1, v2, nm_r (g _) ⟨v1, v2, nm_r (g _) (nm_r (nI_1 mm) (ih (mm + 1) (by omega)))⟩⟩
theorem xc_all {post : Int32 → SX → Prop} (hi : i < 4) (hj : j < 4) (hne : i ≠ j) (h : post (nI j) (f_opJump, f_opJumpZero, f_opTurn, f_opPend, f_opExit, f_nodeLimit, f_slotLimit, f_depthLimit, f_turnLimit, f_programSize, f_draftStart, f_rowSize, f_codeSize, f_defined, f_turnsUsed, f_going, a_kinds, a_values, a_heights, a_loose, a_parent, a_place, a_firstLeaf, a_row, a_nodeReg, a_breakTo, a_tryTo, a_cleanupOf, a_label, a_codeOp, a_codeReg, a_codeArg, a_codeNode, a_roots, a_entries, a_states, a_results, a_chain, rl_cp 4 i j 4 a_actFunction, rl_cp 4 i j 4 a_pcs, rl_cp 16 i j 16 a_locals, rl_cp 64 i j 64 a_regs, rl_cp 64 i j 64 a_pending, a_cells)) : ∃ n63 : Nat, wX_copy_63 post (nI i) (nI j) f_opJump f_opJumpZero f_opTurn f_opPend f_opExit f_nodeLimit f_slotLimit f_depthLimit f_turnLimit f_programSize f_draftStart f_rowSize f_codeSize f_defined f_turnsUsed f_going n63 0 a_kinds a_values a_heights a_loose a_parent a_place a_firstLeaf a_row a_nodeReg a_breakTo a_tryTo a_cleanupOf a_label a_codeOp a_codeReg a_codeArg a_codeNode a_roots a_entries a_states a_results a_chain a_actFunction a_pcs a_locals a_regs a_pending a_cells := by
  have h1 := xc_162 (post := post) (a_actFunction := rl_cp 4 i j 4 a_actFunction) (a_pcs := rl_cp 4 i j 4 a_pcs) (a_locals := rl_cp 16 i j 16 a_locals) hi hj hne h 64 0 (by omega)
  rw [rl_cp_0, rl_cp_0] at h1
  have h2 := xc_122 (post := post) (a_actFunction := rl_cp 4 i j 4 a_actFunction) (a_pcs := rl_cp 4 i j 4 a_pcs) (a_locals := a_locals) hi hj hne ⟨65, h1⟩ 16 0 (by omega)
  rw [rl_cp_0] at h2
  have h3 := xc_63 (post := post) (a_actFunction := a_actFunction) (a_pcs := a_pcs) (a_locals := a_locals) hi hj hne ⟨17, h2⟩ 4 0 (by omega)
  rw [rl_cp_0, rl_cp_0] at h3
  exact ⟨5, h3⟩
theorem yc_all {post : Int32 → SY → Prop} (hi : i < 4) (hj : j < 4) (hne : i ≠ j) (h : post (nI j) (f_nodeLimit, f_slotLimit, f_depthLimit, f_turnLimit, f_programSize, f_defined, b_kinds, a_values, a_roots, a_cells, a_states, a_results, a_chain, rl_cp 4 i j 4 a_actFunction, rl_cp 4 i j 4 b_place, rl_cp 16 i j 16 a_locals, rl_cp 512 i j 512 b_savedSort, rl_cp 512 i j 512 b_savedValue)) : ∃ n74 : Nat, wY_copy_74 post (nI i) (nI j) f_nodeLimit f_slotLimit f_depthLimit f_turnLimit f_programSize f_defined n74 0 b_kinds a_values a_roots a_cells a_states a_results a_chain a_actFunction b_place a_locals b_savedSort b_savedValue := by
  have h1 := yc_163 (post := post) (a_actFunction := rl_cp 4 i j 4 a_actFunction) (b_place := rl_cp 4 i j 4 b_place) (a_locals := rl_cp 16 i j 16 a_locals) hi hj hne h 512 0 (by omega)
  rw [rl_cp_0, rl_cp_0] at h1
  have h2 := yc_127 (post := post) (a_actFunction := rl_cp 4 i j 4 a_actFunction) (b_place := rl_cp 4 i j 4 b_place) (a_locals := a_locals) hi hj hne ⟨513, h1⟩ 16 0 (by omega)
  rw [rl_cp_0] at h2
  have h3 := yc_74 (post := post) (a_actFunction := a_actFunction) (b_place := b_place) (a_locals := a_locals) hi hj hne ⟨17, h2⟩ 4 0 (by omega)
  rw [rl_cp_0, rl_cp_0] at h3
  exact ⟨5, h3⟩
end
section
variable {K L H G AA rt R : Nat → Nat} {NL SL DL TL N ds m nf cs : Nat} {f_opJump f_opJumpZero f_opTurn f_opPend f_opExit f_nodeLimit f_slotLimit f_depthLimit f_turnLimit f_programSize f_draftStart f_rowSize f_codeSize f_defined f_turnsUsed f_going : Int32} {a_kinds a_values a_heights a_loose a_parent a_place a_firstLeaf a_row a_nodeReg a_breakTo a_tryTo a_cleanupOf a_label a_codeOp a_codeReg a_codeArg a_codeNode a_roots a_entries a_states a_results a_chain a_actFunction a_pcs a_locals a_regs a_pending a_cells b_kinds b_place b_savedSort b_savedValue : Nat → Int32}
variable {i j : Nat}
theorem rl_copy (hI : rl_I K L H G AA rt R NL SL DL TL N ds m nf cs a_kinds a_values a_heights a_loose a_parent a_place a_firstLeaf a_row a_nodeReg a_breakTo a_tryTo a_cleanupOf a_label a_codeOp a_codeReg a_codeArg a_codeNode a_roots a_entries a_states a_chain a_actFunction a_pcs a_regs a_pending b_kinds b_place b_savedSort b_savedValue) (hi : i < 4) (hj : j < 4) (hne : i ≠ j) : rl_I K L H G AA rt R NL SL DL TL N ds m nf cs a_kinds a_values a_heights a_loose a_parent a_place a_firstLeaf a_row a_nodeReg a_breakTo a_tryTo a_cleanupOf a_label a_codeOp a_codeReg a_codeArg a_codeNode a_roots a_entries (upd a_states j (a_states i)) (upd a_chain j (a_chain i)) (rl_cp 4 i j 4 a_actFunction) (rl_cp 4 i j 4 a_pcs) (rl_cp 64 i j 64 a_regs) (rl_cp 64 i j 64 a_pending) b_kinds (rl_cp 4 i j 4 b_place) (rl_cp 512 i j 512 b_savedSort) (rl_cp 512 i j 512 b_savedValue) := by
  obtain ⟨h8, hW, hG⟩ := rl_G16 hI
  obtain ⟨hb, hS, hD, hH, hds, hSl⟩ := hI
  refine ⟨hb, hS, hD, hH, hds, fun i' h4 => ?_⟩
  by_cases e : i' = j
  · subst e
    refine sm_SL_tr h8 hG pk_us pk_us (fun e he => ⟨rl_cp_in _ he, rl_cp_in _ he, rl_cp_in _ he, fun g hg => ?_, fun t ht => ?_⟩) (hSl i hi)
    · have e1 : (i' * 4 + e) * 16 + g = i' * 64 + (e * 16 + g) := by omega
      have e2 : (i * 4 + e) * 16 + g = i * 64 + (e * 16 + g) := by omega
      rw [e1, e2]
      exact ⟨rl_cp_in _ (by omega), rl_cp_in _ (by omega)⟩
    · have e1 : (i' * 4 + e) * 128 + t = i' * 512 + (e * 128 + t) := by omega
      have e2 : (i * 4 + e) * 128 + t = i * 512 + (e * 128 + t) := by omega
      rw [e1, e2]
      exact ⟨rl_cp_in _ (by omega), rl_cp_in _ (by omega)⟩
  · exact sm_SL_tr h8 hG (pk_un e) (pk_un e) (fun e he => ⟨rl_cp_out _ (by omega), rl_cp_out _ (by omega), rl_cp_out _ (by omega), fun g hg => ⟨rl_cp_out _ (by omega), rl_cp_out _ (by omega)⟩, fun t ht => ⟨rl_cp_out _ (by omega), rl_cp_out _ (by omega)⟩⟩) (hSl i' h4)
end
theorem i_vc_copy {k : Nat} {u : SX} {v : SY} (I : i_Rel k u v) (hk : k + 3 ≤ 1540) (v1 : Int32) : wpX_copy (fun r u' => wpY_copy (fun r' v' => r' = r ∧ i_Rel (k + 3) u' v') v v1) u v1 := by
  refine zz_el (P := fun u v => wpX_copy (fun r u' => wpY_copy (fun r' v' => r' = r ∧ i_Rel (k + 3) u' v') v v1) u v1) ?_ I
  intro K L H G AA rt R NL SL DL TL N ds m nf cs f_opJump f_opJumpZero f_opTurn f_opPend f_opExit f_turnsUsed f_going a_kinds a_values a_heights a_loose a_parent a_place a_firstLeaf a_row a_nodeReg a_breakTo a_tryTo a_cleanupOf a_label a_codeOp a_codeReg a_codeArg a_codeNode a_roots a_entries a_states a_results a_chain a_actFunction a_pcs a_locals a_regs a_pending a_cells b_kinds b_place b_savedSort b_savedValue hI
  obtain ⟨hb, hS, hD, hH, hds, hSl⟩ := id hI
  unfold wpX_copy
  rcases rx_c v1 (n := SL) (by omega) with h | h | ⟨i, hi, rfl, h, h2, h3⟩
  · refine xr_no (Or.inl h) (br_f (by decide) ?_)
    unfold wpY_copy
    exact ya_no (Or.inl h) (br_f (by decide) (And.intro rfl (zz_in hI)))
  · refine xr_no (Or.inr h) (br_f (by decide) ?_)
    unfold wpY_copy
    exact ya_no (Or.inr h) (br_f (by decide) (And.intro rfl (zz_in hI)))
  · have hv : vp_in (nI i) 4 := vp_in_nI (by omega) (by decide)
    have hc : a_states (nI i).toNatClampNeg = a_states i := tr_fc (by omega) _
    have hcase : a_states i = 0 ∨ a_states i = 1 ∨ a_states i = 2 ∨ (a_states i = 3 ∨ a_states i = 4 ∨ a_states i = 5) := by
      rcases hSl i (by omega) with ⟨a, _⟩ | ⟨a, _⟩ | ⟨a, _⟩
      · exact Or.inr (Or.inl a)
      · exact Or.inr (Or.inr (Or.inl a))
      · rcases a with a | a
        · exact Or.inl a
        · exact Or.inr (Or.inr (Or.inr a))
    rcases hcase with z | z | z | z
    · refine xr_free hi (by omega) z (br_f (by decide) ?_)
      unfold wpY_copy
      exact ya_free hi (by omega) z (br_f (by decide) (And.intro rfl (zz_in hI)))
    · refine xr_1 hi (by omega) z (br_t rfl ?_)
      rcases fs (SL := SL) (f_opJump := f_opJump) (f_opJumpZero := f_opJumpZero) (f_opTurn := f_opTurn) (f_opPend := f_opPend) (f_opExit := f_opExit) (f_nodeLimit := nI NL) (f_depthLimit := nI DL) (f_turnLimit := nI TL) (f_programSize := nI N) (f_draftStart := nI ds) (f_rowSize := nI m) (f_codeSize := nI cs) (f_defined := nI nf) (f_turnsUsed := f_turnsUsed) (f_going := f_going) (a_kinds := a_kinds) (a_values := a_values) (a_heights := a_heights) (a_loose := a_loose) (a_parent := a_parent) (a_place := a_place) (a_firstLeaf := a_firstLeaf) (a_row := a_row) (a_nodeReg := a_nodeReg) (a_breakTo := a_breakTo) (a_tryTo := a_tryTo) (a_cleanupOf := a_cleanupOf) (a_label := a_label) (a_codeOp := a_codeOp) (a_codeReg := a_codeReg) (a_codeArg := a_codeArg) (a_codeNode := a_codeNode) (a_roots := a_roots) (a_entries := a_entries) (a_states := a_states) (a_results := a_results) (a_chain := a_chain) (a_actFunction := a_actFunction) (a_pcs := a_pcs) (a_locals := a_locals) (a_regs := a_regs) (a_pending := a_pending) (a_cells := a_cells) (b_kinds := b_kinds) (b_place := b_place) (b_savedSort := b_savedSort) (b_savedValue := b_savedValue) (by omega) with ⟨j, hj, z0, fx, fy⟩ | ⟨fx, fy⟩
      · have hv2 : vp_in (nI j) 4 := vp_in_nI (by omega) (by decide)
        have hp0 : (0 : Int32) ≤ nI j := nI_pos' (by omega)
        have hne : i ≠ j := by
          intro e
          rw [e, z0] at z
          exact absurd z (by decide)
        have g : ∀ f : Nat → Int32, upd f (nI j).toNatClampNeg (f (nI i).toNatClampNeg) = upd f j (f i) := fun f => by rw [nI_clamp (by omega), nI_clamp (by omega)]
        refine fx _ (br_t hp0 ⟨hv, hv2, nm_r (g _) ⟨hv, hv2, nm_r (g _) ⟨hv, hv2, nm_r (g _) ?_⟩⟩⟩)
        refine xc_all (by omega) (by omega) hne ?_
        unfold wpY_copy
        refine ya_yes hi (by omega) (by rw [z]; decide) (br_t rfl ⟨hv, br_t (by rw [hc, z]; decide) (fy _ (br_t hp0 ⟨hv, hv2, nm_r (g _) ⟨hv, hv2, nm_r (g _) ⟨hv, hv2, nm_r (g _) ?_⟩⟩⟩))⟩)
        exact yc_all (by omega) (by omega) hne (And.intro rfl (zz_in (rl_copy hI (by omega) (by omega) hne)))
      · have hn : ¬ (0 : Int32) ≤ -1 := by decide
        refine fx _ (br_f hn ?_)
        unfold wpY_copy
        exact ya_yes hi (by omega) (by rw [z]; decide) (br_t rfl ⟨hv, br_t (by rw [hc, z]; decide) (fy _ (br_f hn (And.intro rfl (zz_in hI))))⟩)
    · refine xr_2 hi (by omega) z (br_t rfl ?_)
      rcases fs (SL := SL) (f_opJump := f_opJump) (f_opJumpZero := f_opJumpZero) (f_opTurn := f_opTurn) (f_opPend := f_opPend) (f_opExit := f_opExit) (f_nodeLimit := nI NL) (f_depthLimit := nI DL) (f_turnLimit := nI TL) (f_programSize := nI N) (f_draftStart := nI ds) (f_rowSize := nI m) (f_codeSize := nI cs) (f_defined := nI nf) (f_turnsUsed := f_turnsUsed) (f_going := f_going) (a_kinds := a_kinds) (a_values := a_values) (a_heights := a_heights) (a_loose := a_loose) (a_parent := a_parent) (a_place := a_place) (a_firstLeaf := a_firstLeaf) (a_row := a_row) (a_nodeReg := a_nodeReg) (a_breakTo := a_breakTo) (a_tryTo := a_tryTo) (a_cleanupOf := a_cleanupOf) (a_label := a_label) (a_codeOp := a_codeOp) (a_codeReg := a_codeReg) (a_codeArg := a_codeArg) (a_codeNode := a_codeNode) (a_roots := a_roots) (a_entries := a_entries) (a_states := a_states) (a_results := a_results) (a_chain := a_chain) (a_actFunction := a_actFunction) (a_pcs := a_pcs) (a_locals := a_locals) (a_regs := a_regs) (a_pending := a_pending) (a_cells := a_cells) (b_kinds := b_kinds) (b_place := b_place) (b_savedSort := b_savedSort) (b_savedValue := b_savedValue) (by omega) with ⟨j, hj, z0, fx, fy⟩ | ⟨fx, fy⟩
      · have hv2 : vp_in (nI j) 4 := vp_in_nI (by omega) (by decide)
        have hp0 : (0 : Int32) ≤ nI j := nI_pos' (by omega)
        have hne : i ≠ j := by
          intro e
          rw [e, z0] at z
          exact absurd z (by decide)
        have g : ∀ f : Nat → Int32, upd f (nI j).toNatClampNeg (f (nI i).toNatClampNeg) = upd f j (f i) := fun f => by rw [nI_clamp (by omega), nI_clamp (by omega)]
        refine fx _ (br_t hp0 ⟨hv, hv2, nm_r (g _) ⟨hv, hv2, nm_r (g _) ⟨hv, hv2, nm_r (g _) ?_⟩⟩⟩)
        refine xc_all (by omega) (by omega) hne ?_
        unfold wpY_copy
        refine ya_yes hi (by omega) (by rw [z]; decide) (br_t rfl ⟨hv, br_t (by rw [hc, z]; decide) (fy _ (br_t hp0 ⟨hv, hv2, nm_r (g _) ⟨hv, hv2, nm_r (g _) ⟨hv, hv2, nm_r (g _) ?_⟩⟩⟩))⟩)
        exact yc_all (by omega) (by omega) hne (And.intro rfl (zz_in (rl_copy hI (by omega) (by omega) hne)))
      · have hn : ¬ (0 : Int32) ≤ -1 := by decide
        refine fx _ (br_f hn ?_)
        unfold wpY_copy
        exact ya_yes hi (by omega) (by rw [z]; decide) (br_t rfl ⟨hv, br_t (by rw [hc, z]; decide) (fy _ (br_f hn (And.intro rfl (zz_in hI))))⟩)
    · refine xr_3 hi (by omega) z (br_f (by decide) ?_)
      unfold wpY_copy
      have n0 : ¬ a_states i = 0 := by rcases z with h | h | h <;> rw [h] <;> decide
      have n2 : ¬ a_states i ≤ 2 := by rcases z with h | h | h <;> rw [h] <;> decide
      exact ya_yes hi (by omega) n0 (br_t rfl ⟨hv, br_f (by rw [hc]; exact n2) (And.intro rfl (zz_in hI))⟩)
section
variable {K L H G AA rt R : Nat → Nat} {NL SL DL TL N ds m nf cs : Nat} {f_opJump f_opJumpZero f_opTurn f_opPend f_opExit f_nodeLimit f_slotLimit f_depthLimit f_turnLimit f_programSize f_draftStart f_rowSize f_codeSize f_defined f_turnsUsed f_going : Int32} {a_kinds a_values a_heights a_loose a_parent a_place a_firstLeaf a_row a_nodeReg a_breakTo a_tryTo a_cleanupOf a_label a_codeOp a_codeReg a_codeArg a_codeNode a_roots a_entries a_states a_results a_chain a_actFunction a_pcs a_locals a_regs a_pending a_cells b_kinds b_place b_savedSort b_savedValue : Nat → Int32}
variable {v1 v2 : Int32}
theorem rl_pos (hI : rl_I K L H G AA rt R NL SL DL TL N ds m nf cs a_kinds a_values a_heights a_loose a_parent a_place a_firstLeaf a_row a_nodeReg a_breakTo a_tryTo a_cleanupOf a_label a_codeOp a_codeReg a_codeArg a_codeNode a_roots a_entries a_states a_chain a_actFunction a_pcs a_regs a_pending b_kinds b_place b_savedSort b_savedValue) : ∃ r : Int32, (∀ post, post r → wpX_positionAt post (f_opJump, f_opJumpZero, f_opTurn, f_opPend, f_opExit, nI NL, nI SL, nI DL, nI TL, nI N, nI ds, nI m, nI cs, nI nf, f_turnsUsed, f_going, a_kinds, a_values, a_heights, a_loose, a_parent, a_place, a_firstLeaf, a_row, a_nodeReg, a_breakTo, a_tryTo, a_cleanupOf, a_label, a_codeOp, a_codeReg, a_codeArg, a_codeNode, a_roots, a_entries, a_states, a_results, a_chain, a_actFunction, a_pcs, a_locals, a_regs, a_pending, a_cells) v1 v2) ∧ (∀ post, post r → wpY_positionAt post (nI NL, nI SL, nI DL, nI TL, nI N, nI nf, b_kinds, a_values, a_roots, a_cells, a_states, a_results, a_chain, a_actFunction, b_place, a_locals, b_savedSort, b_savedValue) v1 v2) ∧ (r = -1 ∨ ∃ i d q f, i < 4 ∧ d < 4 ∧ v1 = nI i ∧ v2 = nI d ∧ r = nI q ∧ sm_WA K L G AA rt ds nf a_actFunction a_pcs a_regs a_pending b_place b_savedSort b_savedValue (i * 4 + d) q f) := by
  obtain ⟨hb, hS, hD, hH, hds, hSl⟩ := id hI
  rcases rx_c v1 (n := SL) (by omega) with h | h | ⟨i, hi, rfl, h, h2, h3⟩
  · refine ⟨-1, fun post hp => ?_, fun post hp => ?_, Or.inl rfl⟩
    · unfold wpX_positionAt
      exact xd_no (Or.inl h) (br_c (fun z => hp) (fun z => br_f z hp))
    · exact br_c (fun z => hp) (fun z => yd_no (Or.inl h) (br_t (Int32.not_lt.mp z) hp))
  · refine ⟨-1, fun post hp => ?_, fun post hp => ?_, Or.inl rfl⟩
    · unfold wpX_positionAt
      exact xd_no (Or.inr h) (br_c (fun z => hp) (fun z => br_f z hp))
    · exact br_c (fun z => hp) (fun z => yd_no (Or.inr h) (br_t (Int32.not_lt.mp z) hp))
  · have hv : vp_in (nI i) 4 := vp_in_nI (by omega) (by decide)
    have hc : a_states (nI i).toNatClampNeg = a_states i := tr_fc (by omega) _
    obtain ⟨c, hc4, ec⟩ := rl_dep (hSl i (by omega)) (by omega)
    rcases rx_c v2 (n := c) (by omega) with g | ⟨g, g2, g3⟩ | ⟨d, hd, rfl, g, g2, g3⟩
    · refine ⟨-1, fun post hp => ?_, fun post hp => ?_, Or.inl rfl⟩
      · unfold wpX_positionAt
        exact xd_yes hi (by omega) (br_t g hp)
      · exact br_t g hp
    · refine ⟨-1, fun post hp => ?_, fun post hp => ?_, Or.inl rfl⟩
      · unfold wpX_positionAt
        exact xd_yes hi (by omega) (br_f g (by rw [ec]; exact br_f g3 hp))
      · exact br_f g (yd_yes hi (by omega) (by rw [ec]; exact br_t g2 hp))
    · by_cases z : a_states i = 2
      · rcases hSl i (by omega) with ⟨a1, _⟩ | ⟨_, c', pl, fl, c4, cD, ec', hw⟩ | ⟨a1, _⟩
        · rw [z] at a1
          exact absurd a1 (by decide)
        · have ecc : c = c' + 1 := tr_inj (ec.symm.trans ec') (by omega) (by omega)
          have hwd := hw d (by omega)
          obtain ⟨w1, w2, w3, w4, w5, w6, w7, w8, w9⟩ := id hwd
          obtain ⟨y1, y2, y3, y4, y5⟩ := (hS.2.2.2.2.2.2.2.1.1 (pl d) w2).1 (by omega) (by omega) (by omega)
          have hcs := hS.2.2.2.1
          have e1 : nI i * 4 + nI d = nI (i * 4 + d) := tr_i4 i d
          have e2 : a_pcs (nI i * 4 + nI d).toNatClampNeg = nI (AA (pl d)) := by rw [e1, nI_clamp (by omega), w7]
          have e3 : a_codeNode (a_pcs (nI i * 4 + nI d).toNatClampNeg).toNatClampNeg = nI (pl d) := by rw [e2, nI_clamp (by omega), y5]
          have e4 : b_place (nI i * 4 + nI d).toNatClampNeg = nI (pl d) := by rw [e1, nI_clamp (by omega), w8]
          refine ⟨nI (pl d), fun post hp => ?_, fun post hp => ?_, Or.inr ⟨i, d, pl d, fl d, by omega, by omega, rfl, rfl, rfl, hwd⟩⟩
          · unfold wpX_positionAt
            refine xd_yes hi (by omega) (br_f g (by rw [ec]; exact br_t g2 ⟨hv, br_t (hc.trans z) ⟨pk_in _ _ (by omega) e1, pk_in _ _ (by omega) e2, by rw [e3]; exact hp⟩⟩))
          · exact br_f g (yd_yes hi (by omega) (by rw [ec]; exact br_f g3 ⟨hv, br_t (hc.trans z) ⟨pk_in _ _ (by omega) e1, by rw [e4]; exact hp⟩⟩))
        · rw [z] at a1
          rcases a1 with a | a | a | a <;> exact absurd a (by decide)
      · have z' : ¬ a_states (nI i).toNatClampNeg = 2 := by rw [hc]; exact z
        refine ⟨-1, fun post hp => ?_, fun post hp => ?_, Or.inl rfl⟩
        · unfold wpX_positionAt
          exact xd_yes hi (by omega) (br_f g (by rw [ec]; exact br_t g2 ⟨hv, br_f z' hp⟩))
        · exact br_f g (yd_yes hi (by omega) (by rw [ec]; exact br_f g3 ⟨hv, br_f z' hp⟩))
/-- the nearest cleanup that holds p -/
theorem cg_cl {nr bt tt co : Nat → Int32} (hW : ∀ q, q < ds → tr_W K L q) (hA : cg_A K L H G ds nr bt tt co) {t : Nat} (ht : t < ds) (hc : co t = -1) : ∀ j p, L t ≤ p → p + j = t → (co p = -1 ∧ ∀ s, p < s → s ≤ t → ¬ (K s = 14 ∧ L (s - 1) ≤ p)) ∨ ∃ s, co p = nI s ∧ p < s ∧ s ≤ t ∧ K s = 14 ∧ L (s - 1) ≤ p ∧ ∀ s', p < s' → s' < s → ¬ (K s' = 14 ∧ L (s' - 1) ≤ p) := by
  intro j
  induction j using Nat.strongRecOn with
  | _ j ih =>
    intro p h1 h2
    by_cases e : p = t
    · subst e
      exact Or.inl ⟨hc, fun s s1 s2 => absurd s1 (by omega)⟩
    · obtain ⟨q, k, c, hq⟩ := tr_pex hW t ht p h1 (by omega)
      have hqd : q < ds := by omega
      have l := tr_lt hW hqd c
      have hup := tr_up hW hqd c t ht h1 (by omega)
      obtain ⟨a1, a2⟩ := (hA.2 q k p hqd c).2.2.2.2.2.2
      have mid : ∀ s, p < s → s < q → ¬ (K s = 14 ∧ L (s - 1) ≤ p) := by
        intro s s1 s2 s3
        by_cases w : s - 1 = p
        · have har : tr_ar (K s) = 2 := by rw [s3.1]; rfl
          obtain ⟨c0, c1, c2, b1, b2, b3, b4, b5⟩ := tr_c2 hW (show s < ds by omega) har
          rw [w] at c2
          have := (tr_pun hW hqd (by omega) c c2).1
          omega
        · have := tr_aft hW hqd c (r := s - 1) (by omega) (by omega)
          omega
      by_cases z : K q = 14 ∧ ¬ k = 1
      · have har : tr_ar (K q) = 2 := by rw [z.1]; rfl
        obtain ⟨c0, c1, c2, b1, b2, b3, b4, b5⟩ := tr_c2 hW hqd har
        have hk2 : k = 2 := by omega
        subst hk2
        have hp := tr_fun c c2
        refine Or.inr ⟨q, a1 z.1 z.2, l.1, hq, z.1, by rw [← hp]; omega, mid⟩
      · have hco := a2 z
        have nq : ¬ (K q = 14 ∧ L (q - 1) ≤ p) := by
          intro w
          have har : tr_ar (K q) = 2 := by rw [w.1]; rfl
          obtain ⟨c0, c1, c2, b1, b2, b3, b4, b5⟩ := tr_c2 hW hqd har
          have hk1 : k = 1 := by
            by_cases y : k = 1
            · exact y
            · exact absurd ⟨w.1, y⟩ z
          subst hk1
          have hp := tr_fun c c1
          omega
        have iff : ∀ s, q < s → s ≤ t → (L (s - 1) ≤ p ↔ L (s - 1) ≤ q) := by
          intro s s1 s2
          constructor
          · intro y
            omega
          · intro y
            have := tr_nest hW (s - 1) (by omega) q y (by omega)
            omega
        rcases ih (t - q) (by omega) q (by omega) (by omega) with ⟨x1, x2⟩ | ⟨s, x1, x2, x3, x4, x5, x6⟩
        · refine Or.inl ⟨hco.trans x1, fun s s1 s2 => ?_⟩
          rcases Nat.lt_trichotomy s q with y | y | y
          · exact mid s s1 y
          · rw [y]
            exact nq
          · intro w
            exact x2 s y s2 ⟨w.1, (iff s y s2).mp w.2⟩
        · refine Or.inr ⟨s, hco.trans x1, by omega, x3, x4, (iff s x2 x3).mpr x5, fun s' s1 s2 => ?_⟩
          rcases Nat.lt_trichotomy s' q with y | y | y
          · exact mid s' s1 y
          · rw [y]
            exact nq
          · intro w
            exact x6 s' y s2 ⟨w.1, (iff s' y (by omega)).mp w.2⟩
theorem yp_l {post : Int32 → Prop} (hF : tr_F K L b_kinds N) {p a f r e : Nat} (ha : a < 16) (hfn : a_actFunction a = nI f) (hf : f < 6) (hr : a_roots f = nI r) (hrN : r < N) (he : e ≤ r + 1) (hmid : ∀ s, p < s → s < e → ¬ (K s = 14 ∧ L (s - 1) ≤ p)) (hend : (e = r + 1 ∧ post 0) ∨ (e ≤ r ∧ K e = 14 ∧ L (e - 1) ≤ p ∧ post (b_savedSort (a * 128 + e)))) : ∀ d s, s + d = e → p < s → wY_pendingAt_25 post (nI p) (nI a) f_nodeLimit f_slotLimit f_depthLimit f_turnLimit f_programSize f_defined b_kinds a_values a_roots a_cells a_states a_results a_chain a_actFunction b_place a_locals b_savedSort b_savedValue (d + 1) (nI s) := by
  have hN := hF.1
  have e1 : a_actFunction (nI a).toNatClampNeg = nI f := by rw [nI_clamp (by omega), hfn]
  have e2 : a_roots (a_actFunction (nI a).toNatClampNeg).toNatClampNeg = nI r := by rw [e1, nI_clamp (by omega), hr]
  have va : vp_in (nI a) 16 := vp_in_nI ha (by decide)
  have vf : vp_in (a_actFunction (nI a).toNatClampNeg) 6 := pk_in _ _ hf e1
  intro d
  induction d with
  | zero =>
    intro s hs hps
    have : s = e := by omega
    subst this
    rcases hend with ⟨h1, h2⟩ | ⟨h1, h2, h3, h4⟩
    · exact And.intro va ⟨vf, br_t (by rw [e2]; exact nI_lt (by omega) (by omega)) h2⟩
    · obtain ⟨-, hk, hk16⟩ := hF.2 s (by omega)
      have ek : b_kinds (nI s).toNatClampNeg = 14 := by rw [nI_clamp (by omega), hk, h2]; rfl
      refine And.intro va ⟨vf, br_f (by rw [e2]; exact nI_nlt (by omega) (by omega)) ⟨vp_in_nI (by omega) (by decide), br_t ek ?_⟩⟩
      rw [tr_s1 (by omega)]
      refine yt_start hF (by omega) (br_f (nI_nlt h3 (by omega)) ⟨pk_in _ _ (by omega) (tr_i128 _ _), ?_⟩)
      rw [tr_i128, nI_clamp (by omega)]
      exact h4
  | succ d ih =>
    intro s hs hps
    have hn := hmid s hps (by omega)
    have hL := tr_le (tr_FW hF) (s - 1) (by omega)
    obtain ⟨-, hk, hk16⟩ := hF.2 s (by omega)
    have ek : b_kinds (nI s).toNatClampNeg = nI (K s) := by rw [nI_clamp (by omega), hk]
    refine And.intro va ⟨vf, br_f (by rw [e2]; exact nI_nlt (by omega) (by omega)) ⟨vp_in_nI (by omega) (by decide), ?_⟩⟩
    rw [ek]
    refine pk_eq (K s) 14 (fun w => ?_) (fun w => nm_r (nI_1 s) (ih (s + 1) (by omega) (by omega)))
    rw [tr_s1 (by omega)]
    exact yt_start hF (by omega) (br_t (nI_lt (by omega) (by omega)) (nm_r (nI_1 s) (ih (s + 1) (by omega) (by omega))))
end
theorem i_vc_positionAt {k : Nat} {u : SX} {v : SY} (I : i_Rel k u v) (hk : k + 3 ≤ 1540) (v1 : Int32) (v2 : Int32) : wpX_positionAt (fun r => wpY_positionAt (fun r' => r' = r ∧ i_Rel (k + 3) u v) v v1 v2) u v1 v2 := by
  refine zz_el (P := fun u v => wpX_positionAt (fun r => wpY_positionAt (fun r' => r' = r ∧ i_Rel (k + 3) u v) v v1 v2) u v1 v2) ?_ I
  intro K L H G AA rt R NL SL DL TL N ds m nf cs f_opJump f_opJumpZero f_opTurn f_opPend f_opExit f_turnsUsed f_going a_kinds a_values a_heights a_loose a_parent a_place a_firstLeaf a_row a_nodeReg a_breakTo a_tryTo a_cleanupOf a_label a_codeOp a_codeReg a_codeArg a_codeNode a_roots a_entries a_states a_results a_chain a_actFunction a_pcs a_locals a_regs a_pending a_cells b_kinds b_place b_savedSort b_savedValue hI
  obtain ⟨r, hx, hy, -⟩ := rl_pos (v1 := v1) (v2 := v2) hI
  exact hx _ (hy _ (And.intro rfl (zz_in hI)))
theorem i_vc_pendingAt {k : Nat} {u : SX} {v : SY} (I : i_Rel k u v) (hk : k + 3 ≤ 1540) (v1 : Int32) (v2 : Int32) : wpX_pendingAt (fun r => wpY_pendingAt (fun r' => r' = r ∧ i_Rel (k + 3) u v) v v1 v2) u v1 v2 := by
  refine zz_el (P := fun u v => wpX_pendingAt (fun r => wpY_pendingAt (fun r' => r' = r ∧ i_Rel (k + 3) u v) v v1 v2) u v1 v2) ?_ I
  intro K L H G AA rt R NL SL DL TL N ds m nf cs f_opJump f_opJumpZero f_opTurn f_opPend f_opExit f_turnsUsed f_going a_kinds a_values a_heights a_loose a_parent a_place a_firstLeaf a_row a_nodeReg a_breakTo a_tryTo a_cleanupOf a_label a_codeOp a_codeReg a_codeArg a_codeNode a_roots a_entries a_states a_results a_chain a_actFunction a_pcs a_locals a_regs a_pending a_cells b_kinds b_place b_savedSort b_savedValue hI
  obtain ⟨h8, hW, hG⟩ := rl_G16 hI
  obtain ⟨r, hx, hy, hr⟩ := rl_pos (v1 := v1) (v2 := v2) hI
  have hS := hI.2.1
  have hds := hS.2.2.1
  have hN := hS.1.1
  have hA := hS.2.2.2.2.2.2.1
  have hn6 := hS.2.2.2.2.2.2.2.2.1
  unfold wpX_pendingAt
  refine hx _ ?_
  rcases hr with rfl | ⟨i, d, q, f, hi, hd, rfl, rfl, rfl, w1, w2, w3, w4, w5, w6, w7, w8, w9⟩
  · refine br_f (by decide) ?_
    unfold wpY_pendingAt
    exact hy _ (br_f (by decide) (And.intro rfl (zz_in hI)))
  · obtain ⟨vro, vrd, vpa, vG0, vb0, vt0, vc0, ven, vex⟩ := hS.2.2.2.2.2.2.2.2.2 f w3
    have hp0 : (0 : Int32) ≤ nI q := nI_pos' (by omega)
    have ea : nI i * 4 + nI d = nI (i * 4 + d) := tr_i4 i d
    have fin : ∀ (post : Int32 → Prop) (e : Nat), e ≤ rt f + 1 → q < e → (∀ s, q < s → s < e → ¬ (K s = 14 ∧ L (s - 1) ≤ q)) → ((e = rt f + 1 ∧ post 0) ∨ (e ≤ rt f ∧ K e = 14 ∧ L (e - 1) ≤ q ∧ post (b_savedSort ((i * 4 + d) * 128 + e)))) → wpY_pendingAt post (nI NL, nI SL, nI DL, nI TL, nI N, nI nf, b_kinds, a_values, a_roots, a_cells, a_states, a_results, a_chain, a_actFunction, b_place, a_locals, b_savedSort, b_savedValue) (nI i) (nI d) := by
      intro post e e1 e2 e3 e4
      unfold wpY_pendingAt
      refine hy _ (br_t hp0 (nm_r ea (nm_r (nI_1 q) ⟨e - (q + 1) + 1, ?_⟩)))
      exact yp_l hS.2.1 (by omega) w4 (by omega) vro (by omega) e1 e3 e4 (e - (q + 1)) (q + 1) (by omega) (by omega)
    rcases cg_cl hW hA vrd vc0 (rt f - q) q w5 (by omega) with ⟨x1, x2⟩ | ⟨s, x1, x2, x3, x4, x5, x6⟩
    · refine br_t hp0 ⟨vp_in_nI (by omega) (by decide), nm_r (by rw [nI_clamp (by omega), x1]) (br_f tr_neg1' ?_)⟩
      exact fin _ (rt f + 1) (Nat.le_refl _) (by omega) (fun s s1 s2 => x2 s s1 (by omega)) (Or.inl ⟨rfl, And.intro rfl (zz_in hI)⟩)
    · have har : tr_ar (K s) = 2 := by rw [x4]; rfl
      obtain ⟨c0, c1, c2, b1, b2, b3, b4, b5⟩ := tr_c2 hW (show s < ds by omega) har
      have hkf : cg_kf (K s) := Or.inr x4
      obtain ⟨z, z1, z2, z3, z4⟩ := (w9 s (s - 1) (by omega) c2 hkf x5 (by omega)).2 x4
      have hg := cg_G16 hA (p := s) (by omega)
      have er : nI (i * 4 + d) * 16 + a_nodeReg (nI s).toNatClampNeg = nI ((i * 4 + d) * 16 + G s) := by rw [nI_clamp (n := s) (by omega), hg.1, tr_i16]
      refine br_t hp0 ⟨vp_in_nI (by omega) (by decide), nm_r (e' := nI s) (by rw [nI_clamp (by omega), x1]) (br_t (nI_pos' (by omega)) (nm_r ea ⟨vp_in_nI (by omega) (by decide), pk_in _ _ (by omega) er, ?_⟩))⟩
      rw [er, nI_clamp (by omega), z4]
      exact fin _ s (by omega) x2 x6 (Or.inr ⟨x3, x4, x5, by rw [z3]; exact And.intro rfl (zz_in hI)⟩)
end
section
/-! put: what a new node changes -/
section
variable {K L H K' L' H' G AA rt : Nat → Nat} {n cs nf DL : Nat} {nr bt tt co va lb cO cR cA cN pa pa' ro en st ch fn pcs rg pe pla ss sv : Nat → Int32}
theorem tr_ch_c (hW : ∀ q, q < n → tr_W K L q) (ag : ∀ r, r < n → K' r = K r ∧ L' r = L r) {q k p : Nat} (hq : q < n) : tr_ch K' L' q k p ↔ tr_ch K L q k p := by
  have h1 := tr_le hW (q - 1) (by omega)
  unfold tr_ch
  rw [(ag q hq).1, (ag (q - 1) (by omega)).2, (ag (L (q - 1) - 1) (by omega)).2]
theorem tr_W_c (hW : ∀ q, q < n → tr_W K L q) (ag : ∀ r, r < n → K' r = K r ∧ L' r = L r) {q : Nat} (hq : q < n) : tr_W K' L' q := by
  have h1 := tr_le hW (q - 1) (by omega)
  have h2 := tr_le hW (L (q - 1) - 1) (by omega)
  unfold tr_W
  rw [(ag q hq).1, (ag q hq).2, (ag (q - 1) (by omega)).2, (ag (L (q - 1) - 1) (by omega)).2, (ag (L (L (q - 1) - 1) - 1) (by omega)).2]
  exact hW q hq
theorem tr_H_c (hW : ∀ q, q < n → tr_W K L q) (ag : ∀ r, r < n → K' r = K r ∧ L' r = L r) {q h : Nat} (hq : q < n) (hh : tr_H L q h) : tr_H L' q h := by
  have e : ∀ r, r ≤ q → tr_cn L' r (q - r) = tr_cn L r (q - r) := fun r hr => tr_cn_c _ (fun s s1 s2 => (ag s (by omega)).2)
  obtain ⟨h1, q0, h2, h3, h4⟩ := hh
  refine ⟨fun r r1 r2 => ?_, q0, by rw [(ag q hq).2]; exact h2, h3, by rw [e q0 h3]; exact h4⟩
  rw [(ag q hq).2] at r1
  rw [e r r2]
  exact h1 r r1 r2
theorem tr_lb_c (ag : ∀ r, r < n → K' r = K r ∧ L' r = L r) {q : Nat} (hq : q < n) : tr_lb K' L' q ↔ tr_lb K L q := by
  constructor
  · intro ⟨s, s1, s2, s3, s4⟩
    rw [(ag q hq).2] at s1
    rw [(ag s (by omega)).1] at s3
    refine ⟨s, s1, s2, s3, fun r r1 r2 => ?_⟩
    have := s4 r r1 r2
    rw [(ag r (by omega)).1, (ag r (by omega)).2] at this
    exact this
  · intro ⟨s, s1, s2, s3, s4⟩
    rw [← (ag q hq).2] at s1
    rw [← (ag s (by omega)).1] at s3
    refine ⟨s, s1, s2, s3, fun r r1 r2 => ?_⟩
    rw [(ag r (by omega)).1, (ag r (by omega)).2]
    exact s4 r r1 r2
theorem cg_A_c (hW : ∀ q, q < n → tr_W K L q) (ag : ∀ r, r < n → K' r = K r ∧ L' r = L r) (agH : ∀ r, r < n → H' r = H r) (hA : cg_A K L H G n nr bt tt co) : cg_A K' L' H' G n nr bt tt co := by
  refine ⟨fun p hp => by rw [agH p hp]; exact hA.1 p hp, fun q k p hq c => ?_⟩
  rw [(ag q hq).1]
  exact hA.2 q k p hq ((tr_ch_c hW ag hq).mp c)
theorem cg_C_c (hW : ∀ q, q < n → tr_W K L q) (ag : ∀ r, r < n → K' r = K r ∧ L' r = L r) {va' : Nat → Int32} (hva : ∀ r, r < n → va' r = va r) (hC : cg_C K L G AA cs n va lb cO cR cA cN) : cg_C K' L' G AA cs n va' lb cO cR cA cN := by
  refine ⟨fun q hq => ?_, fun q k p hq c => ?_⟩
  · rw [(ag q hq).1, (ag q hq).2, hva q hq]
    exact hC.1 q hq
  · have c' := (tr_ch_c hW ag hq).mp c
    have l := tr_lt hW hq c'
    rw [(ag q hq).1, (ag p (by omega)).1]
    obtain ⟨a1, a2, a3⟩ := hC.2 q k p hq c'
    exact ⟨a1, fun e1 e2 e ce => a2 e1 e2 e ((tr_ch_c hW ag hq).mp ce), a3⟩
theorem cg_R_c (ag : ∀ r, r < n → K' r = K r ∧ L' r = L r) (hpa : ∀ r, r < n → pa r = -1 → pa' r = -1) (hR : cg_R K L G AA rt cs n nf pa ro en bt tt co cO cR cA cN) : cg_R K' L' G AA rt cs n nf pa' ro en bt tt co cO cR cA cN := by
  refine ⟨hR.1, fun f hf => ?_⟩
  obtain ⟨a1, a2, a3, a4, a5, a6, a7, a8, a9⟩ := hR.2 f hf
  rw [(ag (rt f) a2).1, (ag (rt f) a2).2]
  exact ⟨a1, a2, hpa _ a2 a3, a4, a5, a6, a7, a8, a9⟩
theorem sm_SV_c (hW : ∀ q, q < n → tr_W K L q) (ag : ∀ r, r < n → K' r = K r ∧ L' r = L r) {a q : Nat} (S : sm_SV K L G n rg pe ss sv a q) : sm_SV K' L' G n rg pe ss sv a q := by
  intro t p ht c kf h1 h2
  have c' := (tr_ch_c hW ag ht).mp c
  have l := tr_lt hW ht c'
  rw [(ag t ht).1] at kf
  rw [(ag p (by omega)).2] at h1
  rw [(ag t ht).1]
  exact S t p ht c' kf h1 h2
theorem sm_SL_c (hW : ∀ q, q < n → tr_W K L q) (ag : ∀ r, r < n → K' r = K r ∧ L' r = L r) (hrt : ∀ f, f < nf → rt f < n) {i : Nat} (S : sm_SL K L G AA rt n nf DL en st ch fn pcs rg pe pla ss sv i) : sm_SL K' L' G AA rt n nf DL en st ch fn pcs rg pe pla ss sv i := by
  rcases S with S | ⟨s1, c, pl, fl, s2, s3, s4, s5⟩ | S
  · exact Or.inl S
  · refine Or.inr (Or.inl ⟨s1, c, pl, fl, s2, s3, s4, fun e he => ?_⟩)
    obtain ⟨w1, w2, w3, w4, w5, w6, w7, w8, w9⟩ := s5 e he
    refine ⟨by rw [(ag _ w2).1]; exact w1, w2, w3, w4, by rw [(ag _ (hrt _ w3)).2]; exact w5, w6, w7, w8, sm_SV_c hW ag w9⟩
  · exact Or.inr (Or.inr S)
end
/-! the row of trees -/
section
variable {K L R : Nat → Nat} {N ds m : Nat} {a_row a_parent : Nat → Int32}
theorem rl_Rlt (hW : ∀ q, q < N → tr_W K L q) (hD : rl_D K L R N ds m a_row a_parent) : ∀ d j, j + d + 1 < m → R j < R (j + d + 1) := by
  intro d
  induction d with
  | zero =>
    intro j hj
    have h1 := hD.2.2.2.1 j hj
    have h2 := tr_le hW (R (j + 1)) (hD.2.2.2.2.1 (j + 1) hj).2.1
    show R j < R (j + 1)
    omega
  | succ d ih =>
    intro j hj
    have h0 := ih j (by omega)
    have h1 := hD.2.2.2.1 (j + d + 1) hj
    have h2 := tr_le hW (R (j + d + 1 + 1)) (hD.2.2.2.2.1 (j + d + 1 + 1) hj).2.1
    show R j < R (j + d + 1 + 1)
    omega
theorem rl_Rne (hW : ∀ q, q < N → tr_W K L q) (hD : rl_D K L R N ds m a_row a_parent) {j j' : Nat} (h1 : j < m) (h2 : j' < m) (h : j ≠ j') : R j ≠ R j' := by
  rcases Nat.lt_trichotomy j j' with x | x | x
  · have := rl_Rlt hW hD (j' - j - 1) j (by omega)
    rw [show j + (j' - j - 1) + 1 = j' by omega] at this
    omega
  · exact absurd x h
  · have := rl_Rlt hW hD (j - j' - 1) j' (by omega)
    rw [show j' + (j - j' - 1) + 1 = j by omega] at this
    omega
end
def pu_K (K : Nat → Nat) (N kd : Nat) : Nat → Nat := fun q => if q = N then kd else K q
def pu_L (L R : Nat → Nat) (N ar b : Nat) : Nat → Nat := fun q => if q = N then (if ar = 0 then N else L (R b)) else L q
def pu_R (R : Nat → Nat) (N b : Nat) : Nat → Nat := fun j => if j = b then N else R j
/-- the height over the first k operands -/
def pu_h (H R : Nat → Nat) (b : Nat) : Nat → Nat
  | 0 => 1
  | k + 1 => if H (R (b + k)) + 1 ≤ pu_h H R b k then pu_h H R b k else H (R (b + k)) + 1
theorem pu_h_c (H R : Nat → Nat) (b : Nat) : ∀ k, 1 ≤ pu_h H R b k ∧ (∀ c, c < k → H (R (b + c)) + 1 ≤ pu_h H R b k) ∧ (pu_h H R b k = 1 ∨ ∃ c, c < k ∧ pu_h H R b k = H (R (b + c)) + 1) := by
  intro k
  induction k with
  | zero => exact ⟨Nat.le_refl _, fun c hc => absurd hc (by omega), Or.inl rfl⟩
  | succ k ih =>
    obtain ⟨h1, h2, h3⟩ := ih
    by_cases z : H (R (b + k)) + 1 ≤ pu_h H R b k
    · have e : pu_h H R b (k + 1) = pu_h H R b k := if_pos z
      rw [e]
      refine ⟨h1, fun c hc => ?_, ?_⟩
      · by_cases w : c = k
        · rw [w]
          exact z
        · exact h2 c (by omega)
      · rcases h3 with h3 | ⟨c, c1, c2⟩
        · exact Or.inl h3
        · exact Or.inr ⟨c, by omega, c2⟩
    · have e : pu_h H R b (k + 1) = H (R (b + k)) + 1 := if_neg z
      rw [e]
      refine ⟨by omega, fun c hc => ?_, Or.inr ⟨k, by omega, rfl⟩⟩
      by_cases w : c = k
      · rw [w]
        exact Nat.le_refl _
      · have := h2 c (by omega)
        omega
def pu_lb (K L R : Nat → Nat) (kd b k : Nat) : Prop := kd = 12 ∨ (kd ≠ 11 ∧ ∃ c, c < k ∧ tr_lb K L (R (b + c)))
section
variable {K L H R : Nat → Nat} {N ds m kd ar b : Nat} {a_row a_parent : Nat → Int32}
theorem pu_ag (r : Nat) (hr : r < N) : pu_K K N kd r = K r ∧ pu_L L R N ar b r = L r := ⟨if_neg (by omega), if_neg (by omega)⟩
theorem pu_KN : pu_K K N kd N = kd := if_pos rfl
theorem pu_LN : pu_L L R N ar b N = if ar = 0 then N else L (R b) := if_pos rfl
/-- the operands of the new node -/
theorem pu_ch (hW : ∀ q, q < N → tr_W K L q) (hD : rl_D K L R N ds m a_row a_parent) (har : tr_ar kd = ar) (hm : b + ar = m) {k p : Nat} : tr_ch (pu_K K N kd) (pu_L L R N ar b) N k p ↔ (1 ≤ k ∧ k ≤ ar ∧ p = R (b + k - 1)) := by
  have h3 := tr_ar_le kd
  obtain ⟨d1, d2, d3, d4, d5, d6⟩ := hD
  unfold tr_ch
  rw [pu_KN, har]
  by_cases z : ar = 0
  · constructor
    · intro h
      omega
    · intro h
      omega
  · have r1 := (d3 (by omega)).1
    have e1 : pu_L L R N ar b (N - 1) = L (R (m - 1)) := by
      rw [(pu_ag (K := K) (kd := 0) (N - 1) (by omega)).2]
      congr 1
      omega
    rw [e1]
    by_cases z1 : ar = 1
    · subst z1
      constructor
      · intro h
        have : k = 1 ∧ p = N - 1 := by omega
        refine ⟨by omega, by omega, ?_⟩
        rw [this.1, this.2, show b + 1 - 1 = m - 1 by omega]
        omega
      · intro ⟨h1, h2, h4⟩
        have : k = 1 := by omega
        subst this
        rw [show b + 1 - 1 = m - 1 by omega] at h4
        exact Or.inl ⟨rfl, rfl, by omega⟩
    · have r2 := d4 (m - 2) (by omega)
      rw [show m - 2 + 1 = m - 1 by omega] at r2
      by_cases z2 : ar = 2
      · subst z2
        constructor
        · intro h
          have : (k = 2 ∧ p = N - 1) ∨ (k = 1 ∧ p = L (R (m - 1)) - 1) := by omega
          rcases this with ⟨w1, w2⟩ | ⟨w1, w2⟩
          · refine ⟨by omega, by omega, ?_⟩
            rw [w1, w2, show b + 2 - 1 = m - 1 by omega]
            omega
          · refine ⟨by omega, by omega, ?_⟩
            rw [w1, w2, show b + 1 - 1 = m - 2 by omega]
            omega
        · intro ⟨h1, h2, h4⟩
          have : k = 1 ∨ k = 2 := by omega
          rcases this with rfl | rfl
          · rw [show b + 1 - 1 = m - 2 by omega] at h4
            exact Or.inr (Or.inl ⟨rfl, Or.inr ⟨rfl, by omega⟩⟩)
          · rw [show b + 2 - 1 = m - 1 by omega] at h4
            exact Or.inr (Or.inl ⟨rfl, Or.inl ⟨rfl, by omega⟩⟩)
      · have z3 : ar = 3 := by omega
        subst z3
        have r3 := d4 (m - 3) (by omega)
        rw [show m - 3 + 1 = m - 2 by omega] at r3
        have e2 : pu_L L R N 3 b (L (R (m - 1)) - 1) = L (R (m - 2)) := by
          have hlt := (d5 (m - 2) (by omega)).2.1
          rw [show L (R (m - 1)) - 1 = R (m - 2) by omega]
          exact (pu_ag (K := K) (kd := 0) _ hlt).2
        rw [e2]
        constructor
        · intro h
          have : (k = 3 ∧ p = N - 1) ∨ (k = 2 ∧ p = L (R (m - 1)) - 1) ∨ (k = 1 ∧ p = L (R (m - 2)) - 1) := by omega
          rcases this with ⟨w1, w2⟩ | ⟨w1, w2⟩ | ⟨w1, w2⟩
          · refine ⟨by omega, by omega, ?_⟩
            rw [w1, w2, show b + 3 - 1 = m - 1 by omega]
            omega
          · refine ⟨by omega, by omega, ?_⟩
            rw [w1, w2, show b + 2 - 1 = m - 2 by omega]
            omega
          · refine ⟨by omega, by omega, ?_⟩
            rw [w1, w2, show b + 1 - 1 = m - 3 by omega]
            omega
        · intro ⟨h1, h2, h4⟩
          have : k = 1 ∨ k = 2 ∨ k = 3 := by omega
          rcases this with rfl | rfl | rfl
          · rw [show b + 1 - 1 = m - 3 by omega] at h4
            exact Or.inr (Or.inr ⟨rfl, Or.inr (Or.inr ⟨rfl, by omega⟩)⟩)
          · rw [show b + 2 - 1 = m - 2 by omega] at h4
            exact Or.inr (Or.inr ⟨rfl, Or.inr (Or.inl ⟨rfl, by omega⟩)⟩)
          · rw [show b + 3 - 1 = m - 1 by omega] at h4
            exact Or.inr (Or.inr ⟨rfl, Or.inl ⟨rfl, by omega⟩⟩)
theorem pu_W (hW : ∀ q, q < N → tr_W K L q) (hD : rl_D K L R N ds m a_row a_parent) (har : tr_ar kd = ar) (hm : b + ar = m) : ∀ q, q < N + 1 → tr_W (pu_K K N kd) (pu_L L R N ar b) q := by
  intro q hq
  by_cases e : q = N
  · subst e
    have h3 := tr_ar_le kd
    obtain ⟨d1, d2, d3, d4, d5, d6⟩ := hD
    unfold tr_W
    rw [pu_KN, pu_LN, har]
    by_cases z : ar = 0
    · exact Or.inl ⟨z, by rw [if_pos z]⟩
    · have r1 := (d3 (by omega)).1
      have e1 : pu_L L R q ar b (q - 1) = L (R (m - 1)) := by
        rw [(pu_ag (K := K) (kd := 0) (q - 1) (by omega)).2]
        congr 1
        omega
      rw [e1, if_neg z]
      by_cases z1 : ar = 1
      · exact Or.inr (Or.inl ⟨z1, by omega, by congr 2; omega⟩)
      · have r2 := d4 (m - 2) (by omega)
        rw [show m - 2 + 1 = m - 1 by omega] at r2
        have e2 : pu_L L R q ar b (L (R (m - 1)) - 1) = L (R (m - 2)) := by
          have hlt := (d5 (m - 2) (by omega)).2.1
          rw [show L (R (m - 1)) - 1 = R (m - 2) by omega]
          exact (pu_ag (K := K) (kd := 0) _ hlt).2
        rw [e2]
        by_cases z2 : ar = 2
        · exact Or.inr (Or.inr (Or.inl ⟨z2, by omega, by omega, by congr 2; omega⟩))
        · have z3 : ar = 3 := by omega
          have r3 := d4 (m - 3) (by omega)
          rw [show m - 3 + 1 = m - 2 by omega] at r3
          have e3 : pu_L L R q ar b (L (R (m - 2)) - 1) = L (R (m - 3)) := by
            have hlt := (d5 (m - 3) (by omega)).2.1
            rw [show L (R (m - 2)) - 1 = R (m - 3) by omega]
            exact (pu_ag (K := K) (kd := 0) _ hlt).2
          rw [e3]
          exact Or.inr (Or.inr (Or.inr ⟨z3, by omega, by omega, by omega, by congr 2; omega⟩))
  · exact tr_W_c hW (fun r hr => pu_ag r hr) (by omega)
theorem pu_H (hW : ∀ q, q < N → tr_W K L q) (hD : rl_D K L R N ds m a_row a_parent) (har : tr_ar kd = ar) (hm : b + ar = m) (hH : ∀ j, j < m → tr_H L (R j) (H (R j))) : tr_H (pu_L L R N ar b) N (pu_h H R b ar) := by
  have hW' := pu_W hW hD har hm
  have hch := fun k p => pu_ch (k := k) (p := p) hW hD har hm
  obtain ⟨p1, p2, p3⟩ := pu_h_c H R b ar
  have hD5 := hD.2.2.2.2.1
  have hcn : ∀ c q, c < ar → pu_L L R N ar b (R (b + c)) ≤ q → q ≤ R (b + c) → tr_cn (pu_L L R N ar b) q (N - q) = tr_cn L q (R (b + c) - q) + 1 := by
    intro c q hc h1 h2
    have hlt := (hD5 (b + c) (by omega)).2.1
    have cc := (hch (c + 1) (R (b + c))).mpr ⟨by omega, by omega, by congr 1⟩
    rw [tr_cn_up hW' (by omega) cc h1 h2, tr_cn_c (L := L) (L' := pu_L L R N ar b) _ (fun s s1 s2 => (pu_ag (K := K) (kd := 0) s (by omega)).2)]
  refine ⟨fun q h1 h2 => ?_, ?_⟩
  · by_cases e : q = N
    · subst e
      rw [Nat.sub_self]
      show 1 + 0 ≤ _
      omega
    · obtain ⟨k, p, c, c1, c2⟩ := tr_cov hW' (show N < N + 1 by omega) h1 (by omega)
      obtain ⟨k1, k2, rfl⟩ := (hch k p).mp c
      rw [show b + k - 1 = b + (k - 1) by omega] at c c1 c2
      have hlt := (hD5 (b + (k - 1)) (by omega)).2.1
      rw [hcn (k - 1) q (by omega) c1 c2]
      rw [(pu_ag (K := K) (kd := 0) _ hlt).2] at c1
      have := (hH (b + (k - 1)) (by omega)).1 q c1 c2
      have := p2 (k - 1) (by omega)
      omega
  · rcases p3 with e | ⟨c, hc, e⟩
    · exact ⟨N, tr_le hW' N (by omega), Nat.le_refl _, by rw [e, Nat.sub_self]; rfl⟩
    · obtain ⟨-, q0, q1, q2, q3⟩ := hH (b + c) (by omega)
      have hlt := (hD5 (b + c) (by omega)).2.1
      have q1' := q1
      rw [← (pu_ag (K := K) (L := L) (kd := 0) (R := R) (ar := ar) (b := b) _ hlt).2] at q1'
      have cc := (hch (c + 1) (R (b + c))).mpr ⟨by omega, by omega, by congr 1⟩
      have l := tr_lt hW' (show N < N + 1 by omega) cc
      refine ⟨q0, by omega, by omega, ?_⟩
      rw [hcn c q0 hc q1' q2, e]
      omega
theorem pu_lbi (hW : ∀ q, q < N → tr_W K L q) (hD : rl_D K L R N ds m a_row a_parent) (har : tr_ar kd = ar) (hm : b + ar = m) : tr_lb (pu_K K N kd) (pu_L L R N ar b) N ↔ pu_lb K L R kd b ar := by
  have hW' := pu_W hW hD har hm
  have hch := fun k p => pu_ch (k := k) (p := p) hW hD har hm
  have hD5 := hD.2.2.2.2.1
  have ag := fun r hr => pu_ag (K := K) (L := L) (R := R) (N := N) (kd := kd) (ar := ar) (b := b) r hr
  constructor
  · intro ⟨q, q1, q2, q3, q4⟩
    by_cases e : q = N
    · subst e
      rw [pu_KN] at q3
      exact Or.inl q3
    · obtain ⟨k, p, c, c1, c2⟩ := tr_cov hW' (show N < N + 1 by omega) q1 (by omega)
      obtain ⟨k1, k2, rfl⟩ := (hch k p).mp c
      rw [show b + k - 1 = b + (k - 1) by omega] at c c1 c2
      have hlt := (hD5 (b + (k - 1)) (by omega)).2.1
      have hN := q4 N (by omega) (Nat.le_refl _)
      rw [pu_KN] at hN
      refine Or.inr ⟨fun w => hN ⟨w, q1⟩, k - 1, by omega, q, ?_, c2, ?_, fun r r1 r2 => ?_⟩
      · rw [← (ag _ hlt).2]
        exact c1
      · rw [← (ag q (by omega)).1]
        exact q3
      · have := q4 r r1 (by omega)
        rw [(ag r (by omega)).1, (ag r (by omega)).2] at this
        exact this
  · intro h
    rcases h with h | ⟨h, c, hc, q, q1, q2, q3, q4⟩
    · exact ⟨N, tr_le hW' N (by omega), Nat.le_refl _, by rw [pu_KN]; exact h, fun r r1 r2 => absurd r1 (by omega)⟩
    · have hlt := (hD5 (b + c) (by omega)).2.1
      have cc := (hch (c + 1) (R (b + c))).mpr ⟨by omega, by omega, by congr 1⟩
      have l := tr_lt hW' (show N < N + 1 by omega) cc
      rw [← (ag _ hlt).2] at q1
      refine ⟨q, by omega, by omega, by rw [(ag q (by omega)).1]; exact q3, fun r r1 r2 => ?_⟩
      by_cases e : r = N
      · subst e
        rw [pu_KN]
        exact fun w => h w.1
      · by_cases e2 : r ≤ R (b + c)
        · rw [(ag r (by omega)).1, (ag r (by omega)).2]
          exact q4 r r1 e2
        · have := tr_aft hW' (show N < N + 1 by omega) cc (r := r) (by omega) (by omega)
          omega
theorem pu_D (hW : ∀ q, q < N → tr_W K L q) (hD : rl_D K L R N ds m a_row a_parent) (har : tr_ar kd = ar) (hm : b + ar = m) {row' pa' : Nat → Int32} (hkd : kd ≤ 16) (hr1 : row' b = nI N) (hr2 : ∀ j, j < b → row' j = a_row j) (hp1 : pa' N = -1) (hp2 : ∀ j, j < b → pa' (R j) = -1) : rl_D (pu_K K N kd) (pu_L L R N ar b) (pu_R R N b) (N + 1) ds (b + 1) row' pa' := by
  have hW' := pu_W hW hD har hm
  have h3 := tr_ar_le kd
  obtain ⟨d1, d2, d3, d4, d5, d6⟩ := hD
  have ag := fun r hr => pu_ag (K := K) (L := L) (R := R) (N := N) (kd := kd) (ar := ar) (b := b) r hr
  have eR : ∀ j, j ≠ b → pu_R R N b j = R j := fun j hj => if_neg hj
  have eRb : pu_R R N b b = N := if_pos rfl
  have hLN : ds ≤ pu_L L R N ar b N := by
    rw [pu_LN]
    by_cases z : ar = 0
    · rw [if_pos z]
      omega
    · rw [if_neg z]
      exact (d5 b (by omega)).2.2.1
  refine ⟨by omega, fun h => absurd h (by omega), fun _ => ⟨by rw [show b + 1 - 1 = b by omega, eRb], ?_⟩, fun j hj => ?_, fun j hj => ?_, ?_⟩
  · by_cases z : b = 0
    · subst z
      rw [eRb, pu_LN]
      by_cases y : ar = 0
      · rw [if_pos y]
        exact d2 (by omega)
      · rw [if_neg y]
        exact (d3 (by omega)).2
    · rw [eR 0 (by omega), (ag _ (d5 0 (by omega)).2.1).2]
      exact (d3 (by omega)).2
  · by_cases z : j + 1 = b
    · subst z
      rw [eRb, eR j (by omega), pu_LN]
      by_cases y : ar = 0
      · rw [if_pos y]
        have := (d3 (by omega)).1
        rw [show m - 1 = j by omega] at this
        omega
      · rw [if_neg y]
        exact d4 j (by omega)
    · rw [eR (j + 1) z, eR j (by omega), (ag _ (d5 (j + 1) (by omega)).2.1).2]
      exact d4 j (by omega)
  · by_cases z : j = b
    · subst z
      rw [eRb]
      exact ⟨hr1, by omega, hLN, hp1⟩
    · rw [eR j z, hr2 j (by omega)]
      obtain ⟨x1, x2, x3, x4⟩ := d5 j (by omega)
      refine ⟨x1, by omega, by rw [(ag _ x2).2]; exact x3, hp2 j (by omega)⟩
  · rw [show N + 1 - ds = (N - ds) + 1 by omega]
    show tr_sum (pu_K K N kd) ds (N - ds) + (1 - nI (tr_ar (pu_K K N kd (ds + (N - ds))))) = nI (b + 1)
    rw [tr_sum_c (K := K) (N - ds) (fun p hp => (ag p (by omega)).1), d6, show ds + (N - ds) = N by omega, pu_KN, har]
    rw [show m = b + ar by omega, ← nI_add, ← nI_1]
    grind
end
section
variable {K L H G AA rt R : Nat → Nat} {NL SL DL TL N ds m nf cs : Nat} {f_opJump f_opJumpZero f_opTurn f_opPend f_opExit f_nodeLimit f_slotLimit f_depthLimit f_turnLimit f_programSize f_draftStart f_rowSize f_codeSize f_defined f_turnsUsed f_going : Int32} {a_kinds a_values a_heights a_loose a_parent a_place a_firstLeaf a_row a_nodeReg a_breakTo a_tryTo a_cleanupOf a_label a_codeOp a_codeReg a_codeArg a_codeNode a_roots a_entries a_states a_results a_chain a_actFunction a_pcs a_locals a_regs a_pending a_cells b_kinds b_place b_savedSort b_savedValue : Nat → Int32}
variable {kd ar b hN : Nat} {fl z : Int32} {pa' pl' fl' : Nat → Int32}
theorem rl_put (hI : rl_I K L H G AA rt R NL SL DL TL N ds m nf cs a_kinds a_values a_heights a_loose a_parent a_place a_firstLeaf a_row a_nodeReg a_breakTo a_tryTo a_cleanupOf a_label a_codeOp a_codeReg a_codeArg a_codeNode a_roots a_entries a_states a_chain a_actFunction a_pcs a_regs a_pending b_kinds b_place b_savedSort b_savedValue) (hkd : kd ≤ 16) (har : tr_ar kd = ar) (hm : b + ar = m) (hNL : N < NL) (hz : (1 ≤ kd → kd ≤ 4 → ∃ v, v < 4 ∧ z = nI v) ∧ (kd = 16 → ∃ v, v < 6 ∧ z = nI v) ∧ (kd = 12 → z = 0)) (hh : hN = pu_h H R b ar) (h16 : hN ≤ 16) (hfl : (fl = 1 ∧ pu_lb K L R kd b ar) ∨ (fl = 0 ∧ ¬ pu_lb K L R kd b ar)) (hpN : pa' N = -1) (hpc : ∀ k, k < ar → pa' (R (b + k)) = nI N ∧ pl' (R (b + k)) = nI (k + 1)) (hpo : ∀ q, q < N → (∀ k, k < ar → q ≠ R (b + k)) → pa' q = a_parent q ∧ pl' q = a_place q) (hf0 : ar = 0 → fl' N = nI N) (hf1 : 0 < ar → fl' N = a_firstLeaf (R b)) (hfo : ∀ q, q < N → fl' q = a_firstLeaf q) : rl_I (pu_K K N kd) (pu_L L R N ar b) (fun q => if q = N then hN else H q) G AA rt (pu_R R N b) NL SL DL TL (N + 1) ds (b + 1) nf cs (upd a_kinds N (nI kd)) (upd a_values N z) (upd a_heights N (nI hN)) (upd a_loose N fl) pa' pl' fl' (upd a_row b (nI N)) a_nodeReg a_breakTo a_tryTo a_cleanupOf a_label a_codeOp a_codeReg a_codeArg a_codeNode a_roots a_entries a_states a_chain a_actFunction a_pcs a_regs a_pending (upd b_kinds N (nI kd)) b_place b_savedSort b_savedValue := by
  obtain ⟨hb, ⟨hFx, hFy, hds, hcs, hV, hP, hA, hC, hR⟩, hD, hH, hdsr, hSl⟩ := hI
  have hN8 := hFx.1
  have hW := tr_FW hFx
  have hWd : ∀ q, q < ds → tr_W K L q := fun q hq => hW q (by omega)
  have hW' := pu_W hW hD har hm
  have hch := fun k p => pu_ch (k := k) (p := p) hW hD har hm
  have hD5 := hD.2.2.2.2.1
  have ag : ∀ r, r < N → pu_K K N kd r = K r ∧ pu_L L R N ar b r = L r := fun r hr => pu_ag r hr
  have agd : ∀ r, r < ds → pu_K K N kd r = K r ∧ pu_L L R N ar b r = L r := fun r hr => pu_ag r (by omega)
  have hF : ∀ ak : Nat → Int32, tr_F K L ak N → tr_F (pu_K K N kd) (pu_L L R N ar b) (upd ak N (nI kd)) (N + 1) := by
    intro ak h
    refine ⟨by omega, fun q hq => ⟨hW' q hq, ?_⟩⟩
    by_cases e : q = N
    · subst e
      rw [pu_KN, pk_us]
      exact ⟨rfl, hkd⟩
    · rw [(ag q (by omega)).1, pk_un e]
      exact (h.2 q (by omega)).2
  refine ⟨by omega, ⟨hF _ hFx, hF _ hFy, by omega, hcs, ?_, ?_, cg_A_c hWd agd (fun r hr => if_neg (by omega)) hA, cg_C_c hWd agd (fun r hr => pk_un (by omega)) hC, cg_R_c agd (fun r hr e => ?_) hR⟩, pu_D hW hD har hm hkd pk_us (fun j hj => pk_un (by omega)) hpN (fun j hj => ?_), ?_, hdsr, fun i hi => sm_SL_c hWd agd (fun f hf => (hR.2 f hf).2.1) (hSl i hi)⟩
  · intro q hq
    by_cases e : q = N
    · subst e
      rw [pu_KN, pk_us]
      exact hz
    · rw [(ag q (by omega)).1, pk_un e]
      exact hV q (by omega)
  · intro q k p hq c
    by_cases e : q = N
    · subst e
      obtain ⟨k1, k2, rfl⟩ := (hch k p).mp c
      rw [show b + k - 1 = b + (k - 1) by omega]
      have := hpc (k - 1) (by omega)
      rw [show k - 1 + 1 = k by omega] at this
      exact this
    · have c' := (tr_ch_c hW ag (show q < N by omega)).mp c
      have l := tr_lt hW (show q < N by omega) c'
      have hpp := hP q k p (by omega) c'
      have := hpo p (by omega) (fun k' hk' e2 => by
        have x := (hD5 (b + k') (by omega)).2.2.2
        rw [← e2, hpp.1] at x
        exact tr_nn1 (by omega) x)
      rw [this.1, this.2]
      exact hpp
  · rw [(hpo r (by omega) (fun k' hk' e2 => by
      have x1 := (hD5 (b + k') (by omega)).2.2.1
      have x2 := tr_le hW _ (hD5 (b + k') (by omega)).2.1
      rw [← e2] at x1 x2
      omega)).1]
    exact e
  · rw [(hpo (R j) (hD5 j (by omega)).2.1 (fun k' hk' e2 => rl_Rne hW hD (by omega) (by omega) (by omega) e2)).1]
    exact (hD5 j (by omega)).2.2.2
  · intro q hq
    by_cases e : q = N
    · subst e
      dsimp only
      rw [if_pos rfl, pk_us, pk_us]
      refine ⟨?_, rfl, ?_, h16, ?_⟩
      · rw [pu_LN]
        by_cases y : ar = 0
        · rw [if_pos y]
          exact hf0 y
        · rw [if_neg y, hf1 (by omega)]
          exact (hH _ (hD5 b (by omega)).2.1).1
      · rw [hh]
        exact pu_H hW hD har hm (fun j hj => (hH _ (hD5 j hj).2.1).2.2.1)
      · rw [pu_lbi hW hD har hm]
        exact hfl
    · obtain ⟨x1, x2, x3, x4, x5⟩ := hH q (by omega)
      dsimp only
      rw [if_neg e, pk_un e, pk_un e, hfo q (by omega), (ag q (by omega)).2]
      refine ⟨x1, x2, tr_H_c hW ag (by omega) x3, x4, ?_⟩
      rw [tr_lb_c ag (show q < N by omega)]
      exact x5
end
end
section
/-! put: the walks -/
def pu_v (kd : Nat) (w : Int32) : Prop := (1 ≤ kd → kd ≤ 4 → ¬ w < 0 ∧ w < 4) ∧ (kd = 16 → ¬ w < 0 ∧ w < 6)
theorem pu_34 {w : Int32} : w ≤ 3 ↔ w < 4 := by
  rw [Int32.le_iff_toInt_le, Int32.lt_iff_toInt_lt, show (3 : Int32).toInt = 3 by decide, show (4 : Int32).toInt = 4 by decide]
  omega
theorem pu_56 {w : Int32} : w ≤ 5 ↔ w < 6 := by
  rw [Int32.le_iff_toInt_le, Int32.lt_iff_toInt_lt, show (5 : Int32).toInt = 5 by decide, show (6 : Int32).toInt = 6 by decide]
  omega
def pu_z (kd : Nat) (w : Int32) : Int32 := if kd ≤ 4 ∨ kd = 16 then w else 0
theorem pu_z_c {kd : Nat} {w : Int32} (h : pu_v kd w) : (1 ≤ kd → kd ≤ 4 → ∃ v, v < 4 ∧ pu_z kd w = nI v) ∧ (kd = 16 → ∃ v, v < 6 ∧ pu_z kd w = nI v) ∧ (kd = 12 → pu_z kd w = 0) := by
  refine ⟨fun a b => ?_, fun a => ?_, fun a => if_neg (by omega)⟩
  · obtain ⟨h1, h2⟩ := h.1 a b
    obtain ⟨j, hj, rfl⟩ := nI_of h1
    refine ⟨j, (nI_ltI (b := 4) hj (by decide)).mp h2, if_pos (by omega)⟩
  · obtain ⟨h1, h2⟩ := h.2 a
    obtain ⟨j, hj, rfl⟩ := nI_of h1
    refine ⟨j, (nI_ltI (b := 6) hj (by decide)).mp h2, if_pos (by omega)⟩
def pu_pa (pa : Nat → Int32) (R : Nat → Nat) (N b : Nat) : Nat → Nat → Int32
  | 0 => pa
  | k + 1 => upd (pu_pa pa R N b k) (R (b + k)) (nI N)
def pu_pl (pl : Nat → Int32) (R : Nat → Nat) (b : Nat) : Nat → Nat → Int32
  | 0 => pl
  | k + 1 => upd (pu_pl pl R b k) (R (b + k)) (nI (k + 1))
theorem pu_pa_o {pa pl : Nat → Int32} {R : Nat → Nat} {N b : Nat} {q : Nat} : ∀ k, (∀ c, c < k → q ≠ R (b + c)) → pu_pa pa R N b k q = pa q ∧ pu_pl pl R b k q = pl q := by
  intro k
  induction k with
  | zero => exact fun _ => ⟨rfl, rfl⟩
  | succ k ih =>
    intro h
    obtain ⟨i1, i2⟩ := ih (fun c hc => h c (by omega))
    have hn := h k (by omega)
    exact ⟨(pk_un hn).trans i1, (pk_un hn).trans i2⟩
theorem pu_pa_i {pa pl : Nat → Int32} {R : Nat → Nat} {N b : Nat} : ∀ k, (∀ c c', c < k → c' < k → c ≠ c' → R (b + c) ≠ R (b + c')) → ∀ c, c < k → pu_pa pa R N b k (R (b + c)) = nI N ∧ pu_pl pl R b k (R (b + c)) = nI (c + 1) := by
  intro k
  induction k with
  | zero => exact fun _ c hc => absurd hc (by omega)
  | succ k ih =>
    intro h c hc
    by_cases e : c = k
    · subst e
      exact ⟨pk_us, pk_us⟩
    · obtain ⟨i1, i2⟩ := ih (fun c c' h1 h2 h3 => h c c' (by omega) (by omega) h3) c (by omega)
      have hn := h c k hc (by omega) e
      exact ⟨(pk_un hn).trans i1, (pk_un hn).trans i2⟩
section
variable {K L H G AA rt R : Nat → Nat} {NL SL DL TL N ds m nf cs : Nat} {f_opJump f_opJumpZero f_opTurn f_opPend f_opExit f_nodeLimit f_slotLimit f_depthLimit f_turnLimit f_programSize f_draftStart f_rowSize f_codeSize f_defined f_turnsUsed f_going : Int32} {a_kinds a_values a_heights a_loose a_parent a_place a_firstLeaf a_row a_nodeReg a_breakTo a_tryTo a_cleanupOf a_label a_codeOp a_codeReg a_codeArg a_codeNode a_roots a_entries a_states a_results a_chain a_actFunction a_pcs a_locals a_regs a_pending a_cells b_kinds b_place b_savedSort b_savedValue : Nat → Int32}
variable {kd ar b hN : Nat} {w x6 z cell : Int32} {post : Int32 → SX → Prop} {postY : Int32 → SY → Prop} {p1 : Int32 → Prop}
theorem xv (hkd : kd ≤ 16) (h1 : pu_v kd w → p1 1) (h0 : ¬ pu_v kd w → p1 0) : wpX_valueFits p1 (f_opJump, f_opJumpZero, f_opTurn, f_opPend, f_opExit, f_nodeLimit, f_slotLimit, f_depthLimit, f_turnLimit, f_programSize, f_draftStart, f_rowSize, f_codeSize, f_defined, f_turnsUsed, f_going, a_kinds, a_values, a_heights, a_loose, a_parent, a_place, a_firstLeaf, a_row, a_nodeReg, a_breakTo, a_tryTo, a_cleanupOf, a_label, a_codeOp, a_codeReg, a_codeArg, a_codeNode, a_roots, a_entries, a_states, a_results, a_chain, a_actFunction, a_pcs, a_locals, a_regs, a_pending, a_cells) (nI kd) w := by
  have e25 : ¬ (1 ≤ kd ∧ kd ≤ 4) → wX_valueFits_25 p1 (nI kd) w f_opJump f_opJumpZero f_opTurn f_opPend f_opExit f_nodeLimit f_slotLimit f_depthLimit f_turnLimit f_programSize f_draftStart f_rowSize f_codeSize f_defined f_turnsUsed f_going a_kinds a_values a_heights a_loose a_parent a_place a_firstLeaf a_row a_nodeReg a_breakTo a_tryTo a_cleanupOf a_label a_codeOp a_codeReg a_codeArg a_codeNode a_roots a_entries a_states a_results a_chain a_actFunction a_pcs a_locals a_regs a_pending a_cells := by
    intro hn
    refine pk_eq kd 16 (fun e => br_c (fun y => h0 ?_) (fun y => br_c (fun y2 => h0 ?_) (fun y2 => h1 ?_))) (fun e => h1 ?_)
    · exact fun hv => (hv.2 e).1 y
    · exact fun hv => absurd (hv.2 e).2 (Int32.not_lt.mpr y2)
    · exact ⟨fun a b => absurd ⟨a, b⟩ hn, fun _ => ⟨y, Int32.not_le.mp y2⟩⟩
    · exact ⟨fun a b => absurd ⟨a, b⟩ hn, fun e' => absurd e' e⟩
  refine pk_lt kd 1 (fun a => e25 (by omega)) (fun a => pk_lt 4 kd (fun a2 => e25 (by omega)) (fun a2 => br_c (fun y => h0 ?_) (fun y => br_c (fun y2 => h0 ?_) (fun y2 => h1 ?_))))
  · exact fun hv => (hv.1 a a2).1 y
  · exact fun hv => absurd (hv.1 a a2).2 (Int32.not_lt.mpr y2)
  · exact ⟨fun _ _ => ⟨y, Int32.not_le.mp y2⟩, fun e => absurd e (by omega)⟩
theorem yv (hkd : kd ≤ 16) (h1 : pu_v kd w → ∀ cell : Int32, ((cell = 1 ∧ 1 ≤ kd ∧ kd ≤ 4) ∨ (cell = 0 ∧ ¬ (1 ≤ kd ∧ kd ≤ 4))) → wY_put_72 postY (nI kd) w cell f_nodeLimit f_slotLimit f_depthLimit f_turnLimit f_programSize f_defined b_kinds a_values a_roots a_cells a_states a_results a_chain a_actFunction b_place a_locals b_savedSort b_savedValue) (h0 : ¬ pu_v kd w → postY (-2) (f_nodeLimit, f_slotLimit, f_depthLimit, f_turnLimit, f_programSize, f_defined, b_kinds, a_values, a_roots, a_cells, a_states, a_results, a_chain, a_actFunction, b_place, a_locals, b_savedSort, b_savedValue)) : wpY_put postY (f_nodeLimit, f_slotLimit, f_depthLimit, f_turnLimit, f_programSize, f_defined, b_kinds, a_values, a_roots, a_cells, a_states, a_results, a_chain, a_actFunction, b_place, a_locals, b_savedSort, b_savedValue) (nI kd) w := by
  have e54 : ¬ (1 ≤ kd ∧ kd ≤ 4) → wY_put_37 postY (nI kd) w 0 f_nodeLimit f_slotLimit f_depthLimit f_turnLimit f_programSize f_defined b_kinds a_values a_roots a_cells a_states a_results a_chain a_actFunction b_place a_locals b_savedSort b_savedValue := by
    intro hn
    refine br_t rfl (pk_eq kd 16 (fun e => br_c (fun y => h0 ?_) (fun y => br_c (fun y2 => h1 ?_ 0 (Or.inr ⟨rfl, hn⟩)) (fun y2 => h0 ?_))) (fun e => h1 ?_ 0 (Or.inr ⟨rfl, hn⟩)))
    · exact fun hv => (hv.2 e).1 y
    · exact ⟨fun a b => absurd ⟨a, b⟩ hn, fun _ => ⟨y, pu_56.mp y2⟩⟩
    · exact fun hv => y2 (pu_56.mpr (hv.2 e).2)
    · exact ⟨fun a b => absurd ⟨a, b⟩ hn, fun e' => absurd e' e⟩
  have e32 : 1 ≤ kd → kd ≤ 4 → wY_put_32 postY (nI kd) w f_nodeLimit f_slotLimit f_depthLimit f_turnLimit f_programSize f_defined b_kinds a_values a_roots a_cells a_states a_results a_chain a_actFunction b_place a_locals b_savedSort b_savedValue := by
    intro a a2
    have hn16 : ¬ nI kd = 16 := fun e => absurd (tr_inj (b := 16) e (by omega) (by omega)) (by omega)
    refine br_f (by decide) (br_c (fun y => h0 ?_) (fun y => br_c (fun y2 => br_f hn16 (h1 ?_ 1 (Or.inl ⟨rfl, a, a2⟩))) (fun y2 => h0 ?_)))
    · exact fun hv => (hv.1 a a2).1 y
    · exact ⟨fun _ _ => ⟨y, pu_34.mp y2⟩, fun e => absurd e (by omega)⟩
    · exact fun hv => y2 (pu_34.mpr (hv.1 a a2).2)
  exact br_f (nI_pos (by omega)) (br_t (nI_le (b := 16) hkd (by decide)) (pk_eq kd 1 (fun e => e32 (by omega) (by omega)) (fun e => pk_eq kd 3 (fun e => e32 (by omega) (by omega)) (fun e => pk_eq kd 2 (fun e => e32 (by omega) (by omega)) (fun e => pk_eq kd 4 (fun e => e32 (by omega) (by omega)) (fun e => e54 (by omega)))))))
/-! the loop over the operands -/
def pu_fl (K L R : Nat → Nat) (kd b k : Nat) (x : Int32) : Prop := (x = 1 ∧ pu_lb K L R kd b k) ∨ (x = 0 ∧ ¬ pu_lb K L R kd b k)
theorem xp_l (hN : N ≤ 128) (hm : b + ar = m) (hmN : m ≤ N) (h3 : ar ≤ 3) (hkd : kd ≤ 16) (hrow : ∀ j, j < m → a_row j = nI (R j) ∧ R j < N) (hH : ∀ q, q < N → a_heights q = nI (H q) ∧ H q ≤ 16 ∧ ((a_loose q = 1 ∧ tr_lb K L q) ∨ (a_loose q = 0 ∧ ¬ tr_lb K L q))) (fin : ∀ n x6, pu_fl K L R kd b ar x6 → wX_put_82 post (nI kd) w (nI ar) (nI b) f_opJump f_opJumpZero f_opTurn f_opPend f_opExit f_nodeLimit f_slotLimit f_depthLimit f_turnLimit f_programSize f_draftStart f_rowSize f_codeSize f_defined f_turnsUsed f_going a_kinds a_values a_heights a_loose a_parent a_place a_firstLeaf a_row a_nodeReg a_breakTo a_tryTo a_cleanupOf a_label a_codeOp a_codeReg a_codeArg a_codeNode a_roots a_entries a_states a_results a_chain a_actFunction a_pcs a_locals a_regs a_pending a_cells (n + 1) (nI (pu_h H R b ar)) x6 (nI ar)) : ∀ d k x6, k + d = ar → pu_fl K L R kd b k x6 → pu_h H R b k ≤ 17 → wX_put_82 post (nI kd) w (nI ar) (nI b) f_opJump f_opJumpZero f_opTurn f_opPend f_opExit f_nodeLimit f_slotLimit f_depthLimit f_turnLimit f_programSize f_draftStart f_rowSize f_codeSize f_defined f_turnsUsed f_going a_kinds a_values a_heights a_loose a_parent a_place a_firstLeaf a_row a_nodeReg a_breakTo a_tryTo a_cleanupOf a_label a_codeOp a_codeReg a_codeArg a_codeNode a_roots a_entries a_states a_results a_chain a_actFunction a_pcs a_locals a_regs a_pending a_cells (d + 1) (nI (pu_h H R b k)) x6 (nI k) := by
  intro d
  induction d with
  | zero =>
    intro k x6 hk hf h17
    have : k = ar := by omega
    subst this
    exact fin 0 x6 hf
  | succ d ih =>
    intro k x6 hk hf h17
    obtain ⟨r1, r2⟩ := hrow (b + k) (by omega)
    obtain ⟨q1, q2, q3⟩ := hH (R (b + k)) r2
    have e1 : nI b + nI k = nI (b + k) := nI_add b k
    have e2 : a_row (nI b + nI k).toNatClampNeg = nI (R (b + k)) := by rw [e1, nI_clamp (by omega), r1]
    have e3 : a_heights (nI (R (b + k))).toNatClampNeg + 1 = nI (H (R (b + k)) + 1) := by rw [nI_clamp (by omega), q1, nI_1]
    have e4 : a_loose (nI (R (b + k))).toNatClampNeg = a_loose (R (b + k)) := tr_fc (by omega) _
    have hv : vp_in (nI (R (b + k))) 128 := vp_in_nI (by omega) (by decide)
    have hlb : pu_lb K L R kd b (k + 1) ↔ (pu_lb K L R kd b k ∨ (kd ≠ 11 ∧ tr_lb K L (R (b + k)))) := by
      constructor
      · intro h
        rcases h with h | ⟨h, c, c1, c2⟩
        · exact Or.inl (Or.inl h)
        · by_cases e : c = k
          · subst e
            exact Or.inr ⟨h, c2⟩
          · exact Or.inl (Or.inr ⟨h, c, by omega, c2⟩)
      · intro h
        rcases h with (h | ⟨h, c, c1, c2⟩) | ⟨h, c2⟩
        · exact Or.inl h
        · exact Or.inr ⟨h, c, by omega, c2⟩
        · exact Or.inr ⟨h, k, by omega, c2⟩
    have go : ∀ h', pu_h H R b (k + 1) = h' → h' ≤ 17 → wX_put_125 post (wX_put_82 post (nI kd) w (nI ar) (nI b) f_opJump f_opJumpZero f_opTurn f_opPend f_opExit f_nodeLimit f_slotLimit f_depthLimit f_turnLimit f_programSize f_draftStart f_rowSize f_codeSize f_defined f_turnsUsed f_going a_kinds a_values a_heights a_loose a_parent a_place a_firstLeaf a_row a_nodeReg a_breakTo a_tryTo a_cleanupOf a_label a_codeOp a_codeReg a_codeArg a_codeNode a_roots a_entries a_states a_results a_chain a_actFunction a_pcs a_locals a_regs a_pending a_cells (d + 1)) (nI kd) w (nI ar) (nI b) (nI h') x6 (nI k) (nI (R (b + k))) f_opJump f_opJumpZero f_opTurn f_opPend f_opExit f_nodeLimit f_slotLimit f_depthLimit f_turnLimit f_programSize f_draftStart f_rowSize f_codeSize f_defined f_turnsUsed f_going a_kinds a_values a_heights a_loose a_parent a_place a_firstLeaf a_row a_nodeReg a_breakTo a_tryTo a_cleanupOf a_label a_codeOp a_codeReg a_codeArg a_codeNode a_roots a_entries a_states a_results a_chain a_actFunction a_pcs a_locals a_regs a_pending a_cells := by
      intro h' e' l'
      have ih' := fun x6' hx => ih (k + 1) x6' (by omega) hx (by rw [e']; exact l')
      rw [e'] at ih'
      refine pk_eq kd 11 (fun e => nm_r (nI_1 k) (ih' x6 ?_)) (fun e => ⟨hv, ?_⟩)
      · unfold pu_fl
        rw [hlb]
        rcases hf with ⟨f1, f2⟩ | ⟨f1, f2⟩
        · exact Or.inl ⟨f1, Or.inl f2⟩
        · exact Or.inr ⟨f1, fun y => y.elim f2 (fun y => y.1 e)⟩
      · rw [e4]
        rcases q3 with ⟨l1, l2⟩ | ⟨l1, l2⟩
        · refine br_f (by rw [l1]; decide) (nm_r (nI_1 k) (ih' 1 ?_))
          unfold pu_fl
          rw [hlb]
          exact Or.inl ⟨rfl, Or.inr ⟨e, l2⟩⟩
        · refine br_t l1 (nm_r (nI_1 k) (ih' x6 ?_))
          unfold pu_fl
          rw [hlb]
          rcases hf with ⟨f1, f2⟩ | ⟨f1, f2⟩
          · exact Or.inl ⟨f1, Or.inl f2⟩
          · exact Or.inr ⟨f1, fun y => y.elim f2 (fun y => l2 y.2)⟩
    refine br_f (nI_ge (by omega) (by omega)) ⟨pk_in _ _ (by omega) e1, nm_r e2 ⟨hv, pk_le (H (R (b + k)) + 1) (pu_h H R b k) (fun y => go _ (if_pos y) h17) (fun y => ⟨hv, nm_r e3 (go _ (if_neg (by omega)) (by omega))⟩) e3 rfl⟩⟩
/-! adopt and the stores -/
theorem xa_l {P : SX → Prop} (hN : N < 128) (hm : b + ar = m) (hmN : m ≤ N) (h3 : ar ≤ 3) (hrow : ∀ j, j < m → a_row j = nI (R j) ∧ R j < N) (h0 : ar = 0 → P (f_opJump, f_opJumpZero, f_opTurn, f_opPend, f_opExit, f_nodeLimit, f_slotLimit, f_depthLimit, f_turnLimit, f_programSize, f_draftStart, f_rowSize, f_codeSize, f_defined, f_turnsUsed, f_going, a_kinds, a_values, a_heights, a_loose, pu_pa a_parent R N b ar, pu_pl a_place R b ar, a_firstLeaf, a_row, a_nodeReg, a_breakTo, a_tryTo, a_cleanupOf, a_label, a_codeOp, a_codeReg, a_codeArg, a_codeNode, a_roots, a_entries, a_states, a_results, a_chain, a_actFunction, a_pcs, a_locals, a_regs, a_pending, a_cells)) (h1 : 0 < ar → P (f_opJump, f_opJumpZero, f_opTurn, f_opPend, f_opExit, f_nodeLimit, f_slotLimit, f_depthLimit, f_turnLimit, f_programSize, f_draftStart, f_rowSize, f_codeSize, f_defined, f_turnsUsed, f_going, a_kinds, a_values, a_heights, a_loose, pu_pa a_parent R N b ar, pu_pl a_place R b ar, upd a_firstLeaf N (a_firstLeaf (R b)), a_row, a_nodeReg, a_breakTo, a_tryTo, a_cleanupOf, a_label, a_codeOp, a_codeReg, a_codeArg, a_codeNode, a_roots, a_entries, a_states, a_results, a_chain, a_actFunction, a_pcs, a_locals, a_regs, a_pending, a_cells)) : ∀ d k, k + d = ar → wX_adopt_3 P (nI N) (nI b) (nI ar) f_opJump f_opJumpZero f_opTurn f_opPend f_opExit f_nodeLimit f_slotLimit f_depthLimit f_turnLimit f_programSize f_draftStart f_rowSize f_codeSize f_defined f_turnsUsed f_going (d + 1) (nI k) a_kinds a_values a_heights a_loose (pu_pa a_parent R N b k) (pu_pl a_place R b k) a_firstLeaf a_row a_nodeReg a_breakTo a_tryTo a_cleanupOf a_label a_codeOp a_codeReg a_codeArg a_codeNode a_roots a_entries a_states a_results a_chain a_actFunction a_pcs a_locals a_regs a_pending a_cells := by
  intro d
  induction d with
  | zero =>
    intro k hk
    have : k = ar := by omega
    subst this
    refine br_t (nI_le (Nat.le_refl _) (by omega)) (pk_le k 0 (fun y => h0 (by omega)) (fun y => ?_))
    obtain ⟨r1, r2⟩ := hrow b (by omega)
    have e2 : a_row (nI b).toNatClampNeg = nI (R b) := by rw [nI_clamp (by omega), r1]
    have e3 : upd a_firstLeaf (nI N).toNatClampNeg (a_firstLeaf (a_row (nI b).toNatClampNeg).toNatClampNeg) = upd a_firstLeaf N (a_firstLeaf (R b)) := by rw [e2, nI_clamp (by omega), nI_clamp (by omega)]
    exact ⟨vp_in_nI (by omega) (by decide), pk_in _ _ (by omega) e2, vp_in_nI (by omega) (by decide), nm_r e3 (h1 (by omega))⟩
  | succ d ih =>
    intro k hk
    obtain ⟨r1, r2⟩ := hrow (b + k) (by omega)
    have e1 : nI b + nI k = nI (b + k) := nI_add b k
    have e2 : a_row (nI b + nI k).toNatClampNeg = nI (R (b + k)) := by rw [e1, nI_clamp (by omega), r1]
    have hv : vp_in (nI (R (b + k))) 128 := vp_in_nI (by omega) (by decide)
    have e4 : upd (pu_pl a_place R b k) (nI (R (b + k))).toNatClampNeg (nI k + 1) = pu_pl a_place R b (k + 1) := by rw [nI_clamp (by omega), nI_1]; rfl
    exact br_f (nI_ge (by omega) (by omega)) ⟨pk_in _ _ (by omega) e1, nm_r e2 ⟨hv, nm_r (tr_uc (by omega) _ _) ⟨hv, nm_r e4 (nm_r (nI_1 k) (ih (k + 1) (by omega)))⟩⟩⟩
theorem xp_193 (hNN : N < 128) (hm : b + ar = m) (hmN : m ≤ N) (h3 : ar ≤ 3) (hrow : ∀ j, j < m → a_row j = nI (R j) ∧ R j < N) (h6 : x6 = 1 ∨ x6 = 0) (h : ∀ pa' pl' fl' : Nat → Int32, pa' = pu_pa (upd a_parent N (-1)) R N b ar → pl' = pu_pl (upd a_place N 0) R b ar → (ar = 0 → fl' = upd a_firstLeaf N (nI N)) → (0 < ar → fl' = upd (upd a_firstLeaf N (nI N)) N (upd a_firstLeaf N (nI N) (R b))) → post (nI N) (f_opJump, f_opJumpZero, f_opTurn, f_opPend, f_opExit, f_nodeLimit, f_slotLimit, f_depthLimit, f_turnLimit, nI (N + 1), f_draftStart, nI (b + 1), f_codeSize, f_defined, f_turnsUsed, f_going, a_kinds, upd a_values N z, upd a_heights N (nI hN), upd a_loose N x6, pa', pl', fl', upd a_row b (nI N), a_nodeReg, a_breakTo, a_tryTo, a_cleanupOf, a_label, a_codeOp, a_codeReg, a_codeArg, a_codeNode, a_roots, a_entries, a_states, a_results, a_chain, a_actFunction, a_pcs, a_locals, a_regs, a_pending, a_cells)) : wX_put_193 post (nI ar) (nI b) (nI hN) x6 (nI N) z (nI N) f_opJump f_opJumpZero f_opTurn f_opPend f_opExit f_nodeLimit f_slotLimit f_depthLimit f_turnLimit (nI N) f_draftStart f_rowSize f_codeSize f_defined f_turnsUsed f_going a_kinds a_values a_heights a_loose a_parent a_place a_firstLeaf a_row a_nodeReg a_breakTo a_tryTo a_cleanupOf a_label a_codeOp a_codeReg a_codeArg a_codeNode a_roots a_entries a_states a_results a_chain a_actFunction a_pcs a_locals a_regs a_pending a_cells := by
  have hv : vp_in (nI N) 128 := vp_in_nI hNN (by decide)
  have e6 : upd a_loose (nI N).toNatClampNeg (vp_nar .boolean x6) = upd a_loose N x6 := by
    rw [nI_clamp (by omega)]
    rcases h6 with e | e <;> rw [e]
    · rw [tr_vb1]
    · rw [tr_vb0]
  refine And.intro hv (nm_r (tr_uc (by omega) _ _) ⟨hv, nm_r (tr_uc (by omega) _ _) ⟨hv, nm_r e6 ⟨hv, nm_r (tr_uc (by omega) _ _) ⟨hv, nm_r (tr_uc (by omega) _ _) ⟨hv, nm_r (tr_uc (by omega) _ _) ?_⟩⟩⟩⟩⟩)
  have hvb : vp_in (nI b) 128 := vp_in_nI (by omega) (by decide)
  refine Exists.intro (ar + 1) (xa_l hNN hm hmN h3 hrow (fun e => ?_) (fun e => ?_) ar 0 (by omega))
  · exact And.intro hvb (nm_r (tr_uc (by omega) _ _) (nm_r (nI_1 b) (nm_r (nI_1 N) (h _ _ _ rfl rfl (fun _ => rfl) (fun y => absurd y (by omega))))))
  · exact And.intro hvb (nm_r (tr_uc (by omega) _ _) (nm_r (nI_1 b) (nm_r (nI_1 N) (h _ _ _ rfl rfl (fun y => absurd y (by omega)) (fun _ => rfl)))))
theorem xp_fin (hNN : N < 128) (hm : b + ar = m) (hmN : m ≤ N) (h3 : ar ≤ 3) (hkd : kd ≤ 16) (hrow : ∀ j, j < m → a_row j = nI (R j) ∧ R j < N) (h6 : x6 = 1 ∨ x6 = 0) (hh : hN < 1000) (hd : 16 < hN → post (-5) (f_opJump, f_opJumpZero, f_opTurn, f_opPend, f_opExit, f_nodeLimit, f_slotLimit, f_depthLimit, f_turnLimit, nI N, f_draftStart, f_rowSize, f_codeSize, f_defined, f_turnsUsed, f_going, a_kinds, a_values, a_heights, a_loose, a_parent, a_place, a_firstLeaf, a_row, a_nodeReg, a_breakTo, a_tryTo, a_cleanupOf, a_label, a_codeOp, a_codeReg, a_codeArg, a_codeNode, a_roots, a_entries, a_states, a_results, a_chain, a_actFunction, a_pcs, a_locals, a_regs, a_pending, a_cells)) (h : hN ≤ 16 → ∀ pa' pl' fl' : Nat → Int32, pa' = pu_pa (upd a_parent N (-1)) R N b ar → pl' = pu_pl (upd a_place N 0) R b ar → (ar = 0 → fl' = upd a_firstLeaf N (nI N)) → (0 < ar → fl' = upd (upd a_firstLeaf N (nI N)) N (upd a_firstLeaf N (nI N) (R b))) → post (nI N) (f_opJump, f_opJumpZero, f_opTurn, f_opPend, f_opExit, f_nodeLimit, f_slotLimit, f_depthLimit, f_turnLimit, nI (N + 1), f_draftStart, nI (b + 1), f_codeSize, f_defined, f_turnsUsed, f_going, upd a_kinds N (nI kd), upd a_values N (pu_z kd w), upd a_heights N (nI hN), upd a_loose N x6, pa', pl', fl', upd a_row b (nI N), a_nodeReg, a_breakTo, a_tryTo, a_cleanupOf, a_label, a_codeOp, a_codeReg, a_codeArg, a_codeNode, a_roots, a_entries, a_states, a_results, a_chain, a_actFunction, a_pcs, a_locals, a_regs, a_pending, a_cells)) (n : Nat) : wX_put_82 post (nI kd) w (nI ar) (nI b) f_opJump f_opJumpZero f_opTurn f_opPend f_opExit f_nodeLimit f_slotLimit f_depthLimit f_turnLimit (nI N) f_draftStart f_rowSize f_codeSize f_defined f_turnsUsed f_going a_kinds a_values a_heights a_loose a_parent a_place a_firstLeaf a_row a_nodeReg a_breakTo a_tryTo a_cleanupOf a_label a_codeOp a_codeReg a_codeArg a_codeNode a_roots a_entries a_states a_results a_chain a_actFunction a_pcs a_locals a_regs a_pending a_cells (n + 1) (nI hN) x6 (nI ar) := by
  refine br_t (nI_le (Nat.le_refl _) (by omega)) (pk_le hN 16 (fun y => ⟨vp_in_nI hNN (by decide), nm_r (tr_uc (by omega) _ _) ?_⟩) (fun y => hd y))
  have a1 : kd ≤ 4 ∨ kd = 16 → wX_put_193 post (nI ar) (nI b) (nI hN) x6 (nI N) w (nI N) f_opJump f_opJumpZero f_opTurn f_opPend f_opExit f_nodeLimit f_slotLimit f_depthLimit f_turnLimit (nI N) f_draftStart f_rowSize f_codeSize f_defined f_turnsUsed f_going (upd a_kinds N (nI kd)) a_values a_heights a_loose a_parent a_place a_firstLeaf a_row a_nodeReg a_breakTo a_tryTo a_cleanupOf a_label a_codeOp a_codeReg a_codeArg a_codeNode a_roots a_entries a_states a_results a_chain a_actFunction a_pcs a_locals a_regs a_pending a_cells := by
    intro e
    have ez : pu_z kd w = w := if_pos e
    have hy := h y
    rw [ez] at hy
    exact xp_193 hNN hm hmN h3 hrow h6 hy
  have a0 : ¬ (kd ≤ 4 ∨ kd = 16) → wX_put_193 post (nI ar) (nI b) (nI hN) x6 (nI N) 0 (nI N) f_opJump f_opJumpZero f_opTurn f_opPend f_opExit f_nodeLimit f_slotLimit f_depthLimit f_turnLimit (nI N) f_draftStart f_rowSize f_codeSize f_defined f_turnsUsed f_going (upd a_kinds N (nI kd)) a_values a_heights a_loose a_parent a_place a_firstLeaf a_row a_nodeReg a_breakTo a_tryTo a_cleanupOf a_label a_codeOp a_codeReg a_codeArg a_codeNode a_roots a_entries a_states a_results a_chain a_actFunction a_pcs a_locals a_regs a_pending a_cells := by
    intro e
    have ez : pu_z kd w = 0 := if_neg e
    have hy := h y
    rw [ez] at hy
    exact xp_193 hNN hm hmN h3 hrow h6 hy
  exact pk_le kd 4 (fun e => br_f (by decide) (a1 (Or.inl e))) (fun e => pk_eq kd 16 (fun e2 => br_f (by decide) (a1 (Or.inr e2))) (fun e2 => br_t rfl (a0 (by omega))))
/-! the reference's -/
theorem y72 (hF : tr_F K L b_kinds N) (hds : tr_ds a_roots nf ds) (hl : ds ≤ N) (hs : tr_sum K ds (N - ds) = nI m) (hm8 : m ≤ 128) (hkd : kd ≤ 16) (hNL : NL ≤ 128) (hfew : m < tr_ar kd → postY (-3) (nI NL, f_slotLimit, f_depthLimit, f_turnLimit, nI N, nI nf, b_kinds, a_values, a_roots, a_cells, a_states, a_results, a_chain, a_actFunction, b_place, a_locals, b_savedSort, b_savedValue)) (hfull : tr_ar kd ≤ m → NL ≤ N → postY (-4) (nI NL, f_slotLimit, f_depthLimit, f_turnLimit, nI N, nI nf, b_kinds, a_values, a_roots, a_cells, a_states, a_results, a_chain, a_actFunction, b_place, a_locals, b_savedSort, b_savedValue)) (hgo : tr_ar kd ≤ m → N < NL → wpY_height (fun r => (r ≤ 16 → ((cell = 0 → ((nI kd = 16 → wY_put_149 postY w (nI N) (nI NL) f_slotLimit f_depthLimit f_turnLimit (nI N) (nI nf) (upd b_kinds N (nI kd)) a_values a_roots a_cells a_states a_results a_chain a_actFunction b_place a_locals b_savedSort b_savedValue) ∧ (¬ nI kd = 16 → ((nI kd = 0 → wY_put_149 postY w (nI N) (nI NL) f_slotLimit f_depthLimit f_turnLimit (nI N) (nI nf) (upd b_kinds N (nI kd)) a_values a_roots a_cells a_states a_results a_chain a_actFunction b_place a_locals b_savedSort b_savedValue) ∧ (¬ nI kd = 0 → wY_put_154 postY 0 (nI N) (nI NL) f_slotLimit f_depthLimit f_turnLimit (nI N) (nI nf) (upd b_kinds N (nI kd)) a_values a_roots a_cells a_states a_results a_chain a_actFunction b_place a_locals b_savedSort b_savedValue))))) ∧ (¬ cell = 0 → wY_put_149 postY w (nI N) (nI NL) f_slotLimit f_depthLimit f_turnLimit (nI N) (nI nf) (upd b_kinds N (nI kd)) a_values a_roots a_cells a_states a_results a_chain a_actFunction b_place a_locals b_savedSort b_savedValue))) ∧ (¬ r ≤ 16 → postY (-5) (nI NL, f_slotLimit, f_depthLimit, f_turnLimit, nI N, nI nf, upd b_kinds N (nI kd), a_values, a_roots, a_cells, a_states, a_results, a_chain, a_actFunction, b_place, a_locals, b_savedSort, b_savedValue))) (nI NL, f_slotLimit, f_depthLimit, f_turnLimit, nI N, nI nf, upd b_kinds N (nI kd), a_values, a_roots, a_cells, a_states, a_results, a_chain, a_actFunction, b_place, a_locals, b_savedSort, b_savedValue) (nI N)) : wY_put_72 postY (nI kd) w cell (nI NL) f_slotLimit f_depthLimit f_turnLimit (nI N) (nI nf) b_kinds a_values a_roots a_cells a_states a_results a_chain a_actFunction b_place a_locals b_savedSort b_savedValue := by
  have h3 := tr_ar_le kd
  have hN := hF.1
  unfold wY_put_72
  refine yt_row hF hds hl ?_
  rw [hs]
  refine yt_ar hkd (pk_le (tr_ar kd) m (fun y => pk_lt N NL (fun y2 => ⟨vp_in_nI (by omega) (by decide), nm_r (tr_uc (by omega) _ _) (hgo y y2)⟩) (fun y2 => hfull y y2)) (fun y => hfew y)) _
theorem y154 (hN : N < 128) (h : postY (nI N) (f_nodeLimit, f_slotLimit, f_depthLimit, f_turnLimit, nI (N + 1), f_defined, b_kinds, upd a_values N z, a_roots, a_cells, a_states, a_results, a_chain, a_actFunction, b_place, a_locals, b_savedSort, b_savedValue)) : wY_put_154 postY z (nI N) f_nodeLimit f_slotLimit f_depthLimit f_turnLimit (nI N) f_defined b_kinds a_values a_roots a_cells a_states a_results a_chain a_actFunction b_place a_locals b_savedSort b_savedValue := by
  refine And.intro (vp_in_nI hN (by decide)) (nm_r (tr_uc (by omega) _ _) (nm_r (nI_1 N) ?_))
  rw [nI_pred]
  exact h
theorem y_ok (hN : N < 128) (hkd : kd ≤ 16) (hc : (cell = 1 ∧ 1 ≤ kd ∧ kd ≤ 4) ∨ (cell = 0 ∧ ¬ (1 ≤ kd ∧ kd ≤ 4))) (h : postY (nI N) (f_nodeLimit, f_slotLimit, f_depthLimit, f_turnLimit, nI (N + 1), f_defined, b_kinds, upd a_values N (pu_z kd w), a_roots, a_cells, a_states, a_results, a_chain, a_actFunction, b_place, a_locals, b_savedSort, b_savedValue)) : (cell = 0 → ((nI kd = 16 → wY_put_149 postY w (nI N) f_nodeLimit f_slotLimit f_depthLimit f_turnLimit (nI N) f_defined b_kinds a_values a_roots a_cells a_states a_results a_chain a_actFunction b_place a_locals b_savedSort b_savedValue) ∧ (¬ nI kd = 16 → ((nI kd = 0 → wY_put_149 postY w (nI N) f_nodeLimit f_slotLimit f_depthLimit f_turnLimit (nI N) f_defined b_kinds a_values a_roots a_cells a_states a_results a_chain a_actFunction b_place a_locals b_savedSort b_savedValue) ∧ (¬ nI kd = 0 → wY_put_154 postY 0 (nI N) f_nodeLimit f_slotLimit f_depthLimit f_turnLimit (nI N) f_defined b_kinds a_values a_roots a_cells a_states a_results a_chain a_actFunction b_place a_locals b_savedSort b_savedValue))))) ∧ (¬ cell = 0 → wY_put_149 postY w (nI N) f_nodeLimit f_slotLimit f_depthLimit f_turnLimit (nI N) f_defined b_kinds a_values a_roots a_cells a_states a_results a_chain a_actFunction b_place a_locals b_savedSort b_savedValue) := by
  have a1 : kd ≤ 4 ∨ kd = 16 → wY_put_149 postY w (nI N) f_nodeLimit f_slotLimit f_depthLimit f_turnLimit (nI N) f_defined b_kinds a_values a_roots a_cells a_states a_results a_chain a_actFunction b_place a_locals b_savedSort b_savedValue := by
    intro e
    have ez : pu_z kd w = w := if_pos e
    rw [ez] at h
    exact y154 hN h
  rcases hc with ⟨c1, c2⟩ | ⟨c1, c2⟩
  · exact br_f (by rw [c1]; decide) (a1 (by omega))
  · refine br_t c1 (pk_eq kd 16 (fun e => a1 (by omega)) (fun e => pk_eq kd 0 (fun e2 => a1 (by omega)) (fun e2 => ?_)))
    have ez : pu_z kd w = 0 := if_neg (by omega)
    rw [ez] at h
    exact y154 hN h
end
theorem i_vc_put {k : Nat} {u : SX} {v : SY} (I : i_Rel k u v) (hk : k + 3 ≤ 1540) (v1 : Int32) (v2 : Int32) : wpX_put (fun r u' => wpY_put (fun r' v' => r' = r ∧ i_Rel (k + 3) u' v') v v1 v2) u v1 v2 := by
  refine zz_el (P := fun u v => wpX_put (fun r u' => wpY_put (fun r' v' => r' = r ∧ i_Rel (k + 3) u' v') v v1 v2) u v1 v2) ?_ I
  intro K L H G AA rt R NL SL DL TL N ds m nf cs f_opJump f_opJumpZero f_opTurn f_opPend f_opExit f_turnsUsed f_going a_kinds a_values a_heights a_loose a_parent a_place a_firstLeaf a_row a_nodeReg a_breakTo a_tryTo a_cleanupOf a_label a_codeOp a_codeReg a_codeArg a_codeNode a_roots a_entries a_states a_results a_chain a_actFunction a_pcs a_locals a_regs a_pending a_cells b_kinds b_place b_savedSort b_savedValue hI
  obtain ⟨hb, hS, hD, hH, hds, hSl⟩ := id hI
  have hN8 := hS.1.1
  rcases rx_c v1 (n := 17) (by omega) with h | ⟨h, h2, h3⟩ | ⟨kd, hkd, rfl, h, h2, h3⟩
  · exact br_t h (br_t h (And.intro rfl (zz_in hI)))
  · have h4 : ¬ v1 ≤ 16 := fun z => absurd (Int32.le_trans h2 z) (by decide)
    exact br_f h (br_f h4 (br_f h (br_f h4 (And.intro rfl (zz_in hI)))))
  · have hkd16 : kd ≤ 16 := by omega
    have h3 := tr_ar_le kd
    have hD5 := hD.2.2.2.2.1
    have hmds := hD.1
    have hW := tr_FW hS.1
    have hy72 := fun (post : Int32 → SY → Prop) (cell : Int32) => y72 (postY := post) (cell := cell) (w := v2) (kd := kd) (m := m) (ds := ds) (f_slotLimit := nI SL) (f_depthLimit := nI DL) (f_turnLimit := nI TL) (a_values := a_values) (a_cells := a_cells) (a_states := a_states) (a_results := a_results) (a_chain := a_chain) (a_actFunction := a_actFunction) (b_place := b_place) (a_locals := a_locals) (b_savedSort := b_savedSort) (b_savedValue := b_savedValue) hS.2.1 hds (by omega) hD.2.2.2.2.2 (by omega) hkd16 (by omega : NL ≤ 128)
    refine br_f h (br_t (nI_le (b := 16) hkd16 (by decide)) (xv hkd16 (fun hv => br_f (by decide) (xt_ar hkd16 (pk_le (tr_ar kd) m (fun hm => pk_lt N NL (fun hNL => nm_r (pk_sub hm) ?_) (fun hNL => ?_)) (fun hm => ?_)) _)) (fun hv => br_t rfl ?_)))
    · have hF' : tr_F (pu_K K N kd) (pu_L L R N (tr_ar kd) (m - tr_ar kd)) (upd b_kinds N (nI kd)) (N + 1) := by
        refine ⟨by omega, fun q hq => ⟨pu_W hW hD rfl (by omega) q hq, ?_⟩⟩
        by_cases e : q = N
        · subst e
          rw [pu_KN, pk_us]
          exact ⟨rfl, hkd16⟩
        · rw [(pu_ag (L := L) (R := R) (ar := 0) (b := 0) q (by omega)).1, pk_un e]
          exact (hS.2.1.2 q (by omega)).2
      have hHt := pu_H (kd := kd) (H := H) (b := m - tr_ar kd) hW hD rfl (by omega) (fun j hj => (hH _ (hD5 j hj).2.1).2.2.1)
      have hpc := pu_h_c H R (m - tr_ar kd) (tr_ar kd)
      have hh17 : ∀ k, k ≤ tr_ar kd → pu_h H R (m - tr_ar kd) k ≤ 17 := by
        intro k hk
        rcases (pu_h_c H R (m - tr_ar kd) k).2.2 with e | ⟨c, c1, c2⟩
        · omega
        · have := (hH _ (hD5 (m - tr_ar kd + c) (by omega)).2.1).2.2.2.1
          omega
      have hrow : ∀ j, j < m → a_row j = nI (R j) ∧ R j < N := fun j hj => ⟨(hD5 j hj).1, (hD5 j hj).2.1⟩
      have hfin : ∀ n x6, pu_fl K L R kd (m - tr_ar kd) (tr_ar kd) x6 → wX_put_82 (fun r u' => wpY_put (fun r' v' => r' = r ∧ i_Rel (k + 3) u' v') (nI NL, nI SL, nI DL, nI TL, nI N, nI nf, b_kinds, a_values, a_roots, a_cells, a_states, a_results, a_chain, a_actFunction, b_place, a_locals, b_savedSort, b_savedValue) (nI kd) v2) (nI kd) v2 (nI (tr_ar kd)) (nI (m - tr_ar kd)) f_opJump f_opJumpZero f_opTurn f_opPend f_opExit (nI NL) (nI SL) (nI DL) (nI TL) (nI N) (nI ds) (nI m) (nI cs) (nI nf) f_turnsUsed f_going a_kinds a_values a_heights a_loose a_parent a_place a_firstLeaf a_row a_nodeReg a_breakTo a_tryTo a_cleanupOf a_label a_codeOp a_codeReg a_codeArg a_codeNode a_roots a_entries a_states a_results a_chain a_actFunction a_pcs a_locals a_regs a_pending a_cells (n + 1) (nI (pu_h H R (m - tr_ar kd) (tr_ar kd))) x6 (nI (tr_ar kd)) := by
        intro n x6 hfl
        refine xp_fin (by omega) (by omega) (by omega) h3 hkd16 hrow (hfl.elim (fun y => Or.inl y.1) (fun y => Or.inr y.1)) (by have := hh17 (tr_ar kd) (Nat.le_refl _); omega) (fun hdp => ?_) (fun hok pa' pl' fl' e1 e2 e3 e4 => ?_) n
        · refine yv hkd16 (fun _ cell hc => hy72 _ cell (fun y => absurd y (by omega)) (fun _ y => absurd y (by omega)) (fun _ _ => ?_)) (fun hnv => absurd hv hnv)
          refine yt_hgt hF' (by omega) hHt (br_f (nI_ge (a := 16) hdp (by have := hh17 (tr_ar kd) (Nat.le_refl _); omega)) (And.intro rfl ?_))
          refine zz_in (K := K) (L := L) (H := H) (G := G) (AA := AA) (rt := rt) (R := R) ?_
          exact ⟨hb, ⟨hS.1, ⟨hN8, fun q hq => by rw [pk_un (by omega)]; exact hS.2.1.2 q hq⟩, hS.2.2⟩, hD, hH, hds, hSl⟩
        · refine yv hkd16 (fun _ cell hc => hy72 _ cell (fun y => absurd y (by omega)) (fun _ y => absurd y (by omega)) (fun _ _ => ?_)) (fun hnv => absurd hv hnv)
          refine yt_hgt hF' (by omega) hHt (br_t (nI_le (b := 16) hok (by decide)) (y_ok (by omega) hkd16 hc (And.intro rfl ?_)))
          refine zz_in (rl_put hI hkd16 rfl (show m - tr_ar kd + tr_ar kd = m by omega) hNL (pu_z_c hv) rfl hok hfl ?_ ?_ ?_ ?_ ?_ ?_)
          · rw [e1, (pu_pa_o (pl := a_place) _ (fun c hc e => by
              have := (hD5 (m - tr_ar kd + c) (by omega)).2.1
              omega)).1, pk_us]
          · rw [e1, e2]
            exact pu_pa_i _ (fun c c' y1 y2 y3 => rl_Rne hW hD (by omega) (by omega) (by omega))
          · intro q hq hne
            rw [e1, e2]
            obtain ⟨y1, y2⟩ := pu_pa_o (pa := upd a_parent N (-1)) (pl := upd a_place N 0) (N := N) _ hne
            rw [y1, y2, pk_un (by omega), pk_un (by omega)]
            exact ⟨rfl, rfl⟩
          · intro e
            rw [e3 e, pk_us]
          · intro e
            rw [e4 e, pk_us, pk_un]
            have := (hD5 (m - tr_ar kd) (by omega)).2.1
            omega
          · intro q hq
            by_cases e : tr_ar kd = 0
            · rw [e3 e, pk_un (by omega)]
            · rw [e4 (by omega), pk_un (by omega), pk_un (by omega)]
      have hl := xp_l (post := fun r u' => wpY_put (fun r' v' => r' = r ∧ i_Rel (k + 3) u' v') (nI NL, nI SL, nI DL, nI TL, nI N, nI nf, b_kinds, a_values, a_roots, a_cells, a_states, a_results, a_chain, a_actFunction, b_place, a_locals, b_savedSort, b_savedValue) (nI kd) v2) (K := K) (L := L) hN8 (show m - tr_ar kd + tr_ar kd = m by omega) (by omega) h3 hkd16 hrow (fun q hq => ⟨(hH q hq).2.1, (hH q hq).2.2.2.1, (hH q hq).2.2.2.2⟩) hfin (tr_ar kd) 0
      refine pk_eq kd 12 (fun e => ⟨tr_ar kd + 1, hl 1 (by omega) (Or.inl ⟨rfl, Or.inl e⟩) (by show 1 ≤ 17; omega)⟩) (fun e => ⟨tr_ar kd + 1, hl 0 (by omega) (Or.inr ⟨rfl, ?_⟩) (by show 1 ≤ 17; omega)⟩)
      intro y
      rcases y with y | ⟨_, c, c1, _⟩
      · exact e y
      · omega
    · exact yv hkd16 (fun _ cell _ => hy72 _ cell (fun y => absurd y (by omega)) (fun _ _ => And.intro rfl (zz_in hI)) (fun _ y => absurd y (by omega))) (fun hnv => absurd hv hnv)
    · exact yv hkd16 (fun _ cell _ => hy72 _ cell (fun _ => And.intro rfl (zz_in hI)) (fun y _ => absurd y (by omega)) (fun y _ => absurd y (by omega))) (fun hnv => absurd hv hnv)
    · exact yv hkd16 (fun hv' => absurd hv' hv) (fun _ => And.intro rfl (zz_in hI))
end
section
/-! define: registers and handlers, from the root down -/
def cg_Q (K : Nat → Nat) (nr bt tt co : Nat → Int32) (q k c : Nat) : Prop :=
    (¬ (k = 2 ∧ cg_kf (K q)) → nr c = nr q) ∧ (k = 2 → cg_kf (K q) → nr c = nr q + 1) ∧
    (K q = 11 ∨ (K q = 14 ∧ k = 1) → bt c = nI q) ∧ (¬ (K q = 11 ∨ (K q = 14 ∧ k = 1)) → bt c = bt q) ∧
    (K q = 14 → k = 1 → tt c = nI q) ∧ (¬ (K q = 14 ∧ k = 1) → tt c = tt q) ∧
    (K q = 14 → ¬ k = 1 → co c = nI q) ∧ (¬ (K q = 14 ∧ ¬ k = 1) → co c = co q)
/-- all from p on are done; below ds nothing has changed -/
def cg_N1 (K L : Nat → Nat) (N ds p : Nat) (nr bt tt co nr0 bt0 tt0 co0 : Nat → Int32) : Prop :=
  (∀ q k c, q < N → tr_ch K L q k c → p ≤ c → cg_Q K nr bt tt co q k c) ∧ (p < N → nr (N - 1) = 0 ∧ bt (N - 1) = -1 ∧ tt (N - 1) = -1 ∧ co (N - 1) = -1) ∧ ∀ x, x < ds → nr x = nr0 x ∧ bt x = bt0 x ∧ tt x = tt0 x ∧ co x = co0 x
section
variable {K L H G AA rt R : Nat → Nat} {NL SL DL TL N ds m nf cs : Nat} {f_opJump f_opJumpZero f_opTurn f_opPend f_opExit f_nodeLimit f_slotLimit f_depthLimit f_turnLimit f_programSize f_draftStart f_rowSize f_codeSize f_defined f_turnsUsed f_going : Int32} {a_kinds a_values a_heights a_loose a_parent a_place a_firstLeaf a_row a_nodeReg a_breakTo a_tryTo a_cleanupOf a_label a_codeOp a_codeReg a_codeArg a_codeNode a_roots a_entries a_states a_results a_chain a_actFunction a_pcs a_locals a_regs a_pending a_cells b_kinds b_place b_savedSort b_savedValue : Nat → Int32}
variable {p q k c0 : Nat} {P : SX → Prop} {nr0 bt0 tt0 co0 : Nat → Int32}
theorem xi_kf {p1 : Int32 → Prop} {kd : Nat} (hk : kd ≤ 16) (h1 : cg_kf kd → p1 1) (h0 : ¬ cg_kf kd → p1 0) : wpX_keepsFirst p1 (f_opJump, f_opJumpZero, f_opTurn, f_opPend, f_opExit, f_nodeLimit, f_slotLimit, f_depthLimit, f_turnLimit, f_programSize, f_draftStart, f_rowSize, f_codeSize, f_defined, f_turnsUsed, f_going, a_kinds, a_values, a_heights, a_loose, a_parent, a_place, a_firstLeaf, a_row, a_nodeReg, a_breakTo, a_tryTo, a_cleanupOf, a_label, a_codeOp, a_codeReg, a_codeArg, a_codeNode, a_roots, a_entries, a_states, a_results, a_chain, a_actFunction, a_pcs, a_locals, a_regs, a_pending, a_cells) (nI kd) := by
  have e11 : ¬ (5 ≤ kd ∧ kd ≤ 8) → wX_keepsFirst_11 p1 (nI kd) f_opJump f_opJumpZero f_opTurn f_opPend f_opExit f_nodeLimit f_slotLimit f_depthLimit f_turnLimit f_programSize f_draftStart f_rowSize f_codeSize f_defined f_turnsUsed f_going a_kinds a_values a_heights a_loose a_parent a_place a_firstLeaf a_row a_nodeReg a_breakTo a_tryTo a_cleanupOf a_label a_codeOp a_codeReg a_codeArg a_codeNode a_roots a_entries a_states a_results a_chain a_actFunction a_pcs a_locals a_regs a_pending a_cells := fun hn => pk_eq kd 14 (fun e => h1 (Or.inr e)) (fun e => h0 (by unfold cg_kf; omega))
  exact pk_lt kd 5 (fun a => e11 (by omega)) (fun a => pk_le kd 8 (fun b => h1 (Or.inl ⟨a, b⟩)) (fun b => e11 (by omega)))
theorem xi_140 (hp : p < 128) {k : Nat} (hk4 : k < 100) (hpl : a_place p = nI k) {kd : Nat} (hkd : kd ≤ 16) (h : ∀ bt' tt' co' : Nat → Int32, (∀ x, x ≠ p → bt' x = a_breakTo x ∧ tt' x = a_tryTo x ∧ co' x = a_cleanupOf x) → (kd = 14 → k = 1 → bt' p = nI q) → (¬ (kd = 14 ∧ k = 1) → bt' p = a_breakTo p) → (kd = 14 → k = 1 → tt' p = nI q) → (¬ (kd = 14 ∧ k = 1) → tt' p = a_tryTo p) → (kd = 14 → ¬ k = 1 → co' p = nI q) → (¬ (kd = 14 ∧ ¬ k = 1) → co' p = a_cleanupOf p) → P (f_opJump, f_opJumpZero, f_opTurn, f_opPend, f_opExit, f_nodeLimit, f_slotLimit, f_depthLimit, f_turnLimit, f_programSize, f_draftStart, f_rowSize, f_codeSize, f_defined, f_turnsUsed, f_going, a_kinds, a_values, a_heights, a_loose, a_parent, a_place, a_firstLeaf, a_row, a_nodeReg, bt', tt', co', a_label, a_codeOp, a_codeReg, a_codeArg, a_codeNode, a_roots, a_entries, a_states, a_results, a_chain, a_actFunction, a_pcs, a_locals, a_regs, a_pending, a_cells)) : wX_inherit_140 P (nI p) (nI q) (nI kd) f_opJump f_opJumpZero f_opTurn f_opPend f_opExit f_nodeLimit f_slotLimit f_depthLimit f_turnLimit f_programSize f_draftStart f_rowSize f_codeSize f_defined f_turnsUsed f_going a_kinds a_values a_heights a_loose a_parent a_place a_firstLeaf a_row a_nodeReg a_breakTo a_tryTo a_cleanupOf a_label a_codeOp a_codeReg a_codeArg a_codeNode a_roots a_entries a_states a_results a_chain a_actFunction a_pcs a_locals a_regs a_pending a_cells := by
  have hv : vp_in (nI p) 128 := vp_in_nI hp (by decide)
  have e1 : a_place (nI p).toNatClampNeg = nI k := by rw [nI_clamp (by omega), hpl]
  refine pk_eq kd 14 (fun e => ⟨hv, ?_⟩) (fun e => h _ _ _ (fun x _ => ⟨rfl, rfl, rfl⟩) (fun y => absurd y e) (fun _ => rfl) (fun y => absurd y e) (fun _ => rfl) (fun y => absurd y e) (fun _ => rfl))
  rw [e1]
  refine pk_eq k 1 (fun e2 => ⟨hv, nm_r (tr_uc (by omega) _ _) ⟨hv, nm_r (tr_uc (by omega) _ _) ?_⟩⟩) (fun e2 => ⟨hv, nm_r (tr_uc (by omega) _ _) ?_⟩)
  · exact h _ _ _ (fun x hx => ⟨pk_un hx, pk_un hx, rfl⟩) (fun _ _ => pk_us) (fun y => absurd ⟨e, e2⟩ y) (fun _ _ => pk_us) (fun y => absurd ⟨e, e2⟩ y) (fun _ y => absurd e2 y) (fun _ => rfl)
  · exact h _ _ _ (fun x hx => ⟨rfl, rfl, pk_un hx⟩) (fun _ y => absurd y e2) (fun _ => rfl) (fun _ y => absurd y e2) (fun _ => rfl) (fun _ _ => pk_us) (fun y => absurd ⟨e, e2⟩ y)
theorem xi_127 (hp : p < 128) {k : Nat} (hk4 : k < 100) (hpl : a_place p = nI k) {kd : Nat} (hkd : kd ≤ 16) (h : ∀ bt' tt' co' : Nat → Int32, (∀ x, x ≠ p → bt' x = a_breakTo x ∧ tt' x = a_tryTo x ∧ co' x = a_cleanupOf x) → (kd = 11 ∨ (kd = 14 ∧ k = 1) → bt' p = nI q) → (¬ (kd = 11 ∨ (kd = 14 ∧ k = 1)) → bt' p = a_breakTo p) → (kd = 14 → k = 1 → tt' p = nI q) → (¬ (kd = 14 ∧ k = 1) → tt' p = a_tryTo p) → (kd = 14 → ¬ k = 1 → co' p = nI q) → (¬ (kd = 14 ∧ ¬ k = 1) → co' p = a_cleanupOf p) → P (f_opJump, f_opJumpZero, f_opTurn, f_opPend, f_opExit, f_nodeLimit, f_slotLimit, f_depthLimit, f_turnLimit, f_programSize, f_draftStart, f_rowSize, f_codeSize, f_defined, f_turnsUsed, f_going, a_kinds, a_values, a_heights, a_loose, a_parent, a_place, a_firstLeaf, a_row, a_nodeReg, bt', tt', co', a_label, a_codeOp, a_codeReg, a_codeArg, a_codeNode, a_roots, a_entries, a_states, a_results, a_chain, a_actFunction, a_pcs, a_locals, a_regs, a_pending, a_cells)) : wX_inherit_127 P (nI p) (nI q) (nI kd) f_opJump f_opJumpZero f_opTurn f_opPend f_opExit f_nodeLimit f_slotLimit f_depthLimit f_turnLimit f_programSize f_draftStart f_rowSize f_codeSize f_defined f_turnsUsed f_going a_kinds a_values a_heights a_loose a_parent a_place a_firstLeaf a_row a_nodeReg a_breakTo a_tryTo a_cleanupOf a_label a_codeOp a_codeReg a_codeArg a_codeNode a_roots a_entries a_states a_results a_chain a_actFunction a_pcs a_locals a_regs a_pending a_cells := by
  have hv : vp_in (nI p) 128 := vp_in_nI hp (by decide)
  refine pk_eq kd 11 (fun e => ⟨hv, nm_r (tr_uc (by omega) _ _) (xi_140 hp hk4 hpl hkd (fun bt' tt' co' y1 y2 y3 y4 y5 y6 y7 => ?_))⟩) (fun e => xi_140 hp hk4 hpl hkd (fun bt' tt' co' y1 y2 y3 y4 y5 y6 y7 => ?_))
  · refine h bt' tt' co' (fun x hx => ⟨(y1 x hx).1.trans (pk_un hx), (y1 x hx).2⟩) (fun _ => (y3 (by omega)).trans pk_us) (fun y => absurd (Or.inl e) y) y4 y5 y6 y7
  · refine h bt' tt' co' y1 (fun y => ?_) (fun y => y3 (fun w => y (Or.inr w))) y4 y5 y6 y7
    rcases y with y | y
    · exact absurd y e
    · exact y2 y.1 y.2
theorem xi_in (hp : p < 128) (hq : q < 128) (hpq : p ≠ q) (hpa : a_parent p = nI q) {k : Nat} (hk4 : k < 100) (hpl : a_place p = nI k) (hkq : a_kinds q = nI (K q)) (hkd : K q ≤ 16) (h : ∀ nr' bt' tt' co' : Nat → Int32, (∀ x, x ≠ p → nr' x = a_nodeReg x ∧ bt' x = a_breakTo x ∧ tt' x = a_tryTo x ∧ co' x = a_cleanupOf x) → cg_Q K nr' bt' tt' co' q k p → P (f_opJump, f_opJumpZero, f_opTurn, f_opPend, f_opExit, f_nodeLimit, f_slotLimit, f_depthLimit, f_turnLimit, f_programSize, f_draftStart, f_rowSize, f_codeSize, f_defined, f_turnsUsed, f_going, a_kinds, a_values, a_heights, a_loose, a_parent, a_place, a_firstLeaf, a_row, nr', bt', tt', co', a_label, a_codeOp, a_codeReg, a_codeArg, a_codeNode, a_roots, a_entries, a_states, a_results, a_chain, a_actFunction, a_pcs, a_locals, a_regs, a_pending, a_cells)) : wpX_inherit P (f_opJump, f_opJumpZero, f_opTurn, f_opPend, f_opExit, f_nodeLimit, f_slotLimit, f_depthLimit, f_turnLimit, f_programSize, f_draftStart, f_rowSize, f_codeSize, f_defined, f_turnsUsed, f_going, a_kinds, a_values, a_heights, a_loose, a_parent, a_place, a_firstLeaf, a_row, a_nodeReg, a_breakTo, a_tryTo, a_cleanupOf, a_label, a_codeOp, a_codeReg, a_codeArg, a_codeNode, a_roots, a_entries, a_states, a_results, a_chain, a_actFunction, a_pcs, a_locals, a_regs, a_pending, a_cells) (nI p) := by
  have hv : vp_in (nI p) 128 := vp_in_nI hp (by decide)
  have vq : vp_in (nI q) 128 := vp_in_nI hq (by decide)
  have e1 : a_parent (nI p).toNatClampNeg = nI q := by rw [nI_clamp (by omega), hpa]
  have e2 : a_kinds (nI q).toNatClampNeg = nI (K q) := by rw [nI_clamp (by omega), hkq]
  have e3 : a_place (nI p).toNatClampNeg = nI k := by rw [nI_clamp (by omega), hpl]
  have g : ∀ f : Nat → Int32, upd f (nI p).toNatClampNeg (f (nI q).toNatClampNeg) = upd f p (f q) := fun f => by rw [nI_clamp (by omega), nI_clamp (by omega)]
  have hne : q ≠ p := fun e => hpq e.symm
  have g2 : upd (upd a_nodeReg p (a_nodeReg q)) (nI p).toNatClampNeg (upd a_nodeReg p (a_nodeReg q) (nI q).toNatClampNeg + 1) = upd a_nodeReg p (a_nodeReg q + 1) := by rw [nI_clamp (by omega), nI_clamp (by omega), tr_uu, pk_un hne]
  have rest : ∀ nr' : Nat → Int32, (∀ x, x ≠ p → nr' x = a_nodeReg x) → (¬ (k = 2 ∧ cg_kf (K q)) → nr' p = a_nodeReg q) → (k = 2 → cg_kf (K q) → nr' p = a_nodeReg q + 1) → wX_inherit_127 P (nI p) (nI q) (nI (K q)) f_opJump f_opJumpZero f_opTurn f_opPend f_opExit f_nodeLimit f_slotLimit f_depthLimit f_turnLimit f_programSize f_draftStart f_rowSize f_codeSize f_defined f_turnsUsed f_going a_kinds a_values a_heights a_loose a_parent a_place a_firstLeaf a_row nr' (upd a_breakTo p (a_breakTo q)) (upd a_tryTo p (a_tryTo q)) (upd a_cleanupOf p (a_cleanupOf q)) a_label a_codeOp a_codeReg a_codeArg a_codeNode a_roots a_entries a_states a_results a_chain a_actFunction a_pcs a_locals a_regs a_pending a_cells := by
    intro nr' n1 n2 n3
    refine xi_127 hp hk4 hpl hkd (fun bt' tt' co' y1 y2 y3 y4 y5 y6 y7 => h nr' bt' tt' co' (fun x hx => ?_) ?_)
    · obtain ⟨a, b, c⟩ := y1 x hx
      exact ⟨n1 x hx, a.trans (pk_un hx), b.trans (pk_un hx), c.trans (pk_un hx)⟩
    · obtain ⟨a, b, c⟩ := y1 q hne
      rw [pk_un hne] at a b c
      rw [pk_us] at y3 y5 y7
      refine ⟨fun y => ?_, fun y z => ?_, y2, fun y => ?_, y4, fun y => ?_, y6, fun y => ?_⟩
      · rw [n2 y, n1 q hne]
      · rw [n3 y z, n1 q hne]
      · rw [y3 y, a]
      · rw [y5 y, b]
      · rw [y7 y, c]
  refine And.intro hv (nm_r e1 (br_t (nI_pos' (by omega)) ⟨vq, nm_r e2 ⟨vq, hv, nm_r (g _) ⟨vq, hv, nm_r (g _) ⟨vq, hv, nm_r (g _) ⟨vq, hv, nm_r (g _) ⟨hv, ?_⟩⟩⟩⟩⟩⟩))
  rw [e3]
  refine pk_eq k 2 (fun e => xi_kf hkd (fun kf => br_f (by decide) ⟨vq, hv, nm_r g2 (rest _ (fun x hx => pk_un hx) (fun y => absurd ⟨e, kf⟩ y) (fun _ _ => pk_us))⟩) (fun kf => br_t rfl (rest _ (fun x hx => pk_un hx) (fun _ => pk_us) (fun _ y => absurd y kf)))) (fun e => rest _ (fun x hx => pk_un hx) (fun _ => pk_us) (fun y => absurd y e))
theorem xi_rt (hp : p < 128) (hpa : a_parent p = -1) (h : P (f_opJump, f_opJumpZero, f_opTurn, f_opPend, f_opExit, f_nodeLimit, f_slotLimit, f_depthLimit, f_turnLimit, f_programSize, f_draftStart, f_rowSize, f_codeSize, f_defined, f_turnsUsed, f_going, a_kinds, a_values, a_heights, a_loose, a_parent, a_place, a_firstLeaf, a_row, upd a_nodeReg p 0, upd a_breakTo p (-1), upd a_tryTo p (-1), upd a_cleanupOf p (-1), a_label, a_codeOp, a_codeReg, a_codeArg, a_codeNode, a_roots, a_entries, a_states, a_results, a_chain, a_actFunction, a_pcs, a_locals, a_regs, a_pending, a_cells)) : wpX_inherit P (f_opJump, f_opJumpZero, f_opTurn, f_opPend, f_opExit, f_nodeLimit, f_slotLimit, f_depthLimit, f_turnLimit, f_programSize, f_draftStart, f_rowSize, f_codeSize, f_defined, f_turnsUsed, f_going, a_kinds, a_values, a_heights, a_loose, a_parent, a_place, a_firstLeaf, a_row, a_nodeReg, a_breakTo, a_tryTo, a_cleanupOf, a_label, a_codeOp, a_codeReg, a_codeArg, a_codeNode, a_roots, a_entries, a_states, a_results, a_chain, a_actFunction, a_pcs, a_locals, a_regs, a_pending, a_cells) (nI p) := by
  have hv : vp_in (nI p) 128 := vp_in_nI hp (by decide)
  have e1 : a_parent (nI p).toNatClampNeg = -1 := by rw [nI_clamp (by omega), hpa]
  exact And.intro hv (nm_r e1 (br_f tr_neg1' ⟨hv, nm_r (tr_uc (by omega) _ _) ⟨hv, nm_r (tr_uc (by omega) _ _) ⟨hv, nm_r (tr_uc (by omega) _ _) ⟨hv, nm_r (tr_uc (by omega) _ _) h⟩⟩⟩⟩))
theorem xi_l (hFx : tr_F K L a_kinds N) (hds : ds < N) (hLr : L (N - 1) = ds) (hpr : a_parent (N - 1) = -1) (hP : cg_P K L N a_parent a_place) (hcod : ∀ nr bt tt co : Nat → Int32, cg_N1 K L N ds ds nr bt tt co nr0 bt0 tt0 co0 → ∃ n29 : Nat, wX_lower_29 P (nI (N - 1)) (nI c0) n29 (nI ds) f_opJump f_opJumpZero f_opTurn f_opPend f_opExit f_nodeLimit f_slotLimit f_depthLimit f_turnLimit f_programSize f_draftStart f_rowSize f_codeSize f_defined f_turnsUsed f_going a_kinds a_values a_heights a_loose a_parent a_place a_firstLeaf a_row nr bt tt co a_label a_codeOp a_codeReg a_codeArg a_codeNode a_roots a_entries a_states a_results a_chain a_actFunction a_pcs a_locals a_regs a_pending a_cells) : ∀ d, ds + d ≤ N → ∀ nr bt tt co : Nat → Int32, cg_N1 K L N ds (ds + d) nr bt tt co nr0 bt0 tt0 co0 → wX_lower_8 P (nI ds) (nI (N - 1)) (nI c0) (d + 1) (nI (ds + d) + (-1)) f_opJump f_opJumpZero f_opTurn f_opPend f_opExit f_nodeLimit f_slotLimit f_depthLimit f_turnLimit f_programSize f_draftStart f_rowSize f_codeSize f_defined f_turnsUsed f_going a_kinds a_values a_heights a_loose a_parent a_place a_firstLeaf a_row nr bt tt co a_label a_codeOp a_codeReg a_codeArg a_codeNode a_roots a_entries a_states a_results a_chain a_actFunction a_pcs a_locals a_regs a_pending a_cells := by
  have hN := hFx.1
  have hW := tr_FW hFx
  intro d
  induction d with
  | zero =>
    intro hd nr bt tt co hI
    have hlt : nI (ds + 0) + (-1) < nI ds := by
      by_cases z : ds = 0
      · rw [z]
        decide
      · rw [tr_m1 (by omega)]
        exact nI_lt (by omega) (by omega)
    exact br_t hlt (hcod nr bt tt co hI)
  | succ d ih =>
    intro hd nr bt tt co hI
    have e : nI (ds + (d + 1)) + (-1) = nI (ds + d) := pk_m1 (ds + d)
    rw [e]
    refine br_f (nI_nlt (by omega) (by omega)) ?_
    by_cases z : ds + d = N - 1
    · refine xi_rt (by omega) (by rw [z]; exact hpr) (nm_e (ih (by omega) _ _ _ _ ?_))
      obtain ⟨i1, i2, i3⟩ := hI
      refine ⟨fun q k c hq cc hc => ?_, fun _ => ?_, fun x hx => ?_⟩
      · have l := tr_lt hW hq cc
        omega
      · rw [z]
        exact ⟨pk_us, pk_us, pk_us, pk_us⟩
      · obtain ⟨a, b, c, d'⟩ := i3 x hx
        exact ⟨(pk_un (by omega)).trans a, (pk_un (by omega)).trans b, (pk_un (by omega)).trans c, (pk_un (by omega)).trans d'⟩
    · obtain ⟨q, k, c, hq⟩ := tr_pex hW (N - 1) (by omega) (ds + d) (by omega) (by omega)
      have l := tr_lt hW (show q < N by omega) c
      have h3 := tr_ar_le (K q)
      have hpp := hP q k (ds + d) (by omega) c
      obtain ⟨-, hkq, hk16⟩ := hFx.2 q (by omega)
      refine xi_in (K := K) (by omega) (by omega) (by omega) hpp.1 (by omega) hpp.2 hkq hk16 (fun nr' bt' tt' co' y1 y2 => nm_e (ih (by omega) nr' bt' tt' co' ?_))
      obtain ⟨i1, i2, i3⟩ := hI
      refine ⟨fun q' k' c' hq' cc hc => ?_, fun _ => ?_, fun x hx => ?_⟩
      · by_cases w : c' = ds + d
        · subst w
          obtain ⟨e1, e2⟩ := tr_pun hW hq' (by omega) cc c
          subst e1 e2
          exact y2
        · have l' := tr_lt hW hq' cc
          obtain ⟨a1, a2, a3, a4⟩ := y1 c' (by omega)
          obtain ⟨b1, b2, b3, b4⟩ := y1 q' (by omega)
          have := i1 q' k' c' hq' cc (by omega)
          unfold cg_Q
          rw [a1, a2, a3, a4, b1, b2, b3, b4]
          exact this
      · obtain ⟨a1, a2, a3, a4⟩ := y1 (N - 1) (by omega)
        rw [a1, a2, a3, a4]
        exact i2 (by omega)
      · obtain ⟨a1, a2, a3, a4⟩ := y1 x (by omega)
        rw [a1, a2, a3, a4]
        exact i3 x hx
end
end
section
/-! define: code and labels -/
/-- the code has grown from c to c1 -/
def cg_X (c : Nat) (cO cR cA cN : Nat → Int32) (c1 : Nat) (cO1 cR1 cA1 cN1 : Nat → Int32) : Prop := c ≤ c1 ∧ (∀ pc, pc < c → cO1 pc = cO pc ∧ cR1 pc = cR pc ∧ cA1 pc = cA pc ∧ cN1 pc = cN pc) ∧ (∀ pc, c ≤ pc → pc < c1 → (cO1 pc = 17 ∨ cO1 pc = 18) → ∃ idx, idx < 384 ∧ cA1 pc = nI idx)
section
variable {c c1 c2 pc g nd : Nat} {cO cR cA cN cO1 cR1 cA1 cN1 cO2 cR2 cA2 cN2 : Nat → Int32} {op rg ag no : Int32}
theorem cg_X_0 : cg_X c cO cR cA cN c cO cR cA cN := ⟨Nat.le_refl _, fun _ _ => ⟨rfl, rfl, rfl, rfl⟩, fun pc h1 h2 => absurd h1 (by omega)⟩
theorem cg_X_t (h : cg_X c cO cR cA cN c1 cO1 cR1 cA1 cN1) (h' : cg_X c1 cO1 cR1 cA1 cN1 c2 cO2 cR2 cA2 cN2) : cg_X c cO cR cA cN c2 cO2 cR2 cA2 cN2 := by
  obtain ⟨a1, a2, a3⟩ := h
  obtain ⟨b1, b2, b3⟩ := h'
  refine ⟨by omega, fun pc hp => ?_, fun pc h1 h2 hj => ?_⟩
  · obtain ⟨x1, x2, x3, x4⟩ := a2 pc hp
    obtain ⟨y1, y2, y3, y4⟩ := b2 pc (by omega)
    exact ⟨y1.trans x1, y2.trans x2, y3.trans x3, y4.trans x4⟩
  · by_cases z : pc < c1
    · obtain ⟨y1, y2, y3, y4⟩ := b2 pc z
      rw [y1] at hj
      rw [y3]
      exact a3 pc h1 z hj
    · exact b3 pc (by omega) h2 hj
theorem cg_X_e (hj : op = 17 ∨ op = 18 → ∃ idx, idx < 384 ∧ ag = nI idx) : cg_X c cO cR cA cN (c + 1) (upd cO c op) (upd cR c rg) (upd cA c ag) (upd cN c no) := by
  refine ⟨by omega, fun pc hp => ⟨pk_un (by omega), pk_un (by omega), pk_un (by omega), pk_un (by omega)⟩, fun pc h1 h2 h => ?_⟩
  have : pc = c := by omega
  subst this
  rw [pk_us] at h
  rw [pk_us]
  exact hj h
theorem cg_I_x (h : cg_I cO cR cA cN c pc op g ag nd) (hX : cg_X c cO cR cA cN c1 cO1 cR1 cA1 cN1) : cg_I cO1 cR1 cA1 cN1 c1 pc op g ag nd := by
  obtain ⟨h1, h2, h3, h4, h5⟩ := h
  obtain ⟨x1, x2, x3, x4⟩ := hX.2.1 pc h1
  have := hX.1
  exact ⟨by omega, x1.trans h2, x2.trans h3, x3.trans h4, x4.trans h5⟩
theorem cg_I_n : cg_I (upd cO c op) (upd cR c (nI g)) (upd cA c ag) (upd cN c (nI nd)) (c + 1) c op g ag nd := ⟨by omega, pk_us, pk_us, pk_us, pk_us⟩
end
/-- what node q has put into code and labels -/
def cg_NF (K L G A : Nat → Nat) (va : Nat → Int32) (c : Nat) (cO cR cA cN lb : Nat → Int32) (q : Nat) : Prop :=
  (K q ≠ 9 → K q ≠ 10 → K q ≠ 11 → cg_I cO cR cA cN c (A q) (nI (K q)) (G q) (va q) q) ∧ (K q = 11 → cg_I cO cR cA cN c (A q) 17 (G q) (nI (3 * L q)) q ∧ cg_I cO cR cA cN c (A q + 1) 0 (G q) 1 q ∧ lb (3 * q + 1) = nI (A q + 1) ∧ lb (3 * q + 2) = nI (A q + 2)) ∧ (K q = 10 → lb (3 * q + 2) = nI (A q)) ∧ (L q = q → lb (3 * q) = nI (A q))
/-- what stands behind operand p of q -/
def cg_BF (K G A : Nat → Nat) (c : Nat) (cO cR cA cN lb : Nat → Int32) (q k p : Nat) : Prop :=
  (K q = 10 → k = 1 → cg_I cO cR cA cN c (A p + cg_nn (K p)) 18 (G q) (nI (3 * q + 1)) q) ∧ (K q = 10 → k = 2 → cg_I cO cR cA cN c (A p + cg_nn (K p)) 17 (G q) (nI (3 * q + 2)) q ∧ lb (3 * q + 1) = nI (A (p + 1))) ∧ (K q = 11 → k = 1 → cg_I cO cR cA cN c (A p + cg_nn (K p)) 18 (G q) (nI (3 * q + 2)) q ∧ cg_I cO cR cA cN c (A p + cg_nn (K p) + 1) 19 (G q) 0 q) ∧ (K q = 14 → k = 1 → cg_I cO cR cA cN c (A p + cg_nn (K p)) 20 (G q) 1 q ∧ lb (3 * q + 1) = nI (A (p + 1)))
def cg_E (K L G A : Nat → Nat) (va : Nat → Int32) (N ds p c0 c : Nat) (cO cR cA cN lb : Nat → Int32) : Prop :=
  (∀ q, ds ≤ q → q < p → cg_NF K L G A va c cO cR cA cN lb q) ∧ (∀ q k p', q < N → tr_ch K L q k p' → ds ≤ p' → p' < p → cg_BF K G A c cO cR cA cN lb q k p') ∧ (∀ pc, c0 ≤ pc → pc < c → (cO pc = 17 ∨ cO pc = 18) → ∃ idx, idx < 384 ∧ cA pc = nI idx)
section
variable {K L G A : Nat → Nat} {va : Nat → Int32} {N ds p c0 c c1 q k : Nat} {cO cR cA cN cO1 cR1 cA1 cN1 lb lb1 : Nat → Int32}
theorem cg_NF_x (h : cg_NF K L G A va c cO cR cA cN lb q) (hX : cg_X c cO cR cA cN c1 cO1 cR1 cA1 cN1) (h0 : lb1 (3 * q) = lb (3 * q)) (h1 : K q = 11 → lb1 (3 * q + 1) = lb (3 * q + 1)) (h2 : lb1 (3 * q + 2) = lb (3 * q + 2)) : cg_NF K L G A va c1 cO1 cR1 cA1 cN1 lb1 q := by
  obtain ⟨a1, a2, a3, a4⟩ := h
  refine ⟨fun x y z => cg_I_x (a1 x y z) hX, fun x => ?_, fun x => h2.trans (a3 x), fun x => h0.trans (a4 x)⟩
  obtain ⟨b1, b2, b3, b4⟩ := a2 x
  exact ⟨cg_I_x b1 hX, cg_I_x b2 hX, (h1 x).trans b3, h2.trans b4⟩
theorem cg_BF_x (h : cg_BF K G A c cO cR cA cN lb q k p) (hX : cg_X c cO cR cA cN c1 cO1 cR1 cA1 cN1) (h1 : (K q = 10 ∧ k = 2) ∨ (K q = 14 ∧ k = 1) → lb1 (3 * q + 1) = lb (3 * q + 1)) : cg_BF K G A c1 cO1 cR1 cA1 cN1 lb1 q k p := by
  obtain ⟨a1, a2, a3, a4⟩ := h
  exact ⟨fun x y => cg_I_x (a1 x y) hX, fun x y => ⟨cg_I_x (a2 x y).1 hX, (h1 (Or.inl ⟨x, y⟩)).trans (a2 x y).2⟩, fun x y => ⟨cg_I_x (a3 x y).1 hX, cg_I_x (a3 x y).2 hX⟩, fun x y => ⟨cg_I_x (a4 x y).1 hX, (h1 (Or.inr ⟨x, y⟩)).trans (a4 x y).2⟩⟩
theorem cg_E_x (hE : cg_E K L G A va N ds p c0 c cO cR cA cN lb) (hX : cg_X c cO cR cA cN c1 cO1 cR1 cA1 cN1) (hl : ∀ q, ds ≤ q → q < p → lb1 (3 * q) = lb (3 * q) ∧ lb1 (3 * q + 2) = lb (3 * q + 2) ∧ (K q = 11 → lb1 (3 * q + 1) = lb (3 * q + 1))) (hl2 : ∀ q k p', q < N → tr_ch K L q k p' → ds ≤ p' → p' < p → (K q = 10 ∧ k = 2) ∨ (K q = 14 ∧ k = 1) → lb1 (3 * q + 1) = lb (3 * q + 1)) : cg_E K L G A va N ds p c0 c1 cO1 cR1 cA1 cN1 lb1 := by
  obtain ⟨e1, e2, e3⟩ := hE
  refine ⟨fun q h1 h2 => cg_NF_x (e1 q h1 h2) hX (hl q h1 h2).1 (hl q h1 h2).2.2 (hl q h1 h2).2.1, fun q k p' h1 h2 h3 h4 => cg_BF_x (e2 q k p' h1 h2 h3 h4) hX (hl2 q k p' h1 h2 h3 h4), fun pc h1 h2 hj => ?_⟩
  by_cases z : pc < c
  · obtain ⟨y1, y2, y3, y4⟩ := hX.2.1 pc z
    rw [y1] at hj
    rw [y3]
    exact e3 pc h1 z hj
  · exact hX.2.2 pc (by omega) h2 hj
theorem cg_E_s (hE : cg_E K L G A va N ds p c0 c cO cR cA cN lb) (hN : cg_NF K L G A va c cO cR cA cN lb p) (hB : ∀ q k, q < N → tr_ch K L q k p → cg_BF K G A c cO cR cA cN lb q k p) : cg_E K L G A va N ds (p + 1) c0 c cO cR cA cN lb := by
  obtain ⟨e1, e2, e3⟩ := hE
  refine ⟨fun q h1 h2 => ?_, fun q k p' h1 h2 h3 h4 => ?_, e3⟩
  · by_cases z : q = p
    · rw [z]
      exact hN
    · exact e1 q h1 (by omega)
  · by_cases z : p' = p
    · subst z
      exact hB q k h1 h2
    · exact e2 q k p' h1 h2 h3 (by omega)
end
section
variable {K L H G AA rt R : Nat → Nat} {NL SL DL TL N ds m nf cs : Nat} {f_opJump f_opJumpZero f_opTurn f_opPend f_opExit f_nodeLimit f_slotLimit f_depthLimit f_turnLimit f_programSize f_draftStart f_rowSize f_codeSize f_defined f_turnsUsed f_going : Int32} {a_kinds a_values a_heights a_loose a_parent a_place a_firstLeaf a_row a_nodeReg a_breakTo a_tryTo a_cleanupOf a_label a_codeOp a_codeReg a_codeArg a_codeNode a_roots a_entries a_states a_results a_chain a_actFunction a_pcs a_locals a_regs a_pending a_cells b_kinds b_place b_savedSort b_savedValue : Nat → Int32}
variable {A : Nat → Nat} {p q k c c0 : Nat} {P : SX → Prop} {op rg ag no : Int32}
theorem xe (hc : c < 640) (h : P (f_opJump, f_opJumpZero, f_opTurn, f_opPend, f_opExit, f_nodeLimit, f_slotLimit, f_depthLimit, f_turnLimit, f_programSize, f_draftStart, f_rowSize, nI (c + 1), f_defined, f_turnsUsed, f_going, a_kinds, a_values, a_heights, a_loose, a_parent, a_place, a_firstLeaf, a_row, a_nodeReg, a_breakTo, a_tryTo, a_cleanupOf, a_label, upd a_codeOp c op, upd a_codeReg c rg, upd a_codeArg c ag, upd a_codeNode c no, a_roots, a_entries, a_states, a_results, a_chain, a_actFunction, a_pcs, a_locals, a_regs, a_pending, a_cells)) : wpX_emit P (f_opJump, f_opJumpZero, f_opTurn, f_opPend, f_opExit, f_nodeLimit, f_slotLimit, f_depthLimit, f_turnLimit, f_programSize, f_draftStart, f_rowSize, nI c, f_defined, f_turnsUsed, f_going, a_kinds, a_values, a_heights, a_loose, a_parent, a_place, a_firstLeaf, a_row, a_nodeReg, a_breakTo, a_tryTo, a_cleanupOf, a_label, a_codeOp, a_codeReg, a_codeArg, a_codeNode, a_roots, a_entries, a_states, a_results, a_chain, a_actFunction, a_pcs, a_locals, a_regs, a_pending, a_cells) op rg ag no := by
  have hv : vp_in (nI c) 640 := vp_in_nI hc (by decide)
  exact br_f (nI_ge (b := 640) hc (by decide)) ⟨hv, nm_r (tr_uc (by omega) _ _) ⟨hv, nm_r (tr_uc (by omega) _ _) ⟨hv, nm_r (tr_uc (by omega) _ _) ⟨hv, nm_r (tr_uc (by omega) _ _) (nm_r (nI_1 c) h)⟩⟩⟩⟩
theorem xe_node (hp : p < 128) (hL : L p < 128) (hk : a_kinds p = nI (K p)) (hk16 : K p ≤ 16) (hr : a_nodeReg p = nI (G p)) (hfl : a_firstLeaf p = nI (L p)) (hc : c = A p) (hc6 : c + 2 ≤ 640) (hlf : L p = p → a_label (3 * p) = nI (A p)) (h : ∀ (c1 : Nat) (cO1 cR1 cA1 cN1 lb1 : Nat → Int32), c1 = c + cg_nn (K p) → cg_X c a_codeOp a_codeReg a_codeArg a_codeNode c1 cO1 cR1 cA1 cN1 → (∀ idx, (K p = 11 → idx ≠ 3 * p + 1) → idx ≠ 3 * p + 2 → lb1 idx = a_label idx) → cg_NF K L G A a_values c1 cO1 cR1 cA1 cN1 lb1 p → P (f_opJump, f_opJumpZero, f_opTurn, f_opPend, f_opExit, f_nodeLimit, f_slotLimit, f_depthLimit, f_turnLimit, f_programSize, f_draftStart, f_rowSize, nI c1, f_defined, f_turnsUsed, f_going, a_kinds, a_values, a_heights, a_loose, a_parent, a_place, a_firstLeaf, a_row, a_nodeReg, a_breakTo, a_tryTo, a_cleanupOf, lb1, cO1, cR1, cA1, cN1, a_roots, a_entries, a_states, a_results, a_chain, a_actFunction, a_pcs, a_locals, a_regs, a_pending, a_cells)) : wpX_emitNode P (f_opJump, f_opJumpZero, f_opTurn, f_opPend, f_opExit, f_nodeLimit, f_slotLimit, f_depthLimit, f_turnLimit, f_programSize, f_draftStart, f_rowSize, nI c, f_defined, f_turnsUsed, f_going, a_kinds, a_values, a_heights, a_loose, a_parent, a_place, a_firstLeaf, a_row, a_nodeReg, a_breakTo, a_tryTo, a_cleanupOf, a_label, a_codeOp, a_codeReg, a_codeArg, a_codeNode, a_roots, a_entries, a_states, a_results, a_chain, a_actFunction, a_pcs, a_locals, a_regs, a_pending, a_cells) (nI p) := by
  have hv : vp_in (nI p) 128 := vp_in_nI hp (by decide)
  have e1 : a_kinds (nI p).toNatClampNeg = nI (K p) := by rw [nI_clamp (by omega), hk]
  have e2 : a_nodeReg (nI p).toNatClampNeg = nI (G p) := by rw [nI_clamp (by omega), hr]
  have e3 : a_values (nI p).toNatClampNeg = a_values p := tr_fc (by omega) _
  have e4 : 3 * a_firstLeaf (nI p).toNatClampNeg = nI (3 * L p) := by rw [nI_clamp (by omega), hfl, tr_3i]
  have one : K p ≠ 9 → K p ≠ 10 → K p ≠ 11 → P (f_opJump, f_opJumpZero, f_opTurn, f_opPend, f_opExit, f_nodeLimit, f_slotLimit, f_depthLimit, f_turnLimit, f_programSize, f_draftStart, f_rowSize, nI (c + 1), f_defined, f_turnsUsed, f_going, a_kinds, a_values, a_heights, a_loose, a_parent, a_place, a_firstLeaf, a_row, a_nodeReg, a_breakTo, a_tryTo, a_cleanupOf, a_label, upd a_codeOp c (nI (K p)), upd a_codeReg c (nI (G p)), upd a_codeArg c (a_values p), upd a_codeNode c (nI p), a_roots, a_entries, a_states, a_results, a_chain, a_actFunction, a_pcs, a_locals, a_regs, a_pending, a_cells) := by
    intro n9 n10 n11
    have hnn : cg_nn (K p) = 1 := by
      unfold cg_nn
      rw [if_neg (by omega), if_neg n11]
    refine h (c + 1) _ _ _ _ _ (by omega) (cg_X_e (fun hj => ?_)) (fun idx _ _ => rfl) ⟨fun _ _ _ => ?_, fun x => absurd x n11, fun x => absurd x n10, hlf⟩
    · rcases hj with hj | hj
      · exact absurd (tr_inj (b := 17) hj (by omega) (by omega)) (by omega)
      · exact absurd (tr_inj (b := 18) hj (by omega) (by omega)) (by omega)
    · rw [← hc]
      exact cg_I_n
  refine And.intro hv (nm_r e1 ⟨hv, nm_r e2 (pk_lt (K p) 9 (fun y => ⟨hv, ?_⟩) (fun y => pk_lt 11 (K p) (fun y2 => ⟨hv, ?_⟩) (fun y2 => pk_eq (K p) 9 (fun y3 => ?_) (fun y3 => pk_eq (K p) 10 (fun y4 => ⟨pk_in _ _ (by omega) (tr_32 p), nm_r (e' := upd a_label (3 * p + 2) (nI c)) (by rw [tr_32, nI_clamp (by omega)]) ?_⟩) (fun y4 => pk_eq (K p) 11 (fun y5 => ⟨hv, ?_⟩) (fun y5 => True.intro))))))⟩)
  · rw [e3]
    exact xe (by omega) (one (by omega) (by omega) (by omega))
  · rw [e3]
    exact xe (by omega) (one (by omega) (by omega) (by omega))
  · have hnn : cg_nn (K p) = 0 := by rw [y3]; rfl
    refine h c _ _ _ _ _ (by omega) cg_X_0 (fun idx _ _ => rfl) ⟨fun x => absurd y3 x, fun x => absurd x (by omega), fun x => absurd x (by omega), hlf⟩
  · have hnn : cg_nn (K p) = 0 := by rw [y4]; rfl
    refine h c _ _ _ _ _ (by omega) cg_X_0 (fun idx _ h2 => pk_un h2) ⟨fun _ x => absurd y4 x, fun x => absurd x (by omega), fun _ => ?_, fun x => (pk_un (by omega)).trans (hlf x)⟩
    rw [pk_us, hc]
  · rw [e4]
    refine xe (by omega) (And.intro (pk_in _ _ (by omega) (tr_31 p)) (nm_r (e' := upd a_label (3 * p + 1) (nI (c + 1))) (by rw [tr_31, nI_clamp (by omega)]) (xe (by omega) (And.intro (pk_in _ _ (by omega) (tr_32 p)) (nm_r (e' := upd (upd a_label (3 * p + 1) (nI (c + 1))) (3 * p + 2) (nI (c + 1 + 1))) (by rw [tr_32, nI_clamp (by omega)]) ?_)))))
    have hnn : cg_nn (K p) = 2 := by rw [y5]; rfl
    refine h (c + 1 + 1) _ _ _ _ _ (by omega) (cg_X_t (cg_X_e (fun _ => ⟨3 * L p, by omega, rfl⟩)) (cg_X_e (fun hj => ?_))) (fun idx h1 h2 => ?_) ⟨fun _ _ x => absurd y5 x, fun _ => ⟨?_, ?_, ?_, ?_⟩, fun x => absurd x (by omega), fun x => ?_⟩
    · rcases hj with hj | hj <;> exact absurd hj (by decide)
    · rw [pk_un h2, pk_un (h1 y5)]
    · rw [← hc]
      exact cg_I_x cg_I_n (cg_X_e (fun hj => by rcases hj with hj | hj <;> exact absurd hj (by decide)))
    · rw [← hc]
      exact cg_I_n
    · rw [pk_un (by omega), pk_us, hc]
    · rw [pk_us, hc]
    · rw [pk_un (by omega), pk_un (by omega)]
      exact hlf x
theorem xe_brt (hp : p < 128) (hpa : a_parent p = -1) (h : P (f_opJump, f_opJumpZero, f_opTurn, f_opPend, f_opExit, f_nodeLimit, f_slotLimit, f_depthLimit, f_turnLimit, f_programSize, f_draftStart, f_rowSize, f_codeSize, f_defined, f_turnsUsed, f_going, a_kinds, a_values, a_heights, a_loose, a_parent, a_place, a_firstLeaf, a_row, a_nodeReg, a_breakTo, a_tryTo, a_cleanupOf, a_label, a_codeOp, a_codeReg, a_codeArg, a_codeNode, a_roots, a_entries, a_states, a_results, a_chain, a_actFunction, a_pcs, a_locals, a_regs, a_pending, a_cells)) : wpX_emitBetween P (f_opJump, f_opJumpZero, f_opTurn, f_opPend, f_opExit, f_nodeLimit, f_slotLimit, f_depthLimit, f_turnLimit, f_programSize, f_draftStart, f_rowSize, f_codeSize, f_defined, f_turnsUsed, f_going, a_kinds, a_values, a_heights, a_loose, a_parent, a_place, a_firstLeaf, a_row, a_nodeReg, a_breakTo, a_tryTo, a_cleanupOf, a_label, a_codeOp, a_codeReg, a_codeArg, a_codeNode, a_roots, a_entries, a_states, a_results, a_chain, a_actFunction, a_pcs, a_locals, a_regs, a_pending, a_cells) (nI p) := by
  have e1 : a_parent (nI p).toNatClampNeg = -1 := by rw [nI_clamp (by omega), hpa]
  exact And.intro (vp_in_nI hp (by decide)) (nm_r e1 (br_f tr_neg1' h))
theorem xe_bet (hp : p < 128) (hq : q < 128) (hpa : a_parent p = nI q) (hk4 : k < 100) (hpl : a_place p = nI k) (hk : a_kinds q = nI (K q)) (hk16 : K q ≤ 16) (hr : a_nodeReg q = nI (G q)) (hc : c = A p + cg_nn (K p)) (hA : A (p + 1) = A p + cg_nn (K p) + cg_bb (K q) k) (hc6 : c + 2 ≤ 640) (h : ∀ (c1 : Nat) (cO1 cR1 cA1 cN1 lb1 : Nat → Int32), c1 = c + cg_bb (K q) k → cg_X c a_codeOp a_codeReg a_codeArg a_codeNode c1 cO1 cR1 cA1 cN1 → (∀ idx, ((K q = 10 ∧ k = 2) ∨ (K q = 14 ∧ k = 1) → idx ≠ 3 * q + 1) → lb1 idx = a_label idx) → cg_BF K G A c1 cO1 cR1 cA1 cN1 lb1 q k p → P (f_opJump, f_opJumpZero, f_opTurn, f_opPend, f_opExit, f_nodeLimit, f_slotLimit, f_depthLimit, f_turnLimit, f_programSize, f_draftStart, f_rowSize, nI c1, f_defined, f_turnsUsed, f_going, a_kinds, a_values, a_heights, a_loose, a_parent, a_place, a_firstLeaf, a_row, a_nodeReg, a_breakTo, a_tryTo, a_cleanupOf, lb1, cO1, cR1, cA1, cN1, a_roots, a_entries, a_states, a_results, a_chain, a_actFunction, a_pcs, a_locals, a_regs, a_pending, a_cells)) : wpX_emitBetween P (f_opJump, f_opJumpZero, f_opTurn, f_opPend, f_opExit, f_nodeLimit, f_slotLimit, f_depthLimit, f_turnLimit, f_programSize, f_draftStart, f_rowSize, nI c, f_defined, f_turnsUsed, f_going, a_kinds, a_values, a_heights, a_loose, a_parent, a_place, a_firstLeaf, a_row, a_nodeReg, a_breakTo, a_tryTo, a_cleanupOf, a_label, a_codeOp, a_codeReg, a_codeArg, a_codeNode, a_roots, a_entries, a_states, a_results, a_chain, a_actFunction, a_pcs, a_locals, a_regs, a_pending, a_cells) (nI p) := by
  have hv : vp_in (nI p) 128 := vp_in_nI hp (by decide)
  have vq : vp_in (nI q) 128 := vp_in_nI hq (by decide)
  have e0 : a_parent (nI p).toNatClampNeg = nI q := by rw [nI_clamp (by omega), hpa]
  have e1 : a_kinds (nI q).toNatClampNeg = nI (K q) := by rw [nI_clamp (by omega), hk]
  have e2 : a_nodeReg (nI q).toNatClampNeg = nI (G q) := by rw [nI_clamp (by omega), hr]
  have e3 : a_place (nI p).toNatClampNeg = nI k := by rw [nI_clamp (by omega), hpl]
  have nj : ∀ (x : Int32) (y : Int32), x = 19 ∨ x = 20 → x = 17 ∨ x = 18 → ∃ idx, idx < 384 ∧ y = nI idx := by
    intro x y h1 h2
    rcases h1 with h1 | h1 <;> rcases h2 with h2 | h2 <;> rw [h1] at h2 <;> exact absurd h2 (by decide)
  have s146 : ¬ (K q = 10 ∧ k = 1) → ¬ (K q = 10 ∧ k = 2) → ¬ (K q = 11 ∧ k = 1) → wX_emitBetween_146 P (nI q) (nI (K q)) (nI (G q)) (nI k) f_opJump f_opJumpZero f_opTurn f_opPend f_opExit f_nodeLimit f_slotLimit f_depthLimit f_turnLimit f_programSize f_draftStart f_rowSize (nI c) f_defined f_turnsUsed f_going a_kinds a_values a_heights a_loose a_parent a_place a_firstLeaf a_row a_nodeReg a_breakTo a_tryTo a_cleanupOf a_label a_codeOp a_codeReg a_codeArg a_codeNode a_roots a_entries a_states a_results a_chain a_actFunction a_pcs a_locals a_regs a_pending a_cells := by
    intro n1 n2 n3
    have no : ¬ (K q = 14 ∧ k = 1) → P (f_opJump, f_opJumpZero, f_opTurn, f_opPend, f_opExit, f_nodeLimit, f_slotLimit, f_depthLimit, f_turnLimit, f_programSize, f_draftStart, f_rowSize, nI c, f_defined, f_turnsUsed, f_going, a_kinds, a_values, a_heights, a_loose, a_parent, a_place, a_firstLeaf, a_row, a_nodeReg, a_breakTo, a_tryTo, a_cleanupOf, a_label, a_codeOp, a_codeReg, a_codeArg, a_codeNode, a_roots, a_entries, a_states, a_results, a_chain, a_actFunction, a_pcs, a_locals, a_regs, a_pending, a_cells) := by
      intro n4
      have hbb : cg_bb (K q) k = 0 := by
        unfold cg_bb
        rw [if_neg (by omega), if_neg (by omega)]
      exact h c _ _ _ _ _ (by omega) cg_X_0 (fun _ _ => rfl) ⟨fun x y => absurd ⟨x, y⟩ n1, fun x y => absurd ⟨x, y⟩ n2, fun x y => absurd ⟨x, y⟩ n3, fun x y => absurd ⟨x, y⟩ n4⟩
    refine pk_eq (K q) 14 (fun y => pk_eq k 1 (fun y2 => ?_) (fun y2 => no (fun w => y2 w.2))) (fun y => no (fun w => y w.1))
    have hbb : cg_bb (K q) k = 1 := by rw [y, y2]; rfl
    refine xe (by omega) (And.intro (pk_in _ _ (by omega) (tr_31 q)) (nm_r (e' := upd a_label (3 * q + 1) (nI (c + 1))) (by rw [tr_31, nI_clamp (by omega)]) ?_))
    refine h (c + 1) _ _ _ _ _ (by omega) (cg_X_e (nj _ _ (Or.inr rfl))) (fun idx hi => pk_un (hi (Or.inr ⟨y, y2⟩))) ⟨fun x y => absurd ⟨x, y⟩ n1, fun x y => absurd ⟨x, y⟩ n2, fun x y => absurd ⟨x, y⟩ n3, fun _ _ => ⟨?_, ?_⟩⟩
    · rw [← hc]
      exact cg_I_n
    · rw [pk_us, hA, hbb, ← hc]
  have s107 : ¬ (K q = 10 ∧ k = 1) → ¬ (K q = 10 ∧ k = 2) → wX_emitBetween_107 P (nI q) (nI (K q)) (nI (G q)) (nI k) f_opJump f_opJumpZero f_opTurn f_opPend f_opExit f_nodeLimit f_slotLimit f_depthLimit f_turnLimit f_programSize f_draftStart f_rowSize (nI c) f_defined f_turnsUsed f_going a_kinds a_values a_heights a_loose a_parent a_place a_firstLeaf a_row a_nodeReg a_breakTo a_tryTo a_cleanupOf a_label a_codeOp a_codeReg a_codeArg a_codeNode a_roots a_entries a_states a_results a_chain a_actFunction a_pcs a_locals a_regs a_pending a_cells := by
    intro n1 n2
    refine pk_eq (K q) 11 (fun y => pk_eq k 1 (fun y2 => ?_) (fun y2 => s146 n1 n2 (fun w => y2 w.2))) (fun y => s146 n1 n2 (fun w => y w.1))
    have hbb : cg_bb (K q) k = 2 := by rw [y, y2]; rfl
    rw [tr_32]
    refine xe (by omega) (xe (by omega) ?_)
    refine h (c + 1 + 1) _ _ _ _ _ (by omega) (cg_X_t (cg_X_e (fun _ => ⟨3 * q + 2, by omega, rfl⟩)) (cg_X_e (nj _ _ (Or.inl rfl)))) (fun idx hi => rfl) ⟨fun x y => absurd ⟨x, y⟩ n1, fun x y => absurd ⟨x, y⟩ n2, fun _ _ => ⟨?_, ?_⟩, fun x _ => absurd x (by omega)⟩
    · rw [← hc]
      exact cg_I_x cg_I_n (cg_X_e (nj _ _ (Or.inl rfl)))
    · rw [← hc]
      exact cg_I_n
  have s64 : ¬ (K q = 10 ∧ k = 1) → wX_emitBetween_64 P (nI q) (nI (K q)) (nI (G q)) (nI k) f_opJump f_opJumpZero f_opTurn f_opPend f_opExit f_nodeLimit f_slotLimit f_depthLimit f_turnLimit f_programSize f_draftStart f_rowSize (nI c) f_defined f_turnsUsed f_going a_kinds a_values a_heights a_loose a_parent a_place a_firstLeaf a_row a_nodeReg a_breakTo a_tryTo a_cleanupOf a_label a_codeOp a_codeReg a_codeArg a_codeNode a_roots a_entries a_states a_results a_chain a_actFunction a_pcs a_locals a_regs a_pending a_cells := by
    intro n1
    refine pk_eq (K q) 10 (fun y => pk_eq k 2 (fun y2 => ?_) (fun y2 => s107 n1 (fun w => y2 w.2))) (fun y => s107 n1 (fun w => y w.1))
    have hbb : cg_bb (K q) k = 1 := by rw [y, y2]; rfl
    rw [tr_32]
    refine xe (by omega) (And.intro (pk_in _ _ (by omega) (tr_31 q)) (nm_r (e' := upd a_label (3 * q + 1) (nI (c + 1))) (by rw [tr_31, nI_clamp (by omega)]) ?_))
    refine h (c + 1) _ _ _ _ _ (by omega) (cg_X_e (fun _ => ⟨3 * q + 2, by omega, rfl⟩)) (fun idx hi => pk_un (hi (Or.inl ⟨y, y2⟩))) ⟨fun x y => absurd ⟨x, y⟩ n1, fun _ _ => ⟨?_, ?_⟩, fun x _ => absurd x (by omega), fun x _ => absurd x (by omega)⟩
    · rw [← hc]
      exact cg_I_n
    · rw [pk_us, hA, hbb, ← hc]
  refine And.intro hv (nm_r e0 (br_t (nI_pos' (by omega)) ⟨vq, nm_r e1 ⟨vq, nm_r e2 ⟨hv, nm_r e3 (pk_eq (K q) 10 (fun y => pk_eq k 1 (fun y2 => ?_) (fun y2 => s64 (fun w => y2 w.2))) (fun y => s64 (fun w => y w.1)))⟩⟩⟩))
  have hbb : cg_bb (K q) k = 1 := by rw [y, y2]; rfl
  rw [tr_31]
  refine xe (by omega) ?_
  refine h (c + 1) _ _ _ _ _ (by omega) (cg_X_e (fun _ => ⟨3 * q + 1, by omega, rfl⟩)) (fun idx hi => rfl) ⟨fun _ _ => ?_, fun _ x => absurd x (by omega), fun x _ => absurd x (by omega), fun x _ => absurd x (by omega)⟩
  rw [← hc]
  exact cg_I_n
/-- old code and old labels stand -/
def cg_O (ds c0 : Nat) (cO cR cA cN lb cO0 cR0 cA0 cN0 lb0 : Nat → Int32) : Prop := (∀ pc, pc < c0 → cO pc = cO0 pc ∧ cR pc = cR0 pc ∧ cA pc = cA0 pc ∧ cN pc = cN0 pc) ∧ ∀ idx, idx < 3 * ds → lb idx = lb0 idx
theorem xe_l {cO0 cR0 cA0 cN0 lb0 : Nat → Int32} (hFx : tr_F K L a_kinds N) (hds : ds < N) (hLr : L (N - 1) = ds) (hpr : a_parent (N - 1) = -1) (hP : cg_P K L N a_parent a_place) (hfl : ∀ q, q < N → a_firstLeaf q = nI (L q)) (hnr : ∀ q, ds ≤ q → q < N → a_nodeReg q = nI (G q)) (hA0 : c0 ≤ A ds) (hAs : ∀ q k p, q < N → tr_ch K L q k p → ds ≤ p → A (p + 1) = A p + cg_nn (K p) + cg_bb (K q) k) (hAr : A N = A (N - 1) + cg_nn (K (N - 1))) (hAm : ∀ p, ds ≤ p → p ≤ N → c0 ≤ A p ∧ A p ≤ c0 + 4 * (p - ds)) (hc6 : c0 + 4 * (N - ds) + 5 ≤ 640) (hfin : ∀ (n : Nat) (cO cR cA cN lb : Nat → Int32), cg_E K L G A a_values N ds N c0 (A N) cO cR cA cN lb → cg_O ds c0 cO cR cA cN lb cO0 cR0 cA0 cN0 lb0 → wX_lower_29 P (nI (N - 1)) (nI c0) (n + 1) (nI N) f_opJump f_opJumpZero f_opTurn f_opPend f_opExit f_nodeLimit f_slotLimit f_depthLimit f_turnLimit f_programSize f_draftStart f_rowSize (nI (A N)) f_defined f_turnsUsed f_going a_kinds a_values a_heights a_loose a_parent a_place a_firstLeaf a_row a_nodeReg a_breakTo a_tryTo a_cleanupOf lb cO cR cA cN a_roots a_entries a_states a_results a_chain a_actFunction a_pcs a_locals a_regs a_pending a_cells) : ∀ d p, p + d = N → ds ≤ p → ∀ cO cR cA cN lb : Nat → Int32, cg_E K L G A a_values N ds p c0 (A p) cO cR cA cN lb → cg_O ds c0 cO cR cA cN lb cO0 cR0 cA0 cN0 lb0 → wX_lower_29 P (nI (N - 1)) (nI c0) (d + 1) (nI p) f_opJump f_opJumpZero f_opTurn f_opPend f_opExit f_nodeLimit f_slotLimit f_depthLimit f_turnLimit f_programSize f_draftStart f_rowSize (nI (A p)) f_defined f_turnsUsed f_going a_kinds a_values a_heights a_loose a_parent a_place a_firstLeaf a_row a_nodeReg a_breakTo a_tryTo a_cleanupOf lb cO cR cA cN a_roots a_entries a_states a_results a_chain a_actFunction a_pcs a_locals a_regs a_pending a_cells := by
  have hN := hFx.1
  have hW := tr_FW hFx
  intro d
  induction d with
  | zero =>
    intro p hp hd cO cR cA cN lb hE hO
    have : p = N := by omega
    subst this
    exact hfin 0 cO cR cA cN lb hE hO
  | succ d ih =>
    intro p hp hd cO cR cA cN lb hE hO
    obtain ⟨-, hk, hk16⟩ := hFx.2 p (by omega)
    have hLp := tr_le hW p (by omega)
    have hm := hAm p hd (by omega)
    have hnn : cg_nn (K p) ≤ 2 := by
      unfold cg_nn
      split
      · omega
      · split <;> omega
    -- the body, once the leaf's label stands
    have body : ∀ lbx : Nat → Int32, (∀ idx, idx ≠ 3 * p → lbx idx = lb idx) → (L p = p → lbx (3 * p) = nI (A p)) → wX_lower_60 P (wX_lower_29 P (nI (N - 1)) (nI c0) (d + 1)) (nI (N - 1)) (nI c0) (nI p) f_opJump f_opJumpZero f_opTurn f_opPend f_opExit f_nodeLimit f_slotLimit f_depthLimit f_turnLimit f_programSize f_draftStart f_rowSize (nI (A p)) f_defined f_turnsUsed f_going a_kinds a_values a_heights a_loose a_parent a_place a_firstLeaf a_row a_nodeReg a_breakTo a_tryTo a_cleanupOf lbx cO cR cA cN a_roots a_entries a_states a_results a_chain a_actFunction a_pcs a_locals a_regs a_pending a_cells := by
      intro lbx hx1 hx2
      unfold wX_lower_60
      refine xe_node (K := K) (L := L) (G := G) (A := A) (by omega) (by omega) hk hk16 (hnr p hd (by omega)) (hfl p (by omega)) rfl (by omega) hx2 (fun c1 cO1 cR1 cA1 cN1 lb1 y1 y2 y3 y4 => ?_)
      have oldl : ∀ idx, idx < 3 * ds → lb1 idx = lb0 idx := by
        intro idx hi
        rw [y3 idx (fun _ => by omega) (by omega), hx1 idx (by omega)]
        exact hO.2 idx hi
      have oldc : ∀ pc, pc < c0 → cO1 pc = cO0 pc ∧ cR1 pc = cR0 pc ∧ cA1 pc = cA0 pc ∧ cN1 pc = cN0 pc := by
        intro pc hi
        obtain ⟨a1, a2, a3, a4⟩ := y2.2.1 pc (by omega)
        obtain ⟨b1, b2, b3, b4⟩ := hO.1 pc hi
        exact ⟨a1.trans b1, a2.trans b2, a3.trans b3, a4.trans b4⟩
      by_cases z : p = N - 1
      · refine xe_brt (by omega) (by rw [z]; exact hpr) (nm_r (nI_1 p) ?_)
        have eA : c1 = A (p + 1) := by
          rw [show p + 1 = N by omega, hAr, y1, z]
        subst eA
        refine ih (p + 1) (by omega) (by omega) cO1 cR1 cA1 cN1 lb1 (cg_E_s (cg_E_x hE y2 (fun q h1 h2 => ⟨?_, ?_, fun _ => ?_⟩) (fun q k p' h1 h2 h3 h4 h5 => ?_)) y4 (fun q k h1 h2 => ?_)) ⟨oldc, oldl⟩
        · rw [y3 _ (fun _ => by omega) (by omega), hx1 _ (by omega)]
        · rw [y3 _ (fun _ => by omega) (by omega), hx1 _ (by omega)]
        · rw [y3 _ (fun _ => by omega) (by omega), hx1 _ (by omega)]
        · rw [y3 _ (fun e => by
            intro w
            have : q = p := by omega
            rw [this] at h5
            omega) (by omega), hx1 _ (by omega)]
        · have l := tr_lt hW h1 h2
          omega
      · obtain ⟨q0, k0, cc, hq0⟩ := tr_pex hW (N - 1) (by omega) p (by omega) (by omega)
        have l := tr_lt hW (show q0 < N by omega) cc
        have h3 := tr_ar_le (K q0)
        have hpp := hP q0 k0 p (by omega) cc
        obtain ⟨-, hkq, hkq16⟩ := hFx.2 q0 (by omega)
        have hA1 := hAs q0 k0 p (by omega) cc hd
        refine xe_bet (K := K) (G := G) (A := A) (by omega) (by omega) hpp.1 (by omega) hpp.2 hkq hkq16 (hnr q0 (by omega) (by omega)) y1 hA1 (by omega) (fun c2 cO2 cR2 cA2 cN2 lb2 z1 z2 z3 z4 => nm_r (nI_1 p) ?_)
        have eA : c2 = A (p + 1) := by rw [hA1, z1, y1]
        subst eA
        have hX2 := cg_X_t y2 z2
        refine ih (p + 1) (by omega) (by omega) cO2 cR2 cA2 cN2 lb2 (cg_E_s (cg_E_x hE hX2 (fun q h1 h2 => ⟨?_, ?_, fun hq11 => ?_⟩) (fun q k p' h1 h2 h3 h4 h5 => ?_)) (cg_NF_x y4 z2 ?_ (fun hq11 => ?_) ?_) (fun q k h1 h2 => ?_)) ⟨fun pc hi => ?_, fun idx hi => ?_⟩
        · rw [z3 _ (fun _ => by omega), y3 _ (fun _ => by omega) (by omega), hx1 _ (by omega)]
        · rw [z3 _ (fun _ => by omega), y3 _ (fun _ => by omega) (by omega), hx1 _ (by omega)]
        · rw [z3 _ (fun w => by omega), y3 _ (fun _ => by omega) (by omega), hx1 _ (by omega)]
        · rw [z3 _ (fun w e => by
            have eq : q = q0 := by omega
            subst eq
            have ek : k = k0 := by omega
            subst ek
            have := tr_fun h2 cc
            omega), y3 _ (fun e => by
            intro w
            have : q = p := by omega
            rw [this] at h5
            omega) (by omega), hx1 _ (by omega)]
        · exact z3 _ (fun _ => by omega)
        · exact z3 _ (fun _ => by omega)
        · exact z3 _ (fun _ => by omega)
        · obtain ⟨e1, e2⟩ := tr_pun hW h1 (by omega) h2 cc
          subst e1 e2
          exact z4
        · obtain ⟨a1, a2, a3, a4⟩ := z2.2.1 pc (by omega)
          obtain ⟨b1, b2, b3, b4⟩ := oldc pc hi
          exact ⟨a1.trans b1, a2.trans b2, a3.trans b3, a4.trans b4⟩
        · rw [z3 idx (fun _ => by omega)]
          exact oldl idx hi
    have efl : a_firstLeaf (nI p).toNatClampNeg = nI (L p) := by rw [nI_clamp (by omega), hfl p (by omega)]
    refine br_f (nI_nlt (by omega) (by omega)) ⟨vp_in_nI (by omega) (by decide), ?_⟩
    rw [efl]
    refine pk_eq (L p) p (fun e => ⟨pk_in _ _ (by omega) (tr_3i p), nm_r (e' := upd lb (3 * p) (nI (A p))) (by rw [tr_3i, nI_clamp (by omega)]) (body _ (fun idx hi => pk_un hi) (fun _ => pk_us))⟩) (fun e => body lb (fun _ _ => rfl) (fun w => absurd w e))
end
end
section
/-! define: jumps get their targets; the relation -/
def cg_pt (cO lb cA : Nat → Int32) (lo hi : Nat) : Nat → Int32 := fun pc => if lo ≤ pc ∧ pc < hi ∧ (cO pc = 17 ∨ cO pc = 18) then lb (cA pc).toNatClampNeg else cA pc
theorem cg_pt_0 (cO lb cA : Nat → Int32) (lo : Nat) : cg_pt cO lb cA lo lo = cA := by
  funext pc
  exact if_neg (by omega)
theorem cg_pt_n {cO lb cA : Nat → Int32} {lo hi pc : Nat} (h : ¬ (cO pc = 17 ∨ cO pc = 18)) : cg_pt cO lb cA lo hi pc = cA pc := if_neg (fun w => h w.2.2)
theorem cg_pt_lo {cO lb cA : Nat → Int32} {lo hi pc : Nat} (h : pc < lo) : cg_pt cO lb cA lo hi pc = cA pc := if_neg (by omega)
theorem cg_pt_j {cO lb cA : Nat → Int32} {lo hi pc : Nat} (h1 : lo ≤ pc) (h2 : pc < hi) (h : cO pc = 17 ∨ cO pc = 18) : cg_pt cO lb cA lo hi pc = lb (cA pc).toNatClampNeg := if_pos ⟨h1, h2, h⟩
theorem cg_pt_s {cO lb cA : Nat → Int32} {lo x : Nat} (h1 : lo ≤ x) (h : cO x = 17 ∨ cO x = 18) : upd (cg_pt cO lb cA lo x) x (lb (cg_pt cO lb cA lo x x).toNatClampNeg) = cg_pt cO lb cA lo (x + 1) := by
  have e : cg_pt cO lb cA lo x x = cA x := if_neg (by omega)
  rw [e]
  funext pc
  unfold upd
  by_cases z : pc = x
  · rw [if_pos z, z, cg_pt_j h1 (by omega) h]
  · rw [if_neg z]
    unfold cg_pt
    by_cases w : lo ≤ pc ∧ pc < x ∧ (cO pc = 17 ∨ cO pc = 18)
    · rw [if_pos w, if_pos ⟨w.1, by omega, w.2.2⟩]
    · rw [if_neg w, if_neg (fun y => w ⟨y.1, by omega, y.2.2⟩)]
theorem cg_pt_k {cO lb cA : Nat → Int32} {lo x : Nat} (h : ¬ (cO x = 17 ∨ cO x = 18)) : cg_pt cO lb cA lo x = cg_pt cO lb cA lo (x + 1) := by
  funext pc
  by_cases z : pc = x
  · subst z
    rw [cg_pt_n h, cg_pt_n h]
  · unfold cg_pt
    by_cases w : lo ≤ pc ∧ pc < x ∧ (cO pc = 17 ∨ cO pc = 18)
    · rw [if_pos w, if_pos ⟨w.1, by omega, w.2.2⟩]
    · rw [if_neg w, if_neg (fun y => w ⟨y.1, by omega, y.2.2⟩)]
section
variable {K L H G AA rt R : Nat → Nat} {NL SL DL TL N ds m nf cs : Nat} {f_opJump f_opJumpZero f_opTurn f_opPend f_opExit f_nodeLimit f_slotLimit f_depthLimit f_turnLimit f_programSize f_draftStart f_rowSize f_codeSize f_defined f_turnsUsed f_going : Int32} {a_kinds a_values a_heights a_loose a_parent a_place a_firstLeaf a_row a_nodeReg a_breakTo a_tryTo a_cleanupOf a_label a_codeOp a_codeReg a_codeArg a_codeNode a_roots a_entries a_states a_results a_chain a_actFunction a_pcs a_locals a_regs a_pending a_cells b_kinds b_place b_savedSort b_savedValue : Nat → Int32}
variable {P : SX → Prop} {c0 c1 : Nat}
theorem xp_p (hc : c1 ≤ 640) (hj : ∀ pc, c0 ≤ pc → pc < c1 → (a_codeOp pc = 17 ∨ a_codeOp pc = 18) → ∃ idx, idx < 384 ∧ a_codeArg pc = nI idx) (h : P (f_opJump, f_opJumpZero, f_opTurn, f_opPend, f_opExit, f_nodeLimit, f_slotLimit, f_depthLimit, f_turnLimit, f_programSize, f_draftStart, f_rowSize, nI c1, f_defined, f_turnsUsed, f_going, a_kinds, a_values, a_heights, a_loose, a_parent, a_place, a_firstLeaf, a_row, a_nodeReg, a_breakTo, a_tryTo, a_cleanupOf, a_label, a_codeOp, a_codeReg, cg_pt a_codeOp a_label a_codeArg c0 c1, a_codeNode, a_roots, a_entries, a_states, a_results, a_chain, a_actFunction, a_pcs, a_locals, a_regs, a_pending, a_cells)) : ∀ d x, x + d = c1 → c0 ≤ x → wX_lower_90 P f_opJump f_opJumpZero f_opTurn f_opPend f_opExit f_nodeLimit f_slotLimit f_depthLimit f_turnLimit f_programSize f_draftStart f_rowSize (nI c1) f_defined f_turnsUsed f_going (d + 1) (nI x) a_kinds a_values a_heights a_loose a_parent a_place a_firstLeaf a_row a_nodeReg a_breakTo a_tryTo a_cleanupOf a_label a_codeOp a_codeReg (cg_pt a_codeOp a_label a_codeArg c0 x) a_codeNode a_roots a_entries a_states a_results a_chain a_actFunction a_pcs a_locals a_regs a_pending a_cells := by
  intro d
  induction d with
  | zero =>
    intro x hx h0
    have : x = c1 := by omega
    subst this
    exact br_t (nI_le (Nat.le_refl _) (by omega)) h
  | succ d ih =>
    intro x hx h0
    have hv : vp_in (nI x) 640 := vp_in_nI (by omega) (by decide)
    have eo : a_codeOp (nI x).toNatClampNeg = a_codeOp x := tr_fc (by omega) _
    have ea : cg_pt a_codeOp a_label a_codeArg c0 x (nI x).toNatClampNeg = a_codeArg x := by
      rw [nI_clamp (by omega)]
      exact if_neg (by omega)
    have go : (a_codeOp x = 17 ∨ a_codeOp x = 18) → wX_lower_123 P (wX_lower_90 P f_opJump f_opJumpZero f_opTurn f_opPend f_opExit f_nodeLimit f_slotLimit f_depthLimit f_turnLimit f_programSize f_draftStart f_rowSize (nI c1) f_defined f_turnsUsed f_going (d + 1)) (nI x) f_opJump f_opJumpZero f_opTurn f_opPend f_opExit f_nodeLimit f_slotLimit f_depthLimit f_turnLimit f_programSize f_draftStart f_rowSize (nI c1) f_defined f_turnsUsed f_going a_kinds a_values a_heights a_loose a_parent a_place a_firstLeaf a_row a_nodeReg a_breakTo a_tryTo a_cleanupOf a_label a_codeOp a_codeReg (cg_pt a_codeOp a_label a_codeArg c0 x) a_codeNode a_roots a_entries a_states a_results a_chain a_actFunction a_pcs a_locals a_regs a_pending a_cells := by
      intro hop
      obtain ⟨idx, i1, i2⟩ := hj x h0 (by omega) hop
      have e2 : upd (cg_pt a_codeOp a_label a_codeArg c0 x) (nI x).toNatClampNeg (a_label (cg_pt a_codeOp a_label a_codeArg c0 x (nI x).toNatClampNeg).toNatClampNeg) = cg_pt a_codeOp a_label a_codeArg c0 (x + 1) := by
        rw [nI_clamp (by omega)]
        exact cg_pt_s h0 hop
      exact And.intro hv ⟨pk_in idx 384 i1 (ea.trans i2), hv, nm_r e2 (nm_r (nI_1 x) (ih (x + 1) (by omega) (by omega)))⟩
    refine br_f (nI_ge (by omega) (by omega)) ⟨hv, ?_⟩
    rw [eo]
    refine br_c (fun y => go (Or.inl y)) (fun y => ⟨hv, br_c (fun y2 => go (Or.inr y2)) (fun y2 => nm_r (nI_1 x) ?_)⟩)
    rw [cg_pt_k (x := x) (fun w => w.elim y y2)]
    exact ih (x + 1) (by omega) (by omega)
end
/-! addresses -/
def cg_bp (K : Nat → Nat) (pa pl : Nat → Int32) (p : Nat) : Nat := if pa p = -1 then 0 else cg_bb (K (pa p).toNatClampNeg) (pl p).toNatClampNeg
def cg_ad (K : Nat → Nat) (pa pl : Nat → Int32) (ds c0 : Nat) : Nat → Nat
  | 0 => c0
  | j + 1 => cg_ad K pa pl ds c0 j + cg_nn (K (ds + j)) + cg_bp K pa pl (ds + j)
def cg_AA (AA K : Nat → Nat) (pa pl : Nat → Int32) (ds c0 : Nat) : Nat → Nat := fun p => if p < ds then AA p else cg_ad K pa pl ds c0 (p - ds)
theorem cg_nn2 (k : Nat) : cg_nn k ≤ 2 := by
  unfold cg_nn
  split
  · omega
  · split <;> omega
theorem cg_bb2 (k j : Nat) : cg_bb k j ≤ 2 := by
  unfold cg_bb
  split
  · omega
  · split <;> omega
theorem cg_bp2 (K : Nat → Nat) (pa pl : Nat → Int32) (p : Nat) : cg_bp K pa pl p ≤ 2 := by
  unfold cg_bp
  split
  · omega
  · exact cg_bb2 _ _
theorem cg_ad_b (K : Nat → Nat) (pa pl : Nat → Int32) (ds c0 : Nat) : ∀ j, c0 ≤ cg_ad K pa pl ds c0 j ∧ cg_ad K pa pl ds c0 j ≤ c0 + 4 * j := by
  intro j
  induction j with
  | zero => exact ⟨Nat.le_refl _, Nat.le_refl _⟩
  | succ j ih =>
    have h1 := cg_nn2 (K (ds + j))
    have h2 := cg_bp2 K pa pl (ds + j)
    show c0 ≤ cg_ad K pa pl ds c0 j + cg_nn (K (ds + j)) + cg_bp K pa pl (ds + j) ∧ cg_ad K pa pl ds c0 j + cg_nn (K (ds + j)) + cg_bp K pa pl (ds + j) ≤ _
    omega
section
variable {AA K L : Nat → Nat} {pa pl : Nat → Int32} {N ds c0 p : Nat}
theorem cg_AA_o (h : p < ds) : cg_AA AA K pa pl ds c0 p = AA p := if_pos h
theorem cg_AA_0 : cg_AA AA K pa pl ds c0 ds = c0 := by
  unfold cg_AA
  rw [if_neg (by omega), Nat.sub_self]
  rfl
theorem cg_AA_s (h : ds ≤ p) : cg_AA AA K pa pl ds c0 (p + 1) = cg_AA AA K pa pl ds c0 p + cg_nn (K p) + cg_bp K pa pl p := by
  unfold cg_AA
  rw [if_neg (by omega), if_neg (by omega), show p + 1 - ds = (p - ds) + 1 by omega]
  show cg_ad K pa pl ds c0 (p - ds) + cg_nn (K (ds + (p - ds))) + cg_bp K pa pl (ds + (p - ds)) = _
  rw [show ds + (p - ds) = p by omega]
theorem cg_AA_b (h : ds ≤ p) : c0 ≤ cg_AA AA K pa pl ds c0 p ∧ cg_AA AA K pa pl ds c0 p ≤ c0 + 4 * (p - ds) := by
  unfold cg_AA
  rw [if_neg (by omega)]
  exact cg_ad_b K pa pl ds c0 (p - ds)
theorem cg_bp_c (hW : ∀ q, q < N → tr_W K L q) (hN : N ≤ 128) (hP : cg_P K L N pa pl) {q k : Nat} (hq : q < N) (c : tr_ch K L q k p) : cg_bp K pa pl p = cg_bb (K q) k := by
  obtain ⟨h1, h2⟩ := hP q k p hq c
  have l := tr_lt hW hq c
  have h3 := tr_ar_le (K q)
  unfold cg_bp
  rw [h1, h2, if_neg (tr_nn1 (by omega)), nI_clamp (by omega), nI_clamp (by omega)]
theorem cg_bp_r (h : pa p = -1) : cg_bp K pa pl p = 0 := if_pos h
theorem tr_LL (hW : ∀ q, q < N → tr_W K L q) : ∀ q, q < N → L (L q) = L q := by
  intro q
  induction q using Nat.strongRecOn with
  | _ q ih =>
    intro hq
    rcases tr_ar_c (K q) with ⟨w, -⟩ | ⟨w, -⟩ | ⟨w, -⟩ | ⟨w, -⟩
    · rcases hW q hq with ⟨_, e⟩ | ⟨e, _⟩ | ⟨e, _⟩ | ⟨e, _⟩
      · rw [e, e]
      · omega
      · omega
      · omega
    · obtain ⟨c1, q0, q1, q2⟩ := tr_c1 hW hq w
      rw [q1]
      exact ih _ (by omega) (by omega)
    · obtain ⟨x1, y1, c1, c2, c3, a1, a2, a3, a4, a5, a6, a7⟩ := tr_c3 hW hq w
      rw [a1]
      exact ih _ (by omega) (by omega)
    · obtain ⟨x1, c1, c2, a1, a2, a3, a4, a5⟩ := tr_c2 hW hq w
      rw [a1]
      exact ih _ (by omega) (by omega)
theorem tr_H_lt (hW : ∀ q, q < N → tr_W K L q) {q k p h h' : Nat} (hq : q < N) (c : tr_ch K L q k p) (H1 : tr_H L q h) (H2 : tr_H L p h') : h' + 1 ≤ h := by
  obtain ⟨-, q0, q1, q2, q3⟩ := H2
  have l := tr_lt hW hq c
  have e := tr_cn_up hW hq c q1 q2
  have := H1.1 q0 (by omega) (by omega)
  omega
theorem tr_H_1 {p h : Nat} (H1 : tr_H L p h) : 1 ≤ h := by
  obtain ⟨-, q0, q1, q2, q3⟩ := H1
  omega
end
section
variable {K L H G AA rt : Nat → Nat} {N ds nf DL i : Nat} {en en' st ch fn pcs rg pe pla ss sv : Nat → Int32} {G' A rt' : Nat → Nat}
theorem sm_SL_d (hW : ∀ q, q < N → tr_W K L q) (hds : ds < N) (hLr : L (N - 1) = ds) (hG : ∀ t, t < ds → G' t = G t) (hA : ∀ t, t < ds → A t = AA t) (hr : ∀ f, f < nf → rt' f = rt f) (he : ∀ f, f < nf → en' f = en f) (S : sm_SL K L G AA rt ds nf DL en st ch fn pcs rg pe pla ss sv i) : sm_SL K L G' A rt' N (nf + 1) DL en' st ch fn pcs rg pe pla ss sv i := by
  rcases S with ⟨s1, s2, f, s3, s4, s5⟩ | ⟨s1, c, pl, fl, s2, s3, s4, s5⟩ | S
  · exact Or.inl ⟨s1, s2, f, by omega, s4, by rw [he f s3]; exact s5⟩
  · refine Or.inr (Or.inl ⟨s1, c, pl, fl, s2, s3, s4, fun e hle => ?_⟩)
    obtain ⟨w1, w2, w3, w4, w5, w6, w7, w8, w9⟩ := s5 e hle
    refine ⟨w1, by omega, by omega, w4, by rw [hr _ w3]; exact w5, by rw [hr _ w3]; exact w6, by rw [hA _ w2]; exact w7, w8, ?_⟩
    intro t p ht cc kf h1 h2
    have l := tr_lt hW ht cc
    by_cases z : t < ds
    · rw [hG t z]
      exact w9 t p z cc kf h1 h2
    · have := tr_nest hW (N - 1) (by omega) t (by omega) (by omega)
      omega
  · exact Or.inr (Or.inr S)
end
section
variable {K L H G AA rt R : Nat → Nat} {NL SL DL TL N ds m nf cs : Nat} {f_opJump f_opJumpZero f_opTurn f_opPend f_opExit f_nodeLimit f_slotLimit f_depthLimit f_turnLimit f_programSize f_draftStart f_rowSize f_codeSize f_defined f_turnsUsed f_going : Int32} {a_kinds a_values a_heights a_loose a_parent a_place a_firstLeaf a_row a_nodeReg a_breakTo a_tryTo a_cleanupOf a_label a_codeOp a_codeReg a_codeArg a_codeNode a_roots a_entries a_states a_results a_chain a_actFunction a_pcs a_locals a_regs a_pending a_cells b_kinds b_place b_savedSort b_savedValue : Nat → Int32}
variable {nr bt tt co lb cO cR cA cN : Nat → Int32}
theorem cg_Gex (hI : rl_I K L H G AA rt R NL SL DL TL N ds m nf cs a_kinds a_values a_heights a_loose a_parent a_place a_firstLeaf a_row a_nodeReg a_breakTo a_tryTo a_cleanupOf a_label a_codeOp a_codeReg a_codeArg a_codeNode a_roots a_entries a_states a_chain a_actFunction a_pcs a_regs a_pending b_kinds b_place b_savedSort b_savedValue) (hds : ds < N) (hLr : L (N - 1) = ds) (h1 : cg_N1 K L N ds ds nr bt tt co a_nodeReg a_breakTo a_tryTo a_cleanupOf) : ∀ c, c < N → nr c = nI (nr c).toNatClampNeg ∧ (nr c).toNatClampNeg + H c ≤ 16 ∧ (c < ds → (nr c).toNatClampNeg = G c) := by
  obtain ⟨hb, ⟨hFx, hFy, hds0, hcs, hV, hP, hA, hC, hR⟩, hD, hH, hdsr, hSl⟩ := hI
  have hN := hFx.1
  have hW := tr_FW hFx
  have key : ∀ j c, ds ≤ c → c + j = N - 1 → ∃ g, nr c = nI g ∧ g + H c ≤ 16 := by
    intro j
    induction j using Nat.strongRecOn with
    | _ j ih =>
      intro c c1 c2
      by_cases z : c = N - 1
      · refine ⟨0, ?_, ?_⟩
        · rw [z]
          exact (h1.2.1 hds).1
        · rw [z]
          have := (hH (N - 1) (by omega)).2.2.2.1
          omega
      · obtain ⟨q, k, cc, hq⟩ := tr_pex hW (N - 1) (by omega) c (by omega) (by omega)
        have l := tr_lt hW (show q < N by omega) cc
        obtain ⟨g, g1, g2⟩ := ih (N - 1 - q) (by omega) q (by omega) (by omega)
        have hlt := tr_H_lt hW (show q < N by omega) cc (hH q (by omega)).2.2.1 (hH c (by omega)).2.2.1
        have hQ := h1.1 q k c (by omega) cc c1
        by_cases w : k = 2 ∧ cg_kf (K q)
        · exact ⟨g + 1, by rw [hQ.2.1 w.1 w.2, g1, nI_1], by omega⟩
        · exact ⟨g, by rw [hQ.1 w, g1], by omega⟩
  intro c hc
  by_cases z : c < ds
  · have e := (h1.2.2 c z).1
    have a := hA.1 c z
    rw [e, a.1, nI_clamp (by omega)]
    exact ⟨rfl, a.2.2, fun _ => rfl⟩
  · obtain ⟨g, g1, g2⟩ := key (N - 1 - c) c (by omega) (by omega)
    rw [g1, nI_clamp (by omega)]
    exact ⟨rfl, g2, fun w => absurd w z⟩
theorem rl_def (hI : rl_I K L H G AA rt R NL SL DL TL N ds m nf cs a_kinds a_values a_heights a_loose a_parent a_place a_firstLeaf a_row a_nodeReg a_breakTo a_tryTo a_cleanupOf a_label a_codeOp a_codeReg a_codeArg a_codeNode a_roots a_entries a_states a_chain a_actFunction a_pcs a_regs a_pending b_kinds b_place b_savedSort b_savedValue) (hm1 : m = 1) (h6 : nf < 6) {A : Nat → Nat} (hAe : A = (cg_AA AA K a_parent a_place ds cs)) (h1 : cg_N1 K L N ds ds nr bt tt co a_nodeReg a_breakTo a_tryTo a_cleanupOf) (hE : cg_E K L (fun q => (nr q).toNatClampNeg) A a_values N ds N cs (A N) cO cR cA cN lb) (hO : cg_O ds cs cO cR cA cN lb a_codeOp a_codeReg a_codeArg a_codeNode a_label) : rl_I K L H (fun q => (nr q).toNatClampNeg) A (fun f => if f = nf then N - 1 else rt f) R NL SL DL TL N N 0 (nf + 1) (A N + 1) a_kinds a_values a_heights a_loose a_parent a_place a_firstLeaf a_row nr bt tt co lb (upd cO (A N) 21) (upd cR (A N) 0) (cg_pt (upd cO (A N) 21) lb (upd cA (A N) 0) cs (A N + 1)) (upd cN (A N) (nI (N - 1))) (upd a_roots nf (nI (N - 1))) (upd a_entries nf (nI cs)) a_states a_chain a_actFunction a_pcs a_regs a_pending b_kinds b_place b_savedSort b_savedValue := by
  obtain ⟨hb, ⟨hFx, hFy, hds0, hcs, hV, hP, hA, hC, hR⟩, hD, hH, hdsr, hSl⟩ := id hI
  have hN := hFx.1
  have hW := tr_FW hFx
  have hWd : ∀ q, q < ds → tr_W K L q := fun q hq => hW q (by omega)
  obtain ⟨d1, d2, d3, d4, d5, d6⟩ := hD
  subst hm1
  have hroot : R 0 + 1 = N ∧ L (R 0) = ds := d3 (by omega)
  have hR0 : R 0 = N - 1 := by omega
  have hpr := (d5 0 (by omega)).2.2.2
  rw [hR0] at hpr
  have hLr : L (N - 1) = ds := by rw [← hR0]; exact hroot.2
  have hds : ds < N := by omega
  have hGx := cg_Gex hI hds hLr h1
  have hAo : ∀ t, t < ds → A t = AA t := fun t ht => by rw [hAe]; exact cg_AA_o ht
  have hA0 : A ds = cs := by rw [hAe]; exact cg_AA_0
  have hAb : ∀ p, ds ≤ p → cs ≤ A p ∧ A p ≤ cs + 4 * (p - ds) := fun p hp => by rw [hAe]; exact cg_AA_b hp
  have hAs : ∀ q k p, q < N → tr_ch K L q k p → ds ≤ p → A (p + 1) = A p + cg_nn (K p) + cg_bb (K q) k := fun q k p hq c hp => by
    rw [hAe, cg_AA_s hp, cg_bp_c hW hN hP hq c]
  have hAr : A N = A (N - 1) + cg_nn (K (N - 1)) := by
    have : A (N - 1 + 1) = A (N - 1) + cg_nn (K (N - 1)) + cg_bp K a_parent a_place (N - 1) := by
      rw [hAe]
      exact cg_AA_s (by omega)
    rw [show N - 1 + 1 = N by omega, cg_bp_r hpr] at this
    exact this
  have hAN := hAb N (by omega)
  -- code: new over old, new over unpatched
  have hold : ∀ pc op g ag nd, cg_I a_codeOp a_codeReg a_codeArg a_codeNode cs pc op g ag nd → cg_I (upd cO (A N) 21) (upd cR (A N) 0) (cg_pt (upd cO (A N) 21) lb (upd cA (A N) 0) cs (A N + 1)) (upd cN (A N) (nI (N - 1))) (A N + 1) pc op g ag nd := by
    intro pc op g ag nd ⟨y1, y2, y3, y4, y5⟩
    obtain ⟨x1, x2, x3, x4⟩ := hO.1 pc y1
    refine ⟨by omega, ?_, ?_, ?_, ?_⟩
    · rw [pk_un (by omega), x1, y2]
    · rw [pk_un (by omega), x2, y3]
    · rw [cg_pt_lo y1, pk_un (by omega), x3, y4]
    · rw [pk_un (by omega), x4, y5]
  have hnew : ∀ pc op g ag nd, cg_I cO cR cA cN (A N) pc op g ag nd → ¬ (op = 17 ∨ op = 18) → cg_I (upd cO (A N) 21) (upd cR (A N) 0) (cg_pt (upd cO (A N) 21) lb (upd cA (A N) 0) cs (A N + 1)) (upd cN (A N) (nI (N - 1))) (A N + 1) pc op g ag nd := by
    intro pc op g ag nd ⟨y1, y2, y3, y4, y5⟩ hop
    have e0 : upd cO (A N) 21 pc = op := by rw [pk_un (by omega), y2]
    refine ⟨by omega, e0, by rw [pk_un (by omega), y3], ?_, by rw [pk_un (by omega), y5]⟩
    rw [cg_pt_n (by rw [e0]; exact hop), pk_un (by omega), y4]
  have hjmp : ∀ pc op g idx nd, cs ≤ pc → idx < 384 → cg_I cO cR cA cN (A N) pc op g (nI idx) nd → (op = 17 ∨ op = 18) → cg_I (upd cO (A N) 21) (upd cR (A N) 0) (cg_pt (upd cO (A N) 21) lb (upd cA (A N) 0) cs (A N + 1)) (upd cN (A N) (nI (N - 1))) (A N + 1) pc op g (lb idx) nd := by
    intro pc op g idx nd hpc hidx ⟨y1, y2, y3, y4, y5⟩ hop
    have e0 : upd cO (A N) 21 pc = op := by rw [pk_un (by omega), y2]
    refine ⟨by omega, e0, by rw [pk_un (by omega), y3], ?_, by rw [pk_un (by omega), y5]⟩
    rw [cg_pt_j hpc (by omega) (by rw [e0]; exact hop), pk_un (by omega), y4, nI_clamp (by omega)]
  have hns : ∀ q, ds ≤ q → q < N → ds ≤ L q := by
    intro q x1 x2
    have := tr_nest hW (N - 1) (by omega) q (by omega) (by omega)
    omega
  refine ⟨by omega, ⟨hFx, hFy, Nat.le_refl _, by omega, hV, hP, ⟨fun p hp => ⟨(hGx p hp).1, tr_H_1 (hH p hp).2.2.1, (hGx p hp).2.1⟩, fun q k p hq c => ?_⟩, ⟨fun q hq => ?_, fun q k p hq c => ?_⟩, ⟨by omega, fun f hf => ?_⟩⟩, ⟨by omega, fun _ => rfl, fun h => absurd h (by omega), fun j h => absurd h (by omega), fun j h => absurd h (by omega), by rw [Nat.sub_self]; rfl⟩, hH, ⟨by omega, fun h => absurd h (by omega), fun _ => ?_⟩, fun i hi => sm_SL_d hW hds hLr (fun t ht => (hGx t (by omega)).2.2 ht) hAo (fun f hf => if_neg (by omega)) (fun f hf => pk_un (by omega)) (hSl i hi)⟩
  · -- attributes
    have l := tr_lt hW hq c
    by_cases z : q < ds
    · obtain ⟨a1, a2, a3, a4⟩ := h1.2.2 p (by omega)
      obtain ⟨b1, b2, b3, b4⟩ := h1.2.2 q z
      have g1 := (hGx p (by omega)).2.2 (by omega)
      have g2 := (hGx q (by omega)).2.2 z
      dsimp only
      rw [g1, g2, a2, a3, a4, b2, b3, b4]
      exact hA.2 q k p z c
    · have hp : ds ≤ p := by
        have := hns q (by omega) hq
        omega
      obtain ⟨a1, a2, a3⟩ := h1.1 q k p hq c hp
      have gp := hGx p (by omega)
      have gq := hGx q hq
      refine ⟨fun w => ?_, fun w w2 => ?_, a3⟩
      · dsimp only
        rw [a1 w]
      · have := a2 w w2
        rw [gp.1, gq.1, nI_1] at this
        show (nr p).toNatClampNeg = (nr q).toNatClampNeg + 1
        exact tr_inj this (by omega) (by omega)
  · -- the nodes' code
    by_cases z : q < ds
    · obtain ⟨a1, a2⟩ := hC.1 q z
      have g2 := (hGx q (by omega)).2.2 z
      have hLq := tr_le hW q (by omega)
      dsimp only
      rw [g2, hAo q z, hAo (L q) (by omega)]
      refine ⟨fun x y w => hold _ _ _ _ _ (a1 x y w), fun x => ?_⟩
      obtain ⟨b1, b2, b3⟩ := a2 x
      exact ⟨hold _ _ _ _ _ b1, hold _ _ _ _ _ b2, (hO.2 _ (by omega)).trans b3⟩
    · obtain ⟨a1, a2, a3, a4⟩ := hE.1 q (by omega) hq
      have hk16 := (hFx.2 q hq).2.2
      have hLq := tr_le hW q (by omega)
      refine ⟨fun x y w => hnew _ _ _ _ _ (a1 x y w) (fun e => ?_), fun x => ?_⟩
      · rcases e with e | e
        · exact absurd (tr_inj (b := 17) e (by omega) (by omega)) (by omega)
        · exact absurd (tr_inj (b := 18) e (by omega) (by omega)) (by omega)
      · obtain ⟨b1, b2, b3, b4⟩ := a2 x
        have e1 := (hE.1 (L q) (hns q (by omega) hq) (by omega)).2.2.2 (tr_LL hW q hq)
        have j1 := hjmp _ _ _ _ _ (hAb q (by omega)).1 (by omega) b1 (Or.inl rfl)
        rw [e1] at j1
        exact ⟨j1, hnew _ _ _ _ _ b2 (by decide), b3⟩
  · -- between operands
    have l := tr_lt hW hq c
    by_cases z : q < ds
    · obtain ⟨a1, a2, a3, a4, a5⟩ := hC.2 q k p z c
      have g2 := (hGx q (by omega)).2.2 z
      dsimp only
      rw [g2, hAo q z, hAo p (by omega), hAo (p + 1) (by omega)]
      refine ⟨a1, fun x y e ce => ?_, fun x y => hold _ _ _ _ _ (a3 x y), fun x y => ⟨hold _ _ _ _ _ (a4 x y).1, hold _ _ _ _ _ (a4 x y).2⟩, fun x y => ⟨hold _ _ _ _ _ (a5 x y).1, (hO.2 _ (by omega)).trans (a5 x y).2⟩⟩
      have le := tr_lt hW hq ce
      rw [hAo (e + 1) (by omega)]
      exact hold _ _ _ _ _ (a2 x y e ce)
    · have hp : ds ≤ p := by
        have := hns q (by omega) hq
        omega
      have hbp := (hAb p hp).1
      obtain ⟨a2, a3, a4, a5⟩ := hE.2.1 q k p hq c hp (by omega)
      obtain ⟨n1, n2, n3, n4⟩ := hE.1 q (by omega) hq
      refine ⟨hAs q k p hq c hp, fun x y e ce => ?_, fun x y => ?_, fun x y => ?_, fun x y => ⟨hnew _ _ _ _ _ (a5 x y).1 (by decide), (a5 x y).2⟩⟩
      · have le := tr_lt hW hq ce
        have he : ds ≤ e := by
          have := hns q (by omega) hq
          omega
        have j1 := hjmp _ _ _ _ _ (by omega) (by omega) (a2 x y) (Or.inr rfl)
        rw [((hE.2.1 q 2 e hq ce he (by omega)).2.1 x rfl).2] at j1
        exact j1
      · have j1 := hjmp _ _ _ _ _ (by omega) (by omega) (a3 x y).1 (Or.inl rfl)
        rw [n3 x] at j1
        exact j1
      · have j1 := hjmp _ _ _ _ _ (by omega) (by omega) (a4 x y).1 (Or.inr rfl)
        rw [(n2 x).2.2.2] at j1
        exact ⟨j1, hnew _ _ _ _ _ (a4 x y).2 (by decide)⟩
  · -- functions
    by_cases z : f = nf
    · subst z
      dsimp only
      rw [if_pos rfl, pk_us, pk_us, hLr, hA0]
      obtain ⟨r1, r2, r3, r4⟩ := h1.2.1 hds
      refine ⟨rfl, by omega, hpr, by rw [r1]; rfl, r2, r3, r4, rfl, ?_⟩
      rw [← hAr]
      refine ⟨by omega, pk_us, pk_us, ?_, pk_us⟩
      rw [cg_pt_n (by rw [pk_us]; decide), pk_us]
    · obtain ⟨a1, a2, a3, a4, a5, a6, a7, a8, a9⟩ := hR.2 f (by omega)
      obtain ⟨x1, x2, x3, x4⟩ := h1.2.2 (rt f) a2
      have g2 := (hGx (rt f) (by omega)).2.2 a2
      have hLq := tr_le hW (rt f) (by omega)
      dsimp only
      rw [if_neg z, pk_un z, pk_un z, g2, x2, x3, x4, hAo (rt f) a2, hAo (L (rt f)) (by omega)]
      exact ⟨a1, by omega, a3, a4, a5, a6, a7, a8, hold _ _ _ _ _ a9⟩
  · rw [show nf + 1 - 1 = nf by omega, pk_us, nI_1]
    congr 1
    omega
end
section
variable {K L H G AA rt R : Nat → Nat} {NL SL DL TL N ds m nf cs : Nat} {f_opJump f_opJumpZero f_opTurn f_opPend f_opExit f_nodeLimit f_slotLimit f_depthLimit f_turnLimit f_programSize f_draftStart f_rowSize f_codeSize f_defined f_turnsUsed f_going : Int32} {a_kinds a_values a_heights a_loose a_parent a_place a_firstLeaf a_row a_nodeReg a_breakTo a_tryTo a_cleanupOf a_label a_codeOp a_codeReg a_codeArg a_codeNode a_roots a_entries a_states a_results a_chain a_actFunction a_pcs a_locals a_regs a_pending a_cells b_kinds b_place b_savedSort b_savedValue : Nat → Int32}
variable {P : SX → Prop} {ro' en' : Nat → Int32}
theorem df_lower (hI : rl_I K L H G AA rt R NL SL DL TL N ds m nf cs a_kinds a_values a_heights a_loose a_parent a_place a_firstLeaf a_row a_nodeReg a_breakTo a_tryTo a_cleanupOf a_label a_codeOp a_codeReg a_codeArg a_codeNode a_roots a_entries a_states a_chain a_actFunction a_pcs a_regs a_pending b_kinds b_place b_savedSort b_savedValue) (hm1 : m = 1) (h6 : nf < 6) (hdsN : ds < N) (hLr : L (N - 1) = ds) (hpr : a_parent (N - 1) = -1) (h : ∀ (nr bt tt co lb cO cR cA cN : Nat → Int32) (A : Nat → Nat), A = (cg_AA AA K a_parent a_place ds cs) → cg_N1 K L N ds ds nr bt tt co a_nodeReg a_breakTo a_tryTo a_cleanupOf → cg_E K L (fun q => (nr q).toNatClampNeg) A a_values N ds N cs (A N) cO cR cA cN lb → cg_O ds cs cO cR cA cN lb a_codeOp a_codeReg a_codeArg a_codeNode a_label → P (f_opJump, f_opJumpZero, f_opTurn, f_opPend, f_opExit, nI NL, nI SL, nI DL, nI TL, nI N, nI ds, nI m, nI (A N + 1), nI nf, f_turnsUsed, f_going, a_kinds, a_values, a_heights, a_loose, a_parent, a_place, a_firstLeaf, a_row, nr, bt, tt, co, lb, upd cO (A N) 21, upd cR (A N) 0, cg_pt (upd cO (A N) 21) lb (upd cA (A N) 0) cs (A N + 1), upd cN (A N) (nI (N - 1)), ro', en', a_states, a_results, a_chain, a_actFunction, a_pcs, a_locals, a_regs, a_pending, a_cells)) : wpX_lower P (f_opJump, f_opJumpZero, f_opTurn, f_opPend, f_opExit, nI NL, nI SL, nI DL, nI TL, nI N, nI ds, nI m, nI cs, nI nf, f_turnsUsed, f_going, a_kinds, a_values, a_heights, a_loose, a_parent, a_place, a_firstLeaf, a_row, a_nodeReg, a_breakTo, a_tryTo, a_cleanupOf, a_label, a_codeOp, a_codeReg, a_codeArg, a_codeNode, ro', en', a_states, a_results, a_chain, a_actFunction, a_pcs, a_locals, a_regs, a_pending, a_cells) (nI ds) (nI (N - 1)) := by
  obtain ⟨hb, hS, hD, hH, hds, hSl⟩ := id hI
  obtain ⟨hFx, hFy, hds0, hcs, hV, hP, hA, hC, hR⟩ := id hS
  have hN := hFx.1
  have hW := tr_FW hFx
  have hl := xi_l (P := P) (c0 := cs) (nr0 := a_nodeReg) (bt0 := a_breakTo) (tt0 := a_tryTo) (co0 := a_cleanupOf) (f_opJump := f_opJump) (f_opJumpZero := f_opJumpZero) (f_opTurn := f_opTurn) (f_opPend := f_opPend) (f_opExit := f_opExit) (f_nodeLimit := nI NL) (f_slotLimit := nI SL) (f_depthLimit := nI DL) (f_turnLimit := nI TL) (f_programSize := nI N) (f_draftStart := nI ds) (f_rowSize := nI m) (f_codeSize := nI cs) (f_defined := nI nf) (f_turnsUsed := f_turnsUsed) (f_going := f_going) (a_values := a_values) (a_heights := a_heights) (a_loose := a_loose) (a_firstLeaf := a_firstLeaf) (a_row := a_row) (a_label := a_label) (a_codeOp := a_codeOp) (a_codeReg := a_codeReg) (a_codeArg := a_codeArg) (a_codeNode := a_codeNode) (a_roots := ro') (a_entries := en') (a_states := a_states) (a_results := a_results) (a_chain := a_chain) (a_actFunction := a_actFunction) (a_pcs := a_pcs) (a_locals := a_locals) (a_regs := a_regs) (a_pending := a_pending) (a_cells := a_cells) hFx hdsN hLr hpr hP (fun nr bt tt co h1 => by
    have hGx := cg_Gex hI hdsN hLr h1
    obtain ⟨A, hAe⟩ : ∃ A, A = (cg_AA AA K a_parent a_place ds cs) := ⟨_, rfl⟩
    have hA0 : A ds = cs := by rw [hAe]; exact cg_AA_0
    have hAb : ∀ p, ds ≤ p → cs ≤ A p ∧ A p ≤ cs + 4 * (p - ds) := fun p hp => by rw [hAe]; exact cg_AA_b hp
    have hAs : ∀ q k p, q < N → tr_ch K L q k p → ds ≤ p → A (p + 1) = A p + cg_nn (K p) + cg_bb (K q) k := fun q k p hq c hp => by
      rw [hAe, cg_AA_s hp, cg_bp_c hW hN hP hq c]
    have hAr : A N = A (N - 1) + cg_nn (K (N - 1)) := by
      have : A (N - 1 + 1) = A (N - 1) + cg_nn (K (N - 1)) + cg_bp K a_parent a_place (N - 1) := by
        rw [hAe]
        exact cg_AA_s (by omega)
      rw [show N - 1 + 1 = N by omega, cg_bp_r hpr] at this
      exact this
    have hAN := hAb N (by omega)
    have hl2 := xe_l (P := P) (G := (fun q => (nr q).toNatClampNeg)) (A := A) (c0 := cs) (cO0 := a_codeOp) (cR0 := a_codeReg) (cA0 := a_codeArg) (cN0 := a_codeNode) (lb0 := a_label) (f_opJump := f_opJump) (f_opJumpZero := f_opJumpZero) (f_opTurn := f_opTurn) (f_opPend := f_opPend) (f_opExit := f_opExit) (f_nodeLimit := nI NL) (f_slotLimit := nI SL) (f_depthLimit := nI DL) (f_turnLimit := nI TL) (f_programSize := nI N) (f_draftStart := nI ds) (f_rowSize := nI m) (f_defined := nI nf) (f_turnsUsed := f_turnsUsed) (f_going := f_going) (a_values := a_values) (a_heights := a_heights) (a_loose := a_loose) (a_row := a_row) (a_nodeReg := nr) (a_breakTo := bt) (a_tryTo := tt) (a_cleanupOf := co) (a_roots := ro') (a_entries := en') (a_states := a_states) (a_results := a_results) (a_chain := a_chain) (a_actFunction := a_actFunction) (a_pcs := a_pcs) (a_locals := a_locals) (a_regs := a_regs) (a_pending := a_pending) (a_cells := a_cells) hFx hdsN hLr hpr hP (fun q hq => (hH q hq).1) (fun q _ hq => (hGx q hq).1) (by omega) hAs hAr (fun p h1 _ => hAb p h1) (by omega) (fun n cO cR cA cN lb hE hO => by
      refine br_t (nI_lt (by omega) (by omega)) (xe (by omega) ?_)
      have hfin := h nr bt tt co lb cO cR cA cN A hAe h1 hE hO
      have hl3 := xp_p (P := P) (c0 := cs) (c1 := A N + 1) (by omega) (fun pc p1 p2 hj => ?_) hfin (A N + 1 - cs) cs (by omega) (Nat.le_refl _)
      · rw [cg_pt_0] at hl3
        exact ⟨A N + 1 - cs + 1, hl3⟩
      · by_cases z : pc = A N
        · subst z
          rw [pk_us] at hj
          rcases hj with hj | hj <;> exact absurd hj (by decide)
        · rw [pk_un z] at hj
          rw [pk_un z]
          exact hE.2.2 pc p1 (by omega) hj) (N - ds) ds (by omega) (Nat.le_refl _) a_codeOp a_codeReg a_codeArg a_codeNode a_label ⟨fun q x1 x2 => absurd x2 (by omega), fun q k p' x1 x2 x3 x4 => absurd x4 (by omega), fun pc x1 x2 => absurd x2 (by omega)⟩ ⟨fun _ _ => ⟨rfl, rfl, rfl, rfl⟩, fun _ _ => rfl⟩
    rw [hA0] at hl2
    exact ⟨N - ds + 1, hl2⟩) (N - ds) (by omega) a_nodeReg a_breakTo a_tryTo a_cleanupOf ⟨fun q k c hq cc hc => by
      have l := tr_lt hW hq cc
      omega, fun h => absurd h (by omega), fun x _ => ⟨rfl, rfl, rfl, rfl⟩⟩
  rw [show nI (ds + (N - ds)) + (-1) = nI (N - 1) by rw [show ds + (N - ds) = N by omega, tr_m1 (by omega)]] at hl
  exact Exists.intro (N - ds + 1) hl
end
theorem i_vc_define {k : Nat} {u : SX} {v : SY} (I : i_Rel k u v) (hk : k + 3 ≤ 1540) : wpX_define (fun r u' => wpY_define (fun r' v' => r' = r ∧ i_Rel (k + 3) u' v') v) u := by
  refine zz_el (P := fun u v => wpX_define (fun r u' => wpY_define (fun r' v' => r' = r ∧ i_Rel (k + 3) u' v') v) u) ?_ I
  intro K L H G AA rt R NL SL DL TL N ds m nf cs f_opJump f_opJumpZero f_opTurn f_opPend f_opExit f_turnsUsed f_going a_kinds a_values a_heights a_loose a_parent a_place a_firstLeaf a_row a_nodeReg a_breakTo a_tryTo a_cleanupOf a_label a_codeOp a_codeReg a_codeArg a_codeNode a_roots a_entries a_states a_results a_chain a_actFunction a_pcs a_locals a_regs a_pending a_cells b_kinds b_place b_savedSort b_savedValue hI
  obtain ⟨hb, hS, hD, hH, hds, hSl⟩ := id hI
  obtain ⟨hFx, hFy, hds0, hcs, hV, hP, hA, hC, hR⟩ := id hS
  have hN := hFx.1
  have hW := tr_FW hFx
  have hn6 := hR.1
  have hrow := fun (post : Int32 → Prop) => yt_row (post := post) (f_nodeLimit := nI NL) (f_slotLimit := nI SL) (f_depthLimit := nI DL) (f_turnLimit := nI TL) (a_values := a_values) (a_cells := a_cells) (a_states := a_states) (a_results := a_results) (a_chain := a_chain) (a_actFunction := a_actFunction) (b_place := b_place) (a_locals := a_locals) (b_savedSort := b_savedSort) (b_savedValue := b_savedValue) hFy hds hds0
  rw [hD.2.2.2.2.2] at hrow
  refine pk_eq m 1 (fun hm1 => pk_lt nf 6 (fun h6 => ?_) (fun h6 => ?_) rfl rfl (by omega) (by decide)) (fun hm1 => ?_) rfl rfl (by have := hD.1; omega) (by decide)
  · have hroot := hD.2.2.1 (by omega)
    have hd5 := hD.2.2.2.2.1 0 (by omega)
    rw [show m - 1 = 0 by omega] at hroot
    have hR0 : R 0 = N - 1 := by omega
    have hLr : L (N - 1) = ds := by rw [← hR0]; exact hroot.2
    have hdsN : ds < N := by have := hD.1; omega
    have e0 : a_row 0 = nI (N - 1) := by rw [hd5.1, hR0]
    have hpr : a_parent (N - 1) = -1 := by rw [← hR0]; exact hd5.2.2.2
    have el : a_loose (nI (N - 1)).toNatClampNeg = a_loose (N - 1) := tr_fc (by omega) _
    refine nm_r e0 ⟨vp_in_nI (by omega) (by decide), ?_⟩
    rw [el]
    rcases (hH (N - 1) (by omega)).2.2.2.2 with ⟨l1, l2⟩ | ⟨l1, l2⟩
    · refine br_f (by rw [l1]; decide) ?_
      unfold wpY_define
      refine hrow _ (br_t (by rw [hm1]; rfl) (br_t (nI_lt (b := 6) h6 (by decide)) ?_))
      rw [tr_s1 (by omega)]
      exact yt_lb hFy (by omega) (fun _ => br_f (by decide) (And.intro rfl (zz_in hI))) (fun y => absurd l2 y)
    · have v6 : vp_in (nI nf) 6 := vp_in_nI h6 (by decide)
      refine br_t l1 ⟨v6, nm_r (tr_uc (by omega) _ _) ⟨v6, nm_r (tr_uc (by omega) _ _) ?_⟩⟩
      have eN : nI (ds + (N - ds)) + (-1) = nI (N - 1) := by rw [show ds + (N - ds) = N by omega, tr_m1 (by omega)]
      refine df_lower hI hm1 h6 hdsN hLr hpr (fun nr bt tt co lb cO cR cA cN A hAe h1 hE hO => nm_r (nI_1 nf) ?_)
      unfold wpY_define
      refine hrow _ (br_t (by rw [hm1]; rfl) (br_t (nI_lt (b := 6) h6 (by decide)) ?_))
      rw [tr_s1 (by omega)]
      refine yt_lb hFy (by omega) (fun y => absurd y l2) (fun _ => br_t rfl ⟨v6, nm_r (tr_uc (by omega) _ _) (nm_r (nI_1 nf) (And.intro (nI_pred nf) (zz_in (rl_def hI hm1 h6 hAe h1 hE hO))))⟩)
  · unfold wpY_define
    exact hrow _ (br_t (by rw [hm1]; rfl) (br_f (nI_nlt (b := 6) h6 (by omega)) (And.intro rfl (zz_in hI))))
  · unfold wpY_define
    exact hrow _ (br_f (fun e => hm1 (tr_inj (b := 1) e (by have := hD.1; omega) (by omega))) (And.intro rfl (zz_in hI)))
end
