section
section TWA
/-! rows of kit/rows (PURE-ROWS), pasted -/
theorem pk_us {f : Nat → Int32} {k : Nat} {x : Int32} : upd f k x k = x := if_pos rfl
theorem pk_un {f : Nat → Int32} {k j : Nat} {x : Int32} (h : j ≠ k) : upd f k x j = f j := if_neg h
theorem pk_sub {a b : Nat} (h : b ≤ a) : nI a - nI b = nI (a - b) := by
  obtain ⟨c, rfl⟩ : ∃ c, a = c + b := ⟨a - b, by omega⟩
  rw [← nI_add, Int32.add_sub_cancel, Nat.add_sub_cancel]
theorem pk_m1 (n : Nat) : nI (n + 1) + (-1) = nI n := by
  rw [← nI_1, Int32.add_assoc, show (1 : Int32) + (-1) = 0 from rfl, Int32.add_zero]
theorem pk_mul (a b : Nat) : nI a * nI b = nI (a * b) := (Int32.ofNat_mul a b).symm
theorem pk_sub_toInt {a b : Nat} (ha : a < 2 ^ 30) (hb : b < 2 ^ 30) : (nI a - nI b).toInt = (a : Int) - b := by
  rw [Int32.toInt_sub, nI_toInt (by omega), nI_toInt (by omega)]
  exact Int.bmod_eq_of_le (by omega) (by omega)
theorem pk_ix (x : Int32) {n : Nat} (hn : n < 2 ^ 31) : x < 0 ∨ nI n ≤ x ∨ ∃ j : Nat, j < n ∧ x = nI j := by
  by_cases h : x < 0
  · exact Or.inl h
  · obtain ⟨j, hj, rfl⟩ := nI_of h
    by_cases h2 : j < n
    · exact Or.inr (Or.inr ⟨j, h2, rfl⟩)
    · exact Or.inr (Or.inl (nI_le (by omega) hj))
theorem pk_le {x y : Int32} {A B : Prop} (a b : Nat) (f : a ≤ b → A) (g : b < a → B) (hx : x = nI a := by rfl) (hy : y = nI b := by rfl) (ha : a < 2 ^ 31 := by omega) (hb : b < 2 ^ 31 := by omega) : (x ≤ y → A) ∧ (¬ x ≤ y → B) := by
  subst hx hy
  rw [nI_leI ha hb]
  exact ⟨f, fun z => g (by omega)⟩
theorem pk_lt {x y : Int32} {A B : Prop} (a b : Nat) (f : a < b → A) (g : b ≤ a → B) (hx : x = nI a := by rfl) (hy : y = nI b := by rfl) (ha : a < 2 ^ 31 := by omega) (hb : b < 2 ^ 31 := by omega) : (x < y → A) ∧ (¬ x < y → B) := by
  subst hx hy
  rw [nI_ltI ha hb]
  exact ⟨f, fun z => g (by omega)⟩
theorem pk_eq {x y : Int32} {A B : Prop} (a b : Nat) (f : a = b → A) (g : a ≠ b → B) (hx : x = nI a := by rfl) (hy : y = nI b := by rfl) (ha : a < 2 ^ 31 := by omega) (hb : b < 2 ^ 31 := by omega) : (x = y → A) ∧ (¬ x = y → B) := by
  subst hx hy
  rw [nI_eq ha hb]
  exact ⟨f, g⟩
theorem pk_in {x : Int32} (n N : Nat) (h : n < N) (hx : x = nI n := by rfl) (hN : N < 2 ^ 31 := by omega) : vp_in x N := by
  subst hx
  exact vp_in_nI h hN
theorem pk_cl {x : Int32} (n : Nat) (hx : x = nI n := by rfl) (h : n < 2 ^ 31 := by omega) : x.toNatClampNeg = n := by
  subst hx
  exact nI_clamp h
theorem pk_shr (a s : Int32) (k : Nat) (hs : (s.toBitVec.smod 32).toNat = k) : (a >>> s).toInt = a.toInt >>> k := by
  show (a.toBitVec.sshiftRight (s.toBitVec.smod 32).toNat).toInt = _
  rw [hs, BitVec.toInt_sshiftRight]
  rfl
theorem pk_shrN {n : Nat} (h : n < 2 ^ 31) (s : Int32) (k : Nat) (hs : (s.toBitVec.smod 32).toNat = k) : nI n >>> s = nI (n / 2 ^ k) := by
  apply Int32.toInt_inj.mp
  have h2 : n / 2 ^ k ≤ n := Nat.div_le_self _ _
  rw [pk_shr _ _ k hs, nI_toInt h, nI_toInt (by omega), Int.shiftRight_eq_div_pow]
  rfl
/-! own rows: numbers, stores, the order of messages, searching for the first, counting -/
theorem tw_m48 (a : Nat) : 48 * nI a = nI (48 * a) := pk_mul 48 a
theorem tw_m2 (a : Nat) : 2 * nI a = nI (2 * a) := pk_mul 2 a
theorem tw_m4 (a : Nat) : 4 * nI a = nI (4 * a) := pk_mul 4 a
theorem tw_m10 (a : Nat) : nI a * 10 = nI (10 * a) := by rw [Nat.mul_comm 10 a]; exact pk_mul a 10
theorem tw_s1 {n : Nat} (h : 0 < n) : nI n - 1 = nI (n - 1) := by
  obtain ⟨m, rfl⟩ : ∃ m, n = m + 1 := ⟨n - 1, by omega⟩
  exact nI_pred m
theorem tw_p1 {n : Nat} (h : 0 < n) : nI n + (-1) = nI (n - 1) := by
  obtain ⟨m, rfl⟩ : ∃ m, n = m + 1 := ⟨n - 1, by omega⟩
  exact pk_m1 m
theorem tw_n1 {a : Nat} (h : a < 2 ^ 31) : ¬ nI a = -1 := by
  intro e
  have := nI_pos (n := a) h
  rw [e] at this
  exact this (by decide)
theorem tw_inj {a b : Nat} (h : nI a = nI b) (ha : a < 2 ^ 31) (hb : b < 2 ^ 31) : a = b := (nI_eq ha hb).mp h
theorem tw_tm1 : (-1 : Int32).toInt = -1 := by decide
theorem tw_t0 : (0 : Int32).toInt = 0 := by decide
theorem tw_t1 : (1 : Int32).toInt = 1 := by decide
theorem tw_cl0 : (0 : Int32).toNatClampNeg = 0 := by decide
theorem tw_of {x : Int32} (h : 0 ≤ x.toInt) : ∃ j : Nat, j < 2 ^ 31 ∧ x = nI j := nI_of (by rw [Int32.lt_iff_toInt_lt, tw_t0]; omega)
theorem tw_add {x y : Int32} (h1 : -2147483648 ≤ x.toInt + y.toInt) (h2 : x.toInt + y.toInt < 2147483648) : (x + y).toInt = x.toInt + y.toInt := by
  rw [Int32.toInt_add]
  exact Int.bmod_eq_of_le (by omega) (by omega)
def tw_I (f : Nat → Nat) : Nat → Int32 := fun i => nI (f i)
def tw_u (f : Nat → Nat) (k v : Nat) : Nat → Nat := fun j => if j = k then v else f j
theorem tw_us {f : Nat → Nat} {k v : Nat} : tw_u f k v k = v := if_pos rfl
theorem tw_un {f : Nat → Nat} {k v j : Nat} (h : j ≠ k) : tw_u f k v j = f j := if_neg h
theorem tw_Iu (f : Nat → Nat) (k v : Nat) : upd (tw_I f) k (nI v) = tw_I (tw_u f k v) := by
  funext j
  unfold upd tw_I tw_u
  by_cases h : j = k
  · rw [if_pos h, if_pos h]
  · rw [if_neg h, if_neg h]
theorem tw_uu (f : Nat → Nat) (k : Nat) : tw_u f k (f k) = f := by
  funext j
  by_cases h : j = k
  · rw [h, tw_us]
  · rw [tw_un h]
theorem tw_rd (f : Nat → Nat) {x : Int32} {i : Nat} (hx : x = nI i) (hi : i < 2 ^ 31) : tw_I f x.toNatClampNeg = nI (f i) := by
  rw [hx, nI_clamp hi]; rfl
theorem tw_ra (f : Nat → Int32) {x : Int32} {i : Nat} (hx : x = nI i) (hi : i < 2 ^ 31) : f x.toNatClampNeg = f i := by
  rw [hx, nI_clamp hi]
theorem tw_ru (f : Nat → Int32) {x v w : Int32} {i : Nat} (hx : x = nI i) (hi : i < 2 ^ 31) (hv : v = w) : upd f x.toNatClampNeg v = upd f i w := by
  rw [hx, nI_clamp hi, hv]
theorem tw_rU (f : Nat → Nat) {x v : Int32} {i w : Nat} (hx : x = nI i) (hi : i < 2 ^ 31) (hv : v = nI w) : upd (tw_I f) x.toNatClampNeg v = tw_I (tw_u f i w) := by
  rw [hx, nI_clamp hi, hv, tw_Iu]
/-- before, in the order over all LPs (of one LP: the order of its queue) -/
def tw_b (T D R P S : Nat → Int32) (a b : Nat) : Prop :=
  (T a).toInt < (T b).toInt ∨ ((T a).toInt = (T b).toInt ∧ ((D a).toInt < (D b).toInt ∨ ((D a).toInt = (D b).toInt ∧ ((R a).toInt < (R b).toInt ∨ ((R a).toInt = (R b).toInt ∧ ((P a).toInt < (P b).toInt ∨ ((P a).toInt = (P b).toInt ∧ (S a).toInt < (S b).toInt)))))))
theorem tw_b_irr {T D R P S : Nat → Int32} {a : Nat} : ¬ tw_b T D R P S a a := by
  unfold tw_b; omega
theorem tw_b_tr {T D R P S : Nat → Int32} {a b c : Nat} : tw_b T D R P S a b → tw_b T D R P S b c → tw_b T D R P S a c := by
  unfold tw_b; omega
theorem tw_b_tot {T D R P S : Nat → Int32} {a b : Nat} (h : (S a).toInt ≠ (S b).toInt) : tw_b T D R P S a b ∨ tw_b T D R P S b a := by
  unfold tw_b; omega
theorem tw_b_asy {T D R P S : Nat → Int32} {a b : Nat} (h : tw_b T D R P S a b) : ¬ tw_b T D R P S b a := fun g => tw_b_irr (tw_b_tr h g)
theorem tw_b_ti {T D R P S : Nat → Int32} {a b : Nat} (h : tw_b T D R P S a b) : (T a).toInt ≤ (T b).toInt := by
  unfold tw_b at h; omega
theorem tw_b_cg {T D R P S T' D' R' P' S' : Nat → Int32} {a b a' b' : Nat} (h1 : T' a' = T a) (h2 : D' a' = D a) (h3 : R' a' = R a) (h4 : P' a' = P a) (h5 : S' a' = S a)
    (g1 : T' b' = T b) (g2 : D' b' = D b) (g3 : R' b' = R b) (g4 : P' b' = P b) (g5 : S' b' = S b) : tw_b T' D' R' P' S' a' b' ↔ tw_b T D R P S a b := by
  unfold tw_b
  rw [h1, h2, h3, h4, h5, g1, g2, g3, g4, g5]
/-- the loop that keeps the first of those with P -/
theorem tw_min (W : Nat → Int32 → Int32 → Prop) (P : Nat → Prop) (b : Nat → Nat → Prop) (N : Nat)
    (hi : ∀ i, ¬ b i i) (ht : ∀ i j k, b i j → b j k → b i k)
    (hs : ∀ n x i, i < N → ¬ P i → W n x (nI (i + 1)) → W (n + 1) x (nI i))
    (h1 : ∀ n i, i < N → P i → W n (nI i) (nI (i + 1)) → W (n + 1) (-1) (nI i))
    (h2 : ∀ n m i, m < i → i < N → P i → b i m → W n (nI i) (nI (i + 1)) → W (n + 1) (nI m) (nI i))
    (h3 : ∀ n m i, m < i → i < N → P i → ¬ b i m → W n (nI m) (nI (i + 1)) → W (n + 1) (nI m) (nI i))
    (e0 : ∀ n, (∀ i, i < N → ¬ P i) → W (n + 1) (-1) (nI N))
    (e1 : ∀ n m, m < N → P m → (∀ i, i < N → P i → ¬ b i m) → W (n + 1) (nI m) (nI N)) :
    W (N + 1) (-1) (nI 0) := by
  have hB : ∀ k i m, i + k = N → m < i → P m → (∀ j, j < i → P j → ¬ b j m) → W (k + 1) (nI m) (nI i) := by
    intro k
    induction k with
    | zero =>
      intro i m hk hm hP hj
      have : i = N := by omega
      subst this
      exact e1 0 m hm hP hj
    | succ k ih =>
      intro i m hk hm hP hj
      by_cases hp : P i
      · by_cases hb : b i m
        · refine h2 _ m i hm (by omega) hp hb (ih (i + 1) i (by omega) (by omega) hp ?_)
          intro j hji hpj hbj
          by_cases hjj : j = i
          · subst hjj; exact hi _ hbj
          · exact hj j (by omega) hpj (ht _ _ _ hbj hb)
        · refine h3 _ m i hm (by omega) hp hb (ih (i + 1) m (by omega) (by omega) hP ?_)
          intro j hji hpj
          by_cases hjj : j = i
          · subst hjj; exact hb
          · exact hj j (by omega) hpj
      · refine hs _ _ i (by omega) hp (ih (i + 1) m (by omega) (by omega) hP ?_)
        intro j hji hpj
        by_cases hjj : j = i
        · subst hjj; exact absurd hpj hp
        · exact hj j (by omega) hpj
  have hA : ∀ k i, i + k = N → (∀ j, j < i → ¬ P j) → W (k + 1) (-1) (nI i) := by
    intro k
    induction k with
    | zero =>
      intro i hk hj
      have : i = N := by omega
      subst this
      exact e0 0 hj
    | succ k ih =>
      intro i hk hj
      by_cases hp : P i
      · refine h1 _ i (by omega) hp (hB k (i + 1) i (by omega) (by omega) hp ?_)
        intro j hji hpj
        by_cases hjj : j = i
        · subst hjj; exact hi _
        · exact absurd hpj (hj j (by omega))
      · refine hs _ _ i (by omega) hp (ih (i + 1) (by omega) ?_)
        intro j hji
        by_cases hjj : j = i
        · subst hjj; exact hp
        · exact hj j (by omega)
  exact hA N 0 (by omega) (fun j hj => absurd hj (by omega))
/-- how many below n have P -/
noncomputable def tw_n (P : Nat → Prop) : Nat → Nat
  | 0 => 0
  | n + 1 => tw_n P n + @ite Nat (P n) (Classical.propDecidable _) 1 0
theorem tw_n_t {P : Nat → Prop} {n : Nat} (h : P n) : tw_n P (n + 1) = tw_n P n + 1 := by
  show tw_n P n + @ite Nat (P n) (Classical.propDecidable _) 1 0 = _
  rw [if_pos h]
theorem tw_n_f {P : Nat → Prop} {n : Nat} (h : ¬ P n) : tw_n P (n + 1) = tw_n P n := by
  show tw_n P n + @ite Nat (P n) (Classical.propDecidable _) 1 0 = _
  rw [if_neg h]; rfl
theorem tw_n_le (P : Nat → Prop) : ∀ n, tw_n P n ≤ n := by
  intro n
  induction n with
  | zero => exact Nat.le_refl _
  | succ n ih =>
    by_cases h : P n
    · rw [tw_n_t h]; omega
    · rw [tw_n_f h]; omega
/-- one taken out of a row -/
def tw_skip (g : Nat → Nat) (j0 : Nat) : Nat → Nat := fun j => if j < j0 then g j else g (j + 1)
theorem tw_skip_at (g : Nat → Nat) (j0 j : Nat) : ∃ j', tw_skip g j0 j = g j' ∧ j' ≠ j0 ∧ (j < j0 ∧ j' = j ∨ j0 ≤ j ∧ j' = j + 1) := by
  unfold tw_skip
  by_cases h : j < j0
  · exact ⟨j, if_pos h, by omega, Or.inl ⟨h, rfl⟩⟩
  · exact ⟨j + 1, if_neg h, by omega, Or.inr ⟨by omega, rfl⟩⟩
theorem tw_n_rel (P : Nat → Prop) (o : Nat → Nat) : ∀ (n k : Nat) (g : Nat → Nat),
    (∀ i i', i < n → i' < n → o i = o i' → i = i') →
    (∀ j, j < k → ∃ i, i < n ∧ P i ∧ o i = g j) → (∀ j j', j < k → j' < k → g j = g j' → j = j') →
    (∀ i, i < n → P i → ∃ j, j < k ∧ o i = g j) → tw_n P n = k := by
  intro n
  induction n with
  | zero =>
    intro k g _ h1 _ _
    by_cases hk : k = 0
    · rw [hk]; rfl
    · obtain ⟨i, hi, _⟩ := h1 0 (by omega)
      omega
  | succ n ih =>
    intro k g ho h1 h2 h3
    by_cases hp : P n
    · obtain ⟨j0, hj0, e0⟩ := h3 n (by omega) hp
      have hk : tw_n P n = k - 1 := by
        refine ih (k - 1) (tw_skip g j0) (fun i i' hi hi' e => ho i i' (by omega) (by omega) e) ?_ ?_ ?_
        · intro j hj
          obtain ⟨j', e, hne, hc⟩ := tw_skip_at g j0 j
          obtain ⟨i, hi, hpi, ei⟩ := h1 j' (by omega)
          refine ⟨i, ?_, hpi, ei.trans e.symm⟩
          by_cases hin : i = n
          · subst hin
            exact absurd (h2 j0 j' hj0 (by omega) (e0.symm.trans ei)) (fun z => hne z.symm)
          · omega
        · intro j j2 hj hj2 e
          obtain ⟨j', e1, hne, hc⟩ := tw_skip_at g j0 j
          obtain ⟨j2', e2, hne2, hc2⟩ := tw_skip_at g j0 j2
          have := h2 j' j2' (by omega) (by omega) (e1.symm.trans (e.trans e2))
          omega
        · intro i hi hpi
          obtain ⟨j, hj, e⟩ := h3 i (by omega) hpi
          have hjne : j ≠ j0 := by
            intro z
            subst z
            have := ho i n (by omega) (by omega) (e.trans e0.symm)
            omega
          by_cases hlt : j < j0
          · refine ⟨j, by omega, ?_⟩
            rw [e]; exact (if_pos hlt).symm
          · refine ⟨j - 1, by omega, ?_⟩
            rw [e]
            have h5 : ¬ j - 1 < j0 := by omega
            have h6 : j - 1 + 1 = j := by omega
            show g j = if j - 1 < j0 then g (j - 1) else g (j - 1 + 1)
            rw [if_neg h5, h6]
      rw [tw_n_t hp, hk]
      omega
    · rw [tw_n_f hp]
      refine ih k g (fun i i' hi hi' e => ho i i' (by omega) (by omega) e) ?_ h2 ?_
      · intro j hj
        obtain ⟨i, hi, hpi, e⟩ := h1 j hj
        by_cases hin : i = n
        · subst hin; exact absurd hpi hp
        · exact ⟨i, by omega, hpi, e⟩
      · intro i hi hpi
        exact h3 i (by omega) hpi
/-- different names, each of a place below n: at most n -/
theorem tw_ph (o : Nat → Nat) : ∀ (n k : Nat) (g : Nat → Nat),
    (∀ j, j < k → ∃ i, i < n ∧ o i = g j) → (∀ j j', j < k → j' < k → g j = g j' → j = j') → k ≤ n := by
  intro n
  induction n with
  | zero =>
    intro k g h1 _
    by_cases hk : k = 0
    · omega
    · obtain ⟨i, hi, _⟩ := h1 0 (by omega)
      omega
  | succ n ih =>
    intro k g h1 h2
    by_cases hx : ∃ j0, j0 < k ∧ g j0 = o n
    · obtain ⟨j0, hj0, e0⟩ := hx
      have : k - 1 ≤ n := by
        refine ih (k - 1) (tw_skip g j0) ?_ ?_
        · intro j hj
          obtain ⟨j', e, hne, hc⟩ := tw_skip_at g j0 j
          obtain ⟨i, hi, ei⟩ := h1 j' (by omega)
          refine ⟨i, ?_, ei.trans e.symm⟩
          by_cases hin : i = n
          · subst hin
            exact absurd (h2 j0 j' hj0 (by omega) (e0.trans ei)) (fun z => hne z.symm)
          · omega
        · intro j j2 hj hj2 e
          obtain ⟨j', e1, hne, hc⟩ := tw_skip_at g j0 j
          obtain ⟨j2', e2, hne2, hc2⟩ := tw_skip_at g j0 j2
          have := h2 j' j2' (by omega) (by omega) (e1.symm.trans (e.trans e2))
          omega
      omega
    · have : k ≤ n := by
        refine ih k g ?_ h2
        intro j hj
        obtain ⟨i, hi, ei⟩ := h1 j hj
        refine ⟨i, ?_, ei⟩
        by_cases hin : i = n
        · subst hin
          exact absurd ⟨j, hj, ei.symm⟩ hx
        · omega
      omega
/-- two rows of the same names by ascending keys are one row -/
theorem tw_uq (key : Nat → Int) (f g : Nat → Nat) (a b : Nat)
    (hf : ∀ i j, i < j → j < a → key (f i) < key (f j)) (hg : ∀ i j, i < j → j < b → key (g i) < key (g j))
    (h1 : ∀ i, i < a → ∃ j, j < b ∧ g j = f i) (h2 : ∀ j, j < b → ∃ i, i < a ∧ f i = g j) : a = b ∧ ∀ i, i < a → f i = g i := by
  have H : ∀ k i, i < k → i < a → i < b → f i = g i := by
    intro k
    induction k with
    | zero => intro i hi; omega
    | succ k ih =>
      intro i hi hia hib
      obtain ⟨j, hj, ej⟩ := h1 i hia
      obtain ⟨i', hi', ei'⟩ := h2 i hib
      have a1 : ¬ j < i := by
        intro z
        have e := ih j (by omega) (by omega) hj
        have := hf j i z hia
        rw [e, ej] at this
        omega
      have a2 : ¬ i' < i := by
        intro z
        have e := ih i' (by omega) hi' (by omega)
        have := hg i' i z hib
        rw [← e, ei'] at this
        omega
      by_cases hji : j = i
      · rw [← ej, hji]
      · have k1 := hg i j (by omega) hj
        by_cases hii : i' = i
        · rw [← ei', hii]
        · have k2 := hf i i' (by omega) hi'
          rw [ej] at k1
          rw [ei'] at k2
          omega
  have hab : a = b := by
    by_cases h : a < b
    · obtain ⟨i, hi, e⟩ := h2 a h
      have e2 := H (i + 1) i (by omega) hi (by omega)
      have := hg i a hi h
      rw [← e2, e] at this
      omega
    · by_cases h' : b < a
      · obtain ⟨j, hj, e⟩ := h1 b h'
        have e2 := H (j + 1) j (by omega) (by omega) hj
        have := hf j b hj h'
        rw [e2, e] at this
        omega
      · omega
  exact ⟨hab, fun i hi => H (i + 1) i (by omega) hi (by omega)⟩
end TWA
end
section
section TWB
/-! the facts of a state, by slots -/
/-- the new state by an op -/
def tw_ap (op c x v : Int32) : Int32 :=
  if op = 0 then x + (v + c) else if op = 1 then 31 * x + (v + c) else if op = 2 then x ^^^ (v + c) else if op = 3 then (if x ≤ v + c then v + c else x) else v + c
/-- live slots -/
def tw_L (o : Nat → Nat) (N s : Nat) : Prop := ∃ i, i < N ∧ o i = s
/-- the order holds each of the 48 slots once -/
def tw_O (o : Nat → Nat) : Prop := (∀ i, i < 48 → o i < 48) ∧ ∀ i j, i < 48 → j < 48 → o i = o j → i = j
/-- serials ascend along the order, below the next one -/
def tw_S (o : Nat → Nat) (N Ns : Nat) (se : Nat → Int32) : Prop :=
  (∀ i j, i < j → j < N → (se (o i)).toInt < (se (o j)).toInt) ∧ ∀ i, i < N → 0 ≤ (se (o i)).toInt ∧ (se (o i)).toInt < Ns
def tw_A (L : Nat → Prop) (Lp Tl Ns : Nat) (D : Nat → Nat) (ti ca po : Nat → Int32) : Prop :=
  ∀ s, L s → D s < Lp ∧ 0 ≤ (ti s).toInt ∧ (ti s).toInt < Tl ∧ (ca s).toInt < Ns ∧ (po s = 1 ∨ po s = 2 ∨ po s = 3)
def tw_E (L : Nat → Prop) (sr ca po : Nat → Int32) : Prop := ∀ s, L s → sr s = -1 → ca s = -1 ∧ po s ≠ 1
def tw_F1 (L : Nat → Prop) (se ti ca an : Nat → Int32) (e : Nat) (x : Int32) : Prop :=
  x = -1 ∨ ∃ s, L s ∧ x = nI s ∧ ca s = se e ∧ an s = 0 ∧ (ti e).toInt < (ti s).toInt
/-- what an event has sent: the live messages of this cause without an anti half -/
def tw_T (L : Nat → Prop) (se ti ca po an sf ss : Nat → Int32) : Prop :=
  ∀ e, L e → tw_F1 L se ti ca an e (sf e) ∧ tw_F1 L se ti ca an e (ss e) ∧ (∀ s, L s → ca s = se e → an s = 0 → sf e = nI s ∨ ss e = nI s) ∧ (po e ≠ 3 → sf e = -1 ∧ ss e = -1)
/-- the queues: sorted, DONE first, then ARRIVED; complete -/
def tw_Q (L : Nat → Prop) (Lp : Nat) (D : Nat → Nat) (b : Nat → Nat → Prop) (po : Nat → Int32) (q l d : Nat → Nat) : Prop :=
  (∀ p, p < Lp → d p ≤ l p ∧ (∀ j, j < l p → L (q (48 * p + j)) ∧ D (q (48 * p + j)) = p ∧ po (q (48 * p + j)) = if j < d p then 3 else 2) ∧
    (∀ j k, j < k → k < l p → b (q (48 * p + j)) (q (48 * p + k)))) ∧
  ∀ s, L s → po s ≠ 1 → ∃ j, j < l (D s) ∧ q (48 * D s + j) = s
/-- the state of p after its first j events -/
def tw_fo (op co cm pa : Nat → Int32) (q : Nat → Nat) (p : Nat) : Nat → Int32
  | 0 => cm p
  | j + 1 => tw_ap (op p) (co p) (tw_fo op co cm pa q p j) (pa (q (48 * p + j)))
def tw_C (Lp : Nat) (op co cm pa : Nat → Int32) (q d : Nat → Nat) (cu sb : Nat → Int32) : Prop :=
  ∀ p, p < Lp → cu p = tw_fo op co cm pa q p (d p) ∧ ∀ j, j < d p → sb (q (48 * p + j)) = tw_fo op co cm pa q p j
theorem tw_fo_cg {op co cm pa op' co' cm' pa' : Nat → Int32} {q q' : Nat → Nat} {p p' : Nat} (h1 : op' p' = op p) (h2 : co' p' = co p) (h3 : cm' p' = cm p) :
    ∀ j, (∀ i, i < j → pa' (q' (48 * p' + i)) = pa (q (48 * p + i))) → tw_fo op' co' cm' pa' q' p' j = tw_fo op co cm pa q p j := by
  intro j
  induction j with
  | zero => intro _; exact h3
  | succ j ih =>
    intro h
    show tw_ap _ _ (tw_fo op' co' cm' pa' q' p' j) _ = tw_ap _ _ (tw_fo op co cm pa q p j) _
    rw [ih (fun i hi => h i (by omega)), h j (by omega), h1, h2]
/-- a fold cut in two -/
theorem tw_fo_sh {op co cm cm' pa : Nat → Int32} {q q' : Nat → Nat} {p m : Nat} (h3 : cm' p = tw_fo op co cm pa q p m) :
    ∀ j, (∀ i, i < j → q' (48 * p + i) = q (48 * p + (m + i))) → tw_fo op co cm' pa q' p j = tw_fo op co cm pa q p (m + j) := by
  intro j
  induction j with
  | zero => intro _; exact h3
  | succ j ih =>
    intro h
    show tw_ap _ _ (tw_fo op co cm' pa q' p j) _ = tw_ap _ _ (tw_fo op co cm pa q p (m + j)) _
    rw [ih (fun i hi => h i (by omega)), h j (by omega)]
    rfl
theorem tw_L48 {o : Nat → Nat} {N s : Nat} (hO : tw_O o) (hN : N ≤ 48) (h : tw_L o N s) : s < 48 := by
  obtain ⟨i, hi, e⟩ := h
  rw [← e]
  exact hO.1 i (by omega)
theorem tw_Sinj {o : Nat → Nat} {N Ns : Nat} {se : Nat → Int32} (hS : tw_S o N Ns se) {s s' : Nat} (h : tw_L o N s) (h' : tw_L o N s') (e : (se s).toInt = (se s').toInt) : s = s' := by
  obtain ⟨i, hi, rfl⟩ := h
  obtain ⟨j, hj, rfl⟩ := h'
  by_cases hij : i < j
  · have := hS.1 i j hij hj; omega
  · by_cases hji : j < i
    · have := hS.1 j i hji hi; omega
    · rw [show i = j by omega]
/-- the slot that is named as sent is of this cause -/
theorem tw_F1c {L : Nat → Prop} {se ti ca an : Nat → Int32} {e s : Nat} (hL : ∀ s, L s → s < 48) (hs : s < 48) (h : tw_F1 L se ti ca an e (nI s)) : L s ∧ ca s = se e ∧ an s = 0 ∧ (ti e).toInt < (ti s).toInt := by
  rcases h with h | ⟨s', a, b, c⟩
  · exact absurd h (tw_n1 (by omega))
  · have : s = s' := tw_inj b (by omega) (by have := hL s' a; omega)
    subst this
    exact ⟨a, c⟩
theorem tw_T_swap {L : Nat → Prop} {se ti ca po an sf ss : Nat → Int32} (h : tw_T L se ti ca po an sf ss) : tw_T L se ti ca po an ss sf := by
  intro e he
  obtain ⟨h1, h2, h3, h4⟩ := h e he
  exact ⟨h2, h1, fun s a b c => (h3 s a b c).symm, fun a => ⟨(h4 a).2, (h4 a).1⟩⟩
/-! UNDOING -/
/-- the slots from place m on, below e -/
def tw_U (q : Nat → Nat) (p m e s : Nat) : Prop := ∃ j, m ≤ j ∧ j < e ∧ q (48 * p + j) = s
def tw_UX (U : Nat → Prop) (po an sf ss po' an' sf' ss' : Nat → Int32) : Prop :=
  (∀ s, (U s → po' s = 2 ∧ sf' s = -1 ∧ ss' s = -1) ∧ (¬ U s → po' s = po s ∧ sf' s = sf s ∧ ss' s = ss s)) ∧
  ∀ s, s < 48 → (an s = 0 ∧ (∃ e, U e ∧ (sf e = nI s ∨ ss e = nI s)) → an' s = 1) ∧ (¬ (an s = 0 ∧ ∃ e, U e ∧ (sf e = nI s ∨ ss e = nI s)) → an' s = an s)
theorem tw_UX_an0 {U : Nat → Prop} {po an sf ss po' an' sf' ss' : Nat → Int32} (h : tw_UX U po an sf ss po' an' sf' ss') {s : Nat} (hs : s < 48) (hz : an' s = 0) : an s = 0 ∧ ¬ ∃ e, U e ∧ (sf e = nI s ∨ ss e = nI s) := by
  by_cases g : an s = 0 ∧ ∃ e, U e ∧ (sf e = nI s ∨ ss e = nI s)
  · have := (h.2 s hs).1 g
    rw [this] at hz
    exact absurd hz (by decide)
  · have := (h.2 s hs).2 g
    rw [this] at hz
    exact ⟨hz, fun z => g ⟨hz, z⟩⟩
theorem tw_undo_T {L U : Nat → Prop} {se ti ca po an sf ss po' an' sf' ss' : Nat → Int32} (hT : tw_T L se ti ca po an sf ss)
    (hinj : ∀ s s', L s → L s' → se s = se s' → s = s') (hU : ∀ s, U s → L s) (hL : ∀ s, L s → s < 48)
    (h : tw_UX U po an sf ss po' an' sf' ss') : tw_T L se ti ca po' an' sf' ss' := by
  intro e he
  obtain ⟨h1, h2, h3, h4⟩ := hT e he
  by_cases hu : U e
  · obtain ⟨_, a, b⟩ := (h.1 e).1 hu
    rw [a, b]
    refine ⟨Or.inl rfl, Or.inl rfl, ?_, fun _ => ⟨rfl, rfl⟩⟩
    intro s hs hc hz
    obtain ⟨z1, z2⟩ := tw_UX_an0 h (hL s hs) hz
    exact absurd ⟨e, hu, h3 s hs hc z1⟩ z2
  · obtain ⟨p1, a, b⟩ := (h.1 e).2 hu
    rw [a, b, p1]
    have key : ∀ x, tw_F1 L se ti ca an e x → tw_F1 L se ti ca an' e x := by
      intro x hx
      rcases hx with hx | ⟨s, hs, e1, e2, e3, e4⟩
      · exact Or.inl hx
      · refine Or.inr ⟨s, hs, e1, e2, ?_, e4⟩
        rw [(h.2 s (hL s hs)).2 ?_]
        · exact e3
        · intro z
          obtain ⟨_, e', hu', hh⟩ := z
          have hc' : ca s = se e' := by
            obtain ⟨k1, k2, _, _⟩ := hT e' (hU e' hu')
            rcases hh with hh | hh
            · rw [hh] at k1; exact (tw_F1c hL (hL s hs) k1).2.1
            · rw [hh] at k2; exact (tw_F1c hL (hL s hs) k2).2.1
          have := hinj e e' he (hU _ hu') (e2.symm.trans hc')
          rw [← this] at hu'
          exact hu hu'
    refine ⟨key _ h1, key _ h2, ?_, h4⟩
    intro s hs hc hz
    exact h3 s hs hc (tw_UX_an0 h (hL s hs) hz).1
theorem tw_qinj {L : Nat → Prop} {Lp : Nat} {D : Nat → Nat} {b : Nat → Nat → Prop} {po : Nat → Int32} {q l d : Nat → Nat} (hQ : tw_Q L Lp D b po q l d) (hb : ∀ s, ¬ b s s)
    {p j k : Nat} (hp : p < Lp) (hj : j < l p) (hk : k < l p) (e : q (48 * p + j) = q (48 * p + k)) : j = k := by
  obtain ⟨_, _, h3⟩ := hQ.1 p hp
  by_cases h : j < k
  · have := h3 j k h hk; rw [e] at this; exact absurd this (hb _)
  · by_cases h' : k < j
    · have := h3 k j h' hj; rw [e] at this; exact absurd this (hb _)
    · omega
theorem tw_U_L {L : Nat → Prop} {Lp : Nat} {D : Nat → Nat} {b : Nat → Nat → Prop} {po : Nat → Int32} {q l d : Nat → Nat} (hQ : tw_Q L Lp D b po q l d)
    {p m s : Nat} (hp : p < Lp) (h : tw_U q p m (d p) s) : L s ∧ D s = p ∧ po s = 3 := by
  obtain ⟨j, h1, h2, rfl⟩ := h
  obtain ⟨a, b', _⟩ := hQ.1 p hp
  obtain ⟨k1, k2, k3⟩ := b' j (by omega)
  rw [if_pos h2] at k3
  exact ⟨k1, k2, k3⟩
theorem tw_undo_Q {L : Nat → Prop} {Lp : Nat} {D : Nat → Nat} {b : Nat → Nat → Prop} {po po' : Nat → Int32} {q l d : Nat → Nat} (hQ : tw_Q L Lp D b po q l d) (hb : ∀ s, ¬ b s s)
    {p m : Nat} (hp : p < Lp) (hm : m ≤ l p)
    (h : ∀ s, (tw_U q p m (d p) s → po' s = 2) ∧ (¬ tw_U q p m (d p) s → po' s = po s)) : tw_Q L Lp D b po' q l (tw_u d p (min m (d p))) := by
  refine ⟨?_, ?_⟩
  · intro p' hp'
    obtain ⟨a1, a2, a3⟩ := hQ.1 p' hp'
    by_cases e : p' = p
    · subst e
      rw [tw_us]
      refine ⟨by omega, ?_, a3⟩
      intro j hj
      obtain ⟨k1, k2, k3⟩ := a2 j hj
      refine ⟨k1, k2, ?_⟩
      by_cases hu : tw_U q p' m (d p') (q (48 * p' + j))
      · obtain ⟨j', g1, g2, g3⟩ := hu
        have hjj : j' = j := tw_qinj hQ hb hp (by omega) hj g3
        subst hjj
        rw [(h _).1 ⟨j', g1, g2, rfl⟩, if_neg (by omega)]
      · rw [(h _).2 hu, k3]
        by_cases hj2 : j < d p'
        · have : j < m := by
            by_cases hjm : j < m
            · exact hjm
            · exact absurd ⟨j, by omega, hj2, rfl⟩ hu
          rw [if_pos hj2, if_pos (by omega)]
        · rw [if_neg hj2, if_neg (by omega)]
    · rw [tw_un e]
      refine ⟨a1, ?_, a3⟩
      intro j hj
      obtain ⟨k1, k2, k3⟩ := a2 j hj
      refine ⟨k1, k2, ?_⟩
      rw [(h _).2 (fun z => e (k2.symm.trans (tw_U_L hQ hp z).2.1)), k3]
  · intro s hs hpo
    by_cases hu : tw_U q p m (d p) s
    · exact hQ.2 s hs (by rw [(tw_U_L hQ hp hu).2.2]; decide)
    · rw [(h s).2 hu] at hpo
      exact hQ.2 s hs hpo
theorem tw_undo_C {Lp : Nat} {op co cm pa : Nat → Int32} {q d : Nat → Nat} {cu sb cu' : Nat → Int32} (hC : tw_C Lp op co cm pa q d cu sb) {p m : Nat}
    (hm : m < d p → cu' = upd cu p (sb (q (48 * p + m)))) (hm' : ¬ m < d p → cu' = cu) : tw_C Lp op co cm pa q (tw_u d p (min m (d p))) cu' sb := by
  intro p' hp'
  obtain ⟨a1, a2⟩ := hC p' hp'
  by_cases e : p' = p
  · subst e
    rw [tw_us]
    by_cases h : m < d p'
    · rw [hm h, show min m (d p') = m by omega, pk_us]
      exact ⟨a2 m h, fun j hj => a2 j (by omega)⟩
    · rw [hm' h, show min m (d p') = d p' by omega]
      exact ⟨a1, a2⟩
  · rw [tw_un e]
    by_cases h : m < d p
    · rw [hm h, pk_un e]
      exact ⟨a1, a2⟩
    · rw [hm' h]
      exact ⟨a1, a2⟩
theorem tw_undo_A {L U : Nat → Prop} {Lp Tl Ns : Nat} {D : Nat → Nat} {ti ca po po' : Nat → Int32} (hA : tw_A L Lp Tl Ns D ti ca po)
    (h : ∀ s, (U s → po' s = 2) ∧ (¬ U s → po' s = po s)) : tw_A L Lp Tl Ns D ti ca po' := by
  intro s hs
  obtain ⟨a, b, c, e, f⟩ := hA s hs
  refine ⟨a, b, c, e, ?_⟩
  by_cases hu : U s
  · rw [(h s).1 hu]; exact Or.inr (Or.inl rfl)
  · rw [(h s).2 hu]; exact f
theorem tw_undo_E {L U : Nat → Prop} {sr ca po po' : Nat → Int32} {x : Nat} (hE : ∀ s, L s → s ≠ x → sr s = -1 → ca s = -1 ∧ po s ≠ 1)
    (h : ∀ s, (U s → po' s = 2) ∧ (¬ U s → po' s = po s)) : ∀ s, L s → s ≠ x → sr s = -1 → ca s = -1 ∧ po' s ≠ 1 := by
  intro s hs hx hr
  obtain ⟨a, b⟩ := hE s hs hx hr
  refine ⟨a, ?_⟩
  by_cases hu : U s
  · rw [(h s).1 hu]; decide
  · rw [(h s).2 hu]; exact b
end TWB
end
section
section TWC
/-! ARRIVAL: a slot set into a queue -/
def tw_qi (q : Nat → Nat) (c m e s : Nat) : Nat → Nat := fun i => if i = c + m then s else if c + m < i ∧ i ≤ c + e then q (i - 1) else q i
theorem tw_qi_at {q : Nat → Nat} {c m e s : Nat} : tw_qi q c m e s (c + m) = s := if_pos rfl
theorem tw_qi_out {q : Nat → Nat} {c m e s i : Nat} (h : i < c + m ∨ c + e < i) (h2 : m ≤ e) : tw_qi q c m e s i = q i := by
  unfold tw_qi
  rw [if_neg (by omega), if_neg (by omega)]
theorem tw_qi_hi {q : Nat → Nat} {c m e s j : Nat} (h : m < j) (h2 : j ≤ e) : tw_qi q c m e s (c + j) = q (c + (j - 1)) := by
  unfold tw_qi
  rw [if_neg (by omega), if_pos (by omega)]
  exact congrArg q (by omega)
theorem tw_ins_Q {L : Nat → Prop} {Lp : Nat} {D : Nat → Nat} {b : Nat → Nat → Prop} {po : Nat → Int32} {q l d : Nat → Nat} (hQ : tw_Q L Lp D b po q l d)
    (hl : ∀ p, p < Lp → l p ≤ 48) (hDL : ∀ s, L s → D s < Lp) {p m s : Nat} (hp : p < Lp) (hl1 : l p < 48) (hd : d p ≤ m) (hm : m ≤ l p) (hs : L s) (hD : D s = p) (hpo : po s = 1)
    (hlo : ∀ j, j < m → b (q (48 * p + j)) s) (hhi : ∀ j, m ≤ j → j < l p → b s (q (48 * p + j))) :
    tw_Q L Lp D b (upd po s 2) (tw_qi q (48 * p) m (l p) s) (tw_u l p (l p + 1)) d := by
  have hne : ∀ p', p' < Lp → ∀ j, j < l p' → q (48 * p' + j) ≠ s := by
    intro p' hp' j hj z
    obtain ⟨_, a2, _⟩ := hQ.1 p' hp'
    have := (a2 j hj).2.2
    rw [z, hpo] at this
    by_cases h : j < d p'
    · rw [if_pos h] at this; exact absurd this (by decide)
    · rw [if_neg h] at this; exact absurd this (by decide)
  refine ⟨?_, ?_⟩
  · intro p' hp'
    obtain ⟨a1, a2, a3⟩ := hQ.1 p' hp'
    by_cases e : p' = p
    · subst e
      rw [tw_us]
      have key : ∀ j, j < l p' + 1 → (j < m ∧ tw_qi q (48 * p') m (l p') s (48 * p' + j) = q (48 * p' + j)) ∨ (j = m ∧ tw_qi q (48 * p') m (l p') s (48 * p' + j) = s) ∨ (m < j ∧ tw_qi q (48 * p') m (l p') s (48 * p' + j) = q (48 * p' + (j - 1))) := by
        intro j hj
        by_cases h1 : j < m
        · exact Or.inl ⟨h1, tw_qi_out (by omega) hm⟩
        · by_cases h2 : j = m
          · subst h2; exact Or.inr (Or.inl ⟨rfl, tw_qi_at⟩)
          · exact Or.inr (Or.inr ⟨by omega, tw_qi_hi (by omega) (by omega)⟩)
      refine ⟨by omega, ?_, ?_⟩
      · intro j hj
        rcases key j hj with ⟨h1, h2⟩ | ⟨h1, h2⟩ | ⟨h1, h2⟩
        · rw [h2]
          obtain ⟨k1, k2, k3⟩ := a2 j (by omega)
          rw [pk_un (hne p' hp' j (by omega))]
          exact ⟨k1, k2, k3⟩
        · rw [h2, pk_us, if_neg (by omega)]
          exact ⟨hs, hD, rfl⟩
        · rw [h2]
          obtain ⟨k1, k2, k3⟩ := a2 (j - 1) (by omega)
          rw [pk_un (hne p' hp' (j - 1) (by omega)), if_neg (by omega)]
          rw [if_neg (by omega)] at k3
          exact ⟨k1, k2, k3⟩
      · intro j k hjk hk
        rcases key j (by omega) with ⟨h1, h2⟩ | ⟨h1, h2⟩ | ⟨h1, h2⟩
        · rw [h2]
          rcases key k hk with ⟨g1, g2⟩ | ⟨g1, g2⟩ | ⟨g1, g2⟩
          · rw [g2]; exact a3 j k hjk (by omega)
          · rw [g2]; exact hlo j h1
          · rw [g2]; exact a3 j (k - 1) (by omega) (by omega)
        · rw [h2]
          rcases key k hk with ⟨g1, g2⟩ | ⟨g1, g2⟩ | ⟨g1, g2⟩
          · omega
          · omega
          · rw [g2]; exact hhi (k - 1) (by omega) (by omega)
        · rw [h2]
          rcases key k hk with ⟨g1, g2⟩ | ⟨g1, g2⟩ | ⟨g1, g2⟩
          · omega
          · omega
          · rw [g2]; exact a3 (j - 1) (k - 1) (by omega) (by omega)
    · rw [tw_un e]
      have h48 := hl p' hp'
      have key : ∀ j, j < l p' → tw_qi q (48 * p) m (l p) s (48 * p' + j) = q (48 * p' + j) := fun j hj => tw_qi_out (by omega) hm
      refine ⟨a1, ?_, ?_⟩
      · intro j hj
        rw [key j hj, pk_un (hne p' hp' j hj)]
        exact a2 j hj
      · intro j k hjk hk
        rw [key j (by omega), key k hk]
        exact a3 j k hjk hk
  · intro s' hs' hpo'
    by_cases e : s' = s
    · subst e
      rw [hD, tw_us]
      exact ⟨m, by omega, tw_qi_at⟩
    · rw [pk_un e] at hpo'
      obtain ⟨j, hj, ej⟩ := hQ.2 s' hs' hpo'
      by_cases e2 : D s' = p
      · rw [e2, tw_us]
        rw [e2] at hj ej
        by_cases hjm : j < m
        · exact ⟨j, by omega, (tw_qi_out (by omega) hm).trans ej⟩
        · refine ⟨j + 1, by omega, ?_⟩
          rw [tw_qi_hi (by omega) (by omega)]
          exact ej
      · rw [tw_un e2]
        have h48 := hl (D s') (hDL s' hs')
        exact ⟨j, hj, (tw_qi_out (by omega) hm).trans ej⟩
theorem tw_fo_ins {op co cm pa : Nat → Int32} {q l d : Nat → Nat} {Lp p m s p' : Nat} (hl : ∀ p, p < Lp → l p ≤ 48) (hd : d p ≤ m) (hm : m ≤ l p) (hdl : ∀ p, p < Lp → d p ≤ l p) (hp : p < Lp) (hp' : p' < Lp) (j : Nat) (hj : j ≤ d p') (hl1 : l p < 48) :
    tw_fo op co cm pa (tw_qi q (48 * p) m (l p) s) p' j = tw_fo op co cm pa q p' j := by
  refine tw_fo_cg rfl rfl rfl j ?_
  intro i hi
  have h1 := hl p' hp'
  have h2 := hdl p' hp'
  rw [tw_qi_out ?_ hm]
  by_cases e : p' = p
  · subst e; omega
  · omega
theorem tw_ins_C {Lp : Nat} {op co cm pa : Nat → Int32} {q l d : Nat → Nat} {cu sb : Nat → Int32} (hC : tw_C Lp op co cm pa q d cu sb) {p m s : Nat}
    (hl : ∀ p, p < Lp → l p ≤ 48) (hdl : ∀ p, p < Lp → d p ≤ l p) (hp : p < Lp) (hd : d p ≤ m) (hm : m ≤ l p) (hl1 : l p < 48) : tw_C Lp op co cm pa (tw_qi q (48 * p) m (l p) s) d cu sb := by
  intro p' hp'
  obtain ⟨a1, a2⟩ := hC p' hp'
  refine ⟨?_, ?_⟩
  · rw [tw_fo_ins hl hd hm hdl hp hp' (d p') (Nat.le_refl _) hl1]; exact a1
  · intro j hj
    have h1 := hl p' hp'
    have h2 := hdl p' hp'
    rw [tw_fo_ins hl hd hm hdl hp hp' j (by omega) hl1, tw_qi_out ?_ hm]
    · exact a2 j hj
    · by_cases e : p' = p
      · subst e; omega
      · omega
/-! REMOVAL: a slot taken out of its queue -/
def tw_qr (q : Nat → Nat) (c m e : Nat) : Nat → Nat := fun i => if c + m ≤ i ∧ i + 1 < c + e then q (i + 1) else q i
theorem tw_qr_lo {q : Nat → Nat} {c m e i : Nat} (h : i < c + m ∨ c + e ≤ i + 1) : tw_qr q c m e i = q i := by
  unfold tw_qr
  rw [if_neg (by omega)]
theorem tw_qr_hi {q : Nat → Nat} {c m e i : Nat} (h : c + m ≤ i) (h2 : i + 1 < c + e) : tw_qr q c m e i = q (i + 1) := by
  unfold tw_qr
  rw [if_pos ⟨h, h2⟩]
theorem tw_rem_Q {L : Nat → Prop} {Lp : Nat} {D : Nat → Nat} {b : Nat → Nat → Prop} {po po' : Nat → Int32} {q l d : Nat → Nat} (hQ : tw_Q L Lp D b po q l d) (hb : ∀ s, ¬ b s s)
    (hl : ∀ p, p < Lp → l p ≤ 48) (hDL : ∀ s, L s → D s < Lp) {p m s : Nat} (hp : p < Lp) (hd : d p ≤ m) (hm : m < l p) (hs : q (48 * p + m) = s) (hpo : ∀ x, x ≠ s → po' x = po x) :
    tw_Q (fun x => L x ∧ x ≠ s) Lp D b po' (tw_qr q (48 * p) m (l p)) (tw_u l p (l p - 1)) d := by
  have hDs : D s = p := by
    obtain ⟨_, a2, _⟩ := hQ.1 p hp
    rw [← hs]; exact (a2 m hm).2.1
  refine ⟨?_, ?_⟩
  · intro p' hp'
    obtain ⟨a1, a2, a3⟩ := hQ.1 p' hp'
    have h48 := hl p' hp'
    by_cases e : p' = p
    · subst e
      rw [tw_us]
      have key : ∀ j, j < l p' - 1 → ∃ j', tw_qr q (48 * p') m (l p') (48 * p' + j) = q (48 * p' + j') ∧ (j < m ∧ j' = j ∨ m ≤ j ∧ j' = j + 1) := by
        intro j hj
        by_cases h1 : j < m
        · exact ⟨j, tw_qr_lo (by omega), Or.inl ⟨h1, rfl⟩⟩
        · exact ⟨j + 1, tw_qr_hi (by omega) (by omega), Or.inr ⟨by omega, rfl⟩⟩
      refine ⟨by omega, ?_, ?_⟩
      · intro j hj
        obtain ⟨j', e1, hj'⟩ := key j hj
        rw [e1]
        obtain ⟨k1, k2, k3⟩ := a2 j' (by omega)
        have hne : q (48 * p' + j') ≠ s := by
          intro z
          have := tw_qinj hQ hb hp' (by omega : j' < l p') hm (z.trans hs.symm)
          omega
        refine ⟨⟨k1, hne⟩, k2, ?_⟩
        rw [hpo _ hne, k3]
        by_cases h : j < d p'
        · rw [if_pos h, if_pos (by omega)]
        · rw [if_neg h, if_neg (by omega)]
      · intro j k hjk hk
        obtain ⟨j', e1, hj'⟩ := key j (by omega)
        obtain ⟨k', e2, hk'⟩ := key k hk
        rw [e1, e2]
        exact a3 j' k' (by omega) (by omega)
    · rw [tw_un e]
      have key : ∀ j, j < l p' → tw_qr q (48 * p) m (l p) (48 * p' + j) = q (48 * p' + j) := by
        intro j hj
        have := hl p hp
        refine tw_qr_lo ?_
        omega
      refine ⟨a1, ?_, ?_⟩
      · intro j hj
        rw [key j hj]
        obtain ⟨k1, k2, k3⟩ := a2 j hj
        have hne : q (48 * p' + j) ≠ s := by
          intro z
          rw [z, hDs] at k2
          exact e k2.symm
        refine ⟨⟨k1, hne⟩, k2, ?_⟩
        rw [hpo _ hne, k3]
      · intro j k hjk hk
        rw [key j (by omega), key k hk]
        exact a3 j k hjk hk
  · intro x hx hpx
    obtain ⟨hx1, hx2⟩ := hx
    rw [hpo x hx2] at hpx
    obtain ⟨j, hj, ej⟩ := hQ.2 x hx1 hpx
    have hDx := hDL x hx1
    have h48 := hl (D x) hDx
    have h48p := hl p hp
    by_cases e : D x = p
    · rw [e, tw_us]
      rw [e] at hj ej
      have hjm : j ≠ m := by
        intro z
        subst z
        exact hx2 (ej.symm.trans hs)
      by_cases h1 : j < m
      · exact ⟨j, by omega, (tw_qr_lo (by omega)).trans ej⟩
      · refine ⟨j - 1, by omega, ?_⟩
        rw [tw_qr_hi (by omega) (by omega), show 48 * p + (j - 1) + 1 = 48 * p + j by omega]
        exact ej
    · rw [tw_un e]
      exact ⟨j, hj, (tw_qr_lo (by omega)).trans ej⟩
theorem tw_rem_C {Lp : Nat} {op co cm pa : Nat → Int32} {q l d : Nat → Nat} {cu sb : Nat → Int32} (hC : tw_C Lp op co cm pa q d cu sb) {p m : Nat}
    (hl : ∀ p, p < Lp → l p ≤ 48) (hdl : ∀ p, p < Lp → d p ≤ l p) (hp : p < Lp) (hd : d p ≤ m) (hm : m < l p) : tw_C Lp op co cm pa (tw_qr q (48 * p) m (l p)) d cu sb := by
  intro p' hp'
  obtain ⟨a1, a2⟩ := hC p' hp'
  have key : ∀ i, i < d p' → tw_qr q (48 * p) m (l p) (48 * p' + i) = q (48 * p' + i) := by
    intro i hi
    have h1 := hl p' hp'
    have h2 := hdl p' hp'
    have h3 := hl p hp
    refine tw_qr_lo ?_
    by_cases e : p' = p
    · subst e; omega
    · omega
  have kf : ∀ j, j ≤ d p' → tw_fo op co cm pa (tw_qr q (48 * p) m (l p)) p' j = tw_fo op co cm pa q p' j := by
    intro j hj
    refine tw_fo_cg rfl rfl rfl j ?_
    intro i hi
    rw [key i (by omega)]
  refine ⟨?_, ?_⟩
  · rw [kf _ (Nat.le_refl _)]; exact a1
  · intro j hj
    rw [key j hj, kf j (by omega)]
    exact a2 j hj
/-! a slot no longer live -/
theorem tw_rem_T {L : Nat → Prop} {se ti ca po an sf ss po' an' : Nat → Int32} {s : Nat} (hT : tw_T L se ti ca po an sf ss) (hL : ∀ s, L s → s < 48) (hs : L s)
    (hn : an s ≠ 0 ∨ ∀ e, L e → ca s ≠ se e) (hpo : ∀ x, x ≠ s → po' x = po x) (han : ∀ x, x ≠ s → an' x = an x) :
    tw_T (fun x => L x ∧ x ≠ s) se ti ca po' an' sf ss := by
  intro e he
  obtain ⟨he1, he2⟩ := he
  obtain ⟨h1, h2, h3, h4⟩ := hT e he1
  have key : ∀ x, tw_F1 L se ti ca an e x → tw_F1 (fun x => L x ∧ x ≠ s) se ti ca an' e x := by
    intro x hx
    rcases hx with hx | ⟨y, k1, k2, k3, k4, k5⟩
    · exact Or.inl hx
    · have hne : y ≠ s := by
        intro z
        subst z
        rcases hn with hn | hn
        · exact hn k4
        · exact hn e he1 k3
      exact Or.inr ⟨y, ⟨k1, hne⟩, k2, k3, by rw [han y hne]; exact k4, k5⟩
  refine ⟨key _ h1, key _ h2, ?_, ?_⟩
  · intro y hy hc hz
    rw [han y hy.2] at hz
    exact h3 y hy.1 hc hz
  · rw [hpo e he2]; exact h4
/-! a slot made live -/
theorem tw_make_T {L : Nat → Prop} {se ti ca po an sf ss : Nat → Int32} {s Ns : Nat} {tv cv pv : Int32} (hT : tw_T L se ti ca po an sf ss) (hs : ¬ L s)
    (hse : ∀ x, L x → 0 ≤ (se x).toInt ∧ (se x).toInt < Ns) (hca : ∀ x, L x → (ca x).toInt < Ns) (hN : Ns < 2 ^ 31) (hcv : cv = -1) :
    tw_T (fun x => L x ∨ x = s) (upd se s (nI Ns)) (upd ti s tv) (upd ca s cv) (upd po s pv) (upd an s 0) (upd sf s (-1)) (upd ss s (-1)) := by
  have hne : ∀ x, L x → x ≠ s := fun x hx z => hs (z ▸ hx)
  have hsN : (nI Ns).toInt = (Ns : Int) := nI_toInt hN
  intro e he
  rcases he with he | he
  · have h5 := hne e he
    obtain ⟨h1, h2, h3, h4⟩ := hT e he
    have key : ∀ x, tw_F1 L se ti ca an e x → tw_F1 (fun x => L x ∨ x = s) (upd se s (nI Ns)) (upd ti s tv) (upd ca s cv) (upd an s 0) e x := by
      intro x hx
      rcases hx with hx | ⟨y, k1, k2, k3, k4, k5⟩
      · exact Or.inl hx
      · have h6 := hne y k1
        exact Or.inr ⟨y, Or.inl k1, k2, by rw [pk_un h6, pk_un h5]; exact k3, by rw [pk_un h6]; exact k4, by rw [pk_un h6, pk_un h5]; exact k5⟩
    have E1 : upd sf s (-1) e = sf e := pk_un h5
    have E2 : upd ss s (-1) e = ss e := pk_un h5
    have E3 : upd po s pv e = po e := pk_un h5
    have E4 : upd se s (nI Ns) e = se e := pk_un h5
    refine ⟨by rw [E1]; exact key _ h1, by rw [E2]; exact key _ h2, ?_, by rw [E1, E2, E3]; exact h4⟩
    rw [E1, E2, E4]
    intro y hy hc hz
    rcases hy with hy | hy
    · rw [pk_un (hne y hy)] at hc hz
      exact h3 y hy hc hz
    · rw [hy, pk_us, hcv] at hc
      have := (hse e he).1
      rw [← hc, tw_tm1] at this
      omega
  · have E1 : upd sf s (-1) e = -1 := by rw [he]; exact pk_us
    have E2 : upd ss s (-1) e = -1 := by rw [he]; exact pk_us
    have E4 : upd se s (nI Ns) e = nI Ns := by rw [he]; exact pk_us
    refine ⟨Or.inl E1, Or.inl E2, ?_, fun _ => ⟨E1, E2⟩⟩
    rw [E4]
    intro y hy hc hz
    exfalso
    rcases hy with hy | hy
    · rw [pk_un (hne y hy)] at hc
      have := hca y hy
      rw [hc, hsN] at this
      omega
    · rw [hy, pk_us, hcv] at hc
      have := congrArg Int32.toInt hc
      rw [hsN, tw_tm1] at this
      omega
theorem tw_send_T {L : Nat → Prop} {se ti ca po an sf ss : Nat → Int32} {s e0 Ns : Nat} {tv pv : Int32} (hT : tw_T L se ti ca po an sf ss) (hs : ¬ L s) (he0 : L e0) (hp0 : po e0 = 3) (hf0 : sf e0 = -1)
    (hse : ∀ x, L x → 0 ≤ (se x).toInt ∧ (se x).toInt < Ns) (hca : ∀ x, L x → (ca x).toInt < Ns) (hN : Ns < 2 ^ 31) (hL : ∀ x, L x → x < 48)
    (hinj : ∀ s s', L s → L s' → se s = se s' → s = s') (htv : (ti e0).toInt < tv.toInt) :
    tw_T (fun x => L x ∨ x = s) (upd se s (nI Ns)) (upd ti s tv) (upd ca s (se e0)) (upd po s pv) (upd an s 0) (upd (upd sf s (-1)) e0 (nI s)) (upd ss s (-1)) := by
  have hne : ∀ x, L x → x ≠ s := fun x hx z => hs (z ▸ hx)
  have hsN : (nI Ns).toInt = (Ns : Int) := nI_toInt hN
  have h0 := hne e0 he0
  intro e he
  rcases he with he | he
  · have h5 := hne e he
    obtain ⟨h1, h2, h3, h4⟩ := hT e he
    have key : ∀ x, tw_F1 L se ti ca an e x → tw_F1 (fun x => L x ∨ x = s) (upd se s (nI Ns)) (upd ti s tv) (upd ca s (se e0)) (upd an s 0) e x := by
      intro x hx
      rcases hx with hx | ⟨y, k1, k2, k3, k4, k5⟩
      · exact Or.inl hx
      · have h6 := hne y k1
        exact Or.inr ⟨y, Or.inl k1, k2, by rw [pk_un h6, pk_un h5]; exact k3, by rw [pk_un h6]; exact k4, by rw [pk_un h6, pk_un h5]; exact k5⟩
    have E2 : upd ss s (-1) e = ss e := pk_un h5
    have E3 : upd po s pv e = po e := pk_un h5
    have E4 : upd se s (nI Ns) e = se e := pk_un h5
    have E5 : upd ti s tv e = ti e := pk_un h5
    by_cases hee : e = e0
    · subst hee
      have E1 : upd (upd sf s (-1)) e (nI s) e = nI s := pk_us
      refine ⟨?_, by rw [E2]; exact key _ h2, ?_, fun z => absurd hp0 (by rw [E3] at z; exact z)⟩
      · rw [E1]
        exact Or.inr ⟨s, Or.inr rfl, rfl, by rw [pk_us, E4], pk_us, by rw [pk_us, E5]; exact htv⟩
      · rw [E1, E2, E4]
        intro y hy hc hz
        rcases hy with hy | hy
        · rw [pk_un (hne y hy)] at hc hz
          rcases h3 y hy hc hz with g | g
          · rw [hf0] at g
            exact absurd g.symm (tw_n1 (by have := hL y hy; omega))
          · exact Or.inr g
        · rw [hy]; exact Or.inl rfl
    · have E1 : upd (upd sf s (-1)) e0 (nI s) e = sf e := (pk_un hee).trans (pk_un h5)
      refine ⟨by rw [E1]; exact key _ h1, by rw [E2]; exact key _ h2, ?_, by rw [E1, E2, E3]; exact h4⟩
      rw [E1, E2, E4]
      intro y hy hc hz
      rcases hy with hy | hy
      · rw [pk_un (hne y hy)] at hc hz
        exact h3 y hy hc hz
      · rw [hy, pk_us] at hc
        exact absurd (hinj e0 e he0 he hc) (fun z => hee z.symm)
  · have E1 : upd (upd sf s (-1)) e0 (nI s) e = -1 := by rw [he, pk_un (fun z => h0 z.symm)]; exact pk_us
    have E2 : upd ss s (-1) e = -1 := by rw [he]; exact pk_us
    have E4 : upd se s (nI Ns) e = nI Ns := by rw [he]; exact pk_us
    refine ⟨Or.inl E1, Or.inl E2, ?_, fun _ => ⟨E1, E2⟩⟩
    rw [E4]
    intro y hy hc hz
    exfalso
    rcases hy with hy | hy
    · rw [pk_un (hne y hy)] at hc
      have := hca y hy
      rw [hc, hsN] at this
      omega
    · rw [hy, pk_us] at hc
      have := (hse e0 he0).2
      rw [hc, hsN] at this
      omega
theorem tw_make_Q {L : Nat → Prop} {Lp : Nat} {D D' : Nat → Nat} {b b' : Nat → Nat → Prop} {po po' : Nat → Int32} {q l d : Nat → Nat} {s : Nat} (hQ : tw_Q L Lp D b po q l d) (hs : ¬ L s)
    (hD : ∀ x, L x → D' x = D x) (hpo : ∀ x, L x → po' x = po x) (hb : ∀ x y, L x → L y → b x y → b' x y) (hps : po' s = 1) : tw_Q (fun x => L x ∨ x = s) Lp D' b' po' q l d := by
  refine ⟨?_, ?_⟩
  · intro p hp
    obtain ⟨a1, a2, a3⟩ := hQ.1 p hp
    refine ⟨a1, ?_, ?_⟩
    · intro j hj
      obtain ⟨k1, k2, k3⟩ := a2 j hj
      exact ⟨Or.inl k1, by rw [hD _ k1]; exact k2, by rw [hpo _ k1]; exact k3⟩
    · intro j k hjk hk
      exact hb _ _ (a2 j (by omega)).1 (a2 k hk).1 (a3 j k hjk hk)
  · intro x hx hpx
    rcases hx with hx | hx
    · rw [hpo x hx] at hpx
      rw [hD x hx]
      exact hQ.2 x hx hpx
    · rw [hx] at hpx
      exact absurd hps hpx
end TWC
end
section
section TWD
/-! the order: a slot taken out, a slot made live -/
def tw_rm (o : Nat → Nat) (m M : Nat) : Nat → Nat := fun i => if i = M then o m else if m ≤ i ∧ i < M then o (i + 1) else o i
theorem tw_rm_lo {o : Nat → Nat} {m M i : Nat} (h : i < m) (h2 : m ≤ M) : tw_rm o m M i = o i := by
  unfold tw_rm; rw [if_neg (by omega), if_neg (by omega)]
theorem tw_rm_hi {o : Nat → Nat} {m M i : Nat} (h : m ≤ i) (h2 : i < M) : tw_rm o m M i = o (i + 1) := by
  unfold tw_rm; rw [if_neg (by omega), if_pos ⟨h, h2⟩]
theorem tw_rm_at {o : Nat → Nat} {m M : Nat} : tw_rm o m M M = o m := if_pos rfl
theorem tw_rm_out {o : Nat → Nat} {m M i : Nat} (h : M < i) : tw_rm o m M i = o i := by
  unfold tw_rm; rw [if_neg (by omega), if_neg (by omega)]
/-- the place that a place of the new row had -/
theorem tw_rm_ex {o : Nat → Nat} {m M i : Nat} (hm : m ≤ M) : ∃ i', tw_rm o m M i = o i' ∧ (i < m ∧ i' = i ∨ m ≤ i ∧ i < M ∧ i' = i + 1 ∨ i = M ∧ i' = m ∨ M < i ∧ i' = i) := by
  by_cases h1 : i < m
  · exact ⟨i, tw_rm_lo h1 hm, Or.inl ⟨h1, rfl⟩⟩
  · by_cases h2 : i < M
    · exact ⟨i + 1, tw_rm_hi (by omega) h2, Or.inr (Or.inl ⟨by omega, h2, rfl⟩)⟩
    · by_cases h3 : i = M
      · subst h3; exact ⟨m, tw_rm_at, Or.inr (Or.inr (Or.inl ⟨rfl, rfl⟩))⟩
      · exact ⟨i, tw_rm_out (by omega), Or.inr (Or.inr (Or.inr ⟨by omega, rfl⟩))⟩
theorem tw_rm_O {o : Nat → Nat} {m M : Nat} (hO : tw_O o) (hm : m ≤ M) (hM : M < 48) : tw_O (tw_rm o m M) := by
  refine ⟨?_, ?_⟩
  · intro i hi
    obtain ⟨i', e, hc⟩ := tw_rm_ex (o := o) (i := i) hm
    rw [e]
    exact hO.1 i' (by omega)
  · intro i j hi hj e
    obtain ⟨i', e1, hc⟩ := tw_rm_ex (o := o) (i := i) hm
    obtain ⟨j', e2, hc2⟩ := tw_rm_ex (o := o) (i := j) hm
    rw [e1, e2] at e
    have := hO.2 i' j' (by omega) (by omega) e
    omega
theorem tw_rm_L {o : Nat → Nat} {m M : Nat} (hO : tw_O o) (hm : m ≤ M) (hM : M < 48) : tw_L (tw_rm o m M) M = fun s => tw_L o (M + 1) s ∧ s ≠ o m := by
  funext s
  refine propext ⟨?_, ?_⟩
  · intro h
    obtain ⟨i, hi, e⟩ := h
    obtain ⟨i', e1, hc⟩ := tw_rm_ex (o := o) (i := i) hm
    rw [e1] at e
    refine ⟨⟨i', by omega, e⟩, ?_⟩
    intro z
    have := hO.2 i' m (by omega) (by omega) (e.trans z)
    omega
  · intro h
    obtain ⟨⟨i, hi, e⟩, hne⟩ := h
    have him : i ≠ m := by
      intro z
      subst z
      exact hne e.symm
    by_cases h1 : i < m
    · exact ⟨i, by omega, (tw_rm_lo h1 hm).trans e⟩
    · refine ⟨i - 1, by omega, ?_⟩
      rw [tw_rm_hi (by omega) (by omega), show i - 1 + 1 = i by omega]
      exact e
theorem tw_rm_S {o : Nat → Nat} {m M Ns : Nat} {se : Nat → Int32} (hS : tw_S o (M + 1) Ns se) (hm : m ≤ M) : tw_S (tw_rm o m M) M Ns se := by
  refine ⟨?_, ?_⟩
  · intro i j hij hj
    obtain ⟨i', e1, hc⟩ := tw_rm_ex (o := o) (i := i) hm
    obtain ⟨j', e2, hc2⟩ := tw_rm_ex (o := o) (i := j) hm
    rw [e1, e2]
    exact hS.1 i' j' (by omega) (by omega)
  · intro i hi
    obtain ⟨i', e1, hc⟩ := tw_rm_ex (o := o) (i := i) hm
    rw [e1]
    exact hS.2 i' (by omega)
theorem tw_mk_L {o : Nat → Nat} {N : Nat} : tw_L o (N + 1) = fun s => tw_L o N s ∨ s = o N := by
  funext s
  refine propext ⟨?_, ?_⟩
  · intro h
    obtain ⟨i, hi, e⟩ := h
    by_cases h1 : i < N
    · exact Or.inl ⟨i, h1, e⟩
    · have : i = N := by omega
      subst this
      exact Or.inr e.symm
  · intro h
    rcases h with ⟨i, hi, e⟩ | h
    · exact ⟨i, by omega, e⟩
    · exact ⟨N, by omega, h.symm⟩
theorem tw_mk_n {o : Nat → Nat} {N : Nat} (hO : tw_O o) (hN : N < 48) : ¬ tw_L o N (o N) := by
  intro h
  obtain ⟨i, hi, e⟩ := h
  have := hO.2 i N (by omega) hN e
  omega
theorem tw_mk_S {o : Nat → Nat} {N Ns : Nat} {se : Nat → Int32} (hO : tw_O o) (hN : N < 48) (hS : tw_S o N Ns se) (hNs : Ns < 2 ^ 30) : tw_S o (N + 1) (Ns + 1) (upd se (o N) (nI Ns)) := by
  have hne : ∀ i, i < N → o i ≠ o N := fun i hi z => by
    have := hO.2 i N (by omega) hN z
    omega
  have hsN : (nI Ns).toInt = (Ns : Int) := nI_toInt (by omega)
  refine ⟨?_, ?_⟩
  · intro i j hij hj
    rw [pk_un (hne i (by omega))]
    by_cases h : j < N
    · rw [pk_un (hne j h)]; exact hS.1 i j hij h
    · have : j = N := by omega
      subst this
      rw [pk_us, hsN]
      have := (hS.2 i (by omega)).2
      omega
  · intro i hi
    by_cases h : i < N
    · rw [pk_un (hne i h)]
      have := hS.2 i h
      omega
    · have : i = N := by omega
      subst this
      rw [pk_us, hsN]
      omega
theorem tw_mk_A {L : Nat → Prop} {Lp Tl Ns s dv : Nat} {D : Nat → Nat} {ti ca po : Nat → Int32} {tv cv : Int32} (hA : tw_A L Lp Tl Ns D ti ca po) (hs : ¬ L s) (hd : dv < Lp) (ht : 0 ≤ tv.toInt ∧ tv.toInt < Tl) (hc : cv.toInt < Ns + 1) :
    tw_A (fun x => L x ∨ x = s) Lp Tl (Ns + 1) (tw_u D s dv) (upd ti s tv) (upd ca s cv) (upd po s 1) := by
  intro x hx
  by_cases e : x = s
  · subst e
    rw [tw_us, pk_us, pk_us, pk_us]
    exact ⟨hd, ht.1, ht.2, by omega, Or.inl rfl⟩
  · have hx' : L x := by
      rcases hx with h | h
      · exact h
      · exact absurd h e
    rw [tw_un e, pk_un e, pk_un e, pk_un e]
    obtain ⟨a, b, c, f, g⟩ := hA x hx'
    exact ⟨a, b, c, by omega, g⟩
/-! a slot's condition changed -/
theorem tw_rem_A {L : Nat → Prop} {Lp Tl Ns s : Nat} {D : Nat → Nat} {ti ca po po' : Nat → Int32} (hA : tw_A L Lp Tl Ns D ti ca po) (hpo : ∀ x, x ≠ s → po' x = po x) : tw_A (fun x => L x ∧ x ≠ s) Lp Tl Ns D ti ca po' := by
  intro x hx
  obtain ⟨a, b, c, f, g⟩ := hA x hx.1
  rw [hpo x hx.2]
  exact ⟨a, b, c, f, g⟩
theorem tw_rem_E {L : Nat → Prop} {s : Nat} {sr ca po po' : Nat → Int32} (hE : tw_E L sr ca po) (hpo : ∀ x, x ≠ s → po' x = po x) : tw_E (fun x => L x ∧ x ≠ s) sr ca po' := by
  intro x hx hr
  rw [hpo x hx.2]
  exact hE x hx.1 hr
theorem tw_set_A {L : Nat → Prop} {Lp Tl Ns s : Nat} {D : Nat → Nat} {ti ca po : Nat → Int32} {v : Int32} (hA : tw_A L Lp Tl Ns D ti ca po) (hv : v = 1 ∨ v = 2 ∨ v = 3) : tw_A L Lp Tl Ns D ti ca (upd po s v) := by
  intro x hx
  obtain ⟨a, b, c, f, g⟩ := hA x hx
  refine ⟨a, b, c, f, ?_⟩
  by_cases e : x = s
  · subst e; rw [pk_us]; exact hv
  · rw [pk_un e]; exact g
/-! the slots flying: their queue facts do not change when one goes -/
theorem tw_fly_Q {L : Nat → Prop} {Lp : Nat} {D : Nat → Nat} {b : Nat → Nat → Prop} {po po' : Nat → Int32} {q l d : Nat → Nat} {s : Nat} (hQ : tw_Q L Lp D b po q l d) (hs : po s = 1) (hpo : ∀ x, x ≠ s → po' x = po x) :
    tw_Q (fun x => L x ∧ x ≠ s) Lp D b po' q l d := by
  refine ⟨?_, ?_⟩
  · intro p hp
    obtain ⟨a1, a2, a3⟩ := hQ.1 p hp
    refine ⟨a1, ?_, a3⟩
    intro j hj
    obtain ⟨k1, k2, k3⟩ := a2 j hj
    have hne : q (48 * p + j) ≠ s := by
      intro z
      rw [z, hs] at k3
      by_cases h : j < d p
      · rw [if_pos h] at k3; exact absurd k3 (by decide)
      · rw [if_neg h] at k3; exact absurd k3 (by decide)
    exact ⟨⟨k1, hne⟩, k2, by rw [hpo _ hne]; exact k3⟩
  · intro x hx hpx
    rw [hpo x hx.2] at hpx
    exact hQ.2 x hx.1 hpx
/-! STEP: the first ARRIVED of p is DONE -/
theorem tw_step_Q {L : Nat → Prop} {Lp : Nat} {D : Nat → Nat} {b : Nat → Nat → Prop} {po : Nat → Int32} {q l d : Nat → Nat} (hQ : tw_Q L Lp D b po q l d) (hb : ∀ s, ¬ b s s)
    {p : Nat} (hp : p < Lp) (hd : d p < l p) : tw_Q L Lp D b (upd po (q (48 * p + d p)) 3) q l (tw_u d p (d p + 1)) := by
  have hDe : D (q (48 * p + d p)) = p := ((hQ.1 p hp).2.1 (d p) hd).2.1
  refine ⟨?_, ?_⟩
  · intro p' hp'
    obtain ⟨a1, a2, a3⟩ := hQ.1 p' hp'
    by_cases e : p' = p
    · subst e
      rw [tw_us]
      refine ⟨by omega, ?_, a3⟩
      intro j hj
      obtain ⟨k1, k2, k3⟩ := a2 j hj
      refine ⟨k1, k2, ?_⟩
      by_cases hjd : j = d p'
      · subst hjd
        rw [pk_us, if_pos (by omega)]
      · rw [pk_un (fun z => hjd (tw_qinj hQ hb hp' hj hd z)), k3]
        by_cases h : j < d p'
        · rw [if_pos h, if_pos (by omega)]
        · rw [if_neg h, if_neg (by omega)]
    · rw [tw_un e]
      refine ⟨a1, ?_, a3⟩
      intro j hj
      obtain ⟨k1, k2, k3⟩ := a2 j hj
      refine ⟨k1, k2, ?_⟩
      rw [pk_un ?_]
      · exact k3
      · intro z
        rw [z, hDe] at k2
        exact e k2.symm
  · intro x hx hpx
    by_cases e : x = q (48 * p + d p)
    · rw [e, hDe]
      exact ⟨d p, hd, rfl⟩
    · rw [pk_un e] at hpx
      exact hQ.2 x hx hpx
theorem tw_step_C {L : Nat → Prop} {Lp : Nat} {D : Nat → Nat} {b : Nat → Nat → Prop} {po op co cm pa : Nat → Int32} {q l d : Nat → Nat} {cu sb : Nat → Int32} (hC : tw_C Lp op co cm pa q d cu sb) (hQ : tw_Q L Lp D b po q l d) (hb : ∀ s, ¬ b s s)
    {p : Nat} (hp : p < Lp) (hd : d p < l p) : tw_C Lp op co cm pa q (tw_u d p (d p + 1)) (upd cu p (tw_ap (op p) (co p) (cu p) (pa (q (48 * p + d p))))) (upd sb (q (48 * p + d p)) (cu p)) := by
  intro p' hp'
  obtain ⟨a1, a2⟩ := hC p' hp'
  obtain ⟨c1, c2, c3⟩ := hQ.1 p' hp'
  by_cases e : p' = p
  · subst e
    rw [tw_us, pk_us]
    refine ⟨?_, ?_⟩
    · rw [a1]; rfl
    · intro j hj
      by_cases hjd : j = d p'
      · subst hjd
        rw [pk_us]; exact a1
      · rw [pk_un (fun z => hjd (tw_qinj hQ hb hp' (by omega) hd z))]
        exact a2 j (by omega)
  · rw [tw_un e, pk_un e]
    refine ⟨a1, ?_⟩
    intro j hj
    rw [pk_un ?_]
    · exact a2 j hj
    · intro z
      have k2 := (c2 j (by omega)).2.1
      rw [z, ((hQ.1 p hp).2.1 (d p) hd).2.1] at k2
      exact e k2.symm
theorem tw_make_C {L : Nat → Prop} {Lp : Nat} {D : Nat → Nat} {b : Nat → Nat → Prop} {po op co cm pa : Nat → Int32} {q l d : Nat → Nat} {cu sb : Nat → Int32} {s : Nat} {v : Int32} (hC : tw_C Lp op co cm pa q d cu sb) (hQ : tw_Q L Lp D b po q l d) (hs : ¬ L s) :
    tw_C Lp op co cm (upd pa s v) q d cu sb := by
  intro p hp
  obtain ⟨a1, a2⟩ := hC p hp
  obtain ⟨c1, c2, c3⟩ := hQ.1 p hp
  have kf : ∀ j, j ≤ d p → tw_fo op co cm (upd pa s v) q p j = tw_fo op co cm pa q p j := by
    intro j hj
    refine tw_fo_cg rfl rfl rfl j ?_
    intro i hi
    exact pk_un (fun z => hs (z ▸ (c2 i (by omega)).1))
  refine ⟨?_, ?_⟩
  · rw [kf _ (Nat.le_refl _)]; exact a1
  · intro j hj
    rw [kf j (by omega)]; exact a2 j hj
/-! a queue is no longer than what lives -/
theorem tw_qlen {o : Nat → Nat} {N Lp : Nat} {D : Nat → Nat} {b : Nat → Nat → Prop} {po : Nat → Int32} {q l d : Nat → Nat} (hQ : tw_Q (tw_L o N) Lp D b po q l d) (hb : ∀ s, ¬ b s s) {p : Nat} (hp : p < Lp) : l p ≤ N := by
  refine tw_ph o N (l p) (fun j => q (48 * p + j)) ?_ ?_
  · intro j hj
    exact ((hQ.1 p hp).2.1 j hj).1
  · intro j j' hj hj' e
    exact tw_qinj hQ hb hp hj hj' e
/-- one more fits if a flying one lives -/
theorem tw_qlen1 {o : Nat → Nat} {N Lp : Nat} {D : Nat → Nat} {b : Nat → Nat → Prop} {po : Nat → Int32} {q l d : Nat → Nat} (hQ : tw_Q (tw_L o N) Lp D b po q l d) (hb : ∀ s, ¬ b s s) {p s : Nat} (hp : p < Lp) (hs : tw_L o N s) (hpo : po s = 1) : l p + 1 ≤ N := by
  have hne : ∀ j, j < l p → q (48 * p + j) ≠ s := by
    intro j hj z
    have k3 := ((hQ.1 p hp).2.1 j hj).2.2
    rw [z, hpo] at k3
    by_cases h : j < d p
    · rw [if_pos h] at k3; exact absurd k3 (by decide)
    · rw [if_neg h] at k3; exact absurd k3 (by decide)
  refine tw_ph o N (l p + 1) (fun j => if j < l p then q (48 * p + j) else s) ?_ ?_
  · intro j hj
    by_cases h : j < l p
    · rw [if_pos h]; exact ((hQ.1 p hp).2.1 j h).1
    · rw [if_neg h]; exact hs
  · intro j j' hj hj' e
    by_cases h : j < l p
    · by_cases h' : j' < l p
      · rw [if_pos h, if_pos h'] at e
        exact tw_qinj hQ hb hp h h' e
      · rw [if_pos h, if_neg h'] at e
        exact absurd e (hne j h)
    · by_cases h' : j' < l p
      · rw [if_neg h, if_pos h'] at e
        exact absurd e.symm (hne j' h')
      · omega
end TWD
end
section
section TWE
/-! the component's walks, small methods and searches -/
variable {Lp Rm Tl N Ns G : Nat} {tr : Int32} {op co la lb lg lh se sr ti pa ca po an sb sf ss cu cm ct : Nat → Int32} {D o q l d t : Nat → Nat}
theorem tw_x_isLp_t {post : Int32 → Prop} {p : Nat} (hL : Lp ≤ 4) (hp : p < Lp) (h : post 1) : wpX_isLp post (nI Lp, nI Rm, nI Tl, nI N, nI Ns, nI G, tr, op, co, la, lb, lg, lh, se, sr, tw_I D, ti, pa, ca, po, an, sb, sf, ss, tw_I o, tw_I q, tw_I l, tw_I d, cu, cm, ct, tw_I t) (nI p) :=
  br_f (nI_pos (by omega)) (br_f (nI_ge hp (by omega)) h)
theorem tw_x_isLp_f {post : Int32 → Prop} {x : Int32} (hx : x < 0 ∨ nI Lp ≤ x) (h : post 0) : wpX_isLp post (nI Lp, nI Rm, nI Tl, nI N, nI Ns, nI G, tr, op, co, la, lb, lg, lh, se, sr, tw_I D, ti, pa, ca, po, an, sb, sf, ss, tw_I o, tw_I q, tw_I l, tw_I d, cu, cm, ct, tw_I t) x :=
  br_c (fun _ => h) (fun z => br_t (hx.resolve_left z) h)
theorem tw_x_before {post : Int32 → Prop} {a b : Nat} (ha : a < 48) (hb : b < 48) (hD : D a = D b) (h1 : tw_b ti (tw_I D) sr pa se a b → post 1) (h0 : ¬ tw_b ti (tw_I D) sr pa se a b → post 0) :
    wpX_before post (nI Lp, nI Rm, nI Tl, nI N, nI Ns, nI G, tr, op, co, la, lb, lg, lh, se, sr, tw_I D, ti, pa, ca, po, an, sb, sf, ss, tw_I o, tw_I q, tw_I l, tw_I d, cu, cm, ct, tw_I t) (nI a) (nI b) := by
  have ia : vp_in (nI a) 48 := pk_in a 48 ha
  have ib : vp_in (nI b) 48 := pk_in b 48 hb
  have hDI : (tw_I D a).toInt = (tw_I D b).toInt := by unfold tw_I; rw [hD]
  unfold wpX_before
  dsimp only
  rw [nI_clamp (show a < 2 ^ 31 by omega), nI_clamp (show b < 2 ^ 31 by omega)]
  simp only [Int32.le_iff_toInt_le, ← Int32.toInt_inj]
  unfold tw_b at h1 h0
  refine ⟨ia, ib, br_c (fun e1 => ⟨ia, ib, br_c (fun e2 => ⟨ia, ib, br_c (fun e3 => ⟨ia, ib, br_c (fun e4 => h0 ?_) (fun e4 => h1 ?_)⟩) (fun e3 => ⟨ia, ib, br_c (fun e4 => h0 ?_) (fun e4 => h1 ?_)⟩)⟩) (fun e2 => ⟨ia, ib, br_c (fun e4 => h0 ?_) (fun e4 => h1 ?_)⟩)⟩) (fun e1 => ⟨ia, ib, br_c (fun e4 => h0 ?_) (fun e4 => h1 ?_)⟩)⟩
  all_goals omega
/-! findIndex -/
theorem tw_x_find62 {post : Int32 → Prop} {x : Int32} {lo : Nat} (hN : N ≤ 48) (hO : tw_O o) (hS : tw_S o N Ns se) (hlo : lo ≤ N)
    (hpre : ∀ i, i < lo → (se (o i)).toInt < x.toInt) (hpost : ∀ i, lo ≤ i → i < N → x.toInt ≤ (se (o i)).toInt)
    (f : ∀ i, i < N → se (o i) = x → post (nI i)) (g : (∀ i, i < N → se (o i) ≠ x) → post (-1)) : wX_findIndex_62 post x (nI lo) (nI Lp) (nI Rm) (nI Tl) (nI N) (nI Ns) (nI G) tr op co la lb lg lh se sr (tw_I D) ti pa ca po an sb sf ss (tw_I o) (tw_I q) (tw_I l) (tw_I d) cu cm ct (tw_I t) := by
  refine pk_le N lo (fun h => g ?_) (fun h => ?_)
  · intro i hi z
    have := hpre i (by omega)
    rw [z] at this
    omega
  · have e : tw_I o (nI lo).toNatClampNeg = nI (o lo) := tw_rd o rfl (by omega)
    have h48 := hO.1 lo (by omega)
    rw [e, nI_clamp (show o lo < 2 ^ 31 by omega)]
    refine ⟨pk_in lo 48 (by omega), pk_in (o lo) 48 h48, br_c (fun z => f lo h z) (fun z => g ?_)⟩
    intro i hi hz
    by_cases h1 : i < lo
    · have := hpre i h1
      rw [hz] at this
      omega
    · by_cases h2 : i = lo
      · subst h2; exact z hz
      · have a1 := hS.1 lo i (by omega) hi
        have a2 := hpost lo (Nat.le_refl _) h
        rw [hz] at a1
        omega
theorem tw_x_find10 {post : Int32 → Prop} {x : Int32} (hN : N ≤ 48) (hO : tw_O o) (hS : tw_S o N Ns se)
    (f : ∀ i, i < N → se (o i) = x → post (nI i)) (g : (∀ i, i < N → se (o i) ≠ x) → post (-1)) :
    ∀ k lo hi r, hi < lo + 2 ^ k → r + k ≤ 8 → lo ≤ hi → hi ≤ N → (∀ i, i < lo → (se (o i)).toInt < x.toInt) → (∀ i, hi ≤ i → i < N → x.toInt ≤ (se (o i)).toInt) →
      wX_findIndex_10 post x (nI Lp) (nI Rm) (nI Tl) (nI N) (nI Ns) (nI G) tr op co la lb lg lh se sr (tw_I D) ti pa ca po an sb sf ss (tw_I o) (tw_I q) (tw_I l) (tw_I d) cu cm ct (tw_I t) (k + 1) (nI lo) (nI hi) (nI r) := by
  intro k
  induction k with
  | zero =>
    intro lo hi r h1 h2 h3 h4 hpre hpost
    have : hi = lo := by omega
    subst this
    exact pk_le 8 r (fun _ => tw_x_find62 hN hO hS h4 hpre hpost f g) (fun _ => pk_le hi hi (fun _ => tw_x_find62 hN hO hS h4 hpre hpost f g) (fun h => absurd h (by omega)))
  | succ k ih =>
    intro lo hi r h1 h2 h3 h4 hpre hpost
    refine pk_le 8 r (fun h => absurd h (by omega)) (fun _ => pk_le hi lo (fun h => ?_) (fun h => ?_))
    · have : hi = lo := by omega
      subst this
      exact tw_x_find62 hN hO hS h4 hpre hpost f g
    · have hp : 2 ^ (k + 1) = 2 * 2 ^ k := by rw [Nat.pow_succ]; omega
      refine nm_r (e' := nI ((lo + hi) / 2 ^ 1)) (by rw [nI_add, pk_shrN (by omega) _ 1 (by decide)]) ?_
      obtain ⟨mid, hmid⟩ : ∃ mid, mid = (lo + hi) / 2 ^ 1 := ⟨_, rfl⟩
      rw [← hmid]
      have e : tw_I o (nI mid).toNatClampNeg = nI (o mid) := tw_rd o rfl (by omega)
      have h48 := hO.1 mid (by omega)
      rw [e, nI_clamp (show o mid < 2 ^ 31 by omega)]
      refine ⟨pk_in mid 48 (by omega), pk_in (o mid) 48 h48, br_c (fun hx => ?_) (fun hx => ?_)⟩
      · rw [Int32.le_iff_toInt_le] at hx
        refine nm_r (nI_1 r) (ih lo mid (r + 1) (by omega) (by omega) (by omega) (by omega) hpre ?_)
        intro i hi1 hi2
        by_cases h5 : i = mid
        · subst h5; exact hx
        · have := hS.1 mid i (by omega) hi2
          omega
      · rw [Int32.le_iff_toInt_le] at hx
        refine nm_r (nI_1 mid) (nm_r (nI_1 r) (ih (mid + 1) hi (r + 1) (by omega) (by omega) (by omega) (by omega) ?_ hpost))
        intro i hi1
        by_cases h5 : i = mid
        · subst h5; omega
        · have := hS.1 i mid (by omega) (by omega)
          omega
theorem tw_x_findIndex {post : Int32 → Prop} {x : Int32} (hN : N ≤ 48) (hO : tw_O o) (hS : tw_S o N Ns se)
    (f : ∀ i, i < N → se (o i) = x → post (nI i)) (g : (∀ i, i < N → se (o i) ≠ x) → post (-1)) : wpX_findIndex post (nI Lp, nI Rm, nI Tl, nI N, nI Ns, nI G, tr, op, co, la, lb, lg, lh, se, sr, tw_I D, ti, pa, ca, po, an, sb, sf, ss, tw_I o, tw_I q, tw_I l, tw_I d, cu, cm, ct, tw_I t) x :=
  ⟨7, tw_x_find10 hN hO hS f g 6 0 N 0 (by omega) (by omega) (by omega) (by omega) (fun i hi => absurd hi (by omega)) (fun i h1 h2 => absurd h1 (by omega))⟩
theorem tw_x_findSlot {post : Int32 → Prop} {x : Int32} (hN : N ≤ 48) (hO : tw_O o) (hS : tw_S o N Ns se)
    (f : ∀ i, i < N → se (o i) = x → post (nI (o i))) (g : (∀ i, i < N → se (o i) ≠ x) → post (-1)) : wpX_findSlot post (nI Lp, nI Rm, nI Tl, nI N, nI Ns, nI G, tr, op, co, la, lb, lg, lh, se, sr, tw_I D, ti, pa, ca, po, an, sb, sf, ss, tw_I o, tw_I q, tw_I l, tw_I d, cu, cm, ct, tw_I t) x := by
  unfold wpX_findSlot
  dsimp only
  refine tw_x_findIndex hN hO hS (fun i hi e => ?_) (fun h => ?_)
  · refine br_t (nI_pos' (by omega)) ⟨pk_in i 48 (by omega), ?_⟩
    rw [tw_rd o rfl (show i < 2 ^ 31 by omega)]
    exact f i hi e
  · exact br_f (by decide) (g h)
/-! placeOf -/
theorem tw_x_place19 {post : Int32 → Prop} {p s e : Nat} (hp : p < 4) (hs : s < 48) (he : e ≤ 48) (hq : ∀ j, j < e → q (48 * p + j) < 48 ∧ D (q (48 * p + j)) = D s)
    (hb : ∀ j k, j < k → k < e → tw_b ti (tw_I D) sr pa se (q (48 * p + j)) (q (48 * p + k)))
    (f : ∀ m, m ≤ e → (∀ j, j < m → tw_b ti (tw_I D) sr pa se (q (48 * p + j)) s) → (∀ j, m ≤ j → j < e → ¬ tw_b ti (tw_I D) sr pa se (q (48 * p + j)) s) → post (nI m)) :
    ∀ k lo hi r, hi < lo + 2 ^ k → r + k ≤ 8 → lo ≤ hi → hi ≤ e → (∀ j, j < lo → tw_b ti (tw_I D) sr pa se (q (48 * p + j)) s) → (∀ j, hi ≤ j → j < e → ¬ tw_b ti (tw_I D) sr pa se (q (48 * p + j)) s) →
      wX_placeOf_19 post (nI s) (nI (48 * p)) (nI Lp) (nI Rm) (nI Tl) (nI N) (nI Ns) (nI G) tr op co la lb lg lh se sr (tw_I D) ti pa ca po an sb sf ss (tw_I o) (tw_I q) (tw_I l) (tw_I d) cu cm ct (tw_I t) (k + 1) (nI lo) (nI hi) (nI r) := by
  intro k
  induction k with
  | zero =>
    intro lo hi r h1 h2 h3 h4 hpre hpost
    have : hi = lo := by omega
    subst this
    exact pk_le 8 r (fun _ => f hi h4 hpre hpost) (fun _ => pk_le hi hi (fun _ => f hi h4 hpre hpost) (fun h => absurd h (by omega)))
  | succ k ih =>
    intro lo hi r h1 h2 h3 h4 hpre hpost
    refine pk_le 8 r (fun h => absurd h (by omega)) (fun _ => pk_le hi lo (fun h => ?_) (fun h => ?_))
    · have : hi = lo := by omega
      subst this
      exact f hi h4 hpre hpost
    · have hp2 : 2 ^ (k + 1) = 2 * 2 ^ k := by rw [Nat.pow_succ]; omega
      refine nm_r (e' := nI ((lo + hi) / 2 ^ 1)) (by rw [nI_add, pk_shrN (by omega) _ 1 (by decide)]) ?_
      obtain ⟨mid, hmid⟩ : ∃ mid, mid = (lo + hi) / 2 ^ 1 := ⟨_, rfl⟩
      rw [← hmid]
      have e1 : tw_I q (nI (48 * p) + nI mid).toNatClampNeg = nI (q (48 * p + mid)) := tw_rd q (nI_add _ _) (by omega)
      rw [e1]
      obtain ⟨h48, hDm⟩ := hq mid (by omega)
      refine ⟨pk_in (48 * p + mid) 192 (by omega) (nI_add _ _), tw_x_before h48 hs hDm (fun hx => ?_) (fun hx => ?_)⟩
      · refine br_f (by decide) (nm_r (nI_1 mid) (nm_r (nI_1 r) (ih (mid + 1) hi (r + 1) (by omega) (by omega) (by omega) (by omega) ?_ hpost)))
        intro j hj
        by_cases h5 : j = mid
        · subst h5; exact hx
        · exact tw_b_tr (hb j mid (by omega) (by omega)) hx
      · refine br_t rfl (nm_r (nI_1 r) (ih lo mid (r + 1) (by omega) (by omega) (by omega) (by omega) hpre ?_))
        intro j hj1 hj2 hz
        by_cases h5 : j = mid
        · subst h5; exact hx hz
        · exact hx (tw_b_tr (hb mid j (by omega) hj2) hz)
theorem tw_x_placeOf {post : Int32 → Prop} {p s : Nat} (hp : p < 4) (hs : s < 48) (he : l p ≤ 48) (hq : ∀ j, j < l p → q (48 * p + j) < 48 ∧ D (q (48 * p + j)) = D s)
    (hb : ∀ j k, j < k → k < l p → tw_b ti (tw_I D) sr pa se (q (48 * p + j)) (q (48 * p + k)))
    (f : ∀ m, m ≤ l p → (∀ j, j < m → tw_b ti (tw_I D) sr pa se (q (48 * p + j)) s) → (∀ j, m ≤ j → j < l p → ¬ tw_b ti (tw_I D) sr pa se (q (48 * p + j)) s) → post (nI m)) :
    wpX_placeOf post (nI Lp, nI Rm, nI Tl, nI N, nI Ns, nI G, tr, op, co, la, lb, lg, lh, se, sr, tw_I D, ti, pa, ca, po, an, sb, sf, ss, tw_I o, tw_I q, tw_I l, tw_I d, cu, cm, ct, tw_I t) (nI p) (nI s) := by
  unfold wpX_placeOf
  dsimp only
  refine nm_r (tw_m48 p) ⟨pk_in p 4 hp, nm_r (tw_rd l rfl (by omega)) ?_⟩
  exact ⟨7, tw_x_place19 hp hs he hq hb f 6 0 (l p) 0 (by omega) (by omega) (by omega) (by omega) (fun j hj => absurd hj (by omega)) (fun j h1 h2 => absurd h1 (by omega))⟩
/-! cancel -/
def tw_K (x : Int32) (an an' : Nat → Int32) : Prop := ∀ s, s < 48 → (x = nI s ∧ an s = 0 → an' s = 1) ∧ (¬ (x = nI s ∧ an s = 0) → an' s = an s)
theorem tw_x_cancel {post : SX → Prop} {x : Int32} (hx : x = -1 ∨ ∃ s, s < 48 ∧ x = nI s) (h : ∀ an', tw_K x an an' → post (nI Lp, nI Rm, nI Tl, nI N, nI Ns, nI G, tr, op, co, la, lb, lg, lh, se, sr, tw_I D, ti, pa, ca, po, an', sb, sf, ss, tw_I o, tw_I q, tw_I l, tw_I d, cu, cm, ct, tw_I t)) : wpX_cancel post (nI Lp, nI Rm, nI Tl, nI N, nI Ns, nI G, tr, op, co, la, lb, lg, lh, se, sr, tw_I D, ti, pa, ca, po, an, sb, sf, ss, tw_I o, tw_I q, tw_I l, tw_I d, cu, cm, ct, tw_I t) x := by
  rcases hx with hx | ⟨s, hs, hx⟩
  · subst hx
    exact br_t (by decide) (h an (fun s hs => ⟨fun z => absurd z.1.symm (tw_n1 (by omega)), fun _ => rfl⟩))
  · subst hx
    unfold wpX_cancel
    dsimp only
    rw [nI_clamp (show s < 2 ^ 31 by omega)]
    refine br_f (nI_pos (by omega)) ⟨pk_in s 48 hs, br_c (fun z => ⟨pk_in s 48 hs, nm_e (h (upd an s 1) ?_)⟩) (fun z => h an ?_)⟩
    · intro s' hs'
      by_cases e : s' = s
      · subst e
        exact ⟨fun _ => pk_us, fun g => absurd ⟨rfl, z⟩ g⟩
      · refine ⟨fun g => absurd (tw_inj g.1 (by omega) (by omega)) (fun w => e w.symm), fun _ => pk_un e⟩
    · intro s' hs'
      refine ⟨fun g => ?_, fun _ => rfl⟩
      have : s = s' := tw_inj g.1 (by omega) (by omega)
      subst this
      exact absurd g.2 z
/-! undoFrom -/
theorem tw_UX_0 {U : Nat → Prop} {po an sf ss : Nat → Int32} (hU : ∀ s, ¬ U s) : tw_UX U po an sf ss po an sf ss :=
  ⟨fun s => ⟨fun z => absurd z (hU s), fun _ => ⟨rfl, rfl, rfl⟩⟩, fun s _ => ⟨fun z => absurd z.2 (fun ⟨e, he, _⟩ => hU e he), fun _ => rfl⟩⟩
theorem tw_UX_s {U U1 : Nat → Prop} {ev : Nat} {po an an1 an2 sf ss po' an' sf' ss' : Nat → Int32} (hU : ∀ s, U s ↔ s = ev ∨ U1 s) (hev : ¬ U1 ev)
    (k1 : tw_K (sf ev) an an1) (k2 : tw_K (ss ev) an1 an2) (h : tw_UX U1 (upd po ev 2) an2 (upd sf ev (-1)) (upd ss ev (-1)) po' an' sf' ss') : tw_UX U po an sf ss po' an' sf' ss' := by
  refine ⟨?_, ?_⟩
  · intro s
    by_cases e : s = ev
    · subst e
      obtain ⟨a, b, c⟩ := (h.1 s).2 hev
      rw [pk_us] at a b c
      exact ⟨fun _ => ⟨a, b, c⟩, fun z => absurd ((hU s).2 (Or.inl rfl)) z⟩
    · refine ⟨fun z => (h.1 s).1 (((hU s).1 z).resolve_left e), fun z => ?_⟩
      obtain ⟨a, b, c⟩ := (h.1 s).2 (fun w => z ((hU s).2 (Or.inr w)))
      rw [pk_un e] at a b c
      exact ⟨a, b, c⟩
  · intro s hs
    obtain ⟨p1, p2⟩ := k1 s hs
    obtain ⟨r1, r2⟩ := k2 s hs
    obtain ⟨t1, t2⟩ := h.2 s hs
    have conv : (∃ e, U1 e ∧ (upd sf ev (-1) e = nI s ∨ upd ss ev (-1) e = nI s)) ↔ ∃ e, U1 e ∧ (sf e = nI s ∨ ss e = nI s) := by
      refine ⟨fun z => ?_, fun z => ?_⟩
      · obtain ⟨e, he, z⟩ := z
        have hne : e ≠ ev := fun w => hev (w ▸ he)
        rw [pk_un hne, pk_un hne] at z
        exact ⟨e, he, z⟩
      · obtain ⟨e, he, z⟩ := z
        have hne : e ≠ ev := fun w => hev (w ▸ he)
        exact ⟨e, he, by rw [pk_un hne, pk_un hne]; exact z⟩
    rw [conv] at t1 t2
    have hcase : (∃ e, U e ∧ (sf e = nI s ∨ ss e = nI s)) ↔ sf ev = nI s ∨ ss ev = nI s ∨ ∃ e, U1 e ∧ (sf e = nI s ∨ ss e = nI s) := by
      refine ⟨fun z => ?_, fun z => ?_⟩
      · obtain ⟨e, he, z⟩ := z
        rcases (hU e).1 he with w | w
        · subst w
          rcases z with z | z
          · exact Or.inl z
          · exact Or.inr (Or.inl z)
        · exact Or.inr (Or.inr ⟨e, w, z⟩)
      · rcases z with z | z | ⟨e, he, z⟩
        · exact ⟨ev, (hU ev).2 (Or.inl rfl), Or.inl z⟩
        · exact ⟨ev, (hU ev).2 (Or.inl rfl), Or.inr z⟩
        · exact ⟨e, (hU e).2 (Or.inr he), z⟩
    rw [hcase]
    have h10 : ¬ (1 : Int32) = 0 := by decide
    by_cases z0 : an s = 0
    · by_cases z1 : sf ev = nI s
      · have e1 := p1 ⟨z1, z0⟩
        have e2 := r2 (fun w => h10 (e1.symm.trans w.2))
        have e3 := t2 (fun w => h10 ((e2.trans e1).symm.trans w.1))
        exact ⟨fun _ => e3.trans (e2.trans e1), fun w => absurd ⟨z0, Or.inl z1⟩ w⟩
      · have e1 := p2 (fun w => z1 w.1)
        by_cases z2 : ss ev = nI s
        · have e2 := r1 ⟨z2, e1.trans z0⟩
          have e3 := t2 (fun w => h10 (e2.symm.trans w.1))
          exact ⟨fun _ => e3.trans e2, fun w => absurd ⟨z0, Or.inr (Or.inl z2)⟩ w⟩
        · have e2 := r2 (fun w => z2 w.1)
          refine ⟨fun w => t1 ⟨e2.trans (e1.trans z0), ?_⟩, fun w => (t2 (fun v => w ⟨z0, Or.inr (Or.inr v.2)⟩)).trans (e2.trans e1)⟩
          rcases w.2 with v | v | v
          · exact absurd v z1
          · exact absurd v z2
          · exact v
    · have e1 := p2 (fun w => z0 w.2)
      have e2 := r2 (fun w => z0 (e1.symm.trans w.2))
      have e3 := t2 (fun w => z0 ((e2.trans e1).symm.trans w.1))
      exact ⟨fun w => absurd w.1 z0, fun _ => e3.trans (e2.trans e1)⟩
end TWE
end
section
section TWF
variable {Lp Rm Tl N Ns G : Nat} {tr : Int32} {op co la lb lg lh se sr ti pa ca po an sb sf ss cu cm ct : Nat → Int32} {D o q l d t : Nat → Nat}
theorem tw_x_undo43 {post : Int32 → SX → Prop} {p m e : Nat} (hp : p < 4) (he : e ≤ 48) (hme : m ≤ e) (hq : ∀ j, m ≤ j → j < e → q (48 * p + j) < 48)
    (hinj : ∀ j k, j < e → k < e → q (48 * p + j) = q (48 * p + k) → j = k) :
    ∀ (k i : Nat) (po an sf ss : Nat → Int32), i + k = e → m ≤ i →
      (∀ j, i ≤ j → j < e → sf (q (48 * p + j)) = -1 ∨ ∃ s, s < 48 ∧ sf (q (48 * p + j)) = nI s) →
      (∀ j, i ≤ j → j < e → ss (q (48 * p + j)) = -1 ∨ ∃ s, s < 48 ∧ ss (q (48 * p + j)) = nI s) →
      (∀ po' an' sf' ss', tw_UX (tw_U q p i e) po an sf ss po' an' sf' ss' → post (nI (e - m)) (nI Lp, nI Rm, nI Tl, nI N, nI Ns, nI G, tr, op, co, la, lb, lg, lh, se, sr, tw_I D, ti, pa, ca, po', an', sb, sf', ss', tw_I o, tw_I q, tw_I l, tw_I (tw_u d p m), cu, cm, ct, tw_I t)) →
      wX_undoFrom_43 post (nI p) (nI m) (nI e) (nI (48 * p)) (k + 1) (nI i) (nI Lp) (nI Rm) (nI Tl) (nI N) (nI Ns) (nI G) tr op co la lb lg lh se sr (tw_I D) ti pa ca po an sb sf ss (tw_I o) (tw_I q) (tw_I l) (tw_I d) cu cm ct (tw_I t) := by
  intro k
  induction k with
  | zero =>
    intro i po an sf ss hk hi hsf hss h
    refine pk_le e i (fun _ => And.intro (pk_in p 4 hp) (nm_r (tw_rU d rfl (by omega) rfl) ?_)) (fun z => absurd z (by omega))
    rw [pk_sub hme]
    refine h po an sf ss (tw_UX_0 ?_)
    intro s z
    obtain ⟨j, h1, h2, _⟩ := z
    omega
  | succ k ih =>
    intro i po an sf ss hk hi hsf hss h
    refine pk_le e i (fun z => absurd z (by omega)) (fun _ => And.intro (pk_in (48 * p + i) 192 (by omega) (nI_add _ _)) (nm_r (tw_rd q (nI_add _ _) (by omega)) ?_))
    have hev := hq i hi (by omega)
    obtain ⟨ev, eev⟩ : ∃ ev, ev = q (48 * p + i) := ⟨_, rfl⟩
    have hs1 := hsf i (Nat.le_refl _) (by omega)
    have hs2 := hss i (Nat.le_refl _) (by omega)
    rw [← eev] at hev hs1 hs2 ⊢
    have iv : vp_in (nI ev) 48 := pk_in ev 48 hev
    have cl : (nI ev).toNatClampNeg = ev := nI_clamp (by omega)
    refine And.intro iv (nm_r (tw_ru po rfl (by omega) rfl) (And.intro iv ?_))
    rw [tw_ra sf (x := nI ev) rfl (by omega)]
    refine tw_x_cancel (an := an) hs1 ?_
    intro an1 k1
    refine And.intro iv ?_
    rw [tw_ra ss (x := nI ev) rfl (by omega)]
    refine tw_x_cancel (an := an1) hs2 ?_
    intro an2 k2
    refine And.intro iv (nm_r (tw_ru sf rfl (by omega) rfl) (And.intro iv (nm_r (tw_ru ss rfl (by omega) rfl) (nm_r (nI_1 i) ?_))))
    have hU : ∀ s, tw_U q p i e s ↔ s = ev ∨ tw_U q p (i + 1) e s := by
      intro s
      refine ⟨fun z => ?_, fun z => ?_⟩
      · obtain ⟨j, h1, h2, h3⟩ := z
        by_cases h4 : j = i
        · subst h4; exact Or.inl (h3.symm.trans eev.symm)
        · exact Or.inr ⟨j, by omega, h2, h3⟩
      · rcases z with z | ⟨j, h1, h2, h3⟩
        · exact ⟨i, Nat.le_refl _, by omega, eev.symm.trans z.symm⟩
        · exact ⟨j, by omega, h2, h3⟩
    have hne : ∀ j, i + 1 ≤ j → j < e → q (48 * p + j) ≠ ev := by
      intro j h1 h2 z
      have := hinj j i h2 (by omega) (z.trans eev)
      omega
    refine ih (i + 1) (upd po ev 2) an2 (upd sf ev (-1)) (upd ss ev (-1)) (by omega) (by omega) ?_ ?_ ?_
    · intro j h1 h2
      rw [pk_un (hne j h1 h2)]
      exact hsf j (by omega) h2
    · intro j h1 h2
      rw [pk_un (hne j h1 h2)]
      exact hss j (by omega) h2
    · intro po' an' sf' ss' hh
      refine h po' an' sf' ss' (tw_UX_s hU ?_ k1 k2 hh)
      intro z
      obtain ⟨j, h1, h2, h3⟩ := z
      exact hne j h1 h2 h3
theorem tw_x_undoFrom {post : Int32 → SX → Prop} {p m : Nat} (hp : p < 4) (he : d p ≤ 48) (hm : m ≤ 48) (hq : ∀ j, j < d p → q (48 * p + j) < 48)
    (hinj : ∀ j k, j < d p → k < d p → q (48 * p + j) = q (48 * p + k) → j = k)
    (hsf : ∀ j, j < d p → sf (q (48 * p + j)) = -1 ∨ ∃ s, s < 48 ∧ sf (q (48 * p + j)) = nI s)
    (hss : ∀ j, j < d p → ss (q (48 * p + j)) = -1 ∨ ∃ s, s < 48 ∧ ss (q (48 * p + j)) = nI s)
    (h : ∀ po' an' sf' ss' cu', tw_UX (tw_U q p m (d p)) po an sf ss po' an' sf' ss' → (m < d p → cu' = upd cu p (sb (q (48 * p + m)))) → (¬ m < d p → cu' = cu) →
      post (nI (d p - m)) (nI Lp, nI Rm, nI Tl, nI N, nI Ns, nI G, tr, op, co, la, lb, lg, lh, se, sr, tw_I D, ti, pa, ca, po', an', sb, sf', ss', tw_I o, tw_I q, tw_I l, tw_I (tw_u d p (min m (d p))), cu', cm, ct, tw_I t)) :
    wpX_undoFrom post (nI Lp, nI Rm, nI Tl, nI N, nI Ns, nI G, tr, op, co, la, lb, lg, lh, se, sr, tw_I D, ti, pa, ca, po, an, sb, sf, ss, tw_I o, tw_I q, tw_I l, tw_I d, cu, cm, ct, tw_I t) (nI p) (nI m) := by
  unfold wpX_undoFrom
  dsimp only
  refine And.intro (pk_in p 4 hp) (nm_r (tw_rd d rfl (by omega)) (pk_lt m (d p) (fun hlt => nm_r (tw_m48 p) ?_) (fun hge => ?_)))
  · have e1 : tw_I q (nI (48 * p) + nI m).toNatClampNeg = nI (q (48 * p + m)) := tw_rd q (nI_add _ _) (by omega)
    have h48 := hq m hlt
    rw [e1]
    refine And.intro (pk_in (48 * p + m) 192 (by omega) (nI_add _ _)) (And.intro (pk_in _ 48 h48) (And.intro (pk_in p 4 hp) (nm_r (tw_ru cu rfl (by omega) (tw_ra sb rfl (by omega))) ?_)))
    refine ⟨d p - m + 1, ?_⟩
    refine tw_x_undo43 hp he (by omega) (fun j _ h2 => hq j h2) hinj (d p - m) m po an sf ss (by omega) (Nat.le_refl _) (fun j _ h2 => hsf j h2) (fun j _ h2 => hss j h2) ?_
    intro po' an' sf' ss' hh
    have := h po' an' sf' ss' (upd cu p (sb (q (48 * p + m)))) hh (fun _ => rfl) (fun z => absurd hlt z)
    rw [show min m (d p) = m by omega] at this
    exact this
  · have h1 := h po an sf ss cu (tw_UX_0 (fun s z => by obtain ⟨j, h1, h2, _⟩ := z; omega)) (fun z => absurd z (by omega)) (fun _ => rfl)
    rw [show min m (d p) = d p by omega, tw_uu, show d p - m = 0 by omega] at h1
    exact h1
/-! arrive: the queue moved up by one from place m on -/
def tw_qd (q : Nat → Nat) (c i e : Nat) : Nat → Nat := fun k => if c + i < k ∧ k ≤ c + e then q (k - 1) else q k
theorem tw_qd_0 (q : Nat → Nat) (c e : Nat) : tw_qd q c e e = q := by
  funext k
  unfold tw_qd
  rw [if_neg (by omega)]
theorem tw_qd_s (q : Nat → Nat) (c i e : Nat) (hi : 0 < i) (he : i ≤ e) : tw_u (tw_qd q c i e) (c + i) (tw_qd q c i e (c + i - 1)) = tw_qd q c (i - 1) e := by
  funext k
  unfold tw_u tw_qd
  by_cases h : k = c + i
  · rw [if_pos h, if_neg (by omega), if_pos (by omega), h]
  · rw [if_neg h]
    by_cases h2 : c + i < k ∧ k ≤ c + e
    · rw [if_pos h2, if_pos (by omega)]
    · rw [if_neg h2, if_neg (by omega)]
theorem tw_qd_e (q : Nat → Nat) (c m e s : Nat) : tw_u (tw_qd q c m e) (c + m) s = tw_qi q c m e s := by
  funext k
  unfold tw_u tw_qd tw_qi
  rfl
theorem tw_x_arrive36 {post : Int32 → SX → Prop} {p s m e : Nat} {r : Int32} (hp : p < 4) (hs : s < 48) (he : e < 48) (hl : l p = e)
    (h : post r (nI Lp, nI Rm, nI Tl, nI N, nI Ns, nI G, tr, op, co, la, lb, lg, lh, se, sr, tw_I D, ti, pa, ca, upd po s 2, an, sb, sf, ss, tw_I o, tw_I (tw_qi q (48 * p) m e s), tw_I (tw_u l p (e + 1)), tw_I d, cu, cm, ct, tw_I t)) :
    ∀ k i, i = m + k → i ≤ e → wX_arrive_36 post (nI s) (nI p) (nI m) r (nI (48 * p)) (nI Lp) (nI Rm) (nI Tl) (nI N) (nI Ns) (nI G) tr (k + 1) (nI i) op co la lb lg lh se sr (tw_I D) ti pa ca po an sb sf ss (tw_I o) (tw_I (tw_qd q (48 * p) i e)) (tw_I l) (tw_I d) cu cm ct (tw_I t) := by
  intro k
  induction k with
  | zero =>
    intro i hi hie
    have : i = m := by omega
    subst this
    refine pk_le i i (fun _ => ?_) (fun z => absurd z (by omega))
    refine And.intro (pk_in (48 * p + i) 192 (by omega) (nI_add _ _)) (nm_r (tw_rU _ (nI_add _ _) (by omega) rfl) ?_)
    rw [tw_qd_e]
    refine And.intro (pk_in p 4 hp) (And.intro (pk_in p 4 hp) (nm_r (tw_rU l rfl (by omega) (w := e + 1) ?_) (And.intro (pk_in s 48 hs) (nm_r (tw_ru po rfl (by omega) rfl) h))))
    rw [tw_rd l rfl (show p < 2 ^ 31 by omega), nI_1, hl]
  | succ k ih =>
    intro i hi hie
    refine pk_le i m (fun z => absurd z (by omega)) (fun _ => ?_)
    have e2 : (nI (48 * p) + nI i) - 1 = nI (48 * p + i - 1) := by rw [nI_add, tw_s1 (by omega)]
    refine And.intro (pk_in (48 * p + i - 1) 192 (by omega) e2) (And.intro (pk_in (48 * p + i) 192 (by omega) (nI_add _ _)) (nm_r (tw_rU _ (nI_add _ _) (by omega) (tw_rd _ e2 (by omega))) (nm_r (tw_p1 (by omega)) ?_)))
    rw [tw_qd_s q (48 * p) i e (by omega) hie]
    exact ih (i - 1) (by omega) (by omega)
/-! vanish -/
theorem tw_qr_0 (q : Nat → Nat) (c m : Nat) : tw_qr q c m (m + 1) = q := by
  funext k
  unfold tw_qr
  rw [if_neg (by omega)]
theorem tw_qr_s (q : Nat → Nat) (c m i : Nat) (hi : m ≤ i) : tw_u (tw_qr q c m (i + 1)) (c + i) (tw_qr q c m (i + 1) (c + i + 1)) = tw_qr q c m (i + 2) := by
  funext k
  unfold tw_u tw_qr
  by_cases h : k = c + i
  · rw [if_pos h, if_neg (by omega), if_pos (by omega), h]
  · rw [if_neg h]
    by_cases h2 : c + m ≤ k ∧ k + 1 < c + (i + 1)
    · rw [if_pos h2, if_pos (by omega)]
    · rw [if_neg h2, if_neg (by omega)]
theorem tw_qr_rm (o : Nat → Nat) (m M : Nat) : tw_u (tw_qr o 0 m (M + 1)) M (o m) = tw_rm o m M := by
  funext k
  unfold tw_u tw_qr tw_rm
  by_cases h : k = M
  · rw [if_pos h, if_pos h]
  · rw [if_neg h, if_neg h]
    by_cases h2 : m ≤ k ∧ k < M
    · rw [if_pos h2, if_pos (by omega)]
    · rw [if_neg h2, if_neg (by omega)]
theorem tw_x_vanish18 {post : SX → Prop} {s m M : Nat} (hs : o m = s) (hs8 : s < 48) (hM : M < 48) (hN : N = M + 1)
    (h : post (nI Lp, nI Rm, nI Tl, nI M, nI Ns, nI G, tr, op, co, la, lb, lg, lh, se, sr, tw_I D, ti, pa, ca, upd po s 0, upd an s 0, sb, sf, ss, tw_I (tw_rm o m M), tw_I q, tw_I l, tw_I d, cu, cm, ct, tw_I t)) :
    ∀ k i, i + k = M → m ≤ i → wX_vanish_18 post (nI s) (nI Lp) (nI Rm) (nI Tl) (nI N) (nI Ns) (nI G) tr (k + 1) (nI i) op co la lb lg lh se sr (tw_I D) ti pa ca po an sb sf ss (tw_I (tw_qr o 0 m (i + 1))) (tw_I q) (tw_I l) (tw_I d) cu cm ct (tw_I t) := by
  subst hN
  have eM : nI (M + 1) - 1 = nI M := nI_pred M
  intro k
  induction k with
  | zero =>
    intro i hi hmi
    have : i = M := by omega
    subst this
    refine pk_le i i (fun _ => ?_) (fun z => absurd z (by omega)) eM
    refine nm_r eM (And.intro (pk_in i 48 hM) (nm_r (tw_rU _ rfl (by omega) rfl) ?_))
    rw [← hs, tw_qr_rm, hs]
    exact And.intro (pk_in s 48 hs8) (nm_r (tw_ru po rfl (by omega) rfl) (And.intro (pk_in s 48 hs8) (nm_r (tw_ru an rfl (by omega) rfl) h)))
  | succ k ih =>
    intro i hi hmi
    refine pk_le M i (fun z => absurd z (by omega)) (fun _ => ?_) eM
    refine And.intro (pk_in (i + 1) 48 (by omega) (nI_1 i)) (And.intro (pk_in i 48 (by omega)) (nm_r (tw_rU _ rfl (by omega) (tw_rd _ (nI_1 i) (by omega))) (nm_r (nI_1 i) ?_)))
    have e1 := tw_qr_s o 0 m i hmi
    rw [Nat.zero_add] at e1
    rw [e1]
    exact ih (i + 1) (by omega) (by omega)
theorem tw_x_vanish {post : SX → Prop} {s m M : Nat} (hM : M < 48) (hm : m ≤ M) (hN : N = M + 1) (hO : tw_O o) (hS : tw_S o N Ns se) (hs : o m = s)
    (h : post (nI Lp, nI Rm, nI Tl, nI M, nI Ns, nI G, tr, op, co, la, lb, lg, lh, se, sr, tw_I D, ti, pa, ca, upd po s 0, upd an s 0, sb, sf, ss, tw_I (tw_rm o m M), tw_I q, tw_I l, tw_I d, cu, cm, ct, tw_I t)) : wpX_vanish post (nI Lp, nI Rm, nI Tl, nI N, nI Ns, nI G, tr, op, co, la, lb, lg, lh, se, sr, tw_I D, ti, pa, ca, po, an, sb, sf, ss, tw_I o, tw_I q, tw_I l, tw_I d, cu, cm, ct, tw_I t) (nI s) := by
  have h48 : s < 48 := by rw [← hs]; exact hO.1 m (by omega)
  unfold wpX_vanish
  dsimp only
  refine And.intro (pk_in s 48 h48) ?_
  rw [tw_ra se (x := nI s) rfl (by omega)]
  refine tw_x_findIndex (by omega) hO hS (fun i hi e => ?_) (fun z => absurd (congrArg se hs) (z m (by omega)))
  have him : i = m := by
    have := tw_Sinj hS ⟨i, hi, rfl⟩ ⟨m, by omega, hs⟩ (congrArg Int32.toInt e)
    exact hO.2 i m (by omega) (by omega) (this.trans hs.symm)
  subst him
  refine br_t (nI_pos' (by omega)) ⟨M - i + 1, ?_⟩
  have := tw_x_vanish18 (post := post) hs h48 hM hN h (M - i) i (by omega) (Nat.le_refl _)
  rw [tw_qr_0] at this
  exact this
/-! removeFromLp: the loop -/
theorem tw_x_rem31 {post : Int32 → SX → Prop} {p s m e m' M : Nat} {r : Int32} (hp : p < 4) (he : e < 48) (hl : l p = e + 1)
    (hM : M < 48) (hm : m' ≤ M) (hN : N = M + 1) (hO : tw_O o) (hS : tw_S o N Ns se) (hs : o m' = s)
    (h : post r (nI Lp, nI Rm, nI Tl, nI M, nI Ns, nI G, tr, op, co, la, lb, lg, lh, se, sr, tw_I D, ti, pa, ca, upd po s 0, upd an s 0, sb, sf, ss, tw_I (tw_rm o m' M), tw_I (tw_qr q (48 * p) m (e + 1)), tw_I (tw_u l p e), tw_I d, cu, cm, ct, tw_I t)) :
    ∀ k i, i + k = e → m ≤ i → wX_removeFromLp_31 post (nI s) (nI p) r (nI (48 * p)) (nI Lp) (nI Rm) (nI Tl) (nI N) (nI Ns) (nI G) tr (k + 1) (nI i) op co la lb lg lh se sr (tw_I D) ti pa ca po an sb sf ss (tw_I o) (tw_I (tw_qr q (48 * p) m (i + 1))) (tw_I l) (tw_I d) cu cm ct (tw_I t) := by
  have el : tw_I l (nI p).toNatClampNeg - 1 = nI e := by rw [tw_rd l rfl (show p < 2 ^ 31 by omega), hl]; exact nI_pred e
  intro k
  induction k with
  | zero =>
    intro i hi hmi
    have : i = e := by omega
    subst this
    refine And.intro (pk_in p 4 hp) (pk_le i i (fun _ => ?_) (fun z => absurd z (by omega)) el)
    exact And.intro (pk_in p 4 hp) (And.intro (pk_in p 4 hp) (nm_r (tw_rU l rfl (by omega) el) (tw_x_vanish hM hm hN hO hS hs h)))
  | succ k ih =>
    intro i hi hmi
    refine And.intro (pk_in p 4 hp) (pk_le e i (fun z => absurd z (by omega)) (fun _ => ?_) el)
    have e2 : nI (48 * p) + nI i + 1 = nI (48 * p + i + 1) := by rw [nI_add, nI_1]
    refine And.intro (pk_in (48 * p + i + 1) 192 (by omega) e2) (And.intro (pk_in (48 * p + i) 192 (by omega) (nI_add _ _)) (nm_r (tw_rU _ (nI_add _ _) (by omega) (tw_rd _ e2 (by omega))) (nm_r (nI_1 i) ?_)))
    rw [tw_qr_s q (48 * p) m i hmi]
    exact ih (i + 1) (by omega) (by omega)
end TWF
end
section
section TWG
/-! the reference's walks -/
variable {Lp Rm Tl N Ns G : Nat} {tr : Int32} {cm ct : Nat → Int32} {zs zr zd zt zp zc zo za ru : Nat → Int32}
theorem tw_y_isLp_t {post : Int32 → Prop} {p : Nat} (hL : Lp ≤ 4) (hp : p < Lp) (h : post 1) : wpY_isLp post (nI Lp, nI Rm, nI Tl, nI G, tr, nI Ns, nI N, zs, zr, zd, zt, zp, zc, zo, za, ru, cm, ct) (nI p) :=
  br_f (nI_pos (by omega)) (br_f (nI_ge hp (by omega)) h)
theorem tw_y_isLp_f {post : Int32 → Prop} {x : Int32} (hx : x < 0 ∨ nI Lp ≤ x) (h : post 0) : wpY_isLp post (nI Lp, nI Rm, nI Tl, nI G, tr, nI Ns, nI N, zs, zr, zd, zt, zp, zc, zo, za, ru, cm, ct) x :=
  br_c (fun _ => h) (fun z => br_t (hx.resolve_left z) h)
theorem tw_y_find2 {post : Int32 → Prop} {x : Int32} (hN : N ≤ 48) (f : ∀ i, i < N → zs i = x → post (nI i)) (g : (∀ i, i < N → zs i ≠ x) → post (-1)) :
    ∀ k i, i + k = N → (∀ j, j < i → zs j ≠ x) → wY_find_2 post x (nI Lp) (nI Rm) (nI Tl) (nI G) tr (nI Ns) (nI N) zs zr zd zt zp zc zo za ru cm ct (k + 1) (nI i) := by
  intro k
  induction k with
  | zero =>
    intro i hi hj
    have : i = N := by omega
    subst this
    exact pk_le i i (fun _ => g hj) (fun z => absurd z (by omega))
  | succ k ih =>
    intro i hi hj
    refine pk_le N i (fun z => absurd z (by omega)) (fun _ => And.intro (pk_in i 48 (by omega)) ?_)
    rw [nI_clamp (show i < 2 ^ 31 by omega)]
    refine br_c (fun z => f i (by omega) z) (fun z => nm_r (nI_1 i) (ih (i + 1) (by omega) ?_))
    intro j hji
    by_cases h : j = i
    · subst h; exact z
    · exact hj j (by omega)
theorem tw_y_find {post : Int32 → Prop} {x : Int32} (hN : N ≤ 48) (f : ∀ i, i < N → zs i = x → post (nI i)) (g : (∀ i, i < N → zs i ≠ x) → post (-1)) : wpY_find post (nI Lp, nI Rm, nI Tl, nI G, tr, nI Ns, nI N, zs, zr, zd, zt, zp, zc, zo, za, ru, cm, ct) x :=
  ⟨N + 1, tw_y_find2 hN f g N 0 (by omega) (fun j hj => absurd hj (by omega))⟩
theorem tw_y_before {post : Int32 → Prop} {a b : Nat} (ha : a < 48) (hb : b < 48) (h1 : tw_b zt zd zr zp zs a b → post 1) (h0 : ¬ tw_b zt zd zr zp zs a b → post 0) :
    wpY_before post (nI Lp, nI Rm, nI Tl, nI G, tr, nI Ns, nI N, zs, zr, zd, zt, zp, zc, zo, za, ru, cm, ct) (nI a) (nI b) := by
  have ia : vp_in (nI a) 48 := pk_in a 48 ha
  have ib : vp_in (nI b) 48 := pk_in b 48 hb
  unfold wpY_before
  dsimp only
  rw [nI_clamp (show a < 2 ^ 31 by omega), nI_clamp (show b < 2 ^ 31 by omega)]
  simp only [Int32.le_iff_toInt_le, ← Int32.toInt_inj]
  unfold tw_b at h1 h0
  refine ⟨ia, ib, br_c (fun e1 => ⟨ia, ib, br_c (fun e5 => ⟨ia, ib, br_c (fun e2 => ⟨ia, ib, br_c (fun e3 => ⟨ia, ib, br_c (fun e4 => h0 ?_) (fun e4 => h1 ?_)⟩) (fun e3 => ⟨ia, ib, br_c (fun e4 => h0 ?_) (fun e4 => h1 ?_)⟩)⟩) (fun e2 => ⟨ia, ib, br_c (fun e4 => h0 ?_) (fun e4 => h1 ?_)⟩)⟩) (fun e5 => ⟨ia, ib, br_c (fun e4 => h0 ?_) (fun e4 => h1 ?_)⟩)⟩) (fun e1 => ⟨ia, ib, br_c (fun e4 => h0 ?_) (fun e4 => h1 ?_)⟩)⟩
  all_goals omega
theorem tw_y_make {post : SY → Prop} {a1 a2 a3 a4 a5 a6 : Int32} (hN : N < 48)
    (h : post (nI Lp, nI Rm, nI Tl, nI G, tr, nI (Ns + 1), nI (N + 1), upd zs N (nI Ns), upd zr N a1, upd zd N a2, upd zt N a3, upd zp N a4, upd zc N a5, upd zo N a6, upd za N 0, ru, cm, ct)) :
    wpY_make post (nI Lp, nI Rm, nI Tl, nI G, tr, nI Ns, nI N, zs, zr, zd, zt, zp, zc, zo, za, ru, cm, ct) a1 a2 a3 a4 a5 a6 := by
  have i : vp_in (nI N) 48 := pk_in N 48 hN
  unfold wpY_make
  dsimp only
  rw [nI_clamp (show N < 2 ^ 31 by omega)]
  exact ⟨i, nm_e ⟨i, nm_e ⟨i, nm_e ⟨i, nm_e ⟨i, nm_e ⟨i, nm_e ⟨i, nm_e ⟨i, nm_e (nm_r (nI_1 N) (nm_r (nI_1 Ns) h))⟩⟩⟩⟩⟩⟩⟩⟩
/-! drop -/
def tw_sh (a : Nat → Int32) (m i : Nat) : Nat → Int32 := fun k => if m ≤ k ∧ k < i then a (k + 1) else a k
theorem tw_sh_0 (a : Nat → Int32) (m : Nat) : tw_sh a m m = a := by
  funext k
  unfold tw_sh
  rw [if_neg (by omega)]
theorem tw_sh_s (a : Nat → Int32) (m i : Nat) (h : m ≤ i) : upd (tw_sh a m i) i (tw_sh a m i (i + 1)) = tw_sh a m (i + 1) := by
  funext k
  unfold upd tw_sh
  by_cases hk : k = i
  · rw [if_pos hk, if_neg (by omega), if_pos (by omega), hk]
  · rw [if_neg hk]
    by_cases h2 : m ≤ k ∧ k < i
    · rw [if_pos h2, if_pos (by omega)]
    · rw [if_neg h2, if_neg (by omega)]
theorem tw_sh_lo {a : Nat → Int32} {m i k : Nat} (h : k < m) : tw_sh a m i k = a k := by
  unfold tw_sh; rw [if_neg (by omega)]
theorem tw_sh_hi {a : Nat → Int32} {m i k : Nat} (h : m ≤ k) (h2 : k < i) : tw_sh a m i k = a (k + 1) := by
  unfold tw_sh; rw [if_pos ⟨h, h2⟩]
theorem tw_y_sst (a : Nat → Int32) {m i : Nat} (h : m ≤ i) (hi : i < 48) : upd (tw_sh a m i) (nI i).toNatClampNeg (tw_sh a m i (nI i + 1).toNatClampNeg) = tw_sh a m (i + 1) := by
  rw [nI_1, nI_clamp (show i < 2 ^ 31 by omega), nI_clamp (show i + 1 < 2 ^ 31 by omega), tw_sh_s a m i h]
theorem tw_y_drop2 {post : SY → Prop} {m M : Nat} (hM : M < 48) (hN : N = M + 1)
    (h : post (nI Lp, nI Rm, nI Tl, nI G, tr, nI Ns, nI M, tw_sh zs m M, tw_sh zr m M, tw_sh zd m M, tw_sh zt m M, tw_sh zp m M, tw_sh zc m M, tw_sh zo m M, tw_sh za m M, ru, cm, ct)) :
    ∀ k i, i + k = M → m ≤ i → wY_drop_2 post (nI Lp) (nI Rm) (nI Tl) (nI G) tr (nI Ns) (nI N) (k + 1) (nI i) (tw_sh zs m i) (tw_sh zr m i) (tw_sh zd m i) (tw_sh zt m i) (tw_sh zp m i) (tw_sh zc m i) (tw_sh zo m i) (tw_sh za m i) ru cm ct := by
  subst hN
  have eM : nI (M + 1) - 1 = nI M := nI_pred M
  intro k
  induction k with
  | zero =>
    intro i hi hmi
    have : i = M := by omega
    subst this
    exact pk_le i i (fun _ => nm_r eM h) (fun z => absurd z (by omega)) eM
  | succ k ih =>
    intro i hi hmi
    have i1 : vp_in (nI i + 1) 48 := pk_in (i + 1) 48 (by omega) (nI_1 i)
    have i0 : vp_in (nI i) 48 := pk_in i 48 (by omega)
    have h8 : i < 48 := by omega
    refine pk_le M i (fun z => absurd z (by omega)) (fun _ => ?_) eM
    exact And.intro i1 (And.intro i0 (nm_r (tw_y_sst zs hmi h8) (And.intro i1 (And.intro i0 (nm_r (tw_y_sst zr hmi h8) (And.intro i1 (And.intro i0 (nm_r (tw_y_sst zd hmi h8) (And.intro i1 (And.intro i0 (nm_r (tw_y_sst zt hmi h8) (And.intro i1 (And.intro i0 (nm_r (tw_y_sst zp hmi h8) (And.intro i1 (And.intro i0 (nm_r (tw_y_sst zc hmi h8) (And.intro i1 (And.intro i0 (nm_r (tw_y_sst zo hmi h8) (And.intro i1 (And.intro i0 (nm_r (tw_y_sst za hmi h8) (nm_r (nI_1 i) (ih (i + 1) (by omega) (by omega))))))))))))))))))))))))))
theorem tw_y_drop {post : SY → Prop} {m M : Nat} (hM : M < 48) (hN : N = M + 1) (hm : m ≤ M)
    (h : post (nI Lp, nI Rm, nI Tl, nI G, tr, nI Ns, nI M, tw_sh zs m M, tw_sh zr m M, tw_sh zd m M, tw_sh zt m M, tw_sh zp m M, tw_sh zc m M, tw_sh zo m M, tw_sh za m M, ru, cm, ct)) :
    wpY_drop post (nI Lp, nI Rm, nI Tl, nI G, tr, nI Ns, nI N, zs, zr, zd, zt, zp, zc, zo, za, ru, cm, ct) (nI m) := by
  refine ⟨M - m + 1, ?_⟩
  have := tw_y_drop2 (post := post) hM hN h (M - m) m (by omega) (Nat.le_refl _)
  simp only [tw_sh_0] at this
  exact this
/-! undo -/
def tw_ua (n : Nat) (zc : Nat → Int32) (x : Int32) (za : Nat → Int32) : Nat → Int32 := fun j => if j < n ∧ zc j = x ∧ za j = 0 then 1 else za j
theorem tw_ua_0 (zc : Nat → Int32) (x : Int32) (za : Nat → Int32) : tw_ua 0 zc x za = za := by
  funext k
  unfold tw_ua
  rw [if_neg (by omega)]
theorem tw_ua_at (n : Nat) (zc : Nat → Int32) (x : Int32) (za : Nat → Int32) : tw_ua n zc x za n = za n := by
  unfold tw_ua
  rw [if_neg (by omega)]
theorem tw_ua_t {n : Nat} {zc : Nat → Int32} {x : Int32} {za : Nat → Int32} (h1 : zc n = x) (h2 : za n = 0) : upd (tw_ua n zc x za) n 1 = tw_ua (n + 1) zc x za := by
  funext k
  unfold upd tw_ua
  by_cases hk : k = n
  · subst hk
    rw [if_pos rfl, if_pos ⟨by omega, h1, h2⟩]
  · rw [if_neg hk]
    by_cases h : k < n ∧ zc k = x ∧ za k = 0
    · rw [if_pos h, if_pos ⟨by omega, h.2⟩]
    · rw [if_neg h, if_neg (fun z => h ⟨by omega, z.2⟩)]
theorem tw_ua_f {n : Nat} {zc : Nat → Int32} {x : Int32} {za : Nat → Int32} (h1 : ¬ (zc n = x ∧ za n = 0)) : tw_ua n zc x za = tw_ua (n + 1) zc x za := by
  funext k
  unfold tw_ua
  by_cases h : k < n ∧ zc k = x ∧ za k = 0
  · rw [if_pos h, if_pos ⟨by omega, h.2⟩]
  · rw [if_neg h, if_neg]
    intro z
    by_cases hk : k = n
    · subst hk; exact h1 z.2
    · exact h ⟨by omega, z.2⟩
theorem tw_y_undo9 {post : SY → Prop} {e : Nat} (hN : N ≤ 48) (he : e < 48) (h : post (nI Lp, nI Rm, nI Tl, nI G, tr, nI Ns, nI N, zs, zr, zd, zt, zp, zc, zo, tw_ua N zc (zs e) za, ru, cm, ct)) :
    ∀ k i, i + k = N → wY_undo_9 post (nI e) (nI Lp) (nI Rm) (nI Tl) (nI G) tr (nI Ns) (nI N) (k + 1) (nI i) zs zr zd zt zp zc zo (tw_ua i zc (zs e) za) ru cm ct := by
  have ie : vp_in (nI e) 48 := pk_in e 48 he
  intro k
  induction k with
  | zero =>
    intro i hi
    have : i = N := by omega
    subst this
    exact pk_le i i (fun _ => h) (fun z => absurd z (by omega))
  | succ k ih =>
    intro i hi
    have ii : vp_in (nI i) 48 := pk_in i 48 (by omega)
    refine pk_le N i (fun z => absurd z (by omega)) (fun _ => And.intro ii (And.intro ie ?_))
    rw [nI_clamp (show i < 2 ^ 31 by omega), nI_clamp (show e < 2 ^ 31 by omega), tw_ua_at]
    refine br_c (fun z1 => And.intro ii (br_c (fun z2 => And.intro ii (nm_r (tw_ua_t z1 z2) (nm_r (nI_1 i) (ih (i + 1) (by omega))))) (fun z2 => nm_r (nI_1 i) ?_))) (fun z1 => nm_r (nI_1 i) ?_)
    · rw [tw_ua_f (fun w => z2 w.2)]
      exact ih (i + 1) (by omega)
    · rw [tw_ua_f (fun w => z1 w.1)]
      exact ih (i + 1) (by omega)
theorem tw_y_undo {post : SY → Prop} {e : Nat} (hN : N ≤ 48) (he : e < 48) (h : post (nI Lp, nI Rm, nI Tl, nI G, tr, nI Ns, nI N, zs, zr, zd, zt, zp, zc, upd zo e 2, tw_ua N zc (zs e) za, ru, cm, ct)) : wpY_undo post (nI Lp, nI Rm, nI Tl, nI G, tr, nI Ns, nI N, zs, zr, zd, zt, zp, zc, zo, za, ru, cm, ct) (nI e) := by
  refine And.intro (pk_in e 48 he) (nm_r (tw_ru zo rfl (by omega) rfl) ⟨N + 1, ?_⟩)
  have := tw_y_undo9 (post := post) (zo := upd zo e 2) hN he h N 0 (by omega)
  rw [tw_ua_0] at this
  exact this
def tw_UY (N : Nat) (zc zs : Nat → Int32) (U : Nat → Prop) (zo za zo' za' : Nat → Int32) : Prop :=
  ∀ i, i < N → ((U i → zo' i = 2) ∧ (¬ U i → zo' i = zo i)) ∧ ((za i = 0 ∧ ∃ e, e < N ∧ U e ∧ zc i = zs e) → za' i = 1) ∧ (¬ (za i = 0 ∧ ∃ e, e < N ∧ U e ∧ zc i = zs e) → za' i = za i)
theorem tw_UY_0 {N : Nat} {zc zs : Nat → Int32} {U : Nat → Prop} {zo za : Nat → Int32} (hU : ∀ i, i < N → ¬ U i) : tw_UY N zc zs U zo za zo za :=
  fun i hi => ⟨⟨fun z => absurd z (hU i hi), fun _ => rfl⟩, fun z => absurd z.2 (fun ⟨e, he, h, _⟩ => hU e he h), fun _ => rfl⟩
theorem tw_UY_s {N e : Nat} {zc zs : Nat → Int32} {U1 U2 : Nat → Prop} {zo za zo1 za1 : Nat → Int32} (he : e < N) (hU : ∀ i, i < N → (U2 i ↔ U1 i ∨ i = e)) (h : tw_UY N zc zs U1 zo za zo1 za1) :
    tw_UY N zc zs U2 zo za (upd zo1 e 2) (tw_ua N zc (zs e) za1) := by
  intro i hi
  obtain ⟨⟨a1, a2⟩, b1, b2⟩ := h i hi
  refine ⟨⟨?_, ?_⟩, ?_, ?_⟩
  · intro z
    by_cases hie : i = e
    · subst hie; exact pk_us
    · rw [pk_un hie]; exact a1 (((hU i hi).1 z).resolve_right hie)
  · intro z
    have hie : i ≠ e := fun w => z ((hU i hi).2 (Or.inr w))
    rw [pk_un hie]
    exact a2 (fun w => z ((hU i hi).2 (Or.inl w)))
  · intro z
    obtain ⟨z0, e', he', hu, hc⟩ := z
    unfold tw_ua
    by_cases hx : ∃ e, e < N ∧ U1 e ∧ zc i = zs e
    · have := b1 ⟨z0, hx⟩
      rw [if_neg (fun w => absurd (this.symm.trans w.2.2) (by decide))]
      exact this
    · have := b2 (fun w => hx w.2)
      rcases (hU e' he').1 hu with w | w
      · exact absurd ⟨e', he', w, hc⟩ hx
      · subst w
        rw [if_pos ⟨hi, hc, this.trans z0⟩]
  · intro z
    have hx : ¬ (za i = 0 ∧ ∃ e, e < N ∧ U1 e ∧ zc i = zs e) := by
      intro w
      obtain ⟨z0, e', he', hu, hc⟩ := w
      exact z ⟨z0, e', he', (hU e' he').2 (Or.inl hu), hc⟩
    have := b2 hx
    unfold tw_ua
    rw [if_neg]
    · exact this
    · intro w
      exact z ⟨this.symm.trans w.2.2, e, he, (hU e he).2 (Or.inr rfl), w.2.1⟩
theorem tw_UY_cg {N : Nat} {zc zs : Nat → Int32} {U1 U2 : Nat → Prop} {zo za zo1 za1 : Nat → Int32} (hU : ∀ i, i < N → (U2 i ↔ U1 i)) (h : tw_UY N zc zs U1 zo za zo1 za1) : tw_UY N zc zs U2 zo za zo1 za1 := by
  have hx : ∀ i, (∃ e, e < N ∧ U2 e ∧ zc i = zs e) ↔ ∃ e, e < N ∧ U1 e ∧ zc i = zs e := fun i =>
    ⟨fun ⟨e, a, b, c⟩ => ⟨e, a, (hU e a).1 b, c⟩, fun ⟨e, a, b, c⟩ => ⟨e, a, (hU e a).2 b, c⟩⟩
  intro i hi
  rw [hU i hi, hx i]
  exact h i hi
/-! undoAfter -/
def tw_UA (zd zt zr zp zs zo : Nat → Int32) (r i : Nat) : Prop := zd i = zd r ∧ zo i = 3 ∧ tw_b zt zd zr zp zs r i
theorem tw_y_uA4 {r : Nat} {zo0 za0 : Nat → Int32} (hN : N ≤ 48) (hr : r < 48) :
    ∀ (k i : Nat) (zo za : Nat → Int32), i + k = N → (∀ j, i ≤ j → j < N → zo j = zo0 j) → tw_UY N zc zs (fun j => j < i ∧ tw_UA zd zt zr zp zs zo0 r j) zo0 za0 zo za →
      ∃ zo' za', tw_UY N zc zs (tw_UA zd zt zr zp zs zo0 r) zo0 za0 zo' za' ∧ ∀ post : Int32 → SY → Prop, post (nI (tw_n (tw_UA zd zt zr zp zs zo0 r) N)) (nI Lp, nI Rm, nI Tl, nI G, tr, nI Ns, nI N, zs, zr, zd, zt, zp, zc, zo', za', ru, cm, ct) →
        wY_undoAfter_4 post (nI r) (k + 1) (nI (tw_n (tw_UA zd zt zr zp zs zo0 r) i)) (nI i) (nI Lp) (nI Rm) (nI Tl) (nI G) tr (nI Ns) (nI N) zs zr zd zt zp zc zo za ru cm ct := by
  have ir : vp_in (nI r) 48 := pk_in r 48 hr
  intro k
  induction k with
  | zero =>
    intro i zo za hi hz hU
    have : i = N := by omega
    subst this
    refine ⟨zo, za, tw_UY_cg (fun j hj => ⟨fun w => ⟨hj, w⟩, fun w => w.2⟩) hU, fun post h => ?_⟩
    exact pk_le i i (fun _ => h) (fun z => absurd z (by omega))
  | succ k ih =>
    intro i zo za hi hz hU
    have ii : vp_in (nI i) 48 := pk_in i 48 (by omega)
    have hzi := hz i (Nat.le_refl _) (by omega)
    by_cases hy : tw_UA zd zt zr zp zs zo0 r i
    · obtain ⟨zo', za', hU', H⟩ := ih (i + 1) (upd zo i 2) (tw_ua N zc (zs i) za) (by omega) (fun j h1 h2 => by rw [pk_un (by omega)]; exact hz j (by omega) h2) (tw_UY_s (e := i) (by omega) (fun j hj => by
        refine ⟨fun w => ?_, fun w => ?_⟩
        · by_cases e : j = i
          · exact Or.inr e
          · exact Or.inl ⟨by omega, w.2⟩
        · rcases w with w | w
          · exact ⟨by omega, w.2⟩
          · subst w; exact ⟨by omega, hy⟩) hU)
      refine ⟨zo', za', hU', fun post h => ?_⟩
      have H1 := H post h
      rw [tw_n_t hy] at H1
      obtain ⟨y1, y2, y3⟩ := hy
      refine pk_le N i (fun z => absurd z (by omega)) (fun _ => And.intro ii (And.intro ir ?_))
      rw [nI_clamp (show i < 2 ^ 31 by omega), nI_clamp (show r < 2 ^ 31 by omega)]
      refine br_t y1 (And.intro ii (br_t (hzi.trans y2) (tw_y_before hr (by omega) (fun _ => br_f (by decide) ?_) (fun z3 => absurd y3 z3))))
      refine tw_y_undo hN (by omega) ?_
      exact nm_r (nI_1 _) (nm_r (nI_1 i) H1)
    · obtain ⟨zo', za', hU', H⟩ := ih (i + 1) zo za (by omega) (fun j h1 h2 => hz j (by omega) h2) (tw_UY_cg (fun j hj => ⟨fun w => ⟨by
        by_cases e : j = i
        · subst e; exact absurd w.2 hy
        · have := w.1; omega, w.2⟩, fun w => ⟨by have := w.1; omega, w.2⟩⟩) hU)
      refine ⟨zo', za', hU', fun post h => ?_⟩
      have H1 := H post h
      rw [tw_n_f hy] at H1
      refine pk_le N i (fun z => absurd z (by omega)) (fun _ => And.intro ii (And.intro ir ?_))
      rw [nI_clamp (show i < 2 ^ 31 by omega), nI_clamp (show r < 2 ^ 31 by omega)]
      refine br_c (fun z1 => And.intro ii (br_c (fun z2 => tw_y_before hr (by omega) (fun z3 => absurd ⟨z1, hzi.symm.trans z2, z3⟩ hy) (fun z3 => br_t rfl (nm_r (nI_1 i) H1))) (fun z2 => nm_r (nI_1 i) H1))) (fun z1 => nm_r (nI_1 i) H1)
theorem tw_y_undoAfter {r : Nat} (hN : N ≤ 48) (hr : r < 48) :
    ∃ zo' za', tw_UY N zc zs (tw_UA zd zt zr zp zs zo r) zo za zo' za' ∧ ∀ post : Int32 → SY → Prop, post (nI (tw_n (tw_UA zd zt zr zp zs zo r) N)) (nI Lp, nI Rm, nI Tl, nI G, tr, nI Ns, nI N, zs, zr, zd, zt, zp, zc, zo', za', ru, cm, ct) → wpY_undoAfter post (nI Lp, nI Rm, nI Tl, nI G, tr, nI Ns, nI N, zs, zr, zd, zt, zp, zc, zo, za, ru, cm, ct) (nI r) := by
  obtain ⟨zo', za', hU, H⟩ := tw_y_uA4 (Lp := Lp) (Rm := Rm) (Tl := Tl) (N := N) (Ns := Ns) (G := G) (tr := tr) (cm := cm) (ct := ct) (zs := zs) (zr := zr) (zd := zd) (zt := zt) (zp := zp) (zc := zc) (ru := ru) (zo0 := zo) (za0 := za) hN hr N 0 zo za (by omega) (fun _ _ _ => rfl) (tw_UY_0 (fun _ _ z => absurd z.1 (by omega)))
  exact ⟨zo', za', hU, fun post h => ⟨N + 1, H post h⟩⟩
end TWG
end
section
section TWH
/-! rules: the op, the guard, the payload, on both sides -/
def tw_fr (dl g tl t y v : Int32) : Int32 :=
  if t + dl < tl then (if g = 1 then 1 else if g = 2 then (if y &&& 1 = 0 then 1 else 0) else if g = 3 then (if y &&& 1 = 1 then 1 else 0) else if g = 4 then (if y ≤ 0 then 0 else 1) else if g = 5 then (if v ≤ 0 then 0 else 1) else 0) else 0
def tw_pl (f y v : Int32) : Int32 := if f = 1 then y else if f = 2 then v - 1 else if f = 3 then y + v else v
theorem tw_ite {c : Prop} [Decidable c] {P : Int32 → Prop} {a b : Int32} (h : P (if c then a else b)) : (c → P a) ∧ (¬ c → P b) :=
  ⟨fun z => by rw [if_pos z] at h; exact h, fun z => by rw [if_neg z] at h; exact h⟩
theorem tw_fr_01 (dl g tl t y v : Int32) : tw_fr dl g tl t y v = 0 ∨ tw_fr dl g tl t y v = 1 := by
  unfold tw_fr
  repeat (first | exact Or.inl rfl | exact Or.inr rfl | split)
theorem tw_fr_t {dl g tl t y v : Int32} (h : tw_fr dl g tl t y v ≠ 0) : t + dl < tl := by
  by_cases z : t + dl < tl
  · exact z
  · exact absurd (by unfold tw_fr; rw [if_neg z]) h
/-- rules of the LPs, as the reference keeps them -/
def tw_RY (op co la lb lg lh ru : Nat → Int32) : Prop := ∀ p, p < 4 → ru (10 * p) = op p ∧ ru (10 * p + 1) = co p ∧
  ∀ k, k < 2 → ru (10 * p + 2 + 4 * k) = la (2 * p + k) ∧ ru (10 * p + 3 + 4 * k) = lb (2 * p + k) ∧ ru (10 * p + 4 + 4 * k) = lg (2 * p + k) ∧ ru (10 * p + 5 + 4 * k) = lh (2 * p + k)
def tw_R (Lp : Nat) (la lb : Nat → Int32) : Prop := ∀ k, k < 2 * Lp → (∃ a, a < Lp ∧ la k = nI a) ∧ 1 ≤ (lb k).toInt ∧ (lb k).toInt ≤ 100
section X
variable {Lp Rm Tl N Ns G : Nat} {tr : Int32} {op co la lb lg lh se sr ti pa ca po an sb sf ss cu cm ct : Nat → Int32} {D o q l d t : Nat → Nat}
theorem tw_x_applyOp {post : Int32 → Prop} {p : Nat} {x v : Int32} (hp : p < 4) (h : post (tw_ap (op p) (co p) x v)) : wpX_applyOp post (nI Lp, nI Rm, nI Tl, nI N, nI Ns, nI G, tr, op, co, la, lb, lg, lh, se, sr, tw_I D, ti, pa, ca, po, an, sb, sf, ss, tw_I o, tw_I q, tw_I l, tw_I d, cu, cm, ct, tw_I t) (nI p) x v := by
  have ip : vp_in (nI p) 4 := pk_in p 4 hp
  unfold wpX_applyOp
  dsimp only
  rw [nI_clamp (show p < 2 ^ 31 by omega)]
  refine ⟨ip, nm_e ⟨ip, nm_e ?_⟩⟩
  unfold tw_ap at h
  refine br_c (fun z => ?_) (fun z => ?_)
  · rw [if_pos z] at h; exact h
  · rw [if_neg z] at h
    refine br_c (fun z => ?_) (fun z => ?_)
    · rw [if_pos z] at h; exact h
    · rw [if_neg z] at h
      refine br_c (fun z => ?_) (fun z => ?_)
      · rw [if_pos z] at h; exact h
      · rw [if_neg z] at h
        refine br_c (fun z => ?_) (fun z => ?_)
        · rw [if_pos z] at h
          exact tw_ite h
        · rw [if_neg z] at h; exact h
theorem tw_x_fires {post : Int32 → Prop} {k : Nat} {tv y v : Int32} (hk : k < 8) (h : post (tw_fr (lb k) (lg k) (nI Tl) tv y v)) : wpX_fires post (nI Lp, nI Rm, nI Tl, nI N, nI Ns, nI G, tr, op, co, la, lb, lg, lh, se, sr, tw_I D, ti, pa, ca, po, an, sb, sf, ss, tw_I o, tw_I q, tw_I l, tw_I d, cu, cm, ct, tw_I t) (nI k) tv y v := by
  have ip : vp_in (nI k) 8 := pk_in k 8 hk
  unfold wpX_fires
  dsimp only
  rw [nI_clamp (show k < 2 ^ 31 by omega)]
  unfold tw_fr at h
  refine ⟨ip, br_c (fun z => ⟨ip, nm_e ?_⟩) (fun z => ?_)⟩
  · rw [if_pos z] at h
    refine br_c (fun z => ?_) (fun z => ?_)
    · rw [if_pos z] at h; exact h
    · rw [if_neg z] at h
      refine br_c (fun z => ?_) (fun z => ?_)
      · rw [if_pos z] at h; exact tw_ite h
      · rw [if_neg z] at h
        refine br_c (fun z => ?_) (fun z => ?_)
        · rw [if_pos z] at h; exact tw_ite h
        · rw [if_neg z] at h
          refine br_c (fun z => ?_) (fun z => ?_)
          · rw [if_pos z] at h; exact tw_ite h
          · rw [if_neg z] at h
            refine br_c (fun z => ?_) (fun z => ?_)
            · rw [if_pos z] at h; exact tw_ite h
            · rw [if_neg z] at h; exact h
  · rw [if_neg z] at h; exact h
theorem tw_x_linkPayload {post : Int32 → Prop} {k : Nat} {y v : Int32} (hk : k < 8) (h : post (tw_pl (lh k) y v)) : wpX_linkPayload post (nI Lp, nI Rm, nI Tl, nI N, nI Ns, nI G, tr, op, co, la, lb, lg, lh, se, sr, tw_I D, ti, pa, ca, po, an, sb, sf, ss, tw_I o, tw_I q, tw_I l, tw_I d, cu, cm, ct, tw_I t) (nI k) y v := by
  have ip : vp_in (nI k) 8 := pk_in k 8 hk
  unfold wpX_linkPayload
  dsimp only
  rw [nI_clamp (show k < 2 ^ 31 by omega)]
  unfold tw_pl at h
  refine ⟨ip, nm_e (br_c (fun z => ?_) (fun z => ?_))⟩
  · rw [if_pos z] at h; exact h
  · rw [if_neg z] at h
    refine br_c (fun z => ?_) (fun z => ?_)
    · rw [if_pos z] at h; exact h
    · rw [if_neg z] at h
      exact tw_ite h
theorem tw_x_make {post : Int32 → SX → Prop} {s dv : Nat} {a0 a2 a3 a4 : Int32} (hN : N < 48) (hs : o N = s) (hs8 : s < 48)
    (h : post (nI s) (nI Lp, nI Rm, nI Tl, nI (N + 1), nI (Ns + 1), nI G, tr, op, co, la, lb, lg, lh, upd se s (nI Ns), upd sr s a0, tw_I (tw_u D s dv), upd ti s a2, upd pa s a3, upd ca s a4, upd po s 1, upd an s 0, sb, upd sf s (-1), upd ss s (-1), tw_I o, tw_I q, tw_I l, tw_I d, cu, cm, ct, tw_I t)) :
    wpX_make post (nI Lp, nI Rm, nI Tl, nI N, nI Ns, nI G, tr, op, co, la, lb, lg, lh, se, sr, tw_I D, ti, pa, ca, po, an, sb, sf, ss, tw_I o, tw_I q, tw_I l, tw_I d, cu, cm, ct, tw_I t) a0 (nI dv) a2 a3 a4 := by
  have i : vp_in (nI s) 48 := pk_in s 48 hs8
  have e : tw_I o (nI N).toNatClampNeg = nI s := by rw [tw_rd o rfl (show N < 2 ^ 31 by omega), hs]
  unfold wpX_make
  dsimp only
  refine And.intro (pk_in N 48 hN) (nm_r e (nm_r (nI_1 N) ?_))
  rw [nI_clamp (show s < 2 ^ 31 by omega)]
  exact ⟨i, nm_e (nm_r (nI_1 Ns) ⟨i, nm_e ⟨i, nm_r (tw_Iu D s dv) ⟨i, nm_e ⟨i, nm_e ⟨i, nm_e ⟨i, nm_e ⟨i, nm_e ⟨i, nm_e ⟨i, nm_e h⟩⟩⟩⟩⟩⟩⟩⟩⟩)⟩
theorem tw_x_send {post : Int32 → SX → Prop} {k e s dv : Nat} {y : Int32} (hk : k < 8) (he : e < 48) (hN : N < 48) (hs : o N = s) (hs8 : s < 48) (hla : la k = nI dv)
    (h : post (nI s) (nI Lp, nI Rm, nI Tl, nI (N + 1), nI (Ns + 1), nI G, tr, op, co, la, lb, lg, lh, upd se s (nI Ns), upd sr s (nI (D e)), tw_I (tw_u D s dv), upd ti s (ti e + lb k), upd pa s (tw_pl (lh k) y (pa e)), upd ca s (se e), upd po s 1, upd an s 0, sb, upd sf s (-1), upd ss s (-1), tw_I o, tw_I q, tw_I l, tw_I d, cu, cm, ct, tw_I t)) :
    wpX_send post (nI Lp, nI Rm, nI Tl, nI N, nI Ns, nI G, tr, op, co, la, lb, lg, lh, se, sr, tw_I D, ti, pa, ca, po, an, sb, sf, ss, tw_I o, tw_I q, tw_I l, tw_I d, cu, cm, ct, tw_I t) (nI k) (nI e) y := by
  have ie : vp_in (nI e) 48 := pk_in e 48 he
  have ik : vp_in (nI k) 8 := pk_in k 8 hk
  unfold wpX_send
  dsimp only
  rw [tw_rd D (x := nI e) rfl (by omega), nI_clamp (show k < 2 ^ 31 by omega), nI_clamp (show e < 2 ^ 31 by omega), hla]
  refine And.intro ie (tw_x_linkPayload hk ?_)
  exact And.intro ie (And.intro ik (nm_e (And.intro ie (And.intro ik (And.intro ie (tw_x_make hN hs hs8 h))))))
end X
section Y
variable {Lp Rm Tl N Ns G : Nat} {tr : Int32} {cm ct : Nat → Int32} {zs zr zd zt zp zc zo za ru : Nat → Int32} {op co la lb lg lh : Nat → Int32}
theorem tw_y_update {post : Int32 → Prop} {p : Nat} {x v : Int32} (hp : p < 4) (hR : tw_RY op co la lb lg lh ru) (h : post (tw_ap (op p) (co p) x v)) : wpY_update post (nI Lp, nI Rm, nI Tl, nI G, tr, nI Ns, nI N, zs, zr, zd, zt, zp, zc, zo, za, ru, cm, ct) (nI p) x v := by
  obtain ⟨h0, h1, _⟩ := hR p hp
  have e0 : ru (nI p * 10).toNatClampNeg = op p := by rw [tw_ra ru (tw_m10 p) (by omega), h0]
  have e1 : ru (nI p * 10 + 1).toNatClampNeg = co p := by rw [tw_ra ru (i := 10 * p + 1) (by rw [tw_m10, nI_1]) (by omega), h1]
  unfold wpY_update
  dsimp only
  refine And.intro (pk_in (10 * p) 40 (by omega) (tw_m10 p)) (nm_r e0 (And.intro (pk_in (10 * p + 1) 40 (by omega) (by rw [tw_m10, nI_1])) (nm_r e1 (nm_e ?_))))
  unfold tw_ap at h
  refine br_c (fun z => ?_) (fun z => ?_)
  · rw [if_pos z, ← Int32.add_assoc] at h; exact h
  · rw [if_neg z] at h
    refine br_c (fun z => ?_) (fun z => ?_)
    · rw [if_pos z, ← Int32.add_assoc] at h; exact h
    · rw [if_neg z] at h
      refine br_c (fun z => ?_) (fun z => ?_)
      · rw [if_pos z] at h; exact h
      · rw [if_neg z] at h
        refine br_c (fun z => ?_) (fun z => ?_)
        · rw [if_pos z] at h
          exact tw_ite h
        · rw [if_neg z] at h; exact h
theorem tw_y_base (p k : Nat) : nI p * 10 + 2 + 4 * nI k = nI (10 * p + 2 + 4 * k) := by
  rw [tw_m10, tw_m4]
  exact (congrArg (· + nI (4 * k)) (nI_add (10 * p) 2)).trans (nI_add _ _)
theorem tw_y_sends {post : Int32 → Prop} {p k : Nat} {t y v : Int32} (hp : p < 4) (hk : k < 2) (hR : tw_RY op co la lb lg lh ru) (h : post (tw_fr (lb (2 * p + k)) (lg (2 * p + k)) (nI Tl) t y v)) :
    wpY_sends post (nI Lp, nI Rm, nI Tl, nI G, tr, nI Ns, nI N, zs, zr, zd, zt, zp, zc, zo, za, ru, cm, ct) (nI p) (nI k) t v y := by
  obtain ⟨_, _, h0⟩ := hR p hp
  obtain ⟨_, h1, h2, _⟩ := h0 k hk
  have e2 : nI (10 * p + 2 + 4 * k) + 2 = nI (10 * p + 4 + 4 * k) := (nI_add _ 2).trans (congrArg nI (by omega))
  have e1 : nI (10 * p + 2 + 4 * k) + 1 = nI (10 * p + 3 + 4 * k) := (nI_1 _).trans (congrArg nI (by omega))
  unfold wpY_sends
  dsimp only
  refine nm_r (tw_y_base p k) (And.intro (pk_in _ 40 (by omega) e2) (nm_r ((tw_ra ru e2 (by omega)).trans h2) (And.intro (pk_in _ 40 (by omega) e1) ?_)))
  rw [tw_ra ru e1 (by omega), h1]
  unfold tw_fr at h
  refine br_c (fun z => ?_) (fun z => ?_)
  · rw [if_pos z] at h
    refine br_c (fun z => ?_) (fun z => ?_)
    · rw [if_pos z] at h; exact h
    · rw [if_neg z] at h
      refine br_c (fun z => ?_) (fun z => ?_)
      · rw [if_pos z] at h; exact tw_ite h
      · rw [if_neg z] at h
        refine br_c (fun z => ?_) (fun z => ?_)
        · rw [if_pos z] at h; exact tw_ite h
        · rw [if_neg z] at h
          refine br_c (fun z => ?_) (fun z => ?_)
          · rw [if_pos z] at h; exact tw_ite h
          · rw [if_neg z] at h
            refine br_c (fun z => ?_) (fun z => ?_)
            · rw [if_pos z] at h; exact tw_ite h
            · rw [if_neg z] at h; exact h
  · rw [if_neg z] at h; exact h
theorem tw_y_send {post : SY → Prop} {p k e : Nat} {y : Int32} (hp : p < 4) (hk : k < 2) (he : e < 48) (hN : N < 48) (hR : tw_RY op co la lb lg lh ru)
    (h : post (nI Lp, nI Rm, nI Tl, nI G, tr, nI (Ns + 1), nI (N + 1), upd zs N (nI Ns), upd zr N (nI p), upd zd N (la (2 * p + k)), upd zt N (zt e + lb (2 * p + k)), upd zp N (tw_pl (lh (2 * p + k)) y (zp e)), upd zc N (zs e), upd zo N 1, upd za N 0, ru, cm, ct)) :
    wpY_send post (nI Lp, nI Rm, nI Tl, nI G, tr, nI Ns, nI N, zs, zr, zd, zt, zp, zc, zo, za, ru, cm, ct) (nI p) (nI k) (nI e) y := by
  obtain ⟨_, _, h0⟩ := hR p hp
  obtain ⟨h1, h2, _, h3⟩ := h0 k hk
  have ie : vp_in (nI e) 48 := pk_in e 48 he
  have e3 : nI (10 * p + 2 + 4 * k) + 3 = nI (10 * p + 5 + 4 * k) := (nI_add _ 3).trans (congrArg nI (by omega))
  have e1 : nI (10 * p + 2 + 4 * k) + 1 = nI (10 * p + 3 + 4 * k) := (nI_1 _).trans (congrArg nI (by omega))
  have H70 : wY_send_70 post (nI p) (nI e) (nI (10 * p + 2 + 4 * k)) (tw_pl (lh (2 * p + k)) y (zp e)) (nI Lp) (nI Rm) (nI Tl) (nI G) tr (nI Ns) (nI N) zs zr zd zt zp zc zo za ru cm ct := by
    unfold wY_send_70
    rw [tw_ra ru e1 (by omega), h2, tw_ra zt (x := nI e) rfl (by omega), tw_ra zs (x := nI e) rfl (by omega), tw_ra ru (x := nI (10 * p + 2 + 4 * k)) rfl (by omega), h1]
    exact And.intro ie (And.intro (pk_in _ 40 (by omega) e1) (nm_e (And.intro (pk_in (10 * p + 2 + 4 * k) 40 (by omega)) (And.intro ie (tw_y_make hN h)))))
  unfold wpY_send
  dsimp only
  refine nm_r (tw_y_base p k) (And.intro (pk_in _ 40 (by omega) e3) (nm_r ((tw_ra ru e3 (by omega)).trans h3) (And.intro ie (nm_r (tw_ra zp rfl (by omega)) ?_))))
  unfold tw_pl at H70
  generalize lh (2 * p + k) = f at H70
  refine br_c (fun z => ?_) (fun z => ?_)
  · rw [if_pos z] at H70
    exact br_f (by rw [z]; decide) (br_f (by rw [z]; decide) H70)
  · rw [if_neg z] at H70
    refine br_c (fun z => ?_) (fun z => ?_)
    · rw [if_pos z] at H70
      exact nm_e (br_f (by rw [z]; decide) H70)
    · rw [if_neg z] at H70
      refine br_c (fun z => nm_e ?_) (fun z => ?_)
      · rw [if_pos z] at H70; exact H70
      · rw [if_neg z] at H70; exact H70
end Y
end TWH
end
section
section TWI
/-! the component's facts together, and the reference's rows against them -/
def tw_V (Lp Tl N Ns : Nat) (op co se sr ti pa ca po an sb sf ss cu cm : Nat → Int32) (D o q l d : Nat → Nat) : Prop :=
  tw_O o ∧ tw_S o N Ns se ∧ tw_A (tw_L o N) Lp Tl Ns D ti ca po ∧ tw_T (tw_L o N) se ti ca po an sf ss ∧ tw_Q (tw_L o N) Lp D (tw_b ti (tw_I D) sr pa se) po q l d ∧ tw_C Lp op co cm pa q d cu sb
def tw_P1 (N : Nat) (o : Nat → Nat) (se sr : Nat → Int32) (D : Nat → Nat) (ti pa ca zs zr zd zt zp zc : Nat → Int32) : Prop :=
  ∀ i, i < N → zs i = se (o i) ∧ zr i = sr (o i) ∧ zd i = tw_I D (o i) ∧ zt i = ti (o i) ∧ zp i = pa (o i) ∧ zc i = ca (o i)
def tw_P2 (N : Nat) (o : Nat → Nat) (po zo : Nat → Int32) : Prop := ∀ i, i < N → zo i = po (o i)
variable {Lp Rm Tl N Ns G : Nat} {tr : Int32} {op co la lb lg lh se sr ti pa ca po an sb sf ss cu cm ct : Nat → Int32} {D o q l d t : Nat → Nat} {zs zr zd zt zp zc zo za ru : Nat → Int32}
theorem tw_P1_b (hP : tw_P1 N o se sr D ti pa ca zs zr zd zt zp zc) {i j : Nat} (hi : i < N) (hj : j < N) : tw_b zt zd zr zp zs i j ↔ tw_b ti (tw_I D) sr pa se (o i) (o j) := by
  obtain ⟨a1, a2, a3, a4, a5, a6⟩ := hP i hi
  obtain ⟨b1, b2, b3, b4, b5, b6⟩ := hP j hj
  exact tw_b_cg a4 a3 a2 a5 a1 b4 b3 b2 b5 b1
theorem tw_V_l48 (hN : N ≤ 48) (hV : tw_V Lp Tl N Ns op co se sr ti pa ca po an sb sf ss cu cm D o q l d) : ∀ p, p < Lp → l p ≤ 48 := by
  intro p hp
  obtain ⟨_, _, _, _, hQ, _⟩ := hV
  have := tw_qlen hQ (fun _ => tw_b_irr) hp
  omega
theorem tw_V_dl (hV : tw_V Lp Tl N Ns op co se sr ti pa ca po an sb sf ss cu cm D o q l d) : ∀ p, p < Lp → d p ≤ l p := fun p hp => by
  obtain ⟨_, _, _, _, hQ, _⟩ := hV
  exact (hQ.1 p hp).1
theorem tw_V_inj (hV : tw_V Lp Tl N Ns op co se sr ti pa ca po an sb sf ss cu cm D o q l d) : ∀ s s', tw_L o N s → tw_L o N s' → se s = se s' → s = s' := fun s s' h h' e => by
  obtain ⟨_, hS, _⟩ := hV
  exact tw_Sinj hS h h' (congrArg Int32.toInt e)
theorem tw_V_tot (hV : tw_V Lp Tl N Ns op co se sr ti pa ca po an sb sf ss cu cm D o q l d) {s s' : Nat} (h : tw_L o N s) (h' : tw_L o N s') (hn : ¬ tw_b ti (tw_I D) sr pa se s s') (hne : s ≠ s') : tw_b ti (tw_I D) sr pa se s' s := by
  obtain ⟨_, hS, _⟩ := hV
  rcases tw_b_tot (T := ti) (D := tw_I D) (R := sr) (P := pa) (S := se) (a := s) (b := s') (fun z => hne (tw_Sinj hS h h' z)) with g | g
  · exact absurd g hn
  · exact g
theorem tw_T_po {L : Nat → Prop} {se ti ca po po' an sf ss : Nat → Int32} (hT : tw_T L se ti ca po an sf ss) (h : ∀ e, L e → po' e ≠ 3 → po e ≠ 3) : tw_T L se ti ca po' an sf ss := by
  intro e he
  obtain ⟨h1, h2, h3, h4⟩ := hT e he
  exact ⟨h1, h2, h3, fun z => h4 (h e he z)⟩
theorem tw_V_undo {po' an' sf' ss' cu' : Nat → Int32} {p m : Nat} (hN : N ≤ 48) (hV : tw_V Lp Tl N Ns op co se sr ti pa ca po an sb sf ss cu cm D o q l d) (hp : p < Lp) (hm : m ≤ l p)
    (hU : tw_UX (tw_U q p m (d p)) po an sf ss po' an' sf' ss') (h1 : m < d p → cu' = upd cu p (sb (q (48 * p + m)))) (h2 : ¬ m < d p → cu' = cu) :
    tw_V Lp Tl N Ns op co se sr ti pa ca po' an' sb sf' ss' cu' cm D o q l (tw_u d p (min m (d p))) := by
  have hinj := tw_V_inj hV
  obtain ⟨hO, hS, hA, hT, hQ, hC⟩ := hV
  have hpo : ∀ s, (tw_U q p m (d p) s → po' s = 2) ∧ (¬ tw_U q p m (d p) s → po' s = po s) := fun s => ⟨fun z => ((hU.1 s).1 z).1, fun z => ((hU.1 s).2 z).1⟩
  exact ⟨hO, hS, tw_undo_A hA hpo, tw_undo_T hT hinj (fun s z => (tw_U_L hQ hp z).1) (fun s z => tw_L48 hO hN z) hU, tw_undo_Q hQ (fun _ => tw_b_irr) hp hm hpo, tw_undo_C hC h1 h2⟩
theorem tw_V_ins {p m s : Nat} (hN : N ≤ 48) (hV : tw_V Lp Tl N Ns op co se sr ti pa ca po an sb sf ss cu cm D o q l d) (hs : tw_L o N s) (hpo : po s = 1) (hD : D s = p) (hd : d p ≤ m) (hm : m ≤ l p)
    (hlo : ∀ j, j < m → tw_b ti (tw_I D) sr pa se (q (48 * p + j)) s) (hhi : ∀ j, m ≤ j → j < l p → ¬ tw_b ti (tw_I D) sr pa se (q (48 * p + j)) s) :
    tw_V Lp Tl N Ns op co se sr ti pa ca (upd po s 2) an sb sf ss cu cm D o (tw_qi q (48 * p) m (l p) s) (tw_u l p (l p + 1)) d := by
  have hl := tw_V_l48 hN hV
  have hdl := tw_V_dl hV
  have htot := fun s s' => tw_V_tot hV (s := s) (s' := s')
  obtain ⟨hO, hS, hA, hT, hQ, hC⟩ := hV
  have hp : p < Lp := by rw [← hD]; exact (hA s hs).1
  have hl1 : l p < 48 := by
    have := tw_qlen1 hQ (fun _ => tw_b_irr) hp hs hpo
    omega
  refine ⟨hO, hS, tw_set_A hA (Or.inr (Or.inl rfl)), tw_T_po hT ?_, tw_ins_Q hQ hl (fun x hx => (hA x hx).1) hp hl1 hd hm hs hD hpo hlo ?_, tw_ins_C hC hl hdl hp hd hm hl1⟩
  · intro e he z
    by_cases w : e = s
    · subst w; rw [hpo]; decide
    · rw [pk_un w] at z; exact z
  · intro j h1 h2
    obtain ⟨k1, _, k3⟩ := (hQ.1 p hp).2.1 j h2
    refine htot _ _ k1 hs (hhi j h1 h2) ?_
    intro z
    rw [z, hpo] at k3
    by_cases h : j < d p
    · rw [if_pos h] at k3; exact absurd k3 (by decide)
    · rw [if_neg h] at k3; exact absurd k3 (by decide)
theorem tw_cp_an {UX UY : Nat → Prop} {po' an' sf' ss' zo' za' : Nat → Int32} (hN : N ≤ 48) (hV : tw_V Lp Tl N Ns op co se sr ti pa ca po an sb sf ss cu cm D o q l d) (hP : tw_P1 N o se sr D ti pa ca zs zr zd zt zp zc) (hza : tw_P2 N o an za)
    (hX : tw_UX UX po an sf ss po' an' sf' ss') (hY : tw_UY N zc zs UY zo za zo' za') (hL : ∀ s, UX s → tw_L o N s) (hiff : ∀ i, i < N → (UY i ↔ UX (o i))) : tw_P2 N o an' za' := by
  obtain ⟨hO, hS, hA, hT, hQ, hC⟩ := hV
  have h48 : ∀ s, tw_L o N s → s < 48 := fun s z => tw_L48 hO hN z
  intro i hi
  have hcond : (za i = 0 ∧ ∃ e, e < N ∧ UY e ∧ zc i = zs e) ↔ (an (o i) = 0 ∧ ∃ e, UX e ∧ (sf e = nI (o i) ∨ ss e = nI (o i))) := by
    rw [hza i hi]
    refine ⟨fun z => ⟨z.1, ?_⟩, fun z => ⟨z.1, ?_⟩⟩
    · obtain ⟨z0, e, he, hu, hc⟩ := z
      obtain ⟨_, _, _, _, _, c6⟩ := hP i hi
      obtain ⟨c1, _⟩ := hP e he
      exact ⟨o e, (hiff e he).1 hu, (hT (o e) ⟨e, he, rfl⟩).2.2.1 (o i) ⟨i, hi, rfl⟩ (by rw [← c6, ← c1]; exact hc) z0⟩
    · obtain ⟨z0, e, hu, hc⟩ := z
      obtain ⟨e', he', ee⟩ := hL e hu
      refine ⟨e', he', (hiff e' he').2 (by rw [ee]; exact hu), ?_⟩
      obtain ⟨_, _, _, _, _, c6⟩ := hP i hi
      obtain ⟨c1, _⟩ := hP e' he'
      rw [c6, c1, ee]
      obtain ⟨k1, k2, _, _⟩ := hT e (hL e hu)
      have hi48 := h48 (o i) ⟨i, hi, rfl⟩
      rcases hc with hc | hc
      · rw [hc] at k1; exact (tw_F1c h48 hi48 k1).2.1
      · rw [hc] at k2; exact (tw_F1c h48 hi48 k2).2.1
  obtain ⟨_, y1, y2⟩ := hY i hi
  obtain ⟨x1, x2⟩ := hX.2 (o i) (h48 (o i) ⟨i, hi, rfl⟩)
  by_cases g : za i = 0 ∧ ∃ e, e < N ∧ UY e ∧ zc i = zs e
  · rw [y1 g, x1 (hcond.1 g)]
  · rw [y2 g, x2 (fun w => g (hcond.2 w))]
    exact hza i hi
theorem tw_cp_po {UX UY : Nat → Prop} {po' an' sf' ss' zo' za' : Nat → Int32}
    (hX : tw_UX UX po an sf ss po' an' sf' ss') (hY : tw_UY N zc zs UY zo za zo' za') (hiff : ∀ i, i < N → (UY i ↔ UX (o i))) {i : Nat} (hi : i < N) (hz : zo i = po (o i)) : zo' i = po' (o i) := by
  obtain ⟨⟨y1, y2⟩, _⟩ := hY i hi
  by_cases g : UY i
  · rw [y1 g, ((hX.1 (o i)).1 ((hiff i hi).1 g)).1]
  · rw [y2 g, ((hX.1 (o i)).2 (fun w => g ((hiff i hi).2 w))).1]
    exact hz
theorem tw_cnt {UY : Nat → Prop} {p m : Nat} (hN : N ≤ 48) (hV : tw_V Lp Tl N Ns op co se sr ti pa ca po an sb sf ss cu cm D o q l d) (hp : p < Lp) (hiff : ∀ i, i < N → (UY i ↔ tw_U q p m (d p) (o i))) : tw_n UY N = d p - m := by
  have hdl := tw_V_dl hV p hp
  obtain ⟨hO, hS, hA, hT, hQ, hC⟩ := hV
  refine tw_n_rel UY o N (d p - m) (fun j => q (48 * p + (m + j))) (fun i i' hi hi' e => hO.2 i i' (by omega) (by omega) e) ?_ ?_ ?_
  · intro j hj
    obtain ⟨i, hi, e⟩ := ((hQ.1 p hp).2.1 (m + j) (by omega)).1
    exact ⟨i, hi, (hiff i hi).2 ⟨m + j, by omega, by omega, e.symm⟩, e⟩
  · intro j j' hj hj' e
    have := tw_qinj hQ (fun _ => tw_b_irr) hp (by omega) (by omega) e
    omega
  · intro i hi hu
    obtain ⟨j, h1, h2, h3⟩ := (hiff i hi).1 hu
    refine ⟨j - m, by omega, ?_⟩
    show o i = q (48 * p + (m + (j - m)))
    rw [show m + (j - m) = j by omega]
    exact h3.symm
/-- those that an arrival at place m undoes -/
theorem tw_arr_iff {r s m : Nat} (hL4 : Lp ≤ 4) (hV : tw_V Lp Tl N Ns op co se sr ti pa ca po an sb sf ss cu cm D o q l d) (hP : tw_P1 N o se sr D ti pa ca zs zr zd zt zp zc) (hr : r < N) (hs : o r = s) (hzo : ∀ i, i < N → (zo i = 3 ↔ po (o i) = 3))
    (hlo : ∀ j, j < m → ¬ tw_b ti (tw_I D) sr pa se s (q (48 * D s + j))) (hhi : ∀ j, m ≤ j → j < l (D s) → ¬ tw_b ti (tw_I D) sr pa se (q (48 * D s + j)) s) (hns : ∀ j, m ≤ j → j < d (D s) → q (48 * D s + j) ≠ s) (i : Nat) (hi : i < N) :
    tw_UA zd zt zr zp zs zo r i ↔ tw_U q (D s) m (d (D s)) (o i) := by
  have htot := fun s s' => tw_V_tot hV (s := s) (s' := s')
  have hb := tw_P1_b hP hr hi
  rw [hs] at hb
  obtain ⟨hO, hS, hA, hT, hQ, hC⟩ := hV
  obtain ⟨_, _, c3, _⟩ := hP i hi
  obtain ⟨_, _, r3, _⟩ := hP r hr
  have hLs : tw_L o N s := ⟨r, hr, hs⟩
  have hDs := (hA s hLs).1
  have hDi := (hA (o i) ⟨i, hi, rfl⟩).1
  obtain ⟨a1, a2, a3⟩ := hQ.1 (D s) hDs
  unfold tw_UA
  rw [hb, hzo i hi, c3, r3, hs]
  refine ⟨fun z => ?_, fun z => ?_⟩
  · obtain ⟨z1, z2, z3⟩ := z
    obtain ⟨j, hj, ej⟩ := hQ.2 (o i) ⟨i, hi, rfl⟩ (by rw [z2]; decide)
    have hDe : D (o i) = D s := tw_inj z1 (by omega) (by omega)
    rw [hDe] at hj ej
    have k3 := (a2 j hj).2.2
    rw [ej, z2] at k3
    have hjd : j < d (D s) := by
      by_cases h : j < d (D s)
      · exact h
      · rw [if_neg h] at k3; exact absurd k3 (by decide)
    refine ⟨j, ?_, hjd, ej⟩
    by_cases h : j < m
    · have := hlo j h
      rw [ej] at this
      exact absurd z3 this
    · omega
  · obtain ⟨j, h1, h2, h3⟩ := z
    obtain ⟨k1, k2, k3⟩ := a2 j (by omega)
    rw [h3] at k1 k2 k3
    rw [if_pos h2] at k3
    have h4 := hhi j h1 (by omega)
    have h5 := hns j h1 h2
    rw [h3] at h4 h5
    exact ⟨by unfold tw_I; rw [k2], k3, htot _ _ k1 hLs h4 h5⟩
end TWI
end
section
section TWJ
variable {Lp Rm Tl N Ns G : Nat} {tr : Int32} {op co la lb lg lh se sr ti pa ca po an sb sf ss cu cm ct : Nat → Int32} {D o q l d t : Nat → Nat} {zs zr zd zt zp zc zo za ru : Nat → Int32}
/-! ARRIVAL on both sides -/
theorem tw_V_sent (hN : N ≤ 48) (hV : tw_V Lp Tl N Ns op co se sr ti pa ca po an sb sf ss cu cm D o q l d) {e : Nat} (he : tw_L o N e) : (sf e = -1 ∨ ∃ s, s < 48 ∧ sf e = nI s) ∧ (ss e = -1 ∨ ∃ s, s < 48 ∧ ss e = nI s) := by
  obtain ⟨hO, _, _, hT, _⟩ := hV
  obtain ⟨h1, h2, _⟩ := hT e he
  refine ⟨?_, ?_⟩
  · rcases h1 with h | ⟨s, a, b, _⟩
    · exact Or.inl h
    · exact Or.inr ⟨s, tw_L48 hO hN a, b⟩
  · rcases h2 with h | ⟨s, a, b, _⟩
    · exact Or.inl h
    · exact Or.inr ⟨s, tw_L48 hO hN a, b⟩
theorem tw_x_plUn {post : Int32 → Int32 → SX → Prop} {s : Nat} (hL4 : Lp ≤ 4) (hN : N ≤ 48) (hV : tw_V Lp Tl N Ns op co se sr ti pa ca po an sb sf ss cu cm D o q l d) (hs : tw_L o N s)
    (h : ∀ m po' an' sf' ss' cu', m ≤ l (D s) → (∀ j, j < m → tw_b ti (tw_I D) sr pa se (q (48 * D s + j)) s) → (∀ j, m ≤ j → j < l (D s) → ¬ tw_b ti (tw_I D) sr pa se (q (48 * D s + j)) s) →
      tw_UX (tw_U q (D s) m (d (D s))) po an sf ss po' an' sf' ss' → tw_V Lp Tl N Ns op co se sr ti pa ca po' an' sb sf' ss' cu' cm D o q l (tw_u d (D s) (min m (d (D s)))) →
      post (nI m) (nI (d (D s) - m)) (nI Lp, nI Rm, nI Tl, nI N, nI Ns, nI G, tr, op, co, la, lb, lg, lh, se, sr, tw_I D, ti, pa, ca, po', an', sb, sf', ss', tw_I o, tw_I q, tw_I l, tw_I (tw_u d (D s) (min m (d (D s)))), cu', cm, ct, tw_I t)) :
    wpX_placeOf (fun x => wpX_undoFrom (post x) (nI Lp, nI Rm, nI Tl, nI N, nI Ns, nI G, tr, op, co, la, lb, lg, lh, se, sr, tw_I D, ti, pa, ca, po, an, sb, sf, ss, tw_I o, tw_I q, tw_I l, tw_I d, cu, cm, ct, tw_I t) (nI (D s)) x) (nI Lp, nI Rm, nI Tl, nI N, nI Ns, nI G, tr, op, co, la, lb, lg, lh, se, sr, tw_I D, ti, pa, ca, po, an, sb, sf, ss, tw_I o, tw_I q, tw_I l, tw_I d, cu, cm, ct, tw_I t) (nI (D s)) (nI s) := by
  have hl := tw_V_l48 hN hV
  have hdl := tw_V_dl hV
  have hV0 := hV
  obtain ⟨hO, hS, hA, hT, hQu, hC⟩ := hV
  have hp := (hA s hs).1
  obtain ⟨a1, a2, a3⟩ := hQu.1 (D s) hp
  have h48 : ∀ s, tw_L o N s → s < 48 := fun s z => tw_L48 hO hN z
  have hlp := hl (D s) hp
  have hdp := hdl (D s) hp
  refine tw_x_placeOf (by omega) (h48 s hs) hlp (fun j hj => ⟨h48 _ (a2 j hj).1, (a2 j hj).2.1⟩) a3 ?_
  intro m hm hlo hhi
  refine tw_x_undoFrom (by omega) (by omega) (by omega) (fun j hj => h48 _ (a2 j (by omega)).1) (fun j k hj hk e => tw_qinj hQu (fun _ => tw_b_irr) hp (by omega) (by omega) e)
    (fun j hj => (tw_V_sent hN hV0 (a2 j (by omega)).1).1) (fun j hj => (tw_V_sent hN hV0 (a2 j (by omega)).1).2) ?_
  intro po' an' sf' ss' cu' hU c1 c2
  exact h m po' an' sf' ss' cu' hm hlo hhi hU (tw_V_undo hN hV0 hp hm hU c1 c2)
theorem tw_x_arrive {post : Int32 → SX → Prop} {s : Nat} (hL4 : Lp ≤ 4) (hN : N ≤ 48) (hV : tw_V Lp Tl N Ns op co se sr ti pa ca po an sb sf ss cu cm D o q l d) (hs : tw_L o N s) (hpo : po s = 1)
    (h : ∀ m po' an' sf' ss' cu', m ≤ l (D s) → (∀ j, j < m → tw_b ti (tw_I D) sr pa se (q (48 * D s + j)) s) → (∀ j, m ≤ j → j < l (D s) → ¬ tw_b ti (tw_I D) sr pa se (q (48 * D s + j)) s) →
      tw_UX (tw_U q (D s) m (d (D s))) po an sf ss po' an' sf' ss' →
      tw_V Lp Tl N Ns op co se sr ti pa ca (upd po' s 2) an' sb sf' ss' cu' cm D o (tw_qi q (48 * D s) m (l (D s)) s) (tw_u l (D s) (l (D s) + 1)) (tw_u d (D s) (min m (d (D s)))) →
      post (nI (d (D s) - m)) (nI Lp, nI Rm, nI Tl, nI N, nI Ns, nI G, tr, op, co, la, lb, lg, lh, se, sr, tw_I D, ti, pa, ca, upd po' s 2, an', sb, sf', ss', tw_I o, tw_I (tw_qi q (48 * D s) m (l (D s)) s), tw_I (tw_u l (D s) (l (D s) + 1)), tw_I (tw_u d (D s) (min m (d (D s)))), cu', cm, ct, tw_I t)) :
    wpX_arrive post (nI Lp, nI Rm, nI Tl, nI N, nI Ns, nI G, tr, op, co, la, lb, lg, lh, se, sr, tw_I D, ti, pa, ca, po, an, sb, sf, ss, tw_I o, tw_I q, tw_I l, tw_I d, cu, cm, ct, tw_I t) (nI s) := by
  have hV0 := hV
  obtain ⟨hO, hS, hA, hT, hQu, hC⟩ := hV
  have hp := (hA s hs).1
  have hs8 : s < 48 := tw_L48 hO hN hs
  have hl1 : l (D s) < 48 := by
    have := tw_qlen1 hQu (fun _ => tw_b_irr) hp hs hpo
    omega
  unfold wpX_arrive
  dsimp only
  refine And.intro (pk_in s 48 hs8) (nm_r (tw_rd D rfl (by omega)) ?_)
  refine tw_x_plUn hL4 hN hV0 hs ?_
  intro m po' an' sf' ss' cu' hm hlo hhi hU hV1
  refine nm_r (tw_m48 _) (And.intro (pk_in (D s) 4 (by omega)) (nm_r (tw_rd l rfl (by omega)) ⟨l (D s) - m + 1, ?_⟩))
  have hns : ¬ tw_U q (D s) m (d (D s)) s := by
    intro z
    have := (tw_U_L hQu hp z).2.2
    rw [hpo] at this
    exact absurd this (by decide)
  have hpo' : po' s = 1 := by rw [((hU.1 s).2 hns).1]; exact hpo
  have hV2 := tw_V_ins hN hV1 hs hpo' rfl (by rw [tw_us]; omega) hm hlo hhi
  have := tw_x_arrive36 (post := post) (m := m) (r := nI (d (D s) - m)) (by omega) hs8 hl1 rfl (h m po' an' sf' ss' cu' hm hlo hhi hU hV2) (l (D s) - m) (l (D s)) (by omega) (Nat.le_refl _)
  rw [tw_qd_0] at this
  exact this
/-- both sides at an arrival: the reference's row r (already ARRIVED there) is slot s -/
theorem tw_arr {s r : Nat} {zo0 : Nat → Int32} (hL4 : Lp ≤ 4) (hN : N ≤ 48) (hV : tw_V Lp Tl N Ns op co se sr ti pa ca po an sb sf ss cu cm D o q l d) (hr : r < N) (hs : o r = s) (hpo : po s = 1) (hP : tw_P1 N o se sr D ti pa ca zs zr zd zt zp zc) (hza : tw_P2 N o an za)
    (hz0 : ∀ i, i < N → zo0 i = if i = r then 2 else po (o i)) :
    ∃ zo' za' c, (∀ post : Int32 → SY → Prop, post c (nI Lp, nI Rm, nI Tl, nI G, tr, nI Ns, nI N, zs, zr, zd, zt, zp, zc, zo', za', ru, cm, ct) → wpY_undoAfter post (nI Lp, nI Rm, nI Tl, nI G, tr, nI Ns, nI N, zs, zr, zd, zt, zp, zc, zo0, za, ru, cm, ct) (nI r)) ∧
      ∀ post : Int32 → SX → Prop, (∀ po' an' sf' ss' cu' q' l' d', tw_V Lp Tl N Ns op co se sr ti pa ca po' an' sb sf' ss' cu' cm D o q' l' d' → tw_P2 N o po' zo' → tw_P2 N o an' za' →
        (∀ x, tw_L o N x → po' x = 1 → x ≠ s ∧ po x = 1) →
        post c (nI Lp, nI Rm, nI Tl, nI N, nI Ns, nI G, tr, op, co, la, lb, lg, lh, se, sr, tw_I D, ti, pa, ca, po', an', sb, sf', ss', tw_I o, tw_I q', tw_I l', tw_I d', cu', cm, ct, tw_I t)) → wpX_arrive post (nI Lp, nI Rm, nI Tl, nI N, nI Ns, nI G, tr, op, co, la, lb, lg, lh, se, sr, tw_I D, ti, pa, ca, po, an, sb, sf, ss, tw_I o, tw_I q, tw_I l, tw_I d, cu, cm, ct, tw_I t) (nI s) := by
  obtain ⟨zo', za', hUY, HY⟩ := tw_y_undoAfter (Lp := Lp) (Rm := Rm) (Tl := Tl) (N := N) (Ns := Ns) (G := G) (tr := tr) (cm := cm) (ct := ct) (zs := zs) (zr := zr) (zd := zd) (zt := zt) (zp := zp) (zc := zc) (zo := zo0) (za := za) (ru := ru) hN (show r < 48 by omega)
  refine ⟨zo', za', _, HY, ?_⟩
  intro post h
  have hLs : tw_L o N s := ⟨r, hr, hs⟩
  refine tw_x_arrive hL4 hN hV hLs hpo ?_
  intro m po' an' sf' ss' cu' hm hlo hhi hU hV2
  have hV0 := hV
  obtain ⟨hO, hS, hA, hT, hQu, hC⟩ := hV
  have hp := (hA s hLs).1
  have hz3 : ∀ i, i < N → (zo0 i = 3 ↔ po (o i) = 3) := by
    intro i hi
    rw [hz0 i hi]
    by_cases e : i = r
    · subst e
      rw [if_pos rfl, hs, hpo]
      decide
    · rw [if_neg e]
  have hUne : ∀ x, tw_U q (D s) m (d (D s)) x → x ≠ s := by
    intro x z w
    have := (tw_U_L hQu hp z).2.2
    rw [w, hpo] at this
    exact absurd this (by decide)
  have hiff := tw_arr_iff hL4 hV0 hP hr hs hz3 (fun j hj => tw_b_asy (hlo j hj)) hhi (fun j h1 h2 => hUne _ ⟨j, h1, h2, rfl⟩)
  rw [← tw_cnt hN hV0 hp hiff]
  refine h _ _ _ _ _ _ _ _ hV2 ?_ (tw_cp_an hN hV0 hP hza hU hUY (fun x z => (tw_U_L hQu hp z).1) hiff) ?_
  · intro i hi
    by_cases e : i = r
    · subst e
      obtain ⟨⟨_, y2⟩, _⟩ := hUY i hi
      rw [hs, pk_us, y2 (fun w => hUne _ ((hiff i hi).1 w) hs), hz0 i hi, if_pos rfl]
    · have hne : o i ≠ s := by
        intro z
        exact e (hO.2 i r (by omega) (by omega) (z.trans hs.symm))
      rw [pk_un hne]
      exact tw_cp_po hU hUY hiff hi (by rw [hz0 i hi, if_neg e])
  · intro x hx hx1
    by_cases e : x = s
    · subst e
      rw [pk_us] at hx1
      exact absurd hx1 (by decide)
    · rw [pk_un e] at hx1
      refine ⟨e, ?_⟩
      by_cases hu : tw_U q (D s) m (d (D s)) x
      · rw [((hU.1 x).1 hu).1] at hx1
        exact absurd hx1 (by decide)
      · rw [((hU.1 x).2 hu).1] at hx1
        exact hx1
end TWJ
end
section
section TWK
variable {Lp Rm Tl N Ns G : Nat} {tr : Int32} {op co la lb lg lh se sr ti pa ca po an sb sf ss cu cm ct : Nat → Int32} {D o q l d t : Nat → Nat} {zs zr zd zt zp zc zo za ru : Nat → Int32}
/-! REMOVAL on both sides -/
theorem tw_V_rem {p m s r M : Nat} (hN : N ≤ 48) (hNM : N = M + 1) (hV : tw_V Lp Tl N Ns op co se sr ti pa ca po an sb sf ss cu cm D o q l d) (hr : r ≤ M) (hs : o r = s) (hp : p < Lp) (hd : d p ≤ m) (hm : m < l p) (hq : q (48 * p + m) = s)
    (hn : an s ≠ 0 ∨ ∀ e, tw_L o N e → ca s ≠ se e) : tw_V Lp Tl M Ns op co se sr ti pa ca (upd po s 0) (upd an s 0) sb sf ss cu cm D (tw_rm o r M) (tw_qr q (48 * p) m (l p)) (tw_u l p (l p - 1)) d := by
  subst hNM
  have hl := tw_V_l48 hN hV
  have hdl := tw_V_dl hV
  obtain ⟨hO, hS, hA, hT, hQ, hC⟩ := hV
  have hLe : tw_L (tw_rm o r M) M = fun x => tw_L o (M + 1) x ∧ x ≠ s := by rw [tw_rm_L hO hr (by omega), hs]
  have hLs : tw_L o (M + 1) s := ⟨r, by omega, hs⟩
  unfold tw_V
  rw [hLe]
  exact ⟨tw_rm_O hO hr (by omega), tw_rm_S hS hr, tw_rem_A hA (fun x hx => pk_un hx), tw_rem_T hT (fun x hx => tw_L48 hO hN hx) hLs hn (fun x hx => pk_un hx) (fun x hx => pk_un hx),
    tw_rem_Q hQ (fun _ => tw_b_irr) hl (fun x hx => (hA x hx).1) hp hd hm hq (fun x hx => pk_un hx), tw_rem_C hC hl hdl hp hd hm⟩
theorem tw_V_fly {s r M : Nat} (hN : N ≤ 48) (hNM : N = M + 1) (hV : tw_V Lp Tl N Ns op co se sr ti pa ca po an sb sf ss cu cm D o q l d) (hr : r ≤ M) (hs : o r = s) (hpo : po s = 1) (hn : an s ≠ 0) :
    tw_V Lp Tl M Ns op co se sr ti pa ca (upd po s 0) (upd an s 0) sb sf ss cu cm D (tw_rm o r M) q l d := by
  subst hNM
  obtain ⟨hO, hS, hA, hT, hQ, hC⟩ := hV
  have hLe : tw_L (tw_rm o r M) M = fun x => tw_L o (M + 1) x ∧ x ≠ s := by rw [tw_rm_L hO hr (by omega), hs]
  have hLs : tw_L o (M + 1) s := ⟨r, by omega, hs⟩
  unfold tw_V
  rw [hLe]
  exact ⟨tw_rm_O hO hr (by omega), tw_rm_S hS hr, tw_rem_A hA (fun x hx => pk_un hx), tw_rem_T hT (fun x hx => tw_L48 hO hN hx) hLs (Or.inl hn) (fun x hx => pk_un hx) (fun x hx => pk_un hx),
    tw_fly_Q hQ hpo (fun x hx => pk_un hx), hC⟩
theorem tw_sh_rm {r M i : Nat} {a : Nat → Int32} {f : Nat → Int32} (hr : r ≤ M) (hi : i < M) (h : ∀ i, i < M + 1 → a i = f (o i)) : tw_sh a r M i = f (tw_rm o r M i) := by
  by_cases h1 : i < r
  · rw [tw_sh_lo h1, tw_rm_lo h1 hr]; exact h i (by omega)
  · rw [tw_sh_hi (by omega) hi, tw_rm_hi (by omega) hi]; exact h (i + 1) (by omega)
theorem tw_P1_rm {r M : Nat} (hNM : N = M + 1) (hr : r ≤ M) (hP : tw_P1 N o se sr D ti pa ca zs zr zd zt zp zc) : tw_P1 M (tw_rm o r M) se sr D ti pa ca (tw_sh zs r M) (tw_sh zr r M) (tw_sh zd r M) (tw_sh zt r M) (tw_sh zp r M) (tw_sh zc r M) := by
  subst hNM
  intro i hi
  exact ⟨tw_sh_rm hr hi (fun i h => (hP i h).1), tw_sh_rm hr hi (fun i h => (hP i h).2.1), tw_sh_rm hr hi (fun i h => (hP i h).2.2.1), tw_sh_rm hr hi (fun i h => (hP i h).2.2.2.1), tw_sh_rm hr hi (fun i h => (hP i h).2.2.2.2.1), tw_sh_rm hr hi (fun i h => (hP i h).2.2.2.2.2)⟩
theorem tw_P2_rm {r s M : Nat} {po' : Nat → Int32} (hN : N ≤ 48) (hO : tw_O o) (hNM : N = M + 1) (hr : r ≤ M) (hs : o r = s) (hp : ∀ x, x ≠ s → po' x = po x) (hP : tw_P2 N o po zo) : tw_P2 M (tw_rm o r M) po' (tw_sh zo r M) := by
  subst hNM
  intro i hi
  rw [hp]
  · exact tw_sh_rm hr hi hP
  · have : tw_L (tw_rm o r M) M (tw_rm o r M i) := ⟨i, hi, rfl⟩
    rw [tw_rm_L hO hr (by omega), hs] at this
    exact this.2
/-- the place of a slot that is in its queue -/
theorem tw_V_at {s m : Nat} (hV : tw_V Lp Tl N Ns op co se sr ti pa ca po an sb sf ss cu cm D o q l d) (hs : tw_L o N s) (hpo : po s ≠ 1) (hm : m ≤ l (D s)) (hlo : ∀ j, j < m → tw_b ti (tw_I D) sr pa se (q (48 * D s + j)) s) (hhi : ∀ j, m ≤ j → j < l (D s) → ¬ tw_b ti (tw_I D) sr pa se (q (48 * D s + j)) s) :
    m < l (D s) ∧ q (48 * D s + m) = s := by
  obtain ⟨hO, hS, hA, hT, hQ, hC⟩ := hV
  have hp := (hA s hs).1
  obtain ⟨j, hj, ej⟩ := hQ.2 s hs hpo
  have h1 : ¬ j < m := by
    intro z
    have := hlo j z
    rw [ej] at this
    exact tw_b_irr this
  by_cases h2 : j = m
  · subst h2; exact ⟨hj, ej⟩
  · have h3 := (hQ.1 (D s) hp).2.2 m j (by omega) hj
    rw [ej] at h3
    exact absurd h3 (hhi m (Nat.le_refl _) (by omega))
theorem tw_x_remove {post : Int32 → SX → Prop} {s r M : Nat} (hL4 : Lp ≤ 4) (hN : N ≤ 48) (hNM : N = M + 1) (hV : tw_V Lp Tl N Ns op co se sr ti pa ca po an sb sf ss cu cm D o q l d) (hr : r ≤ M) (hs : o r = s) (hpo : po s ≠ 1)
    (h : ∀ m po' an' sf' ss' cu', m < l (D s) → q (48 * D s + m) = s → (∀ j, j < m → tw_b ti (tw_I D) sr pa se (q (48 * D s + j)) s) → (∀ j, m ≤ j → j < l (D s) → ¬ tw_b ti (tw_I D) sr pa se (q (48 * D s + j)) s) →
      tw_UX (tw_U q (D s) m (d (D s))) po an sf ss po' an' sf' ss' →
      tw_V Lp Tl N Ns op co se sr ti pa ca po' an' sb sf' ss' cu' cm D o q l (tw_u d (D s) (min m (d (D s)))) →
      post (nI (d (D s) - m)) (nI Lp, nI Rm, nI Tl, nI M, nI Ns, nI G, tr, op, co, la, lb, lg, lh, se, sr, tw_I D, ti, pa, ca, upd po' s 0, upd an' s 0, sb, sf', ss', tw_I (tw_rm o r M), tw_I (tw_qr q (48 * D s) m (l (D s))), tw_I (tw_u l (D s) (l (D s) - 1)), tw_I (tw_u d (D s) (min m (d (D s)))), cu', cm, ct, tw_I t)) :
    wpX_removeFromLp post (nI Lp, nI Rm, nI Tl, nI N, nI Ns, nI G, tr, op, co, la, lb, lg, lh, se, sr, tw_I D, ti, pa, ca, po, an, sb, sf, ss, tw_I o, tw_I q, tw_I l, tw_I d, cu, cm, ct, tw_I t) (nI s) := by
  have hV0 := hV
  have hl := tw_V_l48 hN hV
  obtain ⟨hO, hS, hA, hT, hQu, hC⟩ := hV
  have hLs : tw_L o N s := ⟨r, by omega, hs⟩
  have hp := (hA s hLs).1
  have hs8 : s < 48 := tw_L48 hO hN hLs
  have hlp := hl (D s) hp
  unfold wpX_removeFromLp
  dsimp only
  refine And.intro (pk_in s 48 hs8) (nm_r (tw_rd D rfl (by omega)) ?_)
  refine tw_x_plUn hL4 hN hV0 hLs ?_
  intro m po' an' sf' ss' cu' hm hlo hhi hU hV1
  obtain ⟨hm1, hq⟩ := tw_V_at hV0 hLs hpo hm hlo hhi
  refine nm_r (tw_m48 _) ⟨l (D s) - 1 - m + 1, ?_⟩
  have h1 := h m po' an' sf' ss' cu' hm1 hq hlo hhi hU hV1
  have e1 : l (D s) = (l (D s) - 1) + 1 := by omega
  have h2 := tw_x_rem31 (post := post) (p := D s) (s := s) (m := m) (e := l (D s) - 1) (m' := r) (M := M) (r := nI (d (D s) - m)) (by omega) (by omega) e1 (by omega) hr hNM hO hS hs (by rw [← e1]; exact h1) (l (D s) - 1 - m) m (by omega) (Nat.le_refl _)
  rw [tw_qr_0] at h2
  exact h2
theorem tw_y_removal3 {r M : Nat} (hN : N ≤ 48) (hNM : N = M + 1) (hr : r ≤ M) (hz : zo r = 3) :
    ∃ zo' za', tw_UY N zc zs (fun i => tw_UA zd zt zr zp zs zo r i ∨ i = r) zo za zo' za' ∧ ∀ post : Int32 → SY → Prop,
      post (nI (tw_n (tw_UA zd zt zr zp zs zo r) N + 1)) (nI Lp, nI Rm, nI Tl, nI G, tr, nI Ns, nI M, tw_sh zs r M, tw_sh zr r M, tw_sh zd r M, tw_sh zt r M, tw_sh zp r M, tw_sh zc r M, tw_sh zo' r M, tw_sh za' r M, ru, cm, ct) → wpY_removal post (nI Lp, nI Rm, nI Tl, nI G, tr, nI Ns, nI N, zs, zr, zd, zt, zp, zc, zo, za, ru, cm, ct) (nI r) := by
  obtain ⟨zo1, za1, hUY, HY⟩ := tw_y_undoAfter (Lp := Lp) (Rm := Rm) (Tl := Tl) (N := N) (Ns := Ns) (G := G) (tr := tr) (cm := cm) (ct := ct) (zs := zs) (zr := zr) (zd := zd) (zt := zt) (zp := zp) (zc := zc) (zo := zo) (za := za) (ru := ru) hN (show r < 48 by omega)
  refine ⟨upd zo1 r 2, tw_ua N zc (zs r) za1, tw_UY_s (by omega) (fun i hi => Iff.rfl) hUY, fun post h => ?_⟩
  refine And.intro (pk_in r 48 (by omega)) (br_t ((tw_ra zo rfl (by omega)).trans hz) (HY _ ?_))
  refine nm_r (nI_1 _) (tw_y_undo hN (by omega) ?_)
  exact tw_y_drop (by omega) hNM hr h
theorem tw_y_removal2 {post : Int32 → SY → Prop} {r M : Nat} (hN : N ≤ 48) (hNM : N = M + 1) (hr : r ≤ M) (hz : zo r ≠ 3)
    (h : post 0 (nI Lp, nI Rm, nI Tl, nI G, tr, nI Ns, nI M, tw_sh zs r M, tw_sh zr r M, tw_sh zd r M, tw_sh zt r M, tw_sh zp r M, tw_sh zc r M, tw_sh zo r M, tw_sh za r M, ru, cm, ct)) : wpY_removal post (nI Lp, nI Rm, nI Tl, nI G, tr, nI Ns, nI N, zs, zr, zd, zt, zp, zc, zo, za, ru, cm, ct) (nI r) := by
  refine And.intro (pk_in r 48 (by omega)) (br_f (fun z => hz ((tw_ra zo rfl (by omega)).symm.trans z)) ?_)
  exact tw_y_drop (by omega) hNM hr h
/-- both sides at a removal -/
theorem tw_rmv {s r M : Nat} (hL4 : Lp ≤ 4) (hN : N ≤ 48) (hNM : N = M + 1) (hV : tw_V Lp Tl N Ns op co se sr ti pa ca po an sb sf ss cu cm D o q l d) (hr : r ≤ M) (hs : o r = s) (hpo : po s ≠ 1) (hn : an s ≠ 0 ∨ ∀ e, tw_L o N e → ca s ≠ se e)
    (hP : tw_P1 N o se sr D ti pa ca zs zr zd zt zp zc) (hzo : tw_P2 N o po zo) (hza : tw_P2 N o an za) :
    ∃ zo' za' c, (∀ post : Int32 → SY → Prop, post c (nI Lp, nI Rm, nI Tl, nI G, tr, nI Ns, nI M, tw_sh zs r M, tw_sh zr r M, tw_sh zd r M, tw_sh zt r M, tw_sh zp r M, tw_sh zc r M, zo', za', ru, cm, ct) → wpY_removal post (nI Lp, nI Rm, nI Tl, nI G, tr, nI Ns, nI N, zs, zr, zd, zt, zp, zc, zo, za, ru, cm, ct) (nI r)) ∧
      ∀ post : Int32 → SX → Prop, (∀ po' an' sf' ss' cu' q' l' d', tw_V Lp Tl M Ns op co se sr ti pa ca po' an' sb sf' ss' cu' cm D (tw_rm o r M) q' l' d' → tw_P2 M (tw_rm o r M) po' zo' → tw_P2 M (tw_rm o r M) an' za' →
        (∀ x, tw_L (tw_rm o r M) M x → tw_L o N x ∧ (po' x = 1 → po x = 1)) →
        post c (nI Lp, nI Rm, nI Tl, nI M, nI Ns, nI G, tr, op, co, la, lb, lg, lh, se, sr, tw_I D, ti, pa, ca, po', an', sb, sf', ss', tw_I (tw_rm o r M), tw_I q', tw_I l', tw_I d', cu', cm, ct, tw_I t)) → wpX_removeFromLp post (nI Lp, nI Rm, nI Tl, nI N, nI Ns, nI G, tr, op, co, la, lb, lg, lh, se, sr, tw_I D, ti, pa, ca, po, an, sb, sf, ss, tw_I o, tw_I q, tw_I l, tw_I d, cu, cm, ct, tw_I t) (nI s) := by
  have hV0 := hV
  obtain ⟨hO, hS, hA, hT, hQu, hC⟩ := hV
  have hLs : tw_L o N s := ⟨r, by omega, hs⟩
  have hp := (hA s hLs).1
  have hzr : zo r = po s := by rw [hzo r (by omega), hs]
  have hz3 : ∀ i, i < N → (zo i = 3 ↔ po (o i) = 3) := fun i hi => by rw [hzo i hi]
  have hLr : ∀ x, tw_L (tw_rm o r M) M x → tw_L o N x ∧ x ≠ s := by
    intro x hx
    rw [tw_rm_L hO hr (by omega), hs, ← hNM] at hx
    exact hx
  -- what is common once the undone rows agree
  have core : ∀ (UY : Nat → Prop) (zo1 za1 : Nat → Int32), tw_UY N zc zs UY zo za zo1 za1 → ∀ m po' an' sf' ss' cu', m < l (D s) → q (48 * D s + m) = s →
      tw_UX (tw_U q (D s) m (d (D s))) po an sf ss po' an' sf' ss' → tw_V Lp Tl N Ns op co se sr ti pa ca po' an' sb sf' ss' cu' cm D o q l (tw_u d (D s) (min m (d (D s)))) →
      (∀ i, i < N → (UY i ↔ tw_U q (D s) m (d (D s)) (o i))) →
      tw_V Lp Tl M Ns op co se sr ti pa ca (upd po' s 0) (upd an' s 0) sb sf' ss' cu' cm D (tw_rm o r M) (tw_qr q (48 * D s) m (l (D s))) (tw_u l (D s) (l (D s) - 1)) (tw_u d (D s) (min m (d (D s)))) ∧
      tw_P2 M (tw_rm o r M) (upd po' s 0) (tw_sh zo1 r M) ∧ tw_P2 M (tw_rm o r M) (upd an' s 0) (tw_sh za1 r M) ∧ (∀ x, tw_L (tw_rm o r M) M x → tw_L o N x ∧ (upd po' s 0 x = 1 → po x = 1)) := by
    intro UY zo1 za1 hUY m po' an' sf' ss' cu' hm hq hU hV1 hiff
    refine ⟨?_, ?_, ?_, ?_⟩
    · refine tw_V_rem hN hNM hV1 hr hs hp (by rw [tw_us]; omega) hm hq ?_
      rcases hn with g | g
      · exact Or.inl (fun z => g (tw_UX_an0 hU (tw_L48 hO hN hLs) z).1)
      · exact Or.inr g
    · exact tw_P2_rm hN hO hNM hr hs (fun x hx => pk_un hx) (fun i hi => tw_cp_po hU hUY hiff hi (hzo i hi))
    · exact tw_P2_rm hN hO hNM hr hs (fun x hx => pk_un hx) (tw_cp_an hN hV0 hP hza hU hUY (fun x z => (tw_U_L hQu hp z).1) hiff)
    · intro x hx
      obtain ⟨h1, h2⟩ := hLr x hx
      refine ⟨h1, fun z => ?_⟩
      rw [pk_un h2] at z
      by_cases hu : tw_U q (D s) m (d (D s)) x
      · rw [((hU.1 x).1 hu).1] at z
        exact absurd z (by decide)
      · rw [((hU.1 x).2 hu).1] at z
        exact z
  by_cases h3 : po s = 3
  · obtain ⟨zo1, za1, hUY, HY⟩ := tw_y_removal3 (Lp := Lp) (Rm := Rm) (Tl := Tl) (N := N) (Ns := Ns) (G := G) (tr := tr) (cm := cm) (ct := ct) (zs := zs) (zr := zr) (zd := zd) (zt := zt) (zp := zp) (zc := zc) (zo := zo) (za := za) (ru := ru) hN hNM hr (hzr.trans h3)
    refine ⟨tw_sh zo1 r M, tw_sh za1 r M, _, HY, fun post h => ?_⟩
    refine tw_x_remove hL4 hN hNM hV0 hr hs hpo ?_
    intro m po' an' sf' ss' cu' hm hq hlo hhi hU hV1
    obtain ⟨a1, a2, a3⟩ := hQu.1 (D s) hp
    have hmd : m < d (D s) := by
      have k3 := (a2 m hm).2.2
      rw [hq, h3] at k3
      by_cases g : m < d (D s)
      · exact g
      · rw [if_neg g] at k3; exact absurd k3 (by decide)
    have hUA := tw_arr_iff (m := m + 1) hL4 hV0 hP (show r < N by omega) hs hz3
      (fun j hj => by
        by_cases e : j = m
        · subst e; rw [hq]; exact tw_b_irr
        · exact tw_b_asy (hlo j (by omega))) (fun j h1 h2 => hhi j (by omega) h2) (fun j h1 h2 z => by
        have := tw_qinj hQu (fun _ => tw_b_irr) hp (by omega : j < l (D s)) hm (z.trans hq.symm)
        omega)
    have hiff : ∀ i, i < N → ((tw_UA zd zt zr zp zs zo r i ∨ i = r) ↔ tw_U q (D s) m (d (D s)) (o i)) := by
      intro i hi
      rw [hUA i hi]
      refine ⟨fun z => ?_, fun z => ?_⟩
      · rcases z with ⟨j, h1, h2, h3⟩ | z
        · exact ⟨j, by omega, h2, h3⟩
        · exact ⟨m, Nat.le_refl _, hmd, by rw [hq, z, hs]⟩
      · obtain ⟨j, h1, h2, h3⟩ := z
        by_cases e : j = m
        · subst e
          exact Or.inr (hO.2 i r (by omega) (by omega) (h3.symm.trans (hq.trans hs.symm)))
        · exact Or.inl ⟨j, by omega, h2, h3⟩
    have hc : tw_n (tw_UA zd zt zr zp zs zo r) N + 1 = d (D s) - m := by
      rw [tw_cnt hN hV0 hp hUA]; omega
    obtain ⟨c1, c2, c3, c4⟩ := core _ zo1 za1 hUY m po' an' sf' ss' cu' hm hq hU hV1 hiff
    have h5 := h _ _ _ _ _ _ _ _ c1 c2 c3 c4
    rw [hc] at h5
    exact h5
  · refine ⟨tw_sh zo r M, tw_sh za r M, 0, fun post h => tw_y_removal2 hN hNM hr (fun z => h3 (hzr.symm.trans z)) h, fun post h => ?_⟩
    refine tw_x_remove hL4 hN hNM hV0 hr hs hpo ?_
    intro m po' an' sf' ss' cu' hm hq hlo hhi hU hV1
    obtain ⟨a1, a2, a3⟩ := hQu.1 (D s) hp
    have hmd : d (D s) ≤ m := by
      have k3 := (a2 m hm).2.2
      rw [hq] at k3
      by_cases g : m < d (D s)
      · rw [if_pos g] at k3; exact absurd k3 h3
      · omega
    have hiff : ∀ i, i < N → (False ↔ tw_U q (D s) m (d (D s)) (o i)) := fun i hi => ⟨fun z => absurd z (fun w => w), fun z => by
      obtain ⟨j, h1, h2, _⟩ := z
      omega⟩
    obtain ⟨c1, c2, c3, c4⟩ := core (fun _ => False) zo za (tw_UY_0 (fun _ _ z => z)) m po' an' sf' ss' cu' hm hq hU hV1 hiff
    have h5 := h _ _ _ _ _ _ _ _ c1 c2 c3 c4
    rw [show d (D s) - m = 0 by omega]
    exact h5
end TWK
end
section
section TWL
/-! THE RELATION -/
def tw_Z (B : Nat) (Lp Rm Tl N Ns G : Nat) (tr : Int32) (op co la lb lg lh se sr ti pa ca po an sb sf ss cu cm ct : Nat → Int32) (D o q l d t : Nat → Nat) (zs zr zd zt zp zc zo za ru : Nat → Int32) : Prop :=
  (2 ≤ Lp ∧ Lp ≤ 4 ∧ 4 ≤ Rm ∧ Rm ≤ 48 ∧ 10 ≤ Tl ∧ Tl ≤ 1000 ∧ N ≤ Rm ∧ Ns ≤ B ∧ G ≤ 1000) ∧ tw_V Lp Tl N Ns op co se sr ti pa ca po an sb sf ss cu cm D o q l d ∧ tw_E (tw_L o N) sr ca po ∧ tw_R Lp la lb ∧ tw_RY op co la lb lg lh ru ∧ tw_P1 N o se sr D ti pa ca zs zr zd zt zp zc ∧ tw_P2 N o po zo ∧ tw_P2 N o an za ∧ ∀ p, p < Lp → t p = 0
def tw_Rel (B : Nat) (u : SX) (v : SY) : Prop := ∃ (Lp Rm Tl N Ns G : Nat) (tr : Int32) (op co la lb lg lh se sr ti pa ca po an sb sf ss cu cm ct : Nat → Int32) (D o q l d t : Nat → Nat) (zs zr zd zt zp zc zo za ru : Nat → Int32), u = (nI Lp, nI Rm, nI Tl, nI N, nI Ns, nI G, tr, op, co, la, lb, lg, lh, se, sr, tw_I D, ti, pa, ca, po, an, sb, sf, ss, tw_I o, tw_I q, tw_I l, tw_I d, cu, cm, ct, tw_I t) ∧ v = (nI Lp, nI Rm, nI Tl, nI G, tr, nI Ns, nI N, zs, zr, zd, zt, zp, zc, zo, za, ru, cm, ct) ∧ tw_Z B Lp Rm Tl N Ns G tr op co la lb lg lh se sr ti pa ca po an sb sf ss cu cm ct D o q l d t zs zr zd zt zp zc zo za ru
theorem tw_mk {B : Nat} {Lp Rm Tl N Ns G : Nat} {tr : Int32} {op co la lb lg lh se sr ti pa ca po an sb sf ss cu cm ct : Nat → Int32} {D o q l d t : Nat → Nat} {zs zr zd zt zp zc zo za ru : Nat → Int32} (h : tw_Z B Lp Rm Tl N Ns G tr op co la lb lg lh se sr ti pa ca po an sb sf ss cu cm ct D o q l d t zs zr zd zt zp zc zo za ru) : tw_Rel B (nI Lp, nI Rm, nI Tl, nI N, nI Ns, nI G, tr, op, co, la, lb, lg, lh, se, sr, tw_I D, ti, pa, ca, po, an, sb, sf, ss, tw_I o, tw_I q, tw_I l, tw_I d, cu, cm, ct, tw_I t) (nI Lp, nI Rm, nI Tl, nI G, tr, nI Ns, nI N, zs, zr, zd, zt, zp, zc, zo, za, ru, cm, ct) := ⟨Lp, Rm, Tl, N, Ns, G, tr, op, co, la, lb, lg, lh, se, sr, ti, pa, ca, po, an, sb, sf, ss, cu, cm, ct, D, o, q, l, d, t, zs, zr, zd, zt, zp, zc, zo, za, ru, rfl, rfl, h⟩
theorem tw_el {B : Nat} {P : SX → SY → Prop} {u : SX} {v : SY} (h : ∀ (Lp Rm Tl N Ns G : Nat) (tr : Int32) (op co la lb lg lh se sr ti pa ca po an sb sf ss cu cm ct : Nat → Int32) (D o q l d t : Nat → Nat) (zs zr zd zt zp zc zo za ru : Nat → Int32), tw_Z B Lp Rm Tl N Ns G tr op co la lb lg lh se sr ti pa ca po an sb sf ss cu cm ct D o q l d t zs zr zd zt zp zc zo za ru → P (nI Lp, nI Rm, nI Tl, nI N, nI Ns, nI G, tr, op, co, la, lb, lg, lh, se, sr, tw_I D, ti, pa, ca, po, an, sb, sf, ss, tw_I o, tw_I q, tw_I l, tw_I d, cu, cm, ct, tw_I t) (nI Lp, nI Rm, nI Tl, nI G, tr, nI Ns, nI N, zs, zr, zd, zt, zp, zc, zo, za, ru, cm, ct)) (I : tw_Rel B u v) : P u v :=
  Exists.elim I fun Lp I => Exists.elim I fun Rm I => Exists.elim I fun Tl I => Exists.elim I fun N I => Exists.elim I fun Ns I => Exists.elim I fun G I => Exists.elim I fun tr I => Exists.elim I fun op I => Exists.elim I fun co I => Exists.elim I fun la I => Exists.elim I fun lb I => Exists.elim I fun lg I => Exists.elim I fun lh I => Exists.elim I fun se I => Exists.elim I fun sr I => Exists.elim I fun ti I => Exists.elim I fun pa I => Exists.elim I fun ca I => Exists.elim I fun po I => Exists.elim I fun an I => Exists.elim I fun sb I => Exists.elim I fun sf I => Exists.elim I fun ss I => Exists.elim I fun cu I => Exists.elim I fun cm I => Exists.elim I fun ct I => Exists.elim I fun D I => Exists.elim I fun o I => Exists.elim I fun q I => Exists.elim I fun l I => Exists.elim I fun d I => Exists.elim I fun t I => Exists.elim I fun zs I => Exists.elim I fun zr I => Exists.elim I fun zd I => Exists.elim I fun zt I => Exists.elim I fun zp I => Exists.elim I fun zc I => Exists.elim I fun zo I => Exists.elim I fun za I => Exists.elim I fun ru I => by
    rw [I.1, I.2.1]
    exact h Lp Rm Tl N Ns G tr op co la lb lg lh se sr ti pa ca po an sb sf ss cu cm ct D o q l d t zs zr zd zt zp zc zo za ru I.2.2
theorem tw_Z_up {B B' : Nat} {Lp Rm Tl N Ns G : Nat} {tr : Int32} {op co la lb lg lh se sr ti pa ca po an sb sf ss cu cm ct : Nat → Int32} {D o q l d t : Nat → Nat} {zs zr zd zt zp zc zo za ru : Nat → Int32} (hB : B ≤ B') (h : tw_Z B Lp Rm Tl N Ns G tr op co la lb lg lh se sr ti pa ca po an sb sf ss cu cm ct D o q l d t zs zr zd zt zp zc zo za ru) : tw_Z B' Lp Rm Tl N Ns G tr op co la lb lg lh se sr ti pa ca po an sb sf ss cu cm ct D o q l d t zs zr zd zt zp zc zo za ru := by
  obtain ⟨⟨a, b, c, e, f, g, i, j, k⟩, h⟩ := h
  exact ⟨⟨a, b, c, e, f, g, i, by omega, k⟩, h⟩
theorem tw_Rel_up {B B' : Nat} {u : SX} {v : SY} (hB : B ≤ B') (I : tw_Rel B u v) : tw_Rel B' u v := by
  refine tw_el (P := fun u v => tw_Rel B' u v) ?_ I
  intro Lp Rm Tl N Ns G tr op co la lb lg lh se sr ti pa ca po an sb sf ss cu cm ct D o q l d t zs zr zd zt zp zc zo za ru h
  exact tw_mk (tw_Z_up hB h)
def tw_Lk (B : Nat) (WX : (Int32 → SX → Prop) → Prop) (WY : (Int32 → SY → Prop) → Prop) : Prop :=
  ∃ r v', (∀ post : Int32 → SY → Prop, post r v' → WY post) ∧ ∀ post : Int32 → SX → Prop, (∀ u', tw_Rel B u' v' → post r u') → WX post
def tw_Ro (WX WY : (Int32 → Prop) → Prop) : Prop := ∃ r, (∀ post : Int32 → Prop, post r → WX post) ∧ ∀ post : Int32 → Prop, post r → WY post
theorem tw_Lk_s {B : Nat} {Lp Rm Tl N Ns G : Nat} {tr : Int32} {op co la lb lg lh se sr ti pa ca po an sb sf ss cu cm ct : Nat → Int32} {D o q l d t : Nat → Nat} {zs zr zd zt zp zc zo za ru : Nat → Int32} {WX : (Int32 → SX → Prop) → Prop} {WY : (Int32 → SY → Prop) → Prop} (r : Int32) (hZ : tw_Z B Lp Rm Tl N Ns G tr op co la lb lg lh se sr ti pa ca po an sb sf ss cu cm ct D o q l d t zs zr zd zt zp zc zo za ru)
    (hx : ∀ post : Int32 → SX → Prop, post r (nI Lp, nI Rm, nI Tl, nI N, nI Ns, nI G, tr, op, co, la, lb, lg, lh, se, sr, tw_I D, ti, pa, ca, po, an, sb, sf, ss, tw_I o, tw_I q, tw_I l, tw_I d, cu, cm, ct, tw_I t) → WX post) (hy : ∀ post : Int32 → SY → Prop, post r (nI Lp, nI Rm, nI Tl, nI G, tr, nI Ns, nI N, zs, zr, zd, zt, zp, zc, zo, za, ru, cm, ct) → WY post) : tw_Lk B WX WY :=
  ⟨r, (nI Lp, nI Rm, nI Tl, nI G, tr, nI Ns, nI N, zs, zr, zd, zt, zp, zc, zo, za, ru, cm, ct), hy, fun post h => hx post (h _ (tw_mk hZ))⟩
variable {B : Nat} {Lp Rm Tl N Ns G : Nat} {tr : Int32} {op co la lb lg lh se sr ti pa ca po an sb sf ss cu cm ct : Nat → Int32} {D o q l d t : Nat → Nat} {zs zr zd zt zp zc zo za ru : Nat → Int32}
/-! reads of one value -/
theorem tw_r_gvt : tw_Ro (fun post => wpX_gvt post (nI Lp, nI Rm, nI Tl, nI N, nI Ns, nI G, tr, op, co, la, lb, lg, lh, se, sr, tw_I D, ti, pa, ca, po, an, sb, sf, ss, tw_I o, tw_I q, tw_I l, tw_I d, cu, cm, ct, tw_I t)) (fun post => wpY_gvt post (nI Lp, nI Rm, nI Tl, nI G, tr, nI Ns, nI N, zs, zr, zd, zt, zp, zc, zo, za, ru, cm, ct)) := ⟨_, fun _ h => h, fun _ h => h⟩
theorem tw_r_trace : tw_Ro (fun post => wpX_commitTrace post (nI Lp, nI Rm, nI Tl, nI N, nI Ns, nI G, tr, op, co, la, lb, lg, lh, se, sr, tw_I D, ti, pa, ca, po, an, sb, sf, ss, tw_I o, tw_I q, tw_I l, tw_I d, cu, cm, ct, tw_I t)) (fun post => wpY_commitTrace post (nI Lp, nI Rm, nI Tl, nI G, tr, nI Ns, nI N, zs, zr, zd, zt, zp, zc, zo, za, ru, cm, ct)) := ⟨_, fun _ h => h, fun _ h => h⟩
theorem tw_r_live : tw_Ro (fun post => wpX_live post (nI Lp, nI Rm, nI Tl, nI N, nI Ns, nI G, tr, op, co, la, lb, lg, lh, se, sr, tw_I D, ti, pa, ca, po, an, sb, sf, ss, tw_I o, tw_I q, tw_I l, tw_I d, cu, cm, ct, tw_I t)) (fun post => wpY_live post (nI Lp, nI Rm, nI Tl, nI G, tr, nI Ns, nI N, zs, zr, zd, zt, zp, zc, zo, za, ru, cm, ct)) := ⟨_, fun _ h => h, fun _ h => h⟩
theorem tw_r_serials : tw_Ro (fun post => wpX_serials post (nI Lp, nI Rm, nI Tl, nI N, nI Ns, nI G, tr, op, co, la, lb, lg, lh, se, sr, tw_I D, ti, pa, ca, po, an, sb, sf, ss, tw_I o, tw_I q, tw_I l, tw_I d, cu, cm, ct, tw_I t)) (fun post => wpY_serials post (nI Lp, nI Rm, nI Tl, nI G, tr, nI Ns, nI N, zs, zr, zd, zt, zp, zc, zo, za, ru, cm, ct)) := ⟨_, fun _ h => h, fun _ h => h⟩
theorem tw_r_limit (x : Int32) : tw_Ro (fun post => wpX_limit post (nI Lp, nI Rm, nI Tl, nI N, nI Ns, nI G, tr, op, co, la, lb, lg, lh, se, sr, tw_I D, ti, pa, ca, po, an, sb, sf, ss, tw_I o, tw_I q, tw_I l, tw_I d, cu, cm, ct, tw_I t) x) (fun post => wpY_limit post (nI Lp, nI Rm, nI Tl, nI G, tr, nI Ns, nI N, zs, zr, zd, zt, zp, zc, zo, za, ru, cm, ct) x) := by
  by_cases h0 : x = 0
  · exact ⟨_, fun _ h => br_t h0 h, fun _ h => br_t h0 h⟩
  · by_cases h1 : x = 1
    · exact ⟨_, fun _ h => br_f h0 (br_t h1 h), fun _ h => br_f h0 (br_t h1 h)⟩
    · by_cases h2 : x = 2
      · exact ⟨_, fun _ h => br_f h0 (br_f h1 (br_t h2 h)), fun _ h => br_f h0 (br_f h1 (br_t h2 h))⟩
      · exact ⟨_, fun _ h => br_f h0 (br_f h1 (br_f h2 h)), fun _ h => br_f h0 (br_f h1 (br_f h2 h))⟩
theorem tw_r_cs (x : Int32) (hL : Lp ≤ 4) : tw_Ro (fun post => wpX_committedState post (nI Lp, nI Rm, nI Tl, nI N, nI Ns, nI G, tr, op, co, la, lb, lg, lh, se, sr, tw_I D, ti, pa, ca, po, an, sb, sf, ss, tw_I o, tw_I q, tw_I l, tw_I d, cu, cm, ct, tw_I t) x) (fun post => wpY_committedState post (nI Lp, nI Rm, nI Tl, nI G, tr, nI Ns, nI N, zs, zr, zd, zt, zp, zc, zo, za, ru, cm, ct) x) := by
  unfold tw_Ro wpX_committedState wpY_committedState
  dsimp only
  rcases pk_ix x (n := Lp) (by omega) with h | h | ⟨p, hp, rfl⟩
  · exact ⟨0, fun _ hp => tw_x_isLp_f (Or.inl h) (br_t rfl hp), fun _ hp => tw_y_isLp_f (Or.inl h) (br_t rfl hp)⟩
  · exact ⟨0, fun _ hp => tw_x_isLp_f (Or.inr h) (br_t rfl hp), fun _ hp => tw_y_isLp_f (Or.inr h) (br_t rfl hp)⟩
  · have ip : vp_in (nI p) 4 := pk_in p 4 (by omega)
    exact ⟨_, fun _ h => tw_x_isLp_t hL hp (br_f (by decide) (And.intro ip h)), fun _ h => tw_y_isLp_t hL hp (br_f (by decide) (And.intro ip h))⟩
theorem tw_r_cc (x : Int32) (hL : Lp ≤ 4) : tw_Ro (fun post => wpX_committedCount post (nI Lp, nI Rm, nI Tl, nI N, nI Ns, nI G, tr, op, co, la, lb, lg, lh, se, sr, tw_I D, ti, pa, ca, po, an, sb, sf, ss, tw_I o, tw_I q, tw_I l, tw_I d, cu, cm, ct, tw_I t) x) (fun post => wpY_committedCount post (nI Lp, nI Rm, nI Tl, nI G, tr, nI Ns, nI N, zs, zr, zd, zt, zp, zc, zo, za, ru, cm, ct) x) := by
  unfold tw_Ro wpX_committedCount wpY_committedCount
  dsimp only
  rcases pk_ix x (n := Lp) (by omega) with h | h | ⟨p, hp, rfl⟩
  · exact ⟨-1, fun _ hp => tw_x_isLp_f (Or.inl h) (br_t rfl hp), fun _ hp => tw_y_isLp_f (Or.inl h) (br_t rfl hp)⟩
  · exact ⟨-1, fun _ hp => tw_x_isLp_f (Or.inr h) (br_t rfl hp), fun _ hp => tw_y_isLp_f (Or.inr h) (br_t rfl hp)⟩
  · have ip : vp_in (nI p) 4 := pk_in p 4 (by omega)
    exact ⟨_, fun _ h => tw_x_isLp_t hL hp (br_f (by decide) (And.intro ip h)), fun _ h => tw_y_isLp_t hL hp (br_f (by decide) (And.intro ip h))⟩
/-! rule -/
theorem tw_x_rule64 {post : Int32 → Prop} {k j : Nat} (hk : k < 8) (hj : j < 4) (h0 : j = 0 → post (la k)) (h1 : j = 1 → post (lb k)) (h2 : j = 2 → post (lg k)) (h3 : j = 3 → post (lh k)) : wX_rule_64 post (nI k) (nI j) (nI Lp) (nI Rm) (nI Tl) (nI N) (nI Ns) (nI G) tr op co la lb lg lh se sr (tw_I D) ti pa ca po an sb sf ss (tw_I o) (tw_I q) (tw_I l) (tw_I d) cu cm ct (tw_I t) := by
  have ik : vp_in (nI k) 8 := pk_in k 8 hk
  unfold wX_rule_64
  rw [nI_clamp (show k < 2 ^ 31 by omega)]
  exact pk_eq j 0 (fun z => ⟨ik, h0 z⟩) (fun z0 => pk_eq j 1 (fun z => ⟨ik, h1 z⟩) (fun z1 => pk_eq j 2 (fun z => ⟨ik, h2 z⟩) (fun z2 => ⟨ik, h3 (by omega)⟩)))
theorem tw_r_rule (x y : Int32) (hL : Lp ≤ 4) (hR : tw_RY op co la lb lg lh ru) : tw_Ro (fun post => wpX_rule post (nI Lp, nI Rm, nI Tl, nI N, nI Ns, nI G, tr, op, co, la, lb, lg, lh, se, sr, tw_I D, ti, pa, ca, po, an, sb, sf, ss, tw_I o, tw_I q, tw_I l, tw_I d, cu, cm, ct, tw_I t) x y) (fun post => wpY_rule post (nI Lp, nI Rm, nI Tl, nI G, tr, nI Ns, nI N, zs, zr, zd, zt, zp, zc, zo, za, ru, cm, ct) x y) := by
  unfold tw_Ro wpX_rule wpY_rule
  dsimp only
  rcases pk_ix x (n := Lp) (by omega) with h | h | ⟨p, hp, rfl⟩
  · exact ⟨-1, fun _ hp => tw_x_isLp_f (Or.inl h) (br_t rfl hp), fun _ hp => tw_y_isLp_f (Or.inl h) (br_t rfl hp)⟩
  · exact ⟨-1, fun _ hp => tw_x_isLp_f (Or.inr h) (br_t rfl hp), fun _ hp => tw_y_isLp_f (Or.inr h) (br_t rfl hp)⟩
  · have ip : vp_in (nI p) 4 := pk_in p 4 (by omega)
    by_cases hy0 : y < 0
    · exact ⟨-1, fun _ h => tw_x_isLp_t hL hp (br_f (by decide) (br_t hy0 h)), fun _ h => tw_y_isLp_t hL hp (br_f (by decide) (br_t hy0 h))⟩
    · by_cases hy9 : y ≤ 9
      · obtain ⟨j, hj, rfl⟩ := nI_of2 (n := 9) (by decide) hy0 hy9
        obtain ⟨r0, r1, rk⟩ := hR p (by omega)
        refine ⟨ru (10 * p + j), fun post h => tw_x_isLp_t hL hp (br_f (by decide) (br_f hy0 (br_t hy9 ?_))), fun post h => tw_y_isLp_t hL hp (br_f (by decide) (br_f hy0 (br_t hy9 ?_)))⟩
        · refine pk_eq j 0 (fun z => And.intro ip ?_) (fun z0 => pk_eq j 1 (fun z => And.intro ip ?_) (fun z1 => nm_r (tw_m2 p) (nm_r (e' := nI (j - 2)) (pk_sub (b := 2) (by omega)) (pk_lt (j - 2) 4 (fun z => ?_) (fun z => ?_)))))
          · subst z
            rw [nI_clamp (show p < 2 ^ 31 by omega), ← r0]; exact h
          · subst z
            rw [nI_clamp (show p < 2 ^ 31 by omega), ← r1]; exact h
          · obtain ⟨k0, k1, k2, k3⟩ := rk 0 (by omega)
            refine tw_x_rule64 (by omega) (by omega) (fun w => ?_) (fun w => ?_) (fun w => ?_) (fun w => ?_)
            · rw [show 10 * p + j = 10 * p + 2 + 4 * 0 by omega, k0] at h; exact h
            · rw [show 10 * p + j = 10 * p + 3 + 4 * 0 by omega, k1] at h; exact h
            · rw [show 10 * p + j = 10 * p + 4 + 4 * 0 by omega, k2] at h; exact h
            · rw [show 10 * p + j = 10 * p + 5 + 4 * 0 by omega, k3] at h; exact h
          · obtain ⟨k0, k1, k2, k3⟩ := rk 1 (by omega)
            refine nm_r (nI_1 _) (nm_r (e' := nI (j - 2 - 4)) ((Int32.sub_eq_add_neg _ _).symm.trans (pk_sub (b := 4) (by omega))) ?_)
            refine tw_x_rule64 (by omega) (by omega) (fun w => ?_) (fun w => ?_) (fun w => ?_) (fun w => ?_)
            · rw [show 10 * p + j = 10 * p + 2 + 4 * 1 by omega, k0] at h; exact h
            · rw [show 10 * p + j = 10 * p + 3 + 4 * 1 by omega, k1] at h; exact h
            · rw [show 10 * p + j = 10 * p + 4 + 4 * 1 by omega, k2] at h; exact h
            · rw [show 10 * p + j = 10 * p + 5 + 4 * 1 by omega, k3] at h; exact h
        · have e : nI p * 10 + nI j = nI (10 * p + j) := by rw [tw_m10, nI_add]
          refine And.intro (pk_in (10 * p + j) 40 (by omega) e) ?_
          rw [tw_ra ru e (by omega)]
          exact h
      · exact ⟨-1, fun _ h => tw_x_isLp_t hL hp (br_f (by decide) (br_f hy0 (br_f hy9 h))), fun _ h => tw_y_isLp_t hL hp (br_f (by decide) (br_f hy0 (br_f hy9 h)))⟩
end TWL
end
section
section TWM
variable {B : Nat} {Lp Rm Tl N Ns G : Nat} {tr : Int32} {op co la lb lg lh se sr ti pa ca po an sb sf ss cu cm ct : Nat → Int32} {D o q l d t : Nat → Nat} {zs zr zd zt zp zc zo za ru : Nat → Int32}
/-! the setters -/
theorem tw_V0 (hV : tw_V Lp Tl N Ns op co se sr ti pa ca po an sb sf ss cu cm D o q l d) (h0 : Ns = 0) : N = 0 := by
  obtain ⟨hO, hS, _⟩ := hV
  by_cases h : N = 0
  · exact h
  · have := hS.2 0 (by omega)
    omega
theorem tw_Z_set {op' co' la' lb' lg' lh' ru' : Nat → Int32} (hZ : tw_Z B Lp Rm Tl N Ns G tr op co la lb lg lh se sr ti pa ca po an sb sf ss cu cm ct D o q l d t zs zr zd zt zp zc zo za ru) (h0 : Ns = 0) (hR : tw_R Lp la' lb') (hRY : tw_RY op' co' la' lb' lg' lh' ru') : tw_Z B Lp Rm Tl N Ns G tr op' co' la' lb' lg' lh' se sr ti pa ca po an sb sf ss cu cm ct D o q l d t zs zr zd zt zp zc zo za ru' := by
  obtain ⟨hn, hV, hE, _, _, hP, hzo, hza, ht⟩ := hZ
  refine ⟨hn, ?_, hE, hR, hRY, hP, hzo, hza, ht⟩
  have hN := tw_V0 hV h0
  obtain ⟨hO, hS, hA, hT, hQ, hC⟩ := hV
  refine ⟨hO, hS, hA, hT, hQ, ?_⟩
  intro p hp
  obtain ⟨c1, c2⟩ := hC p hp
  have hl : d p = 0 := by
    have h1 := tw_qlen hQ (fun _ => tw_b_irr) hp
    have h2 := (hQ.1 p hp).1
    omega
  rw [hl] at c1 ⊢
  exact ⟨c1, fun j hj => absurd hj (by omega)⟩
theorem tw_RY_op {p : Nat} {a b : Int32} (h : tw_RY op co la lb lg lh ru) : tw_RY (upd op p a) (upd co p b) la lb lg lh (upd (upd ru (10 * p) a) (10 * p + 1) b) := by
  intro p' hp'
  obtain ⟨r0, r1, rk⟩ := h p' hp'
  refine ⟨?_, ?_, fun k hk => ?_⟩
  · rw [pk_un (by omega)]
    by_cases e : p' = p
    · subst e; rw [pk_us, pk_us]
    · rw [pk_un (by omega), pk_un e]; exact r0
  · by_cases e : p' = p
    · subst e; rw [pk_us, pk_us]
    · rw [pk_un (by omega), pk_un (by omega), pk_un e]; exact r1
  · obtain ⟨k0, k1, k2, k3⟩ := rk k hk
    refine ⟨?_, ?_, ?_, ?_⟩
    · rw [pk_un (by omega), pk_un (by omega)]; exact k0
    · rw [pk_un (by omega), pk_un (by omega)]; exact k1
    · rw [pk_un (by omega), pk_un (by omega)]; exact k2
    · rw [pk_un (by omega), pk_un (by omega)]; exact k3
theorem tw_RY_ln {p c : Nat} {a b : Int32} (hc : c < 2) (h : tw_RY op co la lb lg lh ru) : tw_RY op co (upd la (2 * p + c) a) (upd lb (2 * p + c) b) lg lh (upd (upd ru (10 * p + 2 + 4 * c) a) (10 * p + 3 + 4 * c) b) := by
  intro p' hp'
  obtain ⟨r0, r1, rk⟩ := h p' hp'
  refine ⟨?_, ?_, fun k hk => ?_⟩
  · rw [pk_un (by omega), pk_un (by omega)]; exact r0
  · rw [pk_un (by omega), pk_un (by omega)]; exact r1
  · obtain ⟨k0, k1, k2, k3⟩ := rk k hk
    refine ⟨?_, ?_, ?_, ?_⟩
    · rw [pk_un (by omega)]
      by_cases e : 2 * p' + k = 2 * p + c
      · rw [show 10 * p' + 2 + 4 * k = 10 * p + 2 + 4 * c by omega, e, pk_us, pk_us]
      · rw [pk_un (by omega), pk_un e]; exact k0
    · by_cases e : 2 * p' + k = 2 * p + c
      · rw [show 10 * p' + 3 + 4 * k = 10 * p + 3 + 4 * c by omega, e, pk_us, pk_us]
      · rw [pk_un (by omega), pk_un (by omega), pk_un e]; exact k1
    · rw [pk_un (by omega), pk_un (by omega)]; exact k2
    · rw [pk_un (by omega), pk_un (by omega)]; exact k3
theorem tw_RY_gd {p c : Nat} {a b : Int32} (hc : c < 2) (h : tw_RY op co la lb lg lh ru) : tw_RY op co la lb (upd lg (2 * p + c) a) (upd lh (2 * p + c) b) (upd (upd ru (10 * p + 4 + 4 * c) a) (10 * p + 5 + 4 * c) b) := by
  intro p' hp'
  obtain ⟨r0, r1, rk⟩ := h p' hp'
  refine ⟨?_, ?_, fun k hk => ?_⟩
  · rw [pk_un (by omega), pk_un (by omega)]; exact r0
  · rw [pk_un (by omega), pk_un (by omega)]; exact r1
  · obtain ⟨k0, k1, k2, k3⟩ := rk k hk
    refine ⟨?_, ?_, ?_, ?_⟩
    · rw [pk_un (by omega), pk_un (by omega)]; exact k0
    · rw [pk_un (by omega), pk_un (by omega)]; exact k1
    · rw [pk_un (by omega)]
      by_cases e : 2 * p' + k = 2 * p + c
      · rw [show 10 * p' + 4 + 4 * k = 10 * p + 4 + 4 * c by omega, e, pk_us, pk_us]
      · rw [pk_un (by omega), pk_un e]; exact k2
    · by_cases e : 2 * p' + k = 2 * p + c
      · rw [show 10 * p' + 5 + 4 * k = 10 * p + 5 + 4 * c by omega, e, pk_us, pk_us]
      · rw [pk_un (by omega), pk_un (by omega), pk_un e]; exact k3
theorem tw_y_b (p c k : Nat) : nI p * 10 + nI c + 4 * nI k = nI (10 * p + c + 4 * k) := by
  rw [tw_m10, tw_m4, nI_add, nI_add]
theorem tw_l_setOp (hZ : tw_Z B Lp Rm Tl N Ns G tr op co la lb lg lh se sr ti pa ca po an sb sf ss cu cm ct D o q l d t zs zr zd zt zp zc zo za ru) (hB : B < 2 ^ 30) (x y z : Int32) : tw_Lk B (fun post => wpX_setOp post (nI Lp, nI Rm, nI Tl, nI N, nI Ns, nI G, tr, op, co, la, lb, lg, lh, se, sr, tw_I D, ti, pa, ca, po, an, sb, sf, ss, tw_I o, tw_I q, tw_I l, tw_I d, cu, cm, ct, tw_I t) x y z) (fun post => wpY_setOp post (nI Lp, nI Rm, nI Tl, nI G, tr, nI Ns, nI N, zs, zr, zd, zt, zp, zc, zo, za, ru, cm, ct) x y z) := by
  unfold wpX_setOp wpY_setOp
  dsimp only
  obtain ⟨⟨n1, n2, n3, n4, n5, n6, n7, n8, n9⟩, hV, hE, hR, hRY, _⟩ := id hZ
  by_cases hs : nI Ns ≤ 0
  · have h0 : Ns = 0 := by
      by_cases h : Ns = 0
      · exact h
      · exact absurd hs (nI_nle (by omega) (by omega))
    rcases pk_ix x (n := Lp) (by omega) with h | h | ⟨p, hp, rfl⟩
    · exact tw_Lk_s (-1) hZ (fun _ hh => br_t hs (tw_x_isLp_f (Or.inl h) (br_t rfl hh))) (fun _ hh => br_t hs (tw_y_isLp_f (Or.inl h) (br_t rfl hh)))
    · exact tw_Lk_s (-1) hZ (fun _ hh => br_t hs (tw_x_isLp_f (Or.inr h) (br_t rfl hh))) (fun _ hh => br_t hs (tw_y_isLp_f (Or.inr h) (br_t rfl hh)))
    · by_cases y0 : y < 0
      · exact tw_Lk_s (-1) hZ (fun _ hh => br_t hs (tw_x_isLp_t n2 hp (br_f (by decide) (br_t y0 hh)))) (fun _ hh => br_t hs (tw_y_isLp_t n2 hp (br_f (by decide) (br_t y0 hh))))
      · by_cases y4 : y ≤ 4
        · have ip : vp_in (nI p) 4 := pk_in p 4 (by omega)
          have e1 : nI p * 10 + 1 = nI (10 * p + 1) := by rw [tw_m10, nI_1]
          refine ⟨0, (nI Lp, nI Rm, nI Tl, nI G, tr, nI Ns, nI N, zs, zr, zd, zt, zp, zc, zo, za, upd (upd ru (10 * p) y) (10 * p + 1) z, cm, ct), fun post hh => br_t hs (tw_y_isLp_t n2 hp (br_f (by decide) (br_f y0 (br_t y4 ?_)))), fun post hh => br_t hs (tw_x_isLp_t n2 hp (br_f (by decide) (br_f y0 (br_t y4 ?_))))⟩
          · exact And.intro (pk_in (10 * p) 40 (by omega) (tw_m10 p)) (nm_r (tw_ru ru (tw_m10 p) (by omega) rfl) (And.intro (pk_in (10 * p + 1) 40 (by omega) e1) (nm_r (tw_ru _ e1 (by omega) rfl) hh)))
          · exact And.intro ip (nm_r (tw_ru op rfl (by omega) rfl) (And.intro ip (nm_r (tw_ru co rfl (by omega) rfl) (hh _ (tw_mk (tw_Z_set hZ h0 hR (tw_RY_op hRY)))))))
        · exact tw_Lk_s (-1) hZ (fun _ hh => br_t hs (tw_x_isLp_t n2 hp (br_f (by decide) (br_f y0 (br_f y4 hh))))) (fun _ hh => br_t hs (tw_y_isLp_t n2 hp (br_f (by decide) (br_f y0 (br_f y4 hh)))))
  · exact tw_Lk_s (-4) hZ (fun _ hh => br_f hs hh) (fun _ hh => br_f hs hh)
theorem tw_l_setLink (hZ : tw_Z B Lp Rm Tl N Ns G tr op co la lb lg lh se sr ti pa ca po an sb sf ss cu cm ct D o q l d t zs zr zd zt zp zc zo za ru) (hB : B < 2 ^ 30) (x y z w : Int32) : tw_Lk B (fun post => wpX_setLink post (nI Lp, nI Rm, nI Tl, nI N, nI Ns, nI G, tr, op, co, la, lb, lg, lh, se, sr, tw_I D, ti, pa, ca, po, an, sb, sf, ss, tw_I o, tw_I q, tw_I l, tw_I d, cu, cm, ct, tw_I t) x y z w) (fun post => wpY_setLink post (nI Lp, nI Rm, nI Tl, nI G, tr, nI Ns, nI N, zs, zr, zd, zt, zp, zc, zo, za, ru, cm, ct) x y z w) := by
  unfold wpX_setLink wpY_setLink
  dsimp only
  obtain ⟨⟨n1, n2, n3, n4, n5, n6, n7, n8, n9⟩, hV, hE, hR, hRY, _⟩ := id hZ
  by_cases hs : nI Ns ≤ 0
  · have h0 : Ns = 0 := by
      by_cases h : Ns = 0
      · exact h
      · exact absurd hs (nI_nle (by omega) (by omega))
    rcases pk_ix x (n := Lp) (by omega) with h | h | ⟨p, hp, rfl⟩
    · exact tw_Lk_s (-1) hZ (fun _ hh => br_t hs (tw_x_isLp_f (Or.inl h) (br_t rfl hh))) (fun _ hh => br_t hs (tw_y_isLp_f (Or.inl h) (br_t rfl hh)))
    · exact tw_Lk_s (-1) hZ (fun _ hh => br_t hs (tw_x_isLp_f (Or.inr h) (br_t rfl hh))) (fun _ hh => br_t hs (tw_y_isLp_f (Or.inr h) (br_t rfl hh)))
    · by_cases y0 : y < 0
      · exact tw_Lk_s (-1) hZ (fun _ hh => br_t hs (tw_x_isLp_t n2 hp (br_f (by decide) (br_t y0 hh)))) (fun _ hh => br_t hs (tw_y_isLp_t n2 hp (br_f (by decide) (br_t y0 hh))))
      · by_cases y1 : 1 < y
        · exact tw_Lk_s (-1) hZ (fun _ hh => br_t hs (tw_x_isLp_t n2 hp (br_f (by decide) (br_f y0 (br_t y1 hh))))) (fun _ hh => br_t hs (tw_y_isLp_t n2 hp (br_f (by decide) (br_f y0 (br_t y1 hh)))))
        · obtain ⟨c, hc, rfl⟩ := nI_of2 (n := 1) (by decide) y0 (Int32.not_lt.mp y1)
          rcases pk_ix z (n := Lp) (by omega) with h | h | ⟨a, ha, rfl⟩
          · exact tw_Lk_s (-1) hZ (fun _ hh => br_t hs (tw_x_isLp_t n2 hp (br_f (by decide) (br_f y0 (br_f y1 (tw_x_isLp_f (Or.inl h) (br_t rfl hh))))))) (fun _ hh => br_t hs (tw_y_isLp_t n2 hp (br_f (by decide) (br_f y0 (br_f y1 (tw_y_isLp_f (Or.inl h) (br_t rfl hh)))))))
          · exact tw_Lk_s (-1) hZ (fun _ hh => br_t hs (tw_x_isLp_t n2 hp (br_f (by decide) (br_f y0 (br_f y1 (tw_x_isLp_f (Or.inr h) (br_t rfl hh))))))) (fun _ hh => br_t hs (tw_y_isLp_t n2 hp (br_f (by decide) (br_f y0 (br_f y1 (tw_y_isLp_f (Or.inr h) (br_t rfl hh)))))))
          · by_cases w1 : w < 1
            · exact tw_Lk_s (-1) hZ (fun _ hh => br_t hs (tw_x_isLp_t n2 hp (br_f (by decide) (br_f y0 (br_f y1 (tw_x_isLp_t n2 ha (br_f (by decide) (br_t w1 hh)))))))) (fun _ hh => br_t hs (tw_y_isLp_t n2 hp (br_f (by decide) (br_f y0 (br_f y1 (tw_y_isLp_t n2 ha (br_f (by decide) (br_t w1 hh))))))))
            · by_cases w2 : w ≤ 100
              · have e0 : 2 * nI p + nI c = nI (2 * p + c) := by rw [tw_m2, nI_add]
                have i0 : vp_in (2 * nI p + nI c) 8 := pk_in (2 * p + c) 8 (by omega) e0
                have b1 : 1 ≤ w.toInt := by
                  have := Int32.not_lt.mp w1
                  rw [Int32.le_iff_toInt_le, tw_t1] at this
                  exact this
                have b2 : w.toInt ≤ 100 := by
                  rw [Int32.le_iff_toInt_le, show (100 : Int32).toInt = 100 by decide] at w2
                  exact w2
                have hR' : tw_R Lp (upd la (2 * p + c) (nI a)) (upd lb (2 * p + c) w) := by
                  intro k hk
                  by_cases e : k = 2 * p + c
                  · subst e; rw [pk_us, pk_us]; exact ⟨⟨a, ha, rfl⟩, b1, b2⟩
                  · rw [pk_un e, pk_un e]; exact hR k hk
                refine ⟨0, (nI Lp, nI Rm, nI Tl, nI G, tr, nI Ns, nI N, zs, zr, zd, zt, zp, zc, zo, za, upd (upd ru (10 * p + 2 + 4 * c) (nI a)) (10 * p + 3 + 4 * c) w, cm, ct), fun post hh => br_t hs (tw_y_isLp_t n2 hp (br_f (by decide) (br_f y0 (br_f y1 (tw_y_isLp_t n2 ha (br_f (by decide) (br_f w1 (br_t w2 ?_)))))))), fun post hh => br_t hs (tw_x_isLp_t n2 hp (br_f (by decide) (br_f y0 (br_f y1 (tw_x_isLp_t n2 ha (br_f (by decide) (br_f w1 (br_t w2 ?_))))))))⟩
                · exact And.intro (pk_in _ 40 (by omega) (tw_y_b p 2 c)) (nm_r (tw_ru ru (tw_y_b p 2 c) (by omega) rfl) (And.intro (pk_in _ 40 (by omega) (tw_y_b p 3 c)) (nm_r (tw_ru _ (tw_y_b p 3 c) (by omega) rfl) hh)))
                · exact And.intro i0 (nm_r (tw_ru la e0 (by omega) rfl) (And.intro i0 (nm_r (tw_ru lb e0 (by omega) rfl) (hh _ (tw_mk (tw_Z_set hZ h0 hR' (tw_RY_ln (by omega) hRY)))))))
              · exact tw_Lk_s (-1) hZ (fun _ hh => br_t hs (tw_x_isLp_t n2 hp (br_f (by decide) (br_f y0 (br_f y1 (tw_x_isLp_t n2 ha (br_f (by decide) (br_f w1 (br_f w2 hh))))))))) (fun _ hh => br_t hs (tw_y_isLp_t n2 hp (br_f (by decide) (br_f y0 (br_f y1 (tw_y_isLp_t n2 ha (br_f (by decide) (br_f w1 (br_f w2 hh)))))))))
  · exact tw_Lk_s (-4) hZ (fun _ hh => br_f hs hh) (fun _ hh => br_f hs hh)
theorem tw_l_setGuard (hZ : tw_Z B Lp Rm Tl N Ns G tr op co la lb lg lh se sr ti pa ca po an sb sf ss cu cm ct D o q l d t zs zr zd zt zp zc zo za ru) (hB : B < 2 ^ 30) (x y z w : Int32) : tw_Lk B (fun post => wpX_setGuard post (nI Lp, nI Rm, nI Tl, nI N, nI Ns, nI G, tr, op, co, la, lb, lg, lh, se, sr, tw_I D, ti, pa, ca, po, an, sb, sf, ss, tw_I o, tw_I q, tw_I l, tw_I d, cu, cm, ct, tw_I t) x y z w) (fun post => wpY_setGuard post (nI Lp, nI Rm, nI Tl, nI G, tr, nI Ns, nI N, zs, zr, zd, zt, zp, zc, zo, za, ru, cm, ct) x y z w) := by
  unfold wpX_setGuard wpY_setGuard
  dsimp only
  obtain ⟨⟨n1, n2, n3, n4, n5, n6, n7, n8, n9⟩, hV, hE, hR, hRY, _⟩ := id hZ
  by_cases hs : nI Ns ≤ 0
  · have h0 : Ns = 0 := by
      by_cases h : Ns = 0
      · exact h
      · exact absurd hs (nI_nle (by omega) (by omega))
    rcases pk_ix x (n := Lp) (by omega) with h | h | ⟨p, hp, rfl⟩
    · exact tw_Lk_s (-1) hZ (fun _ hh => br_t hs (tw_x_isLp_f (Or.inl h) (br_t rfl hh))) (fun _ hh => br_t hs (tw_y_isLp_f (Or.inl h) (br_t rfl hh)))
    · exact tw_Lk_s (-1) hZ (fun _ hh => br_t hs (tw_x_isLp_f (Or.inr h) (br_t rfl hh))) (fun _ hh => br_t hs (tw_y_isLp_f (Or.inr h) (br_t rfl hh)))
    · by_cases y0 : y < 0
      · exact tw_Lk_s (-1) hZ (fun _ hh => br_t hs (tw_x_isLp_t n2 hp (br_f (by decide) (br_t y0 hh)))) (fun _ hh => br_t hs (tw_y_isLp_t n2 hp (br_f (by decide) (br_t y0 hh))))
      · by_cases y1 : 1 < y
        · exact tw_Lk_s (-1) hZ (fun _ hh => br_t hs (tw_x_isLp_t n2 hp (br_f (by decide) (br_f y0 (br_f (Int32.not_le.mpr y1) hh))))) (fun _ hh => br_t hs (tw_y_isLp_t n2 hp (br_f (by decide) (br_f y0 (br_t y1 hh)))))
        · obtain ⟨c, hc, rfl⟩ := nI_of2 (n := 1) (by decide) y0 (Int32.not_lt.mp y1)
          have y1' := Int32.not_lt.mp y1
          by_cases z0 : z < 0
          · exact tw_Lk_s (-1) hZ (fun _ hh => br_t hs (tw_x_isLp_t n2 hp (br_f (by decide) (br_f y0 (br_t y1' (br_t z0 hh)))))) (fun _ hh => br_t hs (tw_y_isLp_t n2 hp (br_f (by decide) (br_f y0 (br_f y1 (br_t z0 hh))))))
          · by_cases z5 : 5 < z
            · exact tw_Lk_s (-1) hZ (fun _ hh => br_t hs (tw_x_isLp_t n2 hp (br_f (by decide) (br_f y0 (br_t y1' (br_f z0 (br_t z5 hh))))))) (fun _ hh => br_t hs (tw_y_isLp_t n2 hp (br_f (by decide) (br_f y0 (br_f y1 (br_f z0 (br_t z5 hh)))))))
            · by_cases w0 : w < 0
              · exact tw_Lk_s (-1) hZ (fun _ hh => br_t hs (tw_x_isLp_t n2 hp (br_f (by decide) (br_f y0 (br_t y1' (br_f z0 (br_f z5 (br_t w0 hh)))))))) (fun _ hh => br_t hs (tw_y_isLp_t n2 hp (br_f (by decide) (br_f y0 (br_f y1 (br_f z0 (br_f z5 (br_t w0 hh))))))))
              · by_cases w3 : w ≤ 3
                · have e0 : 2 * nI p + nI c = nI (2 * p + c) := by rw [tw_m2, nI_add]
                  have i0 : vp_in (2 * nI p + nI c) 8 := pk_in (2 * p + c) 8 (by omega) e0
                  refine ⟨0, (nI Lp, nI Rm, nI Tl, nI G, tr, nI Ns, nI N, zs, zr, zd, zt, zp, zc, zo, za, upd (upd ru (10 * p + 4 + 4 * c) z) (10 * p + 5 + 4 * c) w, cm, ct), fun post hh => br_t hs (tw_y_isLp_t n2 hp (br_f (by decide) (br_f y0 (br_f y1 (br_f z0 (br_f z5 (br_f w0 (br_t w3 ?_)))))))), fun post hh => br_t hs (tw_x_isLp_t n2 hp (br_f (by decide) (br_f y0 (br_t y1' (br_f z0 (br_f z5 (br_f w0 (br_t w3 ?_))))))))⟩
                  · exact And.intro (pk_in _ 40 (by omega) (tw_y_b p 4 c)) (nm_r (tw_ru ru (tw_y_b p 4 c) (by omega) rfl) (And.intro (pk_in _ 40 (by omega) (tw_y_b p 5 c)) (nm_r (tw_ru _ (tw_y_b p 5 c) (by omega) rfl) hh)))
                  · exact And.intro i0 (nm_r (tw_ru lg e0 (by omega) rfl) (And.intro i0 (nm_r (tw_ru lh e0 (by omega) rfl) (hh _ (tw_mk (tw_Z_set hZ h0 hR (tw_RY_gd (by omega) hRY)))))))
                · exact tw_Lk_s (-1) hZ (fun _ hh => br_t hs (tw_x_isLp_t n2 hp (br_f (by decide) (br_f y0 (br_t y1' (br_f z0 (br_f z5 (br_f w0 (br_f w3 hh))))))))) (fun _ hh => br_t hs (tw_y_isLp_t n2 hp (br_f (by decide) (br_f y0 (br_f y1 (br_f z0 (br_f z5 (br_f w0 (br_f w3 hh)))))))))
  · exact tw_Lk_s (-4) hZ (fun _ hh => br_f hs hh) (fun _ hh => br_f hs hh)
end TWM
end
section
section TWN
variable {B : Nat} {Lp Rm Tl N Ns G : Nat} {tr : Int32} {op co la lb lg lh se sr ti pa ca po an sb sf ss cu cm ct : Nat → Int32} {D o q l d t : Nat → Nat} {zs zr zd zt zp zc zo za ru : Nat → Int32}
/-! reads that search -/
theorem tw_S_i (hS : tw_S o N Ns se) {i j : Nat} (hi : i < N) (hj : j < N) (e : se (o i) = se (o j)) : i = j := by
  by_cases h : i < j
  · have := hS.1 i j h hj; rw [e] at this; omega
  · by_cases h' : j < i
    · have := hS.1 j i h' hi; rw [e] at this; omega
    · omega
/-- the two searches by serial -/
theorem tw_fnd (hN : N ≤ 48) (hV : tw_V Lp Tl N Ns op co se sr ti pa ca po an sb sf ss cu cm D o q l d) (hP : tw_P1 N o se sr D ti pa ca zs zr zd zt zp zc) (x : Int32) :
    (∃ i, i < N ∧ se (o i) = x ∧ (∀ post : Int32 → Prop, post (nI (o i)) → wpX_findSlot post (nI Lp, nI Rm, nI Tl, nI N, nI Ns, nI G, tr, op, co, la, lb, lg, lh, se, sr, tw_I D, ti, pa, ca, po, an, sb, sf, ss, tw_I o, tw_I q, tw_I l, tw_I d, cu, cm, ct, tw_I t) x) ∧ ∀ post : Int32 → Prop, post (nI i) → wpY_find post (nI Lp, nI Rm, nI Tl, nI G, tr, nI Ns, nI N, zs, zr, zd, zt, zp, zc, zo, za, ru, cm, ct) x) ∨
    ((∀ post : Int32 → Prop, post (-1) → wpX_findSlot post (nI Lp, nI Rm, nI Tl, nI N, nI Ns, nI G, tr, op, co, la, lb, lg, lh, se, sr, tw_I D, ti, pa, ca, po, an, sb, sf, ss, tw_I o, tw_I q, tw_I l, tw_I d, cu, cm, ct, tw_I t) x) ∧ ∀ post : Int32 → Prop, post (-1) → wpY_find post (nI Lp, nI Rm, nI Tl, nI G, tr, nI Ns, nI N, zs, zr, zd, zt, zp, zc, zo, za, ru, cm, ct) x) := by
  obtain ⟨hO, hS, hA, hT, hQ, hC⟩ := hV
  by_cases h : ∃ i, i < N ∧ se (o i) = x
  · obtain ⟨i, hi, e⟩ := h
    refine Or.inl ⟨i, hi, e, fun post hp => ?_, fun post hp => ?_⟩
    · refine tw_x_findSlot hN hO hS (fun j hj ej => ?_) (fun z => absurd e (z i hi))
      rw [tw_S_i hS hj hi (ej.trans e.symm)]
      exact hp
    · refine tw_y_find hN (fun j hj ej => ?_) (fun z => absurd ((hP i hi).1.trans e) (z i hi))
      rw [tw_S_i hS hj hi ((hP j hj).1.symm.trans (ej.trans e.symm))]
      exact hp
  · refine Or.inr ⟨fun post hp => ?_, fun post hp => ?_⟩
    · exact tw_x_findSlot hN hO hS (fun j hj ej => absurd ⟨j, hj, ej⟩ h) (fun _ => hp)
    · exact tw_y_find hN (fun j hj ej => absurd ⟨j, hj, (hP j hj).1.symm.trans ej⟩ h) (fun _ => hp)
theorem tw_r_mf (hZ : tw_Z B Lp Rm Tl N Ns G tr op co la lb lg lh se sr ti pa ca po an sb sf ss cu cm ct D o q l d t zs zr zd zt zp zc zo za ru) (x f : Int32) : tw_Ro (fun post => wpX_messageField post (nI Lp, nI Rm, nI Tl, nI N, nI Ns, nI G, tr, op, co, la, lb, lg, lh, se, sr, tw_I D, ti, pa, ca, po, an, sb, sf, ss, tw_I o, tw_I q, tw_I l, tw_I d, cu, cm, ct, tw_I t) x f) (fun post => wpY_messageField post (nI Lp, nI Rm, nI Tl, nI G, tr, nI Ns, nI N, zs, zr, zd, zt, zp, zc, zo, za, ru, cm, ct) x f) := by
  obtain ⟨⟨n1, n2, n3, n4, n5, n6, n7, n8, n9⟩, hV, hE, hR, hRY, hP, hzo, hza, ht⟩ := hZ
  unfold tw_Ro wpX_messageField wpY_messageField
  dsimp only
  by_cases f0 : f < 0
  · exact ⟨-1, fun _ h => br_t f0 h, fun _ h => br_t f0 h⟩
  · by_cases f5 : f ≤ 5
    · rcases tw_fnd (Rm := Rm) (G := G) (tr := tr) (la := la) (lb := lb) (lg := lg) (lh := lh) (ct := ct) (t := t) (zo := zo) (za := za) (ru := ru) (by omega) hV hP x with ⟨i, hi, e, HX, HY⟩ | ⟨HX, HY⟩
      · have hO := hV.1
        have h48 : o i < 48 := hO.1 i (by omega)
        have is : vp_in (nI (o i)) 48 := pk_in _ 48 h48
        have ii : vp_in (nI i) 48 := pk_in i 48 (by omega)
        have px : (0 : Int32) ≤ nI (o i) := nI_pos' (by omega)
        have py : (0 : Int32) ≤ nI i := nI_pos' (by omega)
        have cx : (nI (o i)).toNatClampNeg = o i := nI_clamp (by omega)
        have cy : (nI i).toNatClampNeg = i := nI_clamp (by omega)
        obtain ⟨p1, p2, p3, p4, p5, p6⟩ := hP i hi
        have p7 := hzo i hi
        have p8 := hza i hi
        by_cases e0 : f = 0
        · refine ⟨po (o i) + 3 * an (o i), fun post h => br_f f0 (br_t f5 (HX _ (br_t px (br_t e0 (And.intro is (And.intro is ?_)))))), fun post h => br_f f0 (br_t f5 (HY _ (br_t py (br_t e0 (And.intro ii (And.intro ii ?_))))))⟩
          · rw [cx]; exact h
          · rw [cy, p7, p8]; exact h
        · by_cases e1 : f = 1
          · refine ⟨ti (o i), fun post h => br_f f0 (br_t f5 (HX _ (br_t px (br_f e0 (br_t e1 (And.intro is ?_)))))), fun post h => br_f f0 (br_t f5 (HY _ (br_t py (br_f e0 (br_t e1 (And.intro ii ?_))))))⟩
            · rw [cx]; exact h
            · rw [cy, p4]; exact h
          · by_cases e2 : f = 2
            · refine ⟨sr (o i), fun post h => br_f f0 (br_t f5 (HX _ (br_t px (br_f e0 (br_f e1 (br_t e2 (And.intro is ?_))))))), fun post h => br_f f0 (br_t f5 (HY _ (br_t py (br_f e0 (br_f e1 (br_t e2 (And.intro ii ?_)))))))⟩
              · rw [cx]; exact h
              · rw [cy, p2]; exact h
            · by_cases e3 : f = 3
              · refine ⟨tw_I D (o i), fun post h => br_f f0 (br_t f5 (HX _ (br_t px (br_f e0 (br_f e1 (br_f e2 (br_t e3 (And.intro is ?_)))))))), fun post h => br_f f0 (br_t f5 (HY _ (br_t py (br_f e0 (br_f e1 (br_f e2 (br_t e3 (And.intro ii ?_))))))))⟩
                · rw [cx]; exact h
                · rw [cy, p3]; exact h
              · by_cases e4 : f = 4
                · refine ⟨pa (o i), fun post h => br_f f0 (br_t f5 (HX _ (br_t px (br_f e0 (br_f e1 (br_f e2 (br_f e3 (br_t e4 (And.intro is ?_))))))))), fun post h => br_f f0 (br_t f5 (HY _ (br_t py (br_f e0 (br_f e1 (br_f e2 (br_f e3 (br_t e4 (And.intro ii ?_)))))))))⟩
                  · rw [cx]; exact h
                  · rw [cy, p5]; exact h
                · refine ⟨ca (o i), fun post h => br_f f0 (br_t f5 (HX _ (br_t px (br_f e0 (br_f e1 (br_f e2 (br_f e3 (br_f e4 (And.intro is ?_))))))))), fun post h => br_f f0 (br_t f5 (HY _ (br_t py (br_f e0 (br_f e1 (br_f e2 (br_f e3 (br_f e4 (And.intro ii ?_)))))))))⟩
                  · rw [cx]; exact h
                  · rw [cy, p6]; exact h
      · have nx : ¬ (0 : Int32) ≤ -1 := by decide
        by_cases e0 : f = 0
        · exact ⟨0, fun _ h => br_f f0 (br_t f5 (HX _ (br_f nx (br_t e0 h)))), fun _ h => br_f f0 (br_t f5 (HY _ (br_f nx (br_t e0 h))))⟩
        · exact ⟨-1, fun _ h => br_f f0 (br_t f5 (HX _ (br_f nx (br_f e0 h)))), fun _ h => br_f f0 (br_t f5 (HY _ (br_f nx (br_f e0 h))))⟩
    · exact ⟨-1, fun _ h => br_f f0 (br_f f5 h), fun _ h => br_f f0 (br_f f5 h)⟩
/-! flying -/
theorem tw_fly54 {I s a n : Nat} (hI : I < 2 ^ 31) (ha : a < 48) (hs8 : o a < 48) (hs : s ≤ I) (hza : za a = an (o a)) (hzs : zs a = se (o a))
    (H : ∀ s', s' ≤ I → s ≤ s' → s' ≤ s + 1 → ∃ r, (∀ post : Int32 → Prop, post r → wX_flying_10 post (nI Lp) (nI Rm) (nI Tl) (nI N) (nI Ns) (nI G) tr op co la lb lg lh se sr (tw_I D) ti pa ca po an sb sf ss (tw_I o) (tw_I q) (tw_I l) (tw_I d) cu cm ct (tw_I t) n (nI (I - s')) (nI (a + 1))) ∧ ∀ post : Int32 → Prop, post r → wY_flying_4 post (nI I) (nI Lp) (nI Rm) (nI Tl) (nI G) tr (nI Ns) (nI N) zs zr zd zt zp zc zo za ru cm ct n (nI s') (nI (a + 1))) :
    ∃ r, (∀ post : Int32 → Prop, post r → wX_flying_54 post (wX_flying_10 post (nI Lp) (nI Rm) (nI Tl) (nI N) (nI Ns) (nI G) tr op co la lb lg lh se sr (tw_I D) ti pa ca po an sb sf ss (tw_I o) (tw_I q) (tw_I l) (tw_I d) cu cm ct (tw_I t) n) (nI (I - s)) (nI a) (nI (o a)) (nI Lp) (nI Rm) (nI Tl) (nI N) (nI Ns) (nI G) tr op co la lb lg lh se sr (tw_I D) ti pa ca po an sb sf ss (tw_I o) (tw_I q) (tw_I l) (tw_I d) cu cm ct (tw_I t)) ∧ ∀ post : Int32 → Prop, post r → wY_flying_39 post (wY_flying_4 post (nI I) (nI Lp) (nI Rm) (nI Tl) (nI G) tr (nI Ns) (nI N) zs zr zd zt zp zc zo za ru cm ct n) (nI I) (nI s) (nI a) (nI Lp) (nI Rm) (nI Tl) (nI G) tr (nI Ns) (nI N) zs zr zd zt zp zc zo za ru cm ct := by
  have is : vp_in (nI (o a)) 48 := pk_in _ 48 hs8
  have ia : vp_in (nI a) 48 := pk_in a 48 ha
  have cx : (nI (o a)).toNatClampNeg = o a := nI_clamp (by omega)
  have cy : (nI a).toNatClampNeg = a := nI_clamp (by omega)
  unfold wX_flying_54 wY_flying_39
  rw [cx, cy, hza, hzs]
  by_cases h1 : an (o a) = 1
  · by_cases h2 : s = I
    · subst h2
      refine ⟨2 * se (o a) + 1, fun post h => And.intro is (br_t h1 (br_t ?_ (And.intro is h))), fun post h => And.intro ia (br_t h1 (br_t rfl (And.intro ia h)))⟩
      rw [Nat.sub_self]; rfl
    · obtain ⟨r, HX, HY⟩ := H (s + 1) (by omega) (by omega) (by omega)
      refine ⟨r, fun post h => And.intro is (br_t h1 (br_f (nI_ne0 (by omega) (by omega)) (nm_r (tw_p1 (by omega)) (nm_r (nI_1 a) ?_)))), fun post h => And.intro ia (br_t h1 (br_f (fun z => h2 (tw_inj z (by omega) hI)) (nm_r (nI_1 s) (nm_r (nI_1 a) (HY post h)))))⟩
      rw [show I - s - 1 = I - (s + 1) by omega]
      exact HX post h
  · obtain ⟨r, HX, HY⟩ := H s hs (by omega) (by omega)
    exact ⟨r, fun post h => And.intro is (br_f h1 (nm_r (nI_1 a) (HX post h))), fun post h => And.intro ia (br_f h1 (nm_r (nI_1 a) (HY post h)))⟩
theorem tw_fly10 {I : Nat} (hI : I < 2 ^ 31) (hN : N ≤ 48) (hO : tw_O o) (hP : tw_P1 N o se sr D ti pa ca zs zr zd zt zp zc) (hzo : tw_P2 N o po zo) (hza : tw_P2 N o an za) :
    ∀ k a s, a + k = N → s ≤ I → ∃ r, (∀ post : Int32 → Prop, post r → wX_flying_10 post (nI Lp) (nI Rm) (nI Tl) (nI N) (nI Ns) (nI G) tr op co la lb lg lh se sr (tw_I D) ti pa ca po an sb sf ss (tw_I o) (tw_I q) (tw_I l) (tw_I d) cu cm ct (tw_I t) (k + 1) (nI (I - s)) (nI a)) ∧ ∀ post : Int32 → Prop, post r → wY_flying_4 post (nI I) (nI Lp) (nI Rm) (nI Tl) (nI G) tr (nI Ns) (nI N) zs zr zd zt zp zc zo za ru cm ct (k + 1) (nI s) (nI a) := by
  intro k
  induction k with
  | zero =>
    intro a s ha hs
    have : a = N := by omega
    subst this
    exact ⟨-1, fun post h => pk_le a a (fun _ => h) (fun z => absurd z (by omega)), fun post h => pk_le a a (fun _ => h) (fun z => absurd z (by omega))⟩
  | succ k ih =>
    intro a s ha hs
    have hs8 := hO.1 a (by omega)
    have is : vp_in (nI (o a)) 48 := pk_in _ 48 hs8
    have ia : vp_in (nI a) 48 := pk_in a 48 (by omega)
    have cx : (nI (o a)).toNatClampNeg = o a := nI_clamp (by omega)
    have cy : (nI a).toNatClampNeg = a := nI_clamp (by omega)
    obtain ⟨p1, _⟩ := hP a (by omega)
    have p7 := hzo a (by omega)
    have p8 := hza a (by omega)
    have second : ∀ s', s' ≤ I → _ := fun s' hs' => tw_fly54 (n := k + 1) (s := s') (I := I) (a := a) hI (by omega) hs8 hs' p8 p1 (fun s'' h _ _ => ih (a + 1) s'' (by omega) h)
    have nle : ¬ N ≤ a := by omega
    by_cases h1 : po (o a) = 1
    · by_cases h2 : s = I
      · subst h2
        refine ⟨2 * se (o a), fun post h => ?_, fun post h => ?_⟩
        · refine pk_le N a (fun z => absurd z nle) (fun _ => And.intro ia (nm_r (tw_rd o rfl (by omega)) (And.intro is ?_)))
          rw [cx]
          refine br_t h1 (br_t ?_ (And.intro is h))
          rw [Nat.sub_self]; rfl
        · refine pk_le N a (fun z => absurd z nle) (fun _ => And.intro ia ?_)
          rw [cy, p7, p1]
          exact br_t h1 (br_t rfl (And.intro ia h))
      · obtain ⟨r, HX, HY⟩ := second (s + 1) (by omega)
        refine ⟨r, fun post h => ?_, fun post h => ?_⟩
        · refine pk_le N a (fun z => absurd z nle) (fun _ => And.intro ia (nm_r (tw_rd o rfl (by omega)) (And.intro is ?_)))
          rw [cx]
          refine br_t h1 (br_f (nI_ne0 (by omega) (by omega)) (nm_r (tw_p1 (by omega)) ?_))
          rw [show I - s - 1 = I - (s + 1) by omega]
          exact HX post h
        · refine pk_le N a (fun z => absurd z nle) (fun _ => And.intro ia ?_)
          rw [cy, p7, p1]
          exact br_t h1 (br_f (fun z => h2 (tw_inj z (by omega) hI)) (nm_r (nI_1 s) (HY post h)))
    · obtain ⟨r, HX, HY⟩ := second s hs
      refine ⟨r, fun post h => ?_, fun post h => ?_⟩
      · refine pk_le N a (fun z => absurd z nle) (fun _ => And.intro ia (nm_r (tw_rd o rfl (by omega)) (And.intro is ?_)))
        rw [cx]
        exact br_f h1 (HX post h)
      · refine pk_le N a (fun z => absurd z nle) (fun _ => And.intro ia ?_)
        rw [cy, p7, p1]
        exact br_f h1 (HY post h)
theorem tw_y_flyneg {post : Int32 → Prop} {x : Int32} (hx : x < 0) (hN : N ≤ 48) (h : post (-1)) :
    ∀ k a s, a + k = N → s ≤ 2 * a → wY_flying_4 post x (nI Lp) (nI Rm) (nI Tl) (nI G) tr (nI Ns) (nI N) zs zr zd zt zp zc zo za ru cm ct (k + 1) (nI s) (nI a) := by
  intro k
  induction k with
  | zero =>
    intro a s ha hs
    have : a = N := by omega
    subst this
    exact pk_le a a (fun _ => h) (fun z => absurd z (by omega))
  | succ k ih =>
    intro a s ha hs
    have ia : vp_in (nI a) 48 := pk_in a 48 (by omega)
    have hne : ∀ s', s' ≤ 2 * a + 1 → ¬ nI s' = x := by
      intro s' hs' z
      rw [← z] at hx
      exact nI_pos (by omega) hx
    have second : ∀ s', s' ≤ 2 * a + 1 → wY_flying_39 post (wY_flying_4 post x (nI Lp) (nI Rm) (nI Tl) (nI G) tr (nI Ns) (nI N) zs zr zd zt zp zc zo za ru cm ct (k + 1)) x (nI s') (nI a) (nI Lp) (nI Rm) (nI Tl) (nI G) tr (nI Ns) (nI N) zs zr zd zt zp zc zo za ru cm ct := by
      intro s' hs'
      exact And.intro ia (br_c (fun _ => br_f (hne s' hs') (nm_r (nI_1 s') (nm_r (nI_1 a) (ih (a + 1) (s' + 1) (by omega) (by omega))))) (fun _ => nm_r (nI_1 a) (ih (a + 1) s' (by omega) (by omega))))
    exact pk_le N a (fun z => absurd z (by omega)) (fun _ => And.intro ia (br_c (fun _ => br_f (hne s (by omega)) (nm_r (nI_1 s) (second (s + 1) (by omega)))) (fun _ => second s (by omega))))
theorem tw_r_fly (hZ : tw_Z B Lp Rm Tl N Ns G tr op co la lb lg lh se sr ti pa ca po an sb sf ss cu cm ct D o q l d t zs zr zd zt zp zc zo za ru) (x : Int32) : tw_Ro (fun post => wpX_flying post (nI Lp, nI Rm, nI Tl, nI N, nI Ns, nI G, tr, op, co, la, lb, lg, lh, se, sr, tw_I D, ti, pa, ca, po, an, sb, sf, ss, tw_I o, tw_I q, tw_I l, tw_I d, cu, cm, ct, tw_I t) x) (fun post => wpY_flying post (nI Lp, nI Rm, nI Tl, nI G, tr, nI Ns, nI N, zs, zr, zd, zt, zp, zc, zo, za, ru, cm, ct) x) := by
  obtain ⟨⟨n1, n2, n3, n4, n5, n6, n7, n8, n9⟩, hV, hE, hR, hRY, hP, hzo, hza, ht⟩ := hZ
  by_cases hx : x < 0
  · exact ⟨-1, fun post h => br_f (Int32.not_le.mpr hx) h, fun post h => ⟨N + 1, tw_y_flyneg hx (by omega) h N 0 0 (by omega) (by omega)⟩⟩
  · obtain ⟨I, hI, rfl⟩ := nI_of hx
    obtain ⟨r, HX, HY⟩ := tw_fly10 (Lp := Lp) (Rm := Rm) (Tl := Tl) (Ns := Ns) (G := G) (tr := tr) (op := op) (co := co) (la := la) (lb := lb) (lg := lg) (lh := lh) (sb := sb) (sf := sf) (ss := ss) (cu := cu) (cm := cm) (ct := ct) (q := q) (l := l) (d := d) (t := t) (ru := ru) hI (by omega) hV.1 hP hzo hza N 0 0 (by omega) (by omega)
    exact ⟨r, fun post h => br_t (nI_pos' hI) ⟨N + 1, HX post h⟩, fun post h => ⟨N + 1, HY post h⟩⟩
end TWN
end
section
section TWO
variable {B : Nat} {Lp Rm Tl N Ns G : Nat} {tr : Int32} {op co la lb lg lh se sr ti pa ca po an sb sf ss cu cm ct : Nat → Int32} {D o q l d t : Nat → Nat} {zs zr zd zt zp zc zo za ru : Nat → Int32}
/-- a DONE row of p is in its queue -/
theorem tw_V_done (hL4 : Lp ≤ 4) (hV : tw_V Lp Tl N Ns op co se sr ti pa ca po an sb sf ss cu cm D o q l d) (hP : tw_P1 N o se sr D ti pa ca zs zr zd zt zp zc) (hzo : tw_P2 N o po zo) {p i : Nat} (hp : p < Lp) (hi : i < N) (h1 : zd i = nI p) (h2 : zo i = 3) : ∃ j, j < d p ∧ q (48 * p + j) = o i := by
  obtain ⟨hO, hS, hA, hT, hQ, hC⟩ := hV
  have hLi : tw_L o N (o i) := ⟨i, hi, rfl⟩
  have hD := (hA (o i) hLi).1
  have h3 : D (o i) = p := tw_inj ((hP i hi).2.2.1.symm.trans h1) (by omega) (by omega)
  rw [hzo i hi] at h2
  obtain ⟨j, hj, ej⟩ := hQ.2 (o i) hLi (by rw [h2]; decide)
  rw [h3] at hj ej
  have k3 := ((hQ.1 p hp).2.1 j hj).2.2
  rw [ej, h2] at k3
  by_cases h : j < d p
  · exact ⟨j, h, ej⟩
  · rw [if_neg h] at k3; exact absurd k3 (by decide)
theorem tw_V_arr (hL4 : Lp ≤ 4) (hV : tw_V Lp Tl N Ns op co se sr ti pa ca po an sb sf ss cu cm D o q l d) (hP : tw_P1 N o se sr D ti pa ca zs zr zd zt zp zc) (hzo : tw_P2 N o po zo) {p i : Nat} (hp : p < Lp) (hi : i < N) (h1 : zd i = nI p) (h2 : zo i = 2) : ∃ j, d p ≤ j ∧ j < l p ∧ q (48 * p + j) = o i := by
  obtain ⟨hO, hS, hA, hT, hQ, hC⟩ := hV
  have hLi : tw_L o N (o i) := ⟨i, hi, rfl⟩
  have hD := (hA (o i) hLi).1
  have h3 : D (o i) = p := tw_inj ((hP i hi).2.2.1.symm.trans h1) (by omega) (by omega)
  rw [hzo i hi] at h2
  obtain ⟨j, hj, ej⟩ := hQ.2 (o i) hLi (by rw [h2]; decide)
  rw [h3] at hj ej
  have k3 := ((hQ.1 p hp).2.1 j hj).2.2
  rw [ej, h2] at k3
  by_cases h : j < d p
  · rw [if_pos h] at k3; exact absurd k3 (by decide)
  · exact ⟨j, by omega, hj, ej⟩
/-- a place of a queue is a row of the reference -/
theorem tw_V_row (hV : tw_V Lp Tl N Ns op co se sr ti pa ca po an sb sf ss cu cm D o q l d) (hP : tw_P1 N o se sr D ti pa ca zs zr zd zt zp zc) (hzo : tw_P2 N o po zo) {p j : Nat} (hp : p < Lp) (hj : j < l p) : ∃ i, i < N ∧ o i = q (48 * p + j) ∧ zd i = nI p ∧ zo i = if j < d p then 3 else 2 := by
  obtain ⟨hO, hS, hA, hT, hQ, hC⟩ := hV
  obtain ⟨⟨i, hi, e⟩, k2, k3⟩ := (hQ.1 p hp).2.1 j hj
  refine ⟨i, hi, e, ?_, ?_⟩
  · rw [(hP i hi).2.2.1, e]
    show nI (D (q (48 * p + j))) = nI p
    rw [k2]
  · rw [hzo i hi, e]; exact k3
/-! pending -/
theorem tw_y_pend {post : Int32 → Prop} {x : Int32} (hN : N ≤ 48) (h : post (nI (tw_n (fun i => zd i = x ∧ zo i = 2) N))) :
    ∀ k i, i + k = N → wY_pending_14 post x (nI Lp) (nI Rm) (nI Tl) (nI G) tr (nI Ns) (nI N) zs zr zd zt zp zc zo za ru cm ct (k + 1) (nI (tw_n (fun i => zd i = x ∧ zo i = 2) i)) (nI i) := by
  intro k
  induction k with
  | zero =>
    intro i hi
    have : i = N := by omega
    subst this
    exact pk_le i i (fun _ => h) (fun z => absurd z (by omega))
  | succ k ih =>
    intro i hi
    have ii : vp_in (nI i) 48 := pk_in i 48 (by omega)
    have ci : (nI i).toNatClampNeg = i := nI_clamp (by omega)
    have H := ih (i + 1) (by omega)
    refine pk_le N i (fun z => absurd z (by omega)) (fun _ => And.intro ii ?_)
    rw [ci]
    refine br_c (fun z1 => And.intro ii (br_c (fun z2 => ?_) (fun z2 => ?_))) (fun z1 => ?_)
    · rw [tw_n_t (P := fun i => zd i = x ∧ zo i = 2) ⟨z1, z2⟩] at H
      exact nm_r (nI_1 _) (nm_r (nI_1 i) H)
    · rw [tw_n_f (P := fun i => zd i = x ∧ zo i = 2) (fun w => z2 w.2)] at H
      exact nm_r (nI_1 i) H
    · rw [tw_n_f (P := fun i => zd i = x ∧ zo i = 2) (fun w => z1 w.1)] at H
      exact nm_r (nI_1 i) H
theorem tw_r_pend (hZ : tw_Z B Lp Rm Tl N Ns G tr op co la lb lg lh se sr ti pa ca po an sb sf ss cu cm ct D o q l d t zs zr zd zt zp zc zo za ru) (x : Int32) : tw_Ro (fun post => wpX_pending post (nI Lp, nI Rm, nI Tl, nI N, nI Ns, nI G, tr, op, co, la, lb, lg, lh, se, sr, tw_I D, ti, pa, ca, po, an, sb, sf, ss, tw_I o, tw_I q, tw_I l, tw_I d, cu, cm, ct, tw_I t) x) (fun post => wpY_pending post (nI Lp, nI Rm, nI Tl, nI G, tr, nI Ns, nI N, zs, zr, zd, zt, zp, zc, zo, za, ru, cm, ct) x) := by
  obtain ⟨⟨n1, n2, n3, n4, n5, n6, n7, n8, n9⟩, hV, hE, hR, hRY, hP, hzo, hza, ht⟩ := hZ
  unfold tw_Ro wpX_pending wpY_pending
  dsimp only
  rcases pk_ix x (n := Lp) (by omega) with h | h | ⟨p, hp, rfl⟩
  · exact ⟨-1, fun _ hp => tw_x_isLp_f (Or.inl h) (br_t rfl hp), fun _ hp => tw_y_isLp_f (Or.inl h) (br_t rfl hp)⟩
  · exact ⟨-1, fun _ hp => tw_x_isLp_f (Or.inr h) (br_t rfl hp), fun _ hp => tw_y_isLp_f (Or.inr h) (br_t rfl hp)⟩
  · have ip : vp_in (nI p) 4 := pk_in p 4 (by omega)
    have hdl := tw_V_dl hV p hp
    have hc : tw_n (fun i => zd i = nI p ∧ zo i = 2) N = l p - d p := by
      refine tw_n_rel _ o N (l p - d p) (fun j => q (48 * p + (d p + j))) (fun i i' hi hi' e => hV.1.2 i i' (by omega) (by omega) e) ?_ ?_ ?_
      · intro j hj
        obtain ⟨i, hi, e, z1, z2⟩ := tw_V_row hV hP hzo hp (show d p + j < l p by omega)
        rw [if_neg (by omega)] at z2
        exact ⟨i, hi, ⟨z1, z2⟩, e⟩
      · intro j j' hj hj' e
        have := tw_qinj hV.2.2.2.2.1 (fun _ => tw_b_irr) hp (show d p + j < l p by omega) (show d p + j' < l p by omega) e
        omega
      · intro i hi z
        obtain ⟨j, h1, h2, h3⟩ := tw_V_arr n2 hV hP hzo hp hi z.1 z.2
        refine ⟨j - d p, by omega, ?_⟩
        show o i = q (48 * p + (d p + (j - d p)))
        rw [show d p + (j - d p) = j by omega]
        exact h3.symm
    refine ⟨nI (l p - d p), fun _ h => tw_x_isLp_t n2 hp (br_f (by decide) (And.intro ip (And.intro ip ?_))), fun _ h => tw_y_isLp_t n2 hp (br_f (by decide) ⟨N + 1, ?_⟩)⟩
    · rw [tw_rd l rfl (show p < 2 ^ 31 by omega), tw_rd d rfl (show p < 2 ^ 31 by omega), pk_sub hdl]
      exact h
    · exact tw_y_pend (by omega) (by rw [hc]; exact h) N 0 (by omega)
/-! lvt -/
theorem tw_y_lvt4 {post : Int32 → Prop} {x r : Int32} (hN : N ≤ 48) (h : post r) (hub : ∀ i, i < N → zd i = x → zo i = 3 → (zt i).toInt ≤ r.toInt) :
    ∀ k i (y : Int32), i + k = N → y.toInt ≤ r.toInt → (y = r ∨ ∃ i', i ≤ i' ∧ i' < N ∧ zd i' = x ∧ zo i' = 3 ∧ zt i' = r) → wY_lvt_4 post x (nI Lp) (nI Rm) (nI Tl) (nI G) tr (nI Ns) (nI N) zs zr zd zt zp zc zo za ru cm ct (k + 1) y (nI i) := by
  intro k
  induction k with
  | zero =>
    intro i y hi hy hc
    have : i = N := by omega
    subst this
    rcases hc with hc | ⟨i', h1, h2, _⟩
    · subst hc
      exact pk_le i i (fun _ => h) (fun z => absurd z (by omega))
    · omega
  | succ k ih =>
    intro i y hi hy hc
    have ii : vp_in (nI i) 48 := pk_in i 48 (by omega)
    have ci : (nI i).toNatClampNeg = i := nI_clamp (by omega)
    have skip : (zd i = x → zo i = 3 → (zt i).toInt ≤ y.toInt) → wY_lvt_4 post x (nI Lp) (nI Rm) (nI Tl) (nI G) tr (nI Ns) (nI N) zs zr zd zt zp zc zo za ru cm ct (k + 1) y (nI (i + 1)) := by
      intro hz
      refine ih (i + 1) y (by omega) hy ?_
      rcases hc with hc | ⟨i', h1, h2, h3, h4, h5⟩
      · exact Or.inl hc
      · by_cases e : i' = i
        · subst e
          have := hz h3 h4
          rw [h5] at this
          exact Or.inl (Int32.toInt_inj.mp (by omega))
        · exact Or.inr ⟨i', by omega, h2, h3, h4, h5⟩
    refine pk_le N i (fun z => absurd z (by omega)) (fun _ => And.intro ii ?_)
    rw [ci]
    refine br_c (fun z1 => And.intro ii (br_c (fun z2 => And.intro ii (br_c (fun z3 => ?_) (fun z3 => And.intro ii (nm_e (nm_r (nI_1 i) ?_))))) (fun z2 => ?_))) (fun z1 => ?_)
    · rw [Int32.le_iff_toInt_le] at z3
      exact nm_r (nI_1 i) (skip (fun _ _ => z3))
    · refine ih (i + 1) (zt i) (by omega) (hub i (by omega) z1 z2) ?_
      by_cases e : zt i = r
      · exact Or.inl e
      · rw [Int32.le_iff_toInt_le] at z3
        have := hub i (by omega) z1 z2
        rcases hc with hc | ⟨i', h1, h2, h3, h4, h5⟩
        · subst hc; omega
        · by_cases e2 : i' = i
          · subst e2; exact absurd h5 e
          · exact Or.inr ⟨i', by omega, h2, h3, h4, h5⟩
    · exact nm_r (nI_1 i) (skip (fun _ w => absurd w z2))
    · exact nm_r (nI_1 i) (skip (fun w => absurd w z1))
theorem tw_r_lvt (hZ : tw_Z B Lp Rm Tl N Ns G tr op co la lb lg lh se sr ti pa ca po an sb sf ss cu cm ct D o q l d t zs zr zd zt zp zc zo za ru) (x : Int32) : tw_Ro (fun post => wpX_lvt post (nI Lp, nI Rm, nI Tl, nI N, nI Ns, nI G, tr, op, co, la, lb, lg, lh, se, sr, tw_I D, ti, pa, ca, po, an, sb, sf, ss, tw_I o, tw_I q, tw_I l, tw_I d, cu, cm, ct, tw_I t) x) (fun post => wpY_lvt post (nI Lp, nI Rm, nI Tl, nI G, tr, nI Ns, nI N, zs, zr, zd, zt, zp, zc, zo, za, ru, cm, ct) x) := by
  obtain ⟨⟨n1, n2, n3, n4, n5, n6, n7, n8, n9⟩, hV, hE, hR, hRY, hP, hzo, hza, ht⟩ := hZ
  unfold tw_Ro wpX_lvt wpY_lvt
  dsimp only
  have none : ∀ x : Int32, (∀ i, i < N → zd i = x → zo i = 3 → False) → ∀ post : Int32 → Prop, post (-1) → ∃ n, wY_lvt_4 post x (nI Lp) (nI Rm) (nI Tl) (nI G) tr (nI Ns) (nI N) zs zr zd zt zp zc zo za ru cm ct n (-1) 0 := fun x hx post h =>
    ⟨N + 1, tw_y_lvt4 (by omega) h (fun i hi a b => absurd (hx i hi a b) id) N 0 (-1) (by omega) (Int.le_refl _) (Or.inl rfl)⟩
  have bad : ∀ x : Int32, x < 0 ∨ nI Lp ≤ x → ∀ i, i < N → zd i = x → zo i = 3 → False := by
    intro x hx i hi z1 _
    have h1 := (hV.2.2.1 (o i) ⟨i, hi, rfl⟩).1
    have h2 : x = nI (D (o i)) := z1.symm.trans (hP i hi).2.2.1
    rcases hx with hx | hx
    · rw [h2] at hx; exact nI_pos (by omega) hx
    · rw [h2] at hx; exact nI_ge h1 (by omega) hx
  rcases pk_ix x (n := Lp) (by omega) with h | h | ⟨p, hp, rfl⟩
  · exact ⟨-1, fun _ hp => tw_x_isLp_f (Or.inl h) (br_t rfl hp), none x (bad x (Or.inl h))⟩
  · exact ⟨-1, fun _ hp => tw_x_isLp_f (Or.inr h) (br_t rfl hp), none x (bad x (Or.inr h))⟩
  · have ip : vp_in (nI p) 4 := pk_in p 4 (by omega)
    have hdl := tw_V_dl hV p hp
    have hl48 := tw_V_l48 (by omega) hV p hp
    rw [tw_rd d rfl (show p < 2 ^ 31 by omega), tw_m48]
    by_cases h0 : d p = 0
    · refine ⟨-1, fun _ hh => tw_x_isLp_t n2 hp (br_f (by decide) (And.intro ip (br_f ?_ hh))), none _ ?_⟩
      · rw [h0]; decide
      · intro i hi z1 z2
        obtain ⟨j, hj, _⟩ := tw_V_done n2 hV hP hzo hp hi z1 z2
        omega
    · have e1 : nI (48 * p) + nI (d p) - 1 = nI (48 * p + (d p - 1)) := by
        rw [nI_add, tw_s1 (by omega)]
        exact congrArg nI (by omega)
      obtain ⟨i0, hi0, e0, z1, z2⟩ := tw_V_row hV hP hzo hp (show d p - 1 < l p by omega)
      rw [if_pos (by omega)] at z2
      have hs8 : q (48 * p + (d p - 1)) < 48 := by rw [← e0]; exact hV.1.1 i0 (by omega)
      refine ⟨ti (q (48 * p + (d p - 1))), fun _ hh => tw_x_isLp_t n2 hp (br_f (by decide) (And.intro ip (br_t (nI_lt (a := 0) (by omega) (by omega)) (And.intro ip (And.intro (pk_in _ 192 (by omega) e1) (nm_r (tw_rd q e1 (by omega)) (And.intro (pk_in _ 48 hs8) ?_))))))), fun post hh => ⟨N + 1, ?_⟩⟩
      · rw [nI_clamp (by omega)]; exact hh
      · refine tw_y_lvt4 (by omega) hh ?_ N 0 (-1) (by omega) ?_ (Or.inr ⟨i0, by omega, hi0, z1, z2, by rw [(hP i0 hi0).2.2.2.1, e0]⟩)
        · intro i hi w1 w2
          obtain ⟨j, hj, ej⟩ := tw_V_done n2 hV hP hzo hp hi w1 w2
          rw [(hP i hi).2.2.2.1, ← ej]
          by_cases e : j = d p - 1
          · rw [e]; exact Int.le_refl _
          · exact tw_b_ti ((hV.2.2.2.2.1.1 p hp).2.2 j (d p - 1) (by omega) (by omega))
        · have := (hV.2.2.1 _ ⟨i0, hi0, e0⟩).2.1
          rw [tw_tm1]
          omega
end TWO
end
section
section TWP
variable {B : Nat} {Lp Rm Tl N Ns G : Nat} {tr : Int32} {op co la lb lg lh se sr ti pa ca po an sb sf ss cu cm ct : Nat → Int32} {D o q l d t : Nat → Nat} {zs zr zd zt zp zc zo za ru : Nat → Int32}
/-! the reference's replay -/
def tw_SP (x1 x3 : Int32) (zd zo zt zr zp zs : Nat → Int32) (i : Nat) : Prop := zd i = x1 ∧ zo i = 3 ∧ (x3 = -1 ∨ tw_b zt zd zr zp zs x3.toNatClampNeg i)
theorem tw_y_st37 {post : Int32 → Prop} {J : Int32 → Int32 → Int32 → Prop} {x1 x2 x3 x4 : Int32} (hN : N ≤ 48) (hl : x3 = -1 ∨ ∃ i0, i0 < 48 ∧ x3 = nI i0)
    (e0 : (∀ i, i < N → ¬ tw_SP x1 x3 zd zo zt zr zp zs i) → post x2)
    (e1 : ∀ m, m < N → tw_SP x1 x3 zd zo zt zr zp zs m → (∀ i, i < N → tw_SP x1 x3 zd zo zt zr zp zs i → ¬ tw_b zt zd zr zp zs i m) →
      wpY_update (fun r => ∀ x4' : Int32, x4' = x4 + 1 → J r (nI m) x4') (nI Lp, nI Rm, nI Tl, nI G, tr, nI Ns, nI N, zs, zr, zd, zt, zp, zc, zo, za, ru, cm, ct) x1 x2 (zp m)) :
    ∃ n, wY_state_37 post J x1 x2 x3 x4 (nI Lp) (nI Rm) (nI Tl) (nI G) tr (nI Ns) (nI N) zs zr zd zt zp zc zo za ru cm ct n (-1) 0 := by
  refine ⟨N + 1, tw_min (fun n x5 x6 => wY_state_37 post J x1 x2 x3 x4 (nI Lp) (nI Rm) (nI Tl) (nI G) tr (nI Ns) (nI N) zs zr zd zt zp zc zo za ru cm ct n x5 x6) (tw_SP x1 x3 zd zo zt zr zp zs) (tw_b zt zd zr zp zs) N (fun _ => tw_b_irr) (fun _ _ _ => tw_b_tr) ?_ ?_ ?_ ?_ ?_ ?_⟩
  · intro n x i hi hn hW
    have ii : vp_in (nI i) 48 := pk_in i 48 (by omega)
    have ci : (nI i).toNatClampNeg = i := nI_clamp (by omega)
    refine pk_le N i (fun z => absurd z (by omega)) (fun _ => And.intro ii ?_)
    rw [ci]
    refine br_c (fun z1 => And.intro ii (br_c (fun z2 => ?_) (fun z2 => nm_r (nI_1 i) hW))) (fun z1 => nm_r (nI_1 i) hW)
    rcases hl with hl | ⟨i0, h0, hl⟩
    · exact absurd ⟨z1, z2, Or.inl hl⟩ hn
    · subst hl
      refine br_f (nI_pos (by omega)) (tw_y_before h0 (by omega) (fun w => absurd ⟨z1, z2, Or.inr ?_⟩ hn) (fun w => br_t rfl (nm_r (nI_1 i) hW)))
      rw [nI_clamp (by omega)]; exact w
  all_goals
    have hP : ∀ n x i, i < N → tw_SP x1 x3 zd zo zt zr zp zs i → wY_state_82 post J (wY_state_37 post J x1 x2 x3 x4 (nI Lp) (nI Rm) (nI Tl) (nI G) tr (nI Ns) (nI N) zs zr zd zt zp zc zo za ru cm ct n) x1 x2 x3 x4 x (nI i) (nI Lp) (nI Rm) (nI Tl) (nI G) tr (nI Ns) (nI N) zs zr zd zt zp zc zo za ru cm ct → wY_state_37 post J x1 x2 x3 x4 (nI Lp) (nI Rm) (nI Tl) (nI G) tr (nI Ns) (nI N) zs zr zd zt zp zc zo za ru cm ct (n + 1) x (nI i) := by
      intro n x i hi hp hW
      obtain ⟨z1, z2, z3⟩ := hp
      have ii : vp_in (nI i) 48 := pk_in i 48 (by omega)
      have ci : (nI i).toNatClampNeg = i := nI_clamp (by omega)
      refine pk_le N i (fun z => absurd z (by omega)) (fun _ => And.intro ii ?_)
      rw [ci]
      refine br_t z1 (And.intro ii (br_t z2 ?_))
      rcases hl with hl | ⟨i0, h0, hl⟩
      · subst hl; exact br_t (by decide) hW
      · subst hl
        refine br_f (nI_pos (by omega)) (tw_y_before h0 (by omega) (fun w => br_f (by decide) hW) (fun w => ?_))
        rcases z3 with z3 | z3
        · exact absurd z3 (tw_n1 (by omega))
        · rw [nI_clamp (by omega)] at z3; exact absurd z3 w
  · intro n i hi hp hW
    exact hP n _ i hi hp (br_t (by decide) (nm_r (nI_1 i) hW))
  · intro n m i hm hi hp hb hW
    exact hP n _ i hi hp (br_f (nI_pos (by omega)) (tw_y_before (by omega) (by omega) (fun _ => br_f (by decide) (nm_r (nI_1 i) hW)) (fun w => absurd hb w)))
  · intro n m i hm hi hp hb hW
    exact hP n _ i hi hp (br_f (nI_pos (by omega)) (tw_y_before (by omega) (by omega) (fun w => absurd w hb) (fun _ => br_t rfl (nm_r (nI_1 i) hW))))
  · intro n hn
    exact pk_le N N (fun _ => br_f (by decide) (e0 hn)) (fun z => absurd z (by omega))
  · intro n m hm hp hmin
    refine pk_le N N (fun _ => br_t (nI_pos' (by omega)) (And.intro (pk_in m 48 (by omega)) ?_)) (fun z => absurd z (by omega))
    rw [nI_clamp (show m < 2 ^ 31 by omega)]
    exact e1 m hm hp hmin
theorem tw_y_st22 {post : Int32 → Prop} {p : Nat} (hL4 : Lp ≤ 4) (hN : N ≤ 48) (hV : tw_V Lp Tl N Ns op co se sr ti pa ca po an sb sf ss cu cm D o q l d) (hP : tw_P1 N o se sr D ti pa ca zs zr zd zt zp zc) (hzo : tw_P2 N o po zo) (hRY : tw_RY op co la lb lg lh ru) (hp : p < Lp)
    (h : post (tw_fo op co cm pa q p (d p))) :
    ∀ k j x3, j + k = d p → (j = 0 ∧ x3 = -1 ∨ ∃ i0, 0 < j ∧ i0 < N ∧ o i0 = q (48 * p + (j - 1)) ∧ x3 = nI i0) → wY_state_22 post (nI p) (nI Lp) (nI Rm) (nI Tl) (nI G) tr (nI Ns) (nI N) zs zr zd zt zp zc zo za ru cm ct (k + 1) (tw_fo op co cm pa q p j) x3 (nI j) := by
  have hdl := tw_V_dl hV p hp
  have hlN : l p ≤ N := tw_qlen hV.2.2.2.2.1 (fun _ => tw_b_irr) hp
  have hsrt := (hV.2.2.2.2.1.1 p hp).2.2
  intro k
  induction k with
  | zero =>
    intro j x3 hj hlast
    have hjd : j = d p := by omega
    subst hjd
    refine pk_le N (d p) (fun _ => h) (fun _ => tw_y_st37 hN ?_ (fun _ => h) ?_)
    · rcases hlast with z | ⟨i0, h1, h2, h3, h4⟩
      · exact Or.inl z.2
      · exact Or.inr ⟨i0, by omega, h4⟩
    · intro m hm hSP hmin
      exfalso
      obtain ⟨z1, z2, z3⟩ := hSP
      obtain ⟨j', hj', ej'⟩ := tw_V_done hL4 hV hP hzo hp hm z1 z2
      rcases hlast with z | ⟨i0, h1, h2, h3, h4⟩
      · omega
      · subst h4
        rcases z3 with z3 | z3
        · exact absurd z3 (tw_n1 (by omega))
        · rw [nI_clamp (by omega), tw_P1_b hP h2 hm, h3, ← ej'] at z3
          by_cases e : j' = d p - 1
          · rw [e] at z3; exact tw_b_irr z3
          · exact tw_b_asy z3 (hsrt j' (d p - 1) (by omega) (by omega))
  | succ k ih =>
    intro j x3 hj hlast
    have hx3 : x3 = -1 ∨ ∃ i0, i0 < 48 ∧ x3 = nI i0 := by
      rcases hlast with z | ⟨i0, h1, h2, h3, h4⟩
      · exact Or.inl z.2
      · exact Or.inr ⟨i0, by omega, h4⟩
    obtain ⟨ij, hij, eij, zj1, zj2⟩ := tw_V_row hV hP hzo hp (show j < l p by omega)
    rw [if_pos (by omega)] at zj2
    have hSPj : tw_SP (nI p) x3 zd zo zt zr zp zs ij := by
      refine ⟨zj1, zj2, ?_⟩
      rcases hlast with z | ⟨i0, h1, h2, h3, h4⟩
      · exact Or.inl z.2
      · subst h4
        refine Or.inr ?_
        rw [nI_clamp (by omega), tw_P1_b hP h2 hij, h3, eij]
        exact hsrt (j - 1) j (by omega) (by omega)
    refine pk_le N j (fun z => absurd z (by omega)) (fun _ => tw_y_st37 hN hx3 (fun z => absurd hSPj (z ij hij)) ?_)
    intro m hm hSP hmin
    have hom : o m = q (48 * p + j) := by
      obtain ⟨z1, z2, z3⟩ := hSP
      obtain ⟨j', hj', ej'⟩ := tw_V_done hL4 hV hP hzo hp hm z1 z2
      have h1 : ¬ j < j' := by
        intro w
        refine hmin ij hij hSPj ?_
        rw [tw_P1_b hP hij hm, eij, ← ej']
        exact hsrt j j' w (by omega)
      have h2 : ¬ j' < j := by
        intro w
        rcases hlast with z | ⟨i0, h1, h2, h3, h4⟩
        · omega
        · subst h4
          rcases z3 with z3 | z3
          · exact tw_n1 (by omega) z3
          · rw [nI_clamp (by omega), tw_P1_b hP h2 hm, h3, ← ej'] at z3
            by_cases e : j' = j - 1
            · rw [e] at z3; exact tw_b_irr z3
            · exact tw_b_asy z3 (hsrt j' (j - 1) (by omega) (by omega))
      rw [← ej', show j' = j by omega]
    refine tw_y_update (by omega) hRY (nm_r (nI_1 j) ?_)
    have := ih (j + 1) (nI m) (by omega) (Or.inr ⟨m, by omega, hm, hom, rfl⟩)
    rw [(hP m hm).2.2.2.2.1, hom]
    exact this
theorem tw_y_state {post : Int32 → Prop} {p : Nat} (hL4 : Lp ≤ 4) (hN : N ≤ 48) (hV : tw_V Lp Tl N Ns op co se sr ti pa ca po an sb sf ss cu cm D o q l d) (hP : tw_P1 N o se sr D ti pa ca zs zr zd zt zp zc) (hzo : tw_P2 N o po zo) (hRY : tw_RY op co la lb lg lh ru) (hp : p < Lp) (h : post (cu p)) : wpY_state post (nI Lp, nI Rm, nI Tl, nI G, tr, nI Ns, nI N, zs, zr, zd, zt, zp, zc, zo, za, ru, cm, ct) (nI p) := by
  rw [(hV.2.2.2.2.2 p hp).1] at h
  unfold wpY_state
  dsimp only
  refine tw_y_isLp_t hL4 hp (br_f (by decide) (And.intro (pk_in p 4 (by omega)) (nm_r (tw_ra cm rfl (by omega)) ⟨d p + 1, ?_⟩)))
  exact tw_y_st22 hL4 hN hV hP hzo hRY hp h (d p) 0 (-1) (by omega) (Or.inl ⟨rfl, rfl⟩)
theorem tw_r_state (hZ : tw_Z B Lp Rm Tl N Ns G tr op co la lb lg lh se sr ti pa ca po an sb sf ss cu cm ct D o q l d t zs zr zd zt zp zc zo za ru) (x : Int32) : tw_Ro (fun post => wpX_state post (nI Lp, nI Rm, nI Tl, nI N, nI Ns, nI G, tr, op, co, la, lb, lg, lh, se, sr, tw_I D, ti, pa, ca, po, an, sb, sf, ss, tw_I o, tw_I q, tw_I l, tw_I d, cu, cm, ct, tw_I t) x) (fun post => wpY_state post (nI Lp, nI Rm, nI Tl, nI G, tr, nI Ns, nI N, zs, zr, zd, zt, zp, zc, zo, za, ru, cm, ct) x) := by
  obtain ⟨⟨n1, n2, n3, n4, n5, n6, n7, n8, n9⟩, hV, hE, hR, hRY, hP, hzo, hza, ht⟩ := hZ
  unfold tw_Ro wpX_state
  dsimp only
  rcases pk_ix x (n := Lp) (by omega) with h | h | ⟨p, hp, rfl⟩
  · refine ⟨0, fun _ hp => tw_x_isLp_f (Or.inl h) (br_t rfl hp), fun _ hp => ?_⟩
    unfold wpY_state
    exact tw_y_isLp_f (Or.inl h) (br_t rfl hp)
  · refine ⟨0, fun _ hp => tw_x_isLp_f (Or.inr h) (br_t rfl hp), fun _ hp => ?_⟩
    unfold wpY_state
    exact tw_y_isLp_f (Or.inr h) (br_t rfl hp)
  · have ip : vp_in (nI p) 4 := pk_in p 4 (by omega)
    refine ⟨cu p, fun _ h => tw_x_isLp_t n2 hp (br_f (by decide) (And.intro ip ?_)), fun _ h => tw_y_state n2 (by omega) hV hP hzo hRY hp h⟩
    rw [nI_clamp (by omega)]; exact h
end TWP
end
section
section TWQ
variable {B : Nat} {Lp Rm Tl N Ns G : Nat} {tr : Int32} {op co la lb lg lh se sr ti pa ca po an sb sf ss cu cm ct : Nat → Int32} {D o q l d t : Nat → Nat} {zs zr zd zt zp zc zo za ru : Nat → Int32}
/-! a message made, an event marked DONE: the facts -/
theorem tw_V_mk {s dv : Nat} {rv tv wv cv : Int32} {sf' ss' : Nat → Int32} (hV : tw_V Lp Tl N Ns op co se sr ti pa ca po an sb sf ss cu cm D o q l d) (hN : N < 48) (hNs : Ns < 2 ^ 30) (hs : o N = s) (hdv : dv < Lp) (ht : 0 ≤ tv.toInt ∧ tv.toInt < Tl) (hc : cv.toInt < Ns + 1)
    (hT' : tw_T (fun x => tw_L o N x ∨ x = s) (upd se s (nI Ns)) (upd ti s tv) (upd ca s cv) (upd po s 1) (upd an s 0) sf' ss') :
    tw_V Lp Tl (N + 1) (Ns + 1) op co (upd se s (nI Ns)) (upd sr s rv) (upd ti s tv) (upd pa s wv) (upd ca s cv) (upd po s 1) (upd an s 0) sb sf' ss' cu cm (tw_u D s dv) o q l d := by
  subst hs
  obtain ⟨hO, hS, hA, hT, hQ, hC⟩ := hV
  have hn := tw_mk_n hO hN
  have hne : ∀ x, tw_L o N x → x ≠ o N := fun x hx z => hn (z ▸ hx)
  have hLe := tw_mk_L (o := o) (N := N)
  unfold tw_V
  rw [hLe]
  refine ⟨hO, tw_mk_S hO hN hS hNs, tw_mk_A hA hn hdv ht hc, hT', tw_make_Q hQ hn (fun x hx => tw_un (hne x hx)) (fun x hx => pk_un (hne x hx)) ?_ pk_us, tw_make_C hC hQ hn⟩
  intro x y hx hy hb
  have h1 := hne x hx
  have h2 := hne y hy
  refine (tw_b_cg (pk_un h1) ?_ (pk_un h1) (pk_un h1) (pk_un h1) (pk_un h2) ?_ (pk_un h2) (pk_un h2) (pk_un h2)).2 hb
  · unfold tw_I; rw [tw_un h1]
  · unfold tw_I; rw [tw_un h2]
theorem tw_up_o {s : Nat} {a f : Nat → Int32} {v : Int32} (hO : tw_O o) (hN : N < 48) (hs : o N = s) (h : ∀ i, i < N → a i = f (o i)) : ∀ i, i < N + 1 → upd a N v i = upd f s v (o i) := by
  subst hs
  intro i hi
  by_cases e : i = N
  · subst e; rw [pk_us, pk_us]
  · rw [pk_un e, pk_un (fun z => e (hO.2 i N (by omega) hN z))]
    exact h i (by omega)
theorem tw_P1_mk {s dv : Nat} {rv tv wv cv nv : Int32} (hO : tw_O o) (hN : N < 48) (hs : o N = s) (hP : tw_P1 N o se sr D ti pa ca zs zr zd zt zp zc) :
    tw_P1 (N + 1) o (upd se s nv) (upd sr s rv) (tw_u D s dv) (upd ti s tv) (upd pa s wv) (upd ca s cv) (upd zs N nv) (upd zr N rv) (upd zd N (nI dv)) (upd zt N tv) (upd zp N wv) (upd zc N cv) := by
  intro i hi
  refine ⟨tw_up_o hO hN hs (fun i h => (hP i h).1) i hi, tw_up_o hO hN hs (fun i h => (hP i h).2.1) i hi, ?_, tw_up_o hO hN hs (fun i h => (hP i h).2.2.2.1) i hi, tw_up_o hO hN hs (fun i h => (hP i h).2.2.2.2.1) i hi, tw_up_o hO hN hs (fun i h => (hP i h).2.2.2.2.2) i hi⟩
  rw [← tw_Iu]
  exact tw_up_o hO hN hs (fun i h => (hP i h).2.2.1) i hi
theorem tw_P2_mk {s : Nat} {v : Int32} (hO : tw_O o) (hN : N < 48) (hs : o N = s) (h : tw_P2 N o po zo) : tw_P2 (N + 1) o (upd po s v) (upd zo N v) := fun i hi => tw_up_o hO hN hs h i hi
theorem tw_Z_sd {s e dv : Nat} {tv wv : Int32} {sf' ss' : Nat → Int32} (hZ : tw_Z B Lp Rm Tl N Ns G tr op co la lb lg lh se sr ti pa ca po an sb sf ss cu cm ct D o q l d t zs zr zd zt zp zc zo za ru) (hB : B < 2 ^ 29) (hR : N < Rm) (hs : o N = s) (he : tw_L o N e) (hdv : dv < Lp) (ht : (ti e).toInt < tv.toInt ∧ tv.toInt < Tl)
    (hT' : tw_T (fun x => tw_L o N x ∨ x = s) (upd se s (nI Ns)) (upd ti s tv) (upd ca s (se e)) (upd po s 1) (upd an s 0) sf' ss') :
    tw_Z (B + 1) Lp Rm Tl (N + 1) (Ns + 1) G tr op co la lb lg lh (upd se s (nI Ns)) (upd sr s (nI (D e))) (upd ti s tv) (upd pa s wv) (upd ca s (se e)) (upd po s 1) (upd an s 0) sb sf' ss' cu cm ct (tw_u D s dv) o q l d t (upd zs N (nI Ns)) (upd zr N (nI (D e))) (upd zd N (nI dv)) (upd zt N tv) (upd zp N wv) (upd zc N (se e)) (upd zo N 1) (upd za N 0) ru := by
  obtain ⟨⟨n1, n2, n3, n4, n5, n6, n7, n8, n9⟩, hV, hE, hRR, hRY, hP, hzo, hza, htk⟩ := hZ
  have hO := hV.1
  obtain ⟨a1, a2, a3, a4, a5⟩ := hV.2.2.1 e he
  have hse : (se e).toInt < Ns := by
    obtain ⟨i, hi, rfl⟩ := he
    exact (hV.2.1.2 i hi).2
  have hn := tw_mk_n hO (show N < 48 by omega)
  rw [hs] at hn
  refine ⟨⟨n1, n2, n3, n4, n5, n6, by omega, by omega, n9⟩, tw_V_mk hV (by omega) (by omega) hs hdv ⟨by omega, ht.2⟩ (by omega) hT', ?_, hRR, hRY, tw_P1_mk hO (by omega) hs hP, tw_P2_mk hO (by omega) hs hzo, tw_P2_mk hO (by omega) hs hza, htk⟩
  intro x hx hr
  rw [tw_mk_L, hs] at hx
  by_cases e' : x = s
  · rw [e', pk_us] at hr
    exact absurd hr (tw_n1 (by omega))
  · rw [pk_un e'] at hr
    rw [pk_un e', pk_un e']
    exact hE x (hx.resolve_right e') hr
theorem tw_T_ok1 {s e : Nat} {tv : Int32} (hN : N < 48) (hNs : Ns < 2 ^ 30) (hV : tw_V Lp Tl N Ns op co se sr ti pa ca po an sb sf ss cu cm D o q l d) (hs : o N = s) (he : tw_L o N e) (h3 : po e = 3) (hf : sf e = -1) (ht : (ti e).toInt < tv.toInt) :
    tw_T (fun x => tw_L o N x ∨ x = s) (upd se s (nI Ns)) (upd ti s tv) (upd ca s (se e)) (upd po s 1) (upd an s 0) (upd (upd sf s (-1)) e (nI s)) (upd ss s (-1)) := by
  have hinj := tw_V_inj hV
  obtain ⟨hO, hS, hA, hT, hQ, hC⟩ := hV
  have hn := tw_mk_n hO hN
  rw [hs] at hn
  refine tw_send_T hT hn he h3 hf ?_ (fun x hx => (hA x hx).2.2.2.1) (by omega) (fun x hx => tw_L48 hO (by omega) hx) hinj ht
  intro x hx
  obtain ⟨i, hi, rfl⟩ := hx
  exact hS.2 i hi
theorem tw_T_ok2 {s e : Nat} {tv : Int32} (hN : N < 48) (hNs : Ns < 2 ^ 30) (hV : tw_V Lp Tl N Ns op co se sr ti pa ca po an sb sf ss cu cm D o q l d) (hs : o N = s) (he : tw_L o N e) (h3 : po e = 3) (hf : ss e = -1) (ht : (ti e).toInt < tv.toInt) :
    tw_T (fun x => tw_L o N x ∨ x = s) (upd se s (nI Ns)) (upd ti s tv) (upd ca s (se e)) (upd po s 1) (upd an s 0) (upd sf s (-1)) (upd (upd ss s (-1)) e (nI s)) := by
  have hinj := tw_V_inj hV
  obtain ⟨hO, hS, hA, hT, hQ, hC⟩ := hV
  have hn := tw_mk_n hO hN
  rw [hs] at hn
  refine tw_T_swap (tw_send_T (tw_T_swap hT) hn he h3 hf ?_ (fun x hx => (hA x hx).2.2.2.1) (by omega) (fun x hx => tw_L48 hO (by omega) hx) hinj ht)
  intro x hx
  obtain ⟨i, hi, rfl⟩ := hx
  exact hS.2 i hi
/-- the first ARRIVED event of p marked DONE -/
theorem tw_Z_dn {p m e : Nat} (hZ : tw_Z B Lp Rm Tl N Ns G tr op co la lb lg lh se sr ti pa ca po an sb sf ss cu cm ct D o q l d t zs zr zd zt zp zc zo za ru) (hp : p < Lp) (hd : d p < l p) (he : q (48 * p + d p) = e) (hm : m < N) (hom : o m = e) :
    tw_Z B Lp Rm Tl N Ns G tr op co la lb lg lh se sr ti pa ca (upd po e 3) an (upd sb e (cu p)) sf ss (upd cu p (tw_ap (op p) (co p) (cu p) (pa e))) cm ct D o q l (tw_u d p (d p + 1)) t zs zr zd zt zp zc (upd zo m 3) za ru ∧ sf e = -1 ∧ ss e = -1 := by
  obtain ⟨hn, hV, hE, hRR, hRY, hP, hzo, hza, htk⟩ := hZ
  obtain ⟨n1, n2, n3, n4, n5, n6, n7, n8, n9⟩ := hn
  obtain ⟨hO, hS, hA, hT, hQ, hC⟩ := hV
  subst he
  have hpe := ((hQ.1 p hp).2.1 (d p) hd).2.2
  rw [if_neg (by omega)] at hpe
  have hLe := ((hQ.1 p hp).2.1 (d p) hd).1
  refine ⟨⟨⟨n1, n2, n3, n4, n5, n6, n7, n8, n9⟩, ⟨hO, hS, tw_set_A hA (Or.inr (Or.inr rfl)), tw_T_po hT ?_, tw_step_Q hQ (fun _ => tw_b_irr) hp hd, tw_step_C hC hQ (fun _ => tw_b_irr) hp hd⟩, ?_, hRR, hRY, hP, ?_, hza, htk⟩, ?_⟩
  · intro x hx z w
    by_cases e : x = q (48 * p + d p)
    · rw [e, pk_us] at z; exact z rfl
    · rw [pk_un e] at z; exact z w
  · intro x hx hr
    obtain ⟨b1, b2⟩ := hE x hx hr
    refine ⟨b1, ?_⟩
    by_cases e : x = q (48 * p + d p)
    · rw [e, pk_us]; decide
    · rw [pk_un e]; exact b2
  · intro i hi
    by_cases e : i = m
    · subst e; rw [hom, pk_us, pk_us]
    · rw [pk_un e, pk_un (fun z => e (hO.2 i m (by omega) (by omega) (z.trans hom.symm)))]
      exact hzo i hi
  · exact (hT _ hLe).2.2.2 (by rw [hpe]; decide)
end TWQ
end
section
section TWR
variable {B : Nat} {Lp Rm Tl N Ns G : Nat} {tr : Int32} {op co la lb lg lh se sr ti pa ca po an sb sf ss cu cm ct : Nat → Int32} {D o q l d t : Nat → Nat} {zs zr zd zt zp zc zo za ru : Nat → Int32}
/-! STEP: the walks -/
def tw_fb (f : Int32) : Nat := if f = 0 then 0 else 1
theorem tw_fb0 {f : Int32} (h : f = 0) : tw_fb f = 0 := if_pos h
theorem tw_fb1 {f : Int32} (h : ¬ f = 0) : tw_fb f = 1 := if_neg h
theorem tw_x_stHead {post : Int32 → SX → Prop} {p e : Nat} {y F1 F2 : Int32} (hL4 : Lp ≤ 4) (hp : p < Lp) (hd : d p < l p) (hl : l p ≤ 48) (he : q (48 * p + d p) = e) (he8 : e < 48)
    (hy : y = tw_ap (op p) (co p) (cu p) (pa e)) (h1 : F1 = tw_fr (lb (2 * p)) (lg (2 * p)) (nI Tl) (ti e) y (pa e)) (h2 : F2 = tw_fr (lb (2 * p + 1)) (lg (2 * p + 1)) (nI Tl) (ti e) y (pa e))
    (H : wX_step_126 post (nI p) (nI e) y (nI (2 * p)) F1 F2 (nI (tw_fb F1 + tw_fb F2)) (nI Lp) (nI Rm) (nI Tl) (nI N) (nI Ns) (nI G) tr op co la lb lg lh se sr (tw_I D) ti pa ca po an sb sf ss (tw_I o) (tw_I q) (tw_I l) (tw_I d) cu cm ct (tw_I t)) : wpX_step post (nI Lp, nI Rm, nI Tl, nI N, nI Ns, nI G, tr, op, co, la, lb, lg, lh, se, sr, tw_I D, ti, pa, ca, po, an, sb, sf, ss, tw_I o, tw_I q, tw_I l, tw_I d, cu, cm, ct, tw_I t) (nI p) := by
  have ip : vp_in (nI p) 4 := pk_in p 4 (by omega)
  have ie : vp_in (nI e) 48 := pk_in e 48 he8
  have cp : (nI p).toNatClampNeg = p := nI_clamp (by omega)
  have ce : (nI e).toNatClampNeg = e := nI_clamp (by omega)
  have eq : nI (48 * p) + nI (d p) = nI (48 * p + d p) := nI_add _ _
  unfold wpX_step
  dsimp only
  rw [tw_rd d rfl (show p < 2 ^ 31 by omega), tw_rd l rfl (show p < 2 ^ 31 by omega), tw_m48, cp]
  refine tw_x_isLp_t hL4 hp (br_f (by decide) (And.intro ip (And.intro ip (br_t (nI_lt hd (by omega)) (And.intro ip (And.intro (pk_in _ 192 (by omega) eq) (nm_r (e' := nI e) ((tw_rd q eq (by omega)).trans (congrArg nI he)) (And.intro ie ?_))))))))
  rw [ce]
  refine nm_e (And.intro ip (tw_x_applyOp (by omega) ?_))
  rw [← hy]
  refine nm_r (tw_m2 p) (And.intro ie (tw_x_fires (by omega) ?_))
  rw [← h1]
  refine And.intro ie ?_
  rw [nI_1]
  refine tw_x_fires (by omega) ?_
  rw [← h2]
  have K : ∀ k : Nat, nI k = nI (tw_fb F1) → wX_step_118 post (nI p) (nI e) y (nI (2 * p)) F1 F2 (nI k) (nI Lp) (nI Rm) (nI Tl) (nI N) (nI Ns) (nI G) tr op co la lb lg lh se sr (tw_I D) ti pa ca po an sb sf ss (tw_I o) (tw_I q) (tw_I l) (tw_I d) cu cm ct (tw_I t) := by
    intro k hk
    rw [hk]
    refine br_c (fun z => ?_) (fun z => nm_r (nI_1 _) ?_)
    · rw [tw_fb0 z] at H; exact H
    · rw [tw_fb1 z] at H; exact H
  exact br_c (fun z => K 0 (by rw [tw_fb0 z])) (fun z => nm_r (e' := nI 1) (by decide) (K 1 (by rw [tw_fb1 z])))
theorem tw_y_stEnd {post : Int32 → SY → Prop} {p e m n : Nat} {y F1 F2 : Int32} (hL4 : Lp ≤ 4) (hN : N ≤ 48) (hV : tw_V Lp Tl N Ns op co se sr ti pa ca po an sb sf ss cu cm D o q l d) (hP : tw_P1 N o se sr D ti pa ca zs zr zd zt zp zc) (hzo : tw_P2 N o po zo) (hRY : tw_RY op co la lb lg lh ru) (hp : p < Lp) (hm : m < N) (hom : o m = e)
    (hy : y = tw_ap (op p) (co p) (cu p) (pa e)) (h1 : F1 = tw_fr (lb (2 * p)) (lg (2 * p)) (nI Tl) (ti e) y (pa e)) (h2 : F2 = tw_fr (lb (2 * p + 1)) (lg (2 * p + 1)) (nI Tl) (ti e) y (pa e))
    (H : wY_step_154 post (nI p) (nI m) y F1 F2 (nI (tw_fb F2)) (nI (tw_fb F1)) (nI Lp) (nI Rm) (nI Tl) (nI G) tr (nI Ns) (nI N) zs zr zd zt zp zc zo za ru cm ct) : wY_step_14 post (nI p) (nI Lp) (nI Rm) (nI Tl) (nI G) tr (nI Ns) (nI N) zs zr zd zt zp zc zo za ru cm ct (n + 1) (nI m) (nI N) := by
  have im : vp_in (nI m) 48 := pk_in m 48 (by omega)
  have cmm : (nI m).toNatClampNeg = m := nI_clamp (by omega)
  obtain ⟨p1, p2, p3, p4, p5, p6⟩ := hP m hm
  rw [hom] at p4 p5
  refine pk_le N N (fun _ => br_t (nI_pos' (by omega)) ?_) (fun z => absurd z (by omega))
  rw [cmm, p4, p5]
  refine tw_y_state hL4 hN hV hP hzo hRY hp (And.intro im (tw_y_update (by omega) hRY ?_))
  rw [← hy]
  refine And.intro im (And.intro im (tw_y_sends (k := 0) (by omega) (by omega) hRY ?_))
  rw [Nat.add_zero, ← h1]
  refine And.intro im (And.intro im (tw_y_sends (k := 1) (by omega) (by omega) hRY ?_))
  rw [← h2]
  have K : ∀ z1 : Int32, z1 = nI (tw_fb F1) → wY_step_144 post (nI p) (nI m) y F1 F2 z1 (nI Lp) (nI Rm) (nI Tl) (nI G) tr (nI Ns) (nI N) zs zr zd zt zp zc zo za ru cm ct := by
    intro z1 hz
    subst hz
    refine br_c (fun z => ?_) (fun z => ?_)
    · rw [tw_fb0 z] at H; exact H
    · rw [tw_fb1 z] at H; exact H
  exact br_c (fun z => K 0 (by rw [tw_fb0 z]; rfl)) (fun z => K 1 (by rw [tw_fb1 z]; rfl))
theorem tw_y_step14 {post : Int32 → SY → Prop} {x1 : Int32} (hN : N ≤ 48)
    (e0 : (∀ i, i < N → ¬ (zd i = x1 ∧ zo i = 2)) → post (-5) (nI Lp, nI Rm, nI Tl, nI G, tr, nI Ns, nI N, zs, zr, zd, zt, zp, zc, zo, za, ru, cm, ct))
    (e1 : ∀ n m, m < N → (zd m = x1 ∧ zo m = 2) → (∀ i, i < N → (zd i = x1 ∧ zo i = 2) → ¬ tw_b zt zd zr zp zs i m) → wY_step_14 post x1 (nI Lp) (nI Rm) (nI Tl) (nI G) tr (nI Ns) (nI N) zs zr zd zt zp zc zo za ru cm ct (n + 1) (nI m) (nI N)) :
    ∃ n, wY_step_14 post x1 (nI Lp) (nI Rm) (nI Tl) (nI G) tr (nI Ns) (nI N) zs zr zd zt zp zc zo za ru cm ct n (-1) 0 := by
  refine ⟨N + 1, tw_min (fun n x5 x6 => wY_step_14 post x1 (nI Lp) (nI Rm) (nI Tl) (nI G) tr (nI Ns) (nI N) zs zr zd zt zp zc zo za ru cm ct n x5 x6) (fun i => zd i = x1 ∧ zo i = 2) (tw_b zt zd zr zp zs) N (fun _ => tw_b_irr) (fun _ _ _ => tw_b_tr) ?_ ?_ ?_ ?_ ?_ e1⟩
  · intro n x i hi hn hW
    have ii : vp_in (nI i) 48 := pk_in i 48 (by omega)
    have ci : (nI i).toNatClampNeg = i := nI_clamp (by omega)
    refine pk_le N i (fun z => absurd z (by omega)) (fun _ => And.intro ii ?_)
    rw [ci]
    exact br_c (fun z1 => And.intro ii (br_c (fun z2 => absurd ⟨z1, z2⟩ hn) (fun z2 => nm_r (nI_1 i) hW))) (fun z1 => nm_r (nI_1 i) hW)
  · intro n i hi hp hW
    have ii : vp_in (nI i) 48 := pk_in i 48 (by omega)
    have ci : (nI i).toNatClampNeg = i := nI_clamp (by omega)
    refine pk_le N i (fun z => absurd z (by omega)) (fun _ => And.intro ii ?_)
    rw [ci]
    exact br_t hp.1 (And.intro ii (br_t hp.2 (br_t (by decide) (nm_r (nI_1 i) hW))))
  · intro n m i hm hi hp hb hW
    have ii : vp_in (nI i) 48 := pk_in i 48 (by omega)
    have ci : (nI i).toNatClampNeg = i := nI_clamp (by omega)
    refine pk_le N i (fun z => absurd z (by omega)) (fun _ => And.intro ii ?_)
    rw [ci]
    exact br_t hp.1 (And.intro ii (br_t hp.2 (br_f (nI_pos (by omega)) (tw_y_before (by omega) (by omega) (fun _ => br_f (by decide) (nm_r (nI_1 i) hW)) (fun w => absurd hb w)))))
  · intro n m i hm hi hp hb hW
    have ii : vp_in (nI i) 48 := pk_in i 48 (by omega)
    have ci : (nI i).toNatClampNeg = i := nI_clamp (by omega)
    refine pk_le N i (fun z => absurd z (by omega)) (fun _ => And.intro ii ?_)
    rw [ci]
    exact br_t hp.1 (And.intro ii (br_t hp.2 (br_f (nI_pos (by omega)) (tw_y_before (by omega) (by omega) (fun w => absurd w hb) (fun _ => br_t rfl (nm_r (nI_1 i) hW))))))
  · intro n hn
    exact pk_le N N (fun _ => br_f (by decide) (e0 hn)) (fun z => absurd z (by omega))
/-- the first ARRIVED row of p -/
theorem tw_V_fst (hL4 : Lp ≤ 4) (hV : tw_V Lp Tl N Ns op co se sr ti pa ca po an sb sf ss cu cm D o q l d) (hP : tw_P1 N o se sr D ti pa ca zs zr zd zt zp zc) (hzo : tw_P2 N o po zo) {p m : Nat} (hp : p < Lp) (hd : d p < l p) (hm : m < N) (h : zd m = nI p ∧ zo m = 2) (hmin : ∀ i, i < N → (zd i = nI p ∧ zo i = 2) → ¬ tw_b zt zd zr zp zs i m) : o m = q (48 * p + d p) := by
  obtain ⟨j, h1, h2, h3⟩ := tw_V_arr hL4 hV hP hzo hp hm h.1 h.2
  obtain ⟨i, hi, ei, z1, z2⟩ := tw_V_row hV hP hzo hp hd
  rw [if_neg (by omega)] at z2
  by_cases e : j = d p
  · subst e; exact h3.symm
  · refine absurd ?_ (hmin i hi ⟨z1, z2⟩)
    rw [tw_P1_b hP hi hm, ei, ← h3]
    exact (hV.2.2.2.2.1.1 p hp).2.2 (d p) j (by omega) h2
end TWR
end
section
section TWS
variable {B : Nat} {Lp Rm Tl N Ns G : Nat} {tr : Int32} {op co la lb lg lh se sr ti pa ca po an sb sf ss cu cm ct : Nat → Int32} {D o q l d t : Nat → Nat} {zs zr zd zt zp zc zo za ru : Nat → Int32}
theorem tw_tvb {Tl k e : Nat} {ti lb : Nat → Int32} (hT : Tl ≤ 1000) (h0 : 0 ≤ (ti e).toInt) (h1 : (ti e).toInt < Tl) (h2 : 1 ≤ (lb k).toInt) (h3 : (lb k).toInt ≤ 100) (h : ti e + lb k < nI Tl) : (ti e).toInt < (ti e + lb k).toInt ∧ (ti e + lb k).toInt < Tl := by
  have e1 : (ti e + lb k).toInt = (ti e).toInt + (lb k).toInt := tw_add (by omega) (by omega)
  rw [Int32.lt_iff_toInt_lt, nI_toInt (by omega)] at h
  omega
/-- the second link's message, if it is sent -/
theorem tw_l_204 {p m e : Nat} {y F2 r : Int32} (hZ : tw_Z B Lp Rm Tl N Ns G tr op co la lb lg lh se sr ti pa ca po an sb sf ss cu cm ct D o q l d t zs zr zd zt zp zc zo za ru) (hB : B < 2 ^ 29) (hp : p < Lp) (hm : m < N) (hom : o m = e) (hD : D e = p) (h3 : po e = 3) (hf : ss e = -1)
    (hF : ¬ F2 = 0 → ti e + lb (2 * p + 1) < nI Tl ∧ N < Rm) :
    ∃ v', (∀ post : Int32 → SY → Prop, post r v' → wY_step_195 post (nI p) (nI m) y F2 r (nI Lp) (nI Rm) (nI Tl) (nI G) tr (nI Ns) (nI N) zs zr zd zt zp zc zo za ru cm ct) ∧ ∀ post : Int32 → SX → Prop, (∀ u', tw_Rel (B + 1) u' v' → post r u') → wX_step_204 post (nI e) y (nI (2 * p)) F2 r (nI Lp) (nI Rm) (nI Tl) (nI N) (nI Ns) (nI G) tr op co la lb lg lh se sr (tw_I D) ti pa ca po an sb sf ss (tw_I o) (tw_I q) (tw_I l) (tw_I d) cu cm ct (tw_I t) := by
  by_cases z : F2 = 0
  · exact ⟨(nI Lp, nI Rm, nI Tl, nI G, tr, nI Ns, nI N, zs, zr, zd, zt, zp, zc, zo, za, ru, cm, ct), fun post h => br_t z h, fun post h => br_t z (h _ (tw_mk (tw_Z_up (Nat.le_succ _) hZ)))⟩
  · obtain ⟨hF1, hF2⟩ := hF z
    obtain ⟨⟨n1, n2, n3, n4, n5, n6, n7, n8, n9⟩, hV, hE, hRR, hRY, hP, hzo, hza, htk⟩ := id hZ
    have hLe : tw_L o N e := ⟨m, hm, hom⟩
    obtain ⟨a1, a2, a3, a4, a5⟩ := hV.2.2.1 e hLe
    obtain ⟨⟨dv, hdv, hla⟩, b1, b2⟩ := hRR (2 * p + 1) (by omega)
    have he8 : e < 48 := tw_L48 hV.1 (by omega) hLe
    have hs8 : o N < 48 := hV.1.1 N (by omega)
    have htv := tw_tvb n6 a2 a3 b1 b2 hF1
    have hZ' := tw_Z_sd (wv := tw_pl (lh (2 * p + 1)) y (pa e)) hZ hB hF2 rfl hLe hdv htv (tw_T_ok2 (by omega) (by omega) hV rfl hLe h3 hf htv.1)
    obtain ⟨p1, p2, p3, p4, p5, p6⟩ := hP m hm
    rw [hom] at p1 p4 p5
    refine ⟨(nI Lp, nI Rm, nI Tl, nI G, tr, nI (Ns + 1), nI (N + 1), upd zs N (nI Ns), upd zr N (nI (D e)), upd zd N (nI dv), upd zt N (ti e + lb (2 * p + 1)), upd zp N (tw_pl (lh (2 * p + 1)) y (pa e)), upd zc N (se e), upd zo N 1, upd za N 0, ru, cm, ct), fun post h => br_f z (tw_y_send (k := 1) (by omega) (by omega) (by omega) (by omega) hRY ?_), fun post h => br_f z ?_⟩
    · rw [p1, p4, p5, hla]
      rw [hD] at h
      exact h
    · rw [nI_1]
      refine tw_x_send (by omega) he8 (by omega) rfl hs8 hla ?_
      refine And.intro (pk_in e 48 he8) (nm_r (tw_ru _ rfl (by omega) rfl) ?_)
      exact h _ (tw_mk hZ')
theorem tw_l_126 {p m e k : Nat} {y F1 F2 : Int32} (hZ : tw_Z B Lp Rm Tl N Ns G tr op co la lb lg lh se sr ti pa ca po an sb sf ss cu cm ct D o q l d t zs zr zd zt zp zc zo za ru) (hB : B + 1 < 2 ^ 29) (hp : p < Lp) (hd : d p < l p) (he : q (48 * p + d p) = e) (hm : m < N) (hom : o m = e) (hk : k = tw_fb F1 + tw_fb F2) (hR : N + k ≤ Rm)
    (hy : y = tw_ap (op p) (co p) (cu p) (pa e)) (hF1 : ¬ F1 = 0 → ti e + lb (2 * p) < nI Tl) (hF2 : ¬ F2 = 0 → ti e + lb (2 * p + 1) < nI Tl) :
    ∃ v', (∀ post : Int32 → SY → Prop, post (nI k) v' → wY_step_154 post (nI p) (nI m) y F1 F2 (nI (tw_fb F2)) (nI (tw_fb F1)) (nI Lp) (nI Rm) (nI Tl) (nI G) tr (nI Ns) (nI N) zs zr zd zt zp zc zo za ru cm ct) ∧
      ∀ post : Int32 → SX → Prop, (∀ u', tw_Rel (B + 2) u' v' → post (nI k) u') → wX_step_126 post (nI p) (nI e) y (nI (2 * p)) F1 F2 (nI k) (nI Lp) (nI Rm) (nI Tl) (nI N) (nI Ns) (nI G) tr op co la lb lg lh se sr (tw_I D) ti pa ca po an sb sf ss (tw_I o) (tw_I q) (tw_I l) (tw_I d) cu cm ct (tw_I t) := by
  obtain ⟨hZ1, hsf, hss⟩ := tw_Z_dn hZ hp hd he hm hom
  rw [← hy] at hZ1
  obtain ⟨⟨n1, n2, n3, n4, n5, n6, n7, n8, n9⟩, hV, hE, hRR, hRY, hP, hzo, hza, htk⟩ := id hZ
  have hLe : tw_L o N e := ⟨m, hm, hom⟩
  obtain ⟨a1, a2, a3, a4, a5⟩ := hV.2.2.1 e hLe
  have hD : D e = p := by rw [← he]; exact ((hV.2.2.2.2.1.1 p hp).2.1 (d p) hd).2.1
  have he8 : e < 48 := tw_L48 hV.1 (by omega) hLe
  have ip : vp_in (nI p) 4 := pk_in p 4 (by omega)
  have ie : vp_in (nI e) 48 := pk_in e 48 he8
  have im : vp_in (nI m) 48 := pk_in m 48 (by omega)
  have hl48 := tw_V_l48 (by omega) hV p hp
  have eX : nI N + nI k = nI (N + k) := nI_add _ _
  have hle : nI N + nI k ≤ nI Rm := by rw [eX]; exact nI_le hR (by omega)
  have eK : nI (tw_fb F1) + nI (tw_fb F2) = nI k := (nI_add _ _).trans (congrArg nI hk.symm)
  have eD : tw_I d (nI p).toNatClampNeg + 1 = nI (d p + 1) := by rw [tw_rd d rfl (show p < 2 ^ 31 by omega), nI_1]
  by_cases z : F1 = 0
  · obtain ⟨v', HY, HX⟩ := tw_l_204 (y := y) (F2 := F2) (r := nI k) hZ1 (by omega) hp hm hom hD pk_us hss (fun w => ⟨hF2 w, by rw [hk, tw_fb0 z, tw_fb1 w] at hR; omega⟩)
    exact ⟨v', fun post h => nm_r eK (br_t hle (And.intro im (nm_r (tw_ru zo rfl (by omega) rfl) (br_t z (HY post h))))), fun post h => br_t hle (And.intro ip (And.intro ie (nm_r (tw_ru sb rfl (by omega) (tw_ra cu rfl (by omega))) (And.intro ip (nm_r (tw_ru cu rfl (by omega) rfl) (And.intro ie (nm_r (tw_ru po rfl (by omega) rfl) (And.intro ip (And.intro ip (nm_r (tw_rU d rfl (by omega) eD) (br_t z (HX post (fun u' hr => h u' (tw_Rel_up (by omega) hr))))))))))))))⟩
  · rw [tw_fb1 z] at hk
    obtain ⟨⟨dv, hdv, hla⟩, b1, b2⟩ := hRR (2 * p) (by omega)
    have hs8 : o N < 48 := hV.1.1 N (by omega)
    have hne : e ≠ o N := by
      intro w
      exact tw_mk_n hV.1 (show N < 48 by omega) (w ▸ hLe)
    have htv := tw_tvb n6 a2 a3 b1 b2 (hF1 z)
    have hZ2 := tw_Z_sd (wv := tw_pl (lh (2 * p)) y (pa e)) hZ1 (by omega) (by omega) rfl hLe hdv htv (tw_T_ok1 (by omega) (by omega) hZ1.2.1 rfl hLe pk_us hsf htv.1)
    obtain ⟨v', HY, HX⟩ := tw_l_204 (y := y) (F2 := F2) (r := nI k) (m := m) (e := e) (p := p) hZ2 (by omega) hp (by omega) hom ((tw_un hne).trans hD) ((pk_un hne).trans pk_us) ((pk_un hne).trans hss) (fun w => ⟨by rw [pk_un hne]; exact hF2 w, by rw [tw_fb1 w] at hk; omega⟩)
    obtain ⟨p1, p2, p3, p4, p5, p6⟩ := hP m hm
    rw [hom] at p1 p4 p5
    refine ⟨v', fun post h => nm_r eK (br_t hle (And.intro im (nm_r (tw_ru zo rfl (by omega) rfl) (br_f z (tw_y_send (k := 0) (by omega) (by omega) (by omega) (by omega) hRY ?_))))), fun post h => br_t hle (And.intro ip (And.intro ie (nm_r (tw_ru sb rfl (by omega) (tw_ra cu rfl (by omega))) (And.intro ip (nm_r (tw_ru cu rfl (by omega) rfl) (And.intro ie (nm_r (tw_ru po rfl (by omega) rfl) (And.intro ip (And.intro ip (nm_r (tw_rU d rfl (by omega) eD) (br_f z (tw_x_send (by omega) he8 (by omega) rfl hs8 hla ?_))))))))))))⟩
    · have := HY post h
      rw [hD] at this
      rw [p1, p4, p5, show la (2 * p + 0) = nI dv from hla]
      exact this
    · exact And.intro ie (nm_r (tw_ru _ rfl (by omega) rfl) (HX post (fun u' hr => h u' (tw_Rel_up (by omega) hr))))
end TWS
end
section
section TWT
variable {B : Nat} {Lp Rm Tl N Ns G : Nat} {tr : Int32} {op co la lb lg lh se sr ti pa ca po an sb sf ss cu cm ct : Nat → Int32} {D o q l d t : Nat → Nat} {zs zr zd zt zp zc zo za ru : Nat → Int32}
theorem tw_l_step1 (hZ : tw_Z B Lp Rm Tl N Ns G tr op co la lb lg lh se sr ti pa ca po an sb sf ss cu cm ct D o q l d t zs zr zd zt zp zc zo za ru) (hB : B + 2 < 2 ^ 29) {p : Nat} (hp : p < Lp) (hd : d p < l p) :
    ∃ r v', (r = -3 ∨ 0 ≤ r) ∧ (∀ post : Int32 → SY → Prop, post r v' → wpY_step post (nI Lp, nI Rm, nI Tl, nI G, tr, nI Ns, nI N, zs, zr, zd, zt, zp, zc, zo, za, ru, cm, ct) (nI p)) ∧ ∀ post : Int32 → SX → Prop, (∀ u', tw_Rel (B + 2) u' v' → post r u') → wpX_step post (nI Lp, nI Rm, nI Tl, nI N, nI Ns, nI G, tr, op, co, la, lb, lg, lh, se, sr, tw_I D, ti, pa, ca, po, an, sb, sf, ss, tw_I o, tw_I q, tw_I l, tw_I d, cu, cm, ct, tw_I t) (nI p) := by
  obtain ⟨⟨n1, n2, n3, n4, n5, n6, n7, n8, n9⟩, hV, hE, hRR, hRY, hP, hzo, hza, htk⟩ := id hZ
  obtain ⟨m, hm, hom, zm1, zm2⟩ := tw_V_row hV hP hzo hp hd
  rw [if_neg (by omega)] at zm2
  obtain ⟨e, he⟩ : ∃ e, q (48 * p + d p) = e := ⟨_, rfl⟩
  rw [he] at hom
  have he8 : e < 48 := by rw [← hom]; exact hV.1.1 m (by omega)
  have hl48 := tw_V_l48 (by omega) hV p hp
  obtain ⟨y, hy⟩ : ∃ y, y = tw_ap (op p) (co p) (cu p) (pa e) := ⟨_, rfl⟩
  obtain ⟨F1, h1⟩ : ∃ F1, F1 = tw_fr (lb (2 * p)) (lg (2 * p)) (nI Tl) (ti e) y (pa e) := ⟨_, rfl⟩
  obtain ⟨F2, h2⟩ : ∃ F2, F2 = tw_fr (lb (2 * p + 1)) (lg (2 * p + 1)) (nI Tl) (ti e) y (pa e) := ⟨_, rfl⟩
  obtain ⟨k, hk⟩ : ∃ k, k = tw_fb F1 + tw_fb F2 := ⟨_, rfl⟩
  have hkb : k ≤ 2 := by
    have : ∀ f, tw_fb f ≤ 1 := by
      intro f
      unfold tw_fb
      split <;> omega
    have a := this F1
    have b := this F2
    omega
  -- the reference's search ends at row m
  have HYs : ∀ post : Int32 → SY → Prop, wY_step_154 post (nI p) (nI m) y F1 F2 (nI (tw_fb F2)) (nI (tw_fb F1)) (nI Lp) (nI Rm) (nI Tl) (nI G) tr (nI Ns) (nI N) zs zr zd zt zp zc zo za ru cm ct → wpY_step post (nI Lp, nI Rm, nI Tl, nI G, tr, nI Ns, nI N, zs, zr, zd, zt, zp, zc, zo, za, ru, cm, ct) (nI p) := by
    intro post H
    unfold wpY_step
    dsimp only
    refine tw_y_isLp_t n2 hp (br_f (by decide) (tw_y_step14 (by omega) (fun z => absurd ⟨zm1, zm2⟩ (z m hm)) ?_))
    intro n m' hm' hp' hmin
    have : m' = m := by
      have e1 := tw_V_fst n2 hV hP hzo hp hd hm' hp' hmin
      exact hV.1.2 m' m (by omega) (by omega) (e1.trans (he.trans hom.symm))
    subst this
    exact tw_y_stEnd n2 (by omega) hV hP hzo hRY hp hm hom hy h1 h2 H
  have HXs : ∀ post : Int32 → SX → Prop, wX_step_126 post (nI p) (nI e) y (nI (2 * p)) F1 F2 (nI k) (nI Lp) (nI Rm) (nI Tl) (nI N) (nI Ns) (nI G) tr op co la lb lg lh se sr (tw_I D) ti pa ca po an sb sf ss (tw_I o) (tw_I q) (tw_I l) (tw_I d) cu cm ct (tw_I t) → wpX_step post (nI Lp, nI Rm, nI Tl, nI N, nI Ns, nI G, tr, op, co, la, lb, lg, lh, se, sr, tw_I D, ti, pa, ca, po, an, sb, sf, ss, tw_I o, tw_I q, tw_I l, tw_I d, cu, cm, ct, tw_I t) (nI p) := by
    intro post H
    rw [hk] at H
    exact tw_x_stHead n2 hp hd hl48 he he8 hy h1 h2 H
  by_cases hR : N + k ≤ Rm
  · obtain ⟨v', HY, HX⟩ := tw_l_126 hZ (by omega) hp hd he hm hom hk hR hy (fun z => tw_fr_t (by rw [← h1]; exact z)) (fun z => tw_fr_t (by rw [← h2]; exact z))
    exact ⟨nI k, v', Or.inr (nI_pos' (by omega)), fun post h => HYs post (HY post h), fun post h => HXs post (HX post h)⟩
  · have hle : ¬ nI N + nI k ≤ nI Rm := by
      rw [nI_add]; exact nI_ge (by omega) (by omega)
    have eK : nI (tw_fb F1) + nI (tw_fb F2) = nI k := (nI_add _ _).trans (congrArg nI hk.symm)
    exact ⟨-3, (nI Lp, nI Rm, nI Tl, nI G, tr, nI Ns, nI N, zs, zr, zd, zt, zp, zc, zo, za, ru, cm, ct), Or.inl rfl, fun post h => HYs post (nm_r eK (br_f hle h)), fun post h => HXs post (br_f hle (h _ (tw_mk (tw_Z_up (by omega) hZ))))⟩
theorem tw_l_step (hZ : tw_Z B Lp Rm Tl N Ns G tr op co la lb lg lh se sr ti pa ca po an sb sf ss cu cm ct D o q l d t zs zr zd zt zp zc zo za ru) (hB : B + 2 < 2 ^ 29) (x : Int32) : tw_Lk (B + 2) (fun post => wpX_step post (nI Lp, nI Rm, nI Tl, nI N, nI Ns, nI G, tr, op, co, la, lb, lg, lh, se, sr, tw_I D, ti, pa, ca, po, an, sb, sf, ss, tw_I o, tw_I q, tw_I l, tw_I d, cu, cm, ct, tw_I t) x) (fun post => wpY_step post (nI Lp, nI Rm, nI Tl, nI G, tr, nI Ns, nI N, zs, zr, zd, zt, zp, zc, zo, za, ru, cm, ct) x) := by
  obtain ⟨⟨n1, n2, n3, n4, n5, n6, n7, n8, n9⟩, hV, hE, hRR, hRY, hP, hzo, hza, htk⟩ := id hZ
  have hZ' : tw_Z (B + 2) Lp Rm Tl N Ns G tr op co la lb lg lh se sr ti pa ca po an sb sf ss cu cm ct D o q l d t zs zr zd zt zp zc zo za ru := tw_Z_up (by omega) hZ
  rcases pk_ix x (n := Lp) (by omega) with h | h | ⟨p, hp, rfl⟩
  · unfold wpX_step wpY_step
    exact tw_Lk_s (-1) hZ' (fun _ hh => tw_x_isLp_f (Or.inl h) (br_t rfl hh)) (fun _ hh => tw_y_isLp_f (Or.inl h) (br_t rfl hh))
  · unfold wpX_step wpY_step
    exact tw_Lk_s (-1) hZ' (fun _ hh => tw_x_isLp_f (Or.inr h) (br_t rfl hh)) (fun _ hh => tw_y_isLp_f (Or.inr h) (br_t rfl hh))
  · by_cases hd : d p < l p
    · obtain ⟨r, v', _, HY, HX⟩ := tw_l_step1 hZ hB hp hd
      exact ⟨r, v', HY, HX⟩
    · have ip : vp_in (nI p) 4 := pk_in p 4 (by omega)
      have hl48 := tw_V_l48 (by omega) hV p hp
      have hdl := tw_V_dl hV p hp
      unfold wpX_step wpY_step
      refine tw_Lk_s (-5) hZ' (fun _ hh => tw_x_isLp_t n2 hp (br_f (by decide) (And.intro ip (And.intro ip (br_f ?_ hh))))) (fun _ hh => tw_y_isLp_t n2 hp (br_f (by decide) (tw_y_step14 (by omega) (fun _ => hh) ?_)))
      · rw [tw_rd d rfl (show p < 2 ^ 31 by omega), tw_rd l rfl (show p < 2 ^ 31 by omega)]
        exact nI_nlt (by omega) (by omega)
      · intro n m hm hpm _
        obtain ⟨j, j1, j2, _⟩ := tw_V_arr n2 hV hP hzo hp hm hpm.1 hpm.2
        omega
/-! after a removal, an arrival: the relation again -/
theorem tw_Z_rm {r M : Nat} {po' an' sf' ss' cu' zo' za' : Nat → Int32} {q' l' d' : Nat → Nat} (hZ : tw_Z B Lp Rm Tl N Ns G tr op co la lb lg lh se sr ti pa ca po an sb sf ss cu cm ct D o q l d t zs zr zd zt zp zc zo za ru) (hNM : N = M + 1) (hr : r ≤ M)
    (hV' : tw_V Lp Tl M Ns op co se sr ti pa ca po' an' sb sf' ss' cu' cm D (tw_rm o r M) q' l' d') (h1 : tw_P2 M (tw_rm o r M) po' zo') (h2 : tw_P2 M (tw_rm o r M) an' za')
    (h3 : ∀ x, tw_L (tw_rm o r M) M x → tw_L o N x ∧ (po' x = 1 → po x = 1)) :
    tw_Z B Lp Rm Tl M Ns G tr op co la lb lg lh se sr ti pa ca po' an' sb sf' ss' cu' cm ct D (tw_rm o r M) q' l' d' t (tw_sh zs r M) (tw_sh zr r M) (tw_sh zd r M) (tw_sh zt r M) (tw_sh zp r M) (tw_sh zc r M) zo' za' ru := by
  obtain ⟨⟨n1, n2, n3, n4, n5, n6, n7, n8, n9⟩, hV, hE, hRR, hRY, hP, hzo, hza, htk⟩ := hZ
  refine ⟨⟨n1, n2, n3, n4, n5, n6, by omega, n8, n9⟩, hV', ?_, hRR, hRY, tw_P1_rm hNM hr hP, h1, h2, htk⟩
  intro x hx hsr
  obtain ⟨a, b⟩ := h3 x hx
  obtain ⟨c1, c2⟩ := hE x a hsr
  exact ⟨c1, fun z => c2 (b z)⟩
theorem tw_l_withdraw (hZ : tw_Z B Lp Rm Tl N Ns G tr op co la lb lg lh se sr ti pa ca po an sb sf ss cu cm ct D o q l d t zs zr zd zt zp zc zo za ru) (hB : B < 2 ^ 29) (x : Int32) : tw_Lk B (fun post => wpX_withdraw post (nI Lp, nI Rm, nI Tl, nI N, nI Ns, nI G, tr, op, co, la, lb, lg, lh, se, sr, tw_I D, ti, pa, ca, po, an, sb, sf, ss, tw_I o, tw_I q, tw_I l, tw_I d, cu, cm, ct, tw_I t) x) (fun post => wpY_withdraw post (nI Lp, nI Rm, nI Tl, nI G, tr, nI Ns, nI N, zs, zr, zd, zt, zp, zc, zo, za, ru, cm, ct) x) := by
  obtain ⟨⟨n1, n2, n3, n4, n5, n6, n7, n8, n9⟩, hV, hE, hRR, hRY, hP, hzo, hza, htk⟩ := id hZ
  unfold wpX_withdraw wpY_withdraw
  dsimp only
  rcases tw_fnd (Rm := Rm) (G := G) (tr := tr) (la := la) (lb := lb) (lg := lg) (lh := lh) (ct := ct) (t := t) (zo := zo) (za := za) (ru := ru) (by omega) hV hP x with ⟨i, hi, e, HX, HY⟩ | ⟨HX, HY⟩
  · have hO := hV.1
    have h48 : o i < 48 := hO.1 i (by omega)
    have is : vp_in (nI (o i)) 48 := pk_in _ 48 h48
    have ii : vp_in (nI i) 48 := pk_in i 48 (by omega)
    have px : (0 : Int32) ≤ nI (o i) := nI_pos' (by omega)
    have py : (0 : Int32) ≤ nI i := nI_pos' (by omega)
    have cx : (nI (o i)).toNatClampNeg = o i := nI_clamp (by omega)
    have cy : (nI i).toNatClampNeg = i := nI_clamp (by omega)
    obtain ⟨p1, p2, p3, p4, p5, p6⟩ := hP i hi
    have hL : tw_L o N (o i) := ⟨i, hi, rfl⟩
    by_cases hs : sr (o i) = -1
    · obtain ⟨c1, c2⟩ := hE (o i) hL hs
      obtain ⟨M, hNM⟩ : ∃ M, N = M + 1 := ⟨N - 1, by omega⟩
      have hn : ∀ e, tw_L o N e → ca (o i) ≠ se e := by
        intro e he z
        obtain ⟨j, hj, rfl⟩ := he
        have := (hV.2.1.2 j hj).1
        rw [← z, c1, tw_tm1] at this
        omega
      obtain ⟨zo', za', c, KY, KX⟩ := tw_rmv (Rm := Rm) (G := G) (tr := tr) (la := la) (lb := lb) (lg := lg) (lh := lh) (ct := ct) (t := t) (ru := ru) (s := o i) (r := i) (M := M) n2 (by omega) hNM hV (by omega) rfl c2 (Or.inr hn) hP hzo hza
      refine ⟨c, _, fun post h => HY _ (br_t py (And.intro ii (br_t (by rw [cy, p2]; exact hs) (KY _ h)))), fun post h => HX _ (br_t px (And.intro is (br_t (by rw [cx]; exact hs) (KX _ ?_))))⟩
      intro po' an' sf' ss' cu' q' l' d' hV' g1 g2 g3
      exact h _ (tw_mk (tw_Z_rm hZ hNM (by omega) hV' g1 g2 g3))
    · exact tw_Lk_s (-1) hZ (fun _ h => HX _ (br_t px (And.intro is (br_f (by rw [cx]; exact hs) h)))) (fun _ h => HY _ (br_t py (And.intro ii (br_f (by rw [cy, p2]; exact hs) h))))
  · have nx : ¬ (0 : Int32) ≤ -1 := by decide
    exact tw_Lk_s (-1) hZ (fun _ h => HX _ (br_f nx h)) (fun _ h => HY _ (br_f nx h))
theorem tw_l_deliver (hZ : tw_Z B Lp Rm Tl N Ns G tr op co la lb lg lh se sr ti pa ca po an sb sf ss cu cm ct D o q l d t zs zr zd zt zp zc zo za ru) (hB : B < 2 ^ 29) (x : Int32) : tw_Lk B (fun post => wpX_deliver post (nI Lp, nI Rm, nI Tl, nI N, nI Ns, nI G, tr, op, co, la, lb, lg, lh, se, sr, tw_I D, ti, pa, ca, po, an, sb, sf, ss, tw_I o, tw_I q, tw_I l, tw_I d, cu, cm, ct, tw_I t) x) (fun post => wpY_deliver post (nI Lp, nI Rm, nI Tl, nI G, tr, nI Ns, nI N, zs, zr, zd, zt, zp, zc, zo, za, ru, cm, ct) x) := by
  obtain ⟨⟨n1, n2, n3, n4, n5, n6, n7, n8, n9⟩, hV, hE, hRR, hRY, hP, hzo, hza, htk⟩ := id hZ
  unfold wpX_deliver wpY_deliver
  dsimp only
  by_cases h0 : (0 : Int32) ≤ x
  · rcases tw_fnd (Rm := Rm) (G := G) (tr := tr) (la := la) (lb := lb) (lg := lg) (lh := lh) (ct := ct) (t := t) (zo := zo) (za := za) (ru := ru) (by omega) hV hP (x >>> ((1 : Int32) &&& 31)) with ⟨i, hi, e, HX, HY⟩ | ⟨HX, HY⟩
    · have hO := hV.1
      have h48 : o i < 48 := hO.1 i (by omega)
      have is : vp_in (nI (o i)) 48 := pk_in _ 48 h48
      have ii : vp_in (nI i) 48 := pk_in i 48 (by omega)
      have px : (0 : Int32) ≤ nI (o i) := nI_pos' (by omega)
      have py : (0 : Int32) ≤ nI i := nI_pos' (by omega)
      have cx : (nI (o i)).toNatClampNeg = o i := nI_clamp (by omega)
      have cy : (nI i).toNatClampNeg = i := nI_clamp (by omega)
      have p7 := hzo i hi
      have p8 := hza i hi
      have hL : tw_L o N (o i) := ⟨i, hi, rfl⟩
      obtain ⟨M, hNM⟩ : ∃ M, N = M + 1 := ⟨N - 1, by omega⟩
      have X1 : po (nI (o i)).toNatClampNeg = po (o i) := by rw [cx]
      have X2 : an (nI (o i)).toNatClampNeg = an (o i) := by rw [cx]
      have Y1 : zo (nI i).toNatClampNeg = po (o i) := by rw [cy, p7]
      have Y2 : za (nI i).toNatClampNeg = an (o i) := by rw [cy, p8]
      unfold wpX_deliverPositive wpX_deliverAnti
      dsimp only
      by_cases hb : x &&& 1 = 0
      · by_cases h1 : po (o i) = 1
        · by_cases h2 : an (o i) = 2
          · have hV' := tw_V_fly (by omega) hNM hV (by omega) rfl h1 (by rw [h2]; decide)
            refine ⟨100, _, fun post h => br_t h0 (HY _ (br_t py (br_t hb (And.intro ii (br_t (Y1.trans h1) (And.intro ii (br_t (Y2.trans h2) (tw_y_drop (by omega) hNM (by omega) h)))))))), fun post h => br_t h0 (HX _ (br_t px (br_t hb (And.intro is (br_t (X1.trans h1) (And.intro is (br_t (X2.trans h2) (tw_x_vanish (M := M) (m := i) (by omega) (by omega) hNM hO hV.2.1 rfl ?_))))))))⟩
            refine h _ (tw_mk (tw_Z_rm hZ hNM (by omega) hV' (tw_P2_rm (by omega) hO hNM (by omega) rfl (fun x hx => pk_un hx) hzo) (tw_P2_rm (by omega) hO hNM (by omega) rfl (fun x hx => pk_un hx) hza) ?_))
            intro y hy
            rw [tw_rm_L hO (by omega) (by omega), ← hNM] at hy
            exact ⟨hy.1, fun z => (pk_un (f := po) (x := 0) hy.2).symm.trans z⟩
          · obtain ⟨zo', za', c, KY, KX⟩ := tw_arr (Rm := Rm) (G := G) (tr := tr) (la := la) (lb := lb) (lg := lg) (lh := lh) (ct := ct) (t := t) (ru := ru) (s := o i) (r := i) (zo0 := upd zo i 2) n2 (by omega) hV hi rfl h1 hP hza (fun j hj => by
              by_cases e : j = i
              · subst e; rw [pk_us, if_pos rfl]
              · rw [pk_un e, if_neg e]; exact hzo j hj)
            refine ⟨c, _, fun post h => br_t h0 (HY _ (br_t py (br_t hb (And.intro ii (br_t (Y1.trans h1) (And.intro ii (br_f (fun z => h2 (Y2.symm.trans z)) (And.intro ii (nm_r (tw_ru zo rfl (by omega) rfl) (KY _ h)))))))))), fun post h => br_t h0 (HX _ (br_t px (br_t hb (And.intro is (br_t (X1.trans h1) (And.intro is (br_f (fun z => h2 (X2.symm.trans z)) (KX _ ?_))))))))⟩
            intro po' an' sf' ss' cu' q' l' d' hV' g1 g2 g3
            refine h _ (tw_mk ⟨⟨n1, n2, n3, n4, n5, n6, n7, n8, n9⟩, hV', ?_, hRR, hRY, hP, g1, g2, htk⟩)
            intro y hy hsr
            obtain ⟨c1, c2⟩ := hE y hy hsr
            exact ⟨c1, fun z => c2 (g3 y hy z).2⟩
        · exact tw_Lk_s (-1) hZ (fun _ h => br_t h0 (HX _ (br_t px (br_t hb (And.intro is (br_f (fun z => h1 (X1.symm.trans z)) h)))))) (fun _ h => br_t h0 (HY _ (br_t py (br_t hb (And.intro ii (br_f (fun z => h1 (Y1.symm.trans z)) h))))))
      · by_cases h1 : an (o i) = 1
        · by_cases h2 : po (o i) = 1
          · refine ⟨101, (nI Lp, nI Rm, nI Tl, nI G, tr, nI Ns, nI N, zs, zr, zd, zt, zp, zc, zo, upd za i 2, ru, cm, ct), fun post h => br_t h0 (HY _ (br_t py (br_f hb (And.intro ii (br_t (Y2.trans h1) (And.intro ii (br_t (Y1.trans h2) (And.intro ii (nm_r (tw_ru za rfl (by omega) rfl) h))))))))), fun post h => br_t h0 (HX _ (br_t px (br_f hb (And.intro is (br_t (X2.trans h1) (And.intro is (br_t (X1.trans h2) (And.intro is (nm_r (tw_ru an rfl (by omega) rfl) (h _ (tw_mk ⟨⟨n1, n2, n3, n4, n5, n6, n7, n8, n9⟩, ?_, hE, hRR, hRY, hP, hzo, ?_, htk⟩)))))))))))⟩
            · obtain ⟨hO', hS, hA, hT, hQ, hC⟩ := hV
              refine ⟨hO', hS, hA, ?_, hQ, hC⟩
              intro e he
              obtain ⟨k1, k2, k3, k4⟩ := hT e he
              have key : ∀ y, tw_F1 (tw_L o N) se ti ca an e y → tw_F1 (tw_L o N) se ti ca (upd an (o i) 2) e y := by
                intro y hy
                rcases hy with hy | ⟨s, a1, a2, a3, a4, a5⟩
                · exact Or.inl hy
                · refine Or.inr ⟨s, a1, a2, a3, ?_, a5⟩
                  rw [pk_un ?_]
                  · exact a4
                  · intro z
                    rw [z, h1] at a4
                    exact absurd a4 (by decide)
              refine ⟨key _ k1, key _ k2, ?_, k4⟩
              intro s a1 a2 a3
              by_cases z : s = o i
              · rw [z, pk_us] at a3; exact absurd a3 (by decide)
              · rw [pk_un z] at a3; exact k3 s a1 a2 a3
            · intro j hj
              by_cases e : j = i
              · subst e; rw [pk_us, pk_us]
              · rw [pk_un e, pk_un (fun z => e (hO.2 j i (by omega) (by omega) z))]; exact hza j hj
          · obtain ⟨zo', za', c, KY, KX⟩ := tw_rmv (Rm := Rm) (G := G) (tr := tr) (la := la) (lb := lb) (lg := lg) (lh := lh) (ct := ct) (t := t) (ru := ru) (s := o i) (r := i) (M := M) n2 (by omega) hNM hV (by omega) rfl h2 (Or.inl (by rw [h1]; decide)) hP hzo hza
            refine ⟨c, _, fun post h => br_t h0 (HY _ (br_t py (br_f hb (And.intro ii (br_t (Y2.trans h1) (And.intro ii (br_f (fun z => h2 (Y1.symm.trans z)) (KY _ h)))))))), fun post h => br_t h0 (HX _ (br_t px (br_f hb (And.intro is (br_t (X2.trans h1) (And.intro is (br_f (fun z => h2 (X1.symm.trans z)) (KX _ ?_))))))))⟩
            intro po' an' sf' ss' cu' q' l' d' hV' g1 g2 g3
            exact h _ (tw_mk (tw_Z_rm hZ hNM (by omega) hV' g1 g2 g3))
        · exact tw_Lk_s (-1) hZ (fun _ h => br_t h0 (HX _ (br_t px (br_f hb (And.intro is (br_f (fun z => h1 (X2.symm.trans z)) h)))))) (fun _ h => br_t h0 (HY _ (br_t py (br_f hb (And.intro ii (br_f (fun z => h1 (Y2.symm.trans z)) h))))))
    · have nx : ¬ (0 : Int32) ≤ -1 := by decide
      exact tw_Lk_s (-1) hZ (fun _ h => br_t h0 (HX _ (br_f nx h))) (fun _ h => br_t h0 (HY _ (br_f nx h)))
  · exact tw_Lk_s (-1) hZ (fun _ h => br_f h0 h) (fun _ h => br_f h0 h)
end TWT
end
section
section TWU
variable {B : Nat} {Lp Rm Tl N Ns G : Nat} {tr : Int32} {op co la lb lg lh se sr ti pa ca po an sb sf ss cu cm ct : Nat → Int32} {D o q l d t : Nat → Nat} {zs zr zd zt zp zc zo za ru : Nat → Int32}
theorem tw_l_inject (hZ : tw_Z B Lp Rm Tl N Ns G tr op co la lb lg lh se sr ti pa ca po an sb sf ss cu cm ct D o q l d t zs zr zd zt zp zc zo za ru) (hB : B + 1 < 2 ^ 29) (x y z : Int32) : tw_Lk (B + 1) (fun post => wpX_inject post (nI Lp, nI Rm, nI Tl, nI N, nI Ns, nI G, tr, op, co, la, lb, lg, lh, se, sr, tw_I D, ti, pa, ca, po, an, sb, sf, ss, tw_I o, tw_I q, tw_I l, tw_I d, cu, cm, ct, tw_I t) x y z) (fun post => wpY_inject post (nI Lp, nI Rm, nI Tl, nI G, tr, nI Ns, nI N, zs, zr, zd, zt, zp, zc, zo, za, ru, cm, ct) x y z) := by
  obtain ⟨⟨n1, n2, n3, n4, n5, n6, n7, n8, n9⟩, hV, hE, hRR, hRY, hP, hzo, hza, htk⟩ := id hZ
  have hZ' : tw_Z (B + 1) Lp Rm Tl N Ns G tr op co la lb lg lh se sr ti pa ca po an sb sf ss cu cm ct D o q l d t zs zr zd zt zp zc zo za ru := tw_Z_up (by omega) hZ
  unfold wpX_inject wpY_inject
  dsimp only
  rcases pk_ix x (n := Lp) (by omega) with h | h | ⟨p, hp, rfl⟩
  · exact tw_Lk_s (-1) hZ' (fun _ hh => tw_x_isLp_f (Or.inl h) (br_t rfl hh)) (fun _ hh => tw_y_isLp_f (Or.inl h) (br_t rfl hh))
  · exact tw_Lk_s (-1) hZ' (fun _ hh => tw_x_isLp_f (Or.inr h) (br_t rfl hh)) (fun _ hh => tw_y_isLp_f (Or.inr h) (br_t rfl hh))
  · have n0 : ¬ (1 : Int32) = 0 := by decide
    by_cases g1 : y < nI G
    · exact tw_Lk_s (-2) hZ' (fun _ hh => tw_x_isLp_t n2 hp (br_f n0 (br_t g1 hh))) (fun _ hh => tw_y_isLp_t n2 hp (br_f n0 (br_t g1 hh)))
    · by_cases g2 : y < nI Tl
      · by_cases g3 : N < Rm
        · have g3' : nI N < nI Rm := nI_lt g3 (by omega)
          obtain ⟨s, hs⟩ : ∃ s, o N = s := ⟨_, rfl⟩
          have hs8 : s < 48 := by rw [← hs]; exact hV.1.1 N (by omega)
          have hy : 0 ≤ y.toInt ∧ y.toInt < Tl := by
            rw [Int32.lt_iff_toInt_lt, nI_toInt (by omega)] at g1 g2
            omega
          have hn : ¬ tw_L o N s := by rw [← hs]; exact tw_mk_n hV.1 (by omega)
          have hT' := tw_make_T (s := s) (Ns := Ns) (tv := y) (cv := -1) (pv := 1) hV.2.2.2.1 hn (fun e he => by
            obtain ⟨i, hi, rfl⟩ := he
            exact hV.2.1.2 i hi) (fun e he => (hV.2.2.1 e he).2.2.2.1) (by omega) rfl
          have hV1 := tw_V_mk (rv := -1) (wv := z) hV (by omega) (by omega) hs hp hy (by rw [tw_tm1]; omega) hT'
          have hP1 := tw_P1_mk (dv := p) (rv := -1) (tv := y) (wv := z) (cv := -1) (nv := nI Ns) hV.1 (by omega) hs hP
          have hza1 := tw_P2_mk (v := 0) hV.1 (by omega) hs hza
          have hne : ∀ i, i < N → o i ≠ s := fun i hi w => by
            have := hV.1.2 i N (by omega) (by omega) (w.trans hs.symm)
            omega
          obtain ⟨zo', za', c, KY, KX⟩ := tw_arr (Rm := Rm) (G := G) (tr := tr) (la := la) (lb := lb) (lg := lg) (lh := lh) (ct := ct) (t := t) (ru := ru) (s := s) (r := N) (zo0 := upd zo N 2) n2 (by omega) hV1 (by omega) hs pk_us hP1 hza1 (fun j hj => by
            by_cases e : j = N
            · subst e; rw [pk_us, if_pos rfl]
            · rw [pk_un e, if_neg e, pk_un (hne j (by omega))]; exact hzo j (by omega))
          refine ⟨nI Ns, (nI Lp, nI Rm, nI Tl, nI G, tr, nI (Ns + 1), nI (N + 1), upd zs N (nI Ns), upd zr N (-1), upd zd N (nI p), upd zt N y, upd zp N z, upd zc N (-1), zo', za', ru, cm, ct), fun post h => tw_y_isLp_t n2 hp (br_f n0 (br_f g1 (br_t g2 (br_t g3' (tw_y_make (by omega) ?_))))), fun post h => tw_x_isLp_t n2 hp (br_f n0 (br_f g1 (br_t g2 (br_t g3' (tw_x_make (by omega) hs hs8 (KX _ ?_))))))⟩
          · dsimp only
            rw [nI_pred N]
            refine KY _ (And.intro (pk_in N 48 (by omega) (nI_pred N)) ?_)
            dsimp only
            rw [nI_pred N, nI_clamp (show N < 2 ^ 31 by omega), pk_us]
            exact h
          · intro po' an' sf' ss' cu' q' l' d' hV' k1 k2 k3
            refine And.intro (pk_in s 48 hs8) ?_
            dsimp only
            rw [nI_clamp (show s < 2 ^ 31 by omega), pk_us]
            refine h _ (tw_mk ⟨⟨n1, n2, n3, n4, n5, n6, by omega, by omega, n9⟩, hV', ?_, hRR, hRY, hP1, k1, k2, htk⟩)
            intro e he hr
            by_cases w : e = s
            · subst w
              exact ⟨pk_us, fun v => (k3 e he v).1 rfl⟩
            · rw [pk_un w] at hr
              rw [pk_un w]
              have he' : tw_L o N e := by
                rw [tw_mk_L, hs] at he
                exact he.resolve_right w
              obtain ⟨c1, c2⟩ := hE e he' hr
              refine ⟨c1, fun v => c2 ?_⟩
              have := (k3 e he v).2
              rw [pk_un w] at this
              exact this
        · have g3' : ¬ nI N < nI Rm := nI_nlt (by omega) (by omega)
          exact tw_Lk_s (-3) hZ' (fun _ hh => tw_x_isLp_t n2 hp (br_f n0 (br_f g1 (br_t g2 (br_f g3' hh))))) (fun _ hh => tw_y_isLp_t n2 hp (br_f n0 (br_f g1 (br_t g2 (br_f g3' hh)))))
      · exact tw_Lk_s (-2) hZ' (fun _ hh => tw_x_isLp_t n2 hp (br_f n0 (br_f g1 (br_f g2 hh)))) (fun _ hh => tw_y_isLp_t n2 hp (br_f n0 (br_f g1 (br_f g2 hh))))
end TWU
end
section
section TWV
variable {B : Nat} {Lp Rm Tl N Ns G : Nat} {tr : Int32} {op co la lb lg lh se sr ti pa ca po an sb sf ss cu cm ct : Nat → Int32} {D o q l d t : Nat → Nat} {zs zr zd zt zp zc zo za ru : Nat → Int32}
/-! SETTLE -/
def tw_hb (h : Nat → Int32) (i m : Nat) : Prop := (h i).toInt < (h m).toInt ∨ ((h i).toInt = (h m).toInt ∧ i < m)
theorem tw_hb_irr {h : Nat → Int32} {i : Nat} : ¬ tw_hb h i i := by unfold tw_hb; omega
theorem tw_hb_tr {h : Nat → Int32} {i j k : Nat} : tw_hb h i j → tw_hb h j k → tw_hb h i k := by unfold tw_hb; omega
theorem tw_x_fpl {post : Int32 → Prop} (hL4 : Lp ≤ 4) (hl : ∀ p, p < Lp → l p ≤ 48) (hdl : ∀ p, p < Lp → d p ≤ l p) (hq : ∀ p, p < Lp → d p < l p → q (48 * p + d p) < 48)
    (e0 : (∀ p, p < Lp → ¬ d p < l p) → post (-1))
    (e1 : ∀ b, b < Lp → d b < l b → (∀ p, p < Lp → d p < l p → ¬ tw_hb (fun p => ti (q (48 * p + d p))) p b) → post (nI b)) : wpX_firstPendingLp post (nI Lp, nI Rm, nI Tl, nI N, nI Ns, nI G, tr, op, co, la, lb, lg, lh, se, sr, tw_I D, ti, pa, ca, po, an, sb, sf, ss, tw_I o, tw_I q, tw_I l, tw_I d, cu, cm, ct, tw_I t) := by
  refine ⟨Lp + 1, ?_⟩
  have K := tw_min (fun n x1 x3 => ∀ x2 : Int32, (∀ b, b < 4 → x1 = nI b → x2 = ti (q (48 * b + d b))) → wX_firstPendingLp_6 post (nI Lp) (nI Rm) (nI Tl) (nI N) (nI Ns) (nI G) tr op co la lb lg lh se sr (tw_I D) ti pa ca po an sb sf ss (tw_I o) (tw_I q) (tw_I l) (tw_I d) cu cm ct (tw_I t) n x1 x2 x3) (fun p => d p < l p) (tw_hb (fun p => ti (q (48 * p + d p)))) Lp (fun _ => tw_hb_irr) (fun _ _ _ => tw_hb_tr) ?_ ?_ ?_ ?_ ?_ ?_
  · exact K 0 (fun b hb z => absurd z.symm (tw_n1 (by omega)))
  · intro n x i hi hn hW x2 h2
    have ii : vp_in (nI i) 4 := pk_in i 4 (by omega)
    have h1 := hl i hi
    have h3 := hdl i hi
    refine pk_le Lp i (fun z => absurd z (by omega)) (fun _ => And.intro ii (And.intro ii ?_))
    rw [tw_rd l rfl (show i < 2 ^ 31 by omega), tw_rd d rfl (show i < 2 ^ 31 by omega)]
    exact br_t (nI_le (by omega) (by omega)) (nm_r (nI_1 i) (hW x2 h2))
  all_goals
    have hP : ∀ n x1 x2 i, i < Lp → d i < l i →
        ((x1 < 0 → ∀ x3' : Int32, x3' = nI i + 1 → wX_firstPendingLp_6 post (nI Lp) (nI Rm) (nI Tl) (nI N) (nI Ns) (nI G) tr op co la lb lg lh se sr (tw_I D) ti pa ca po an sb sf ss (tw_I o) (tw_I q) (tw_I l) (tw_I d) cu cm ct (tw_I t) n (nI i) (ti (q (48 * i + d i))) x3') ∧ (¬ x1 < 0 → ((x2 ≤ ti (q (48 * i + d i)) → ∀ x3' : Int32, x3' = nI i + 1 → wX_firstPendingLp_6 post (nI Lp) (nI Rm) (nI Tl) (nI N) (nI Ns) (nI G) tr op co la lb lg lh se sr (tw_I D) ti pa ca po an sb sf ss (tw_I o) (tw_I q) (tw_I l) (tw_I d) cu cm ct (tw_I t) n x1 x2 x3') ∧ (¬ x2 ≤ ti (q (48 * i + d i)) → ∀ x3' : Int32, x3' = nI i + 1 → wX_firstPendingLp_6 post (nI Lp) (nI Rm) (nI Tl) (nI N) (nI Ns) (nI G) tr op co la lb lg lh se sr (tw_I D) ti pa ca po an sb sf ss (tw_I o) (tw_I q) (tw_I l) (tw_I d) cu cm ct (tw_I t) n (nI i) (ti (q (48 * i + d i))) x3')))) →
        wX_firstPendingLp_6 post (nI Lp) (nI Rm) (nI Tl) (nI N) (nI Ns) (nI G) tr op co la lb lg lh se sr (tw_I D) ti pa ca po an sb sf ss (tw_I o) (tw_I q) (tw_I l) (tw_I d) cu cm ct (tw_I t) (n + 1) x1 x2 (nI i) := by
      intro n x1 x2 i hi hp H
      have ii : vp_in (nI i) 4 := pk_in i 4 (by omega)
      have h1 := hl i hi
      have h3 := hdl i hi
      have h8 := hq i hi hp
      have eq : nI (48 * i) + nI (d i) = nI (48 * i + d i) := nI_add _ _
      refine pk_le Lp i (fun z => absurd z (by omega)) (fun _ => And.intro ii (And.intro ii ?_))
      rw [tw_rd l rfl (show i < 2 ^ 31 by omega), tw_rd d rfl (show i < 2 ^ 31 by omega), tw_m48, tw_rd q eq (by omega), nI_clamp (show q (48 * i + d i) < 2 ^ 31 by omega)]
      exact br_f (nI_ge hp (by omega)) (And.intro ii (And.intro (pk_in _ 192 (by omega) eq) (And.intro (pk_in _ 48 h8) (nm_e H))))
  · intro n i hi hp hW x2 _
    exact hP n _ x2 i hi hp (br_t (by decide) (nm_r (nI_1 i) (hW _ (fun b hb z => by rw [tw_inj z (by omega) (by omega)]))))
  · intro n m i hm hi hp hb hW x2 h2
    refine hP n _ x2 i hi hp (br_f (nI_pos (by omega)) (br_f ?_ (nm_r (nI_1 i) (hW _ (fun b hb z => by rw [tw_inj z (by omega) (by omega)])))))
    rw [h2 m (by omega) rfl, Int32.le_iff_toInt_le]
    unfold tw_hb at hb
    dsimp only at hb
    omega
  · intro n m i hm hi hp hb hW x2 h2
    refine hP n _ x2 i hi hp (br_f (nI_pos (by omega)) (br_t ?_ (nm_r (nI_1 i) (hW _ h2))))
    rw [h2 m (by omega) rfl, Int32.le_iff_toInt_le]
    unfold tw_hb at hb
    dsimp only at hb
    omega
  · intro n hn x2 _
    exact pk_le Lp Lp (fun _ => e0 hn) (fun z => absurd z (by omega))
  · intro n m hm hp hmin x2 _
    exact pk_le Lp Lp (fun _ => e1 m hm hp hmin) (fun z => absurd z (by omega))
theorem tw_y_se44 {post : Int32 → SY → Prop} {J : Int32 → Int32 → Int32 → Int32 → Int32 → Int32 → Int32 → Int32 → Int32 → (Nat → Int32) → (Nat → Int32) → (Nat → Int32) → (Nat → Int32) → (Nat → Int32) → (Nat → Int32) → (Nat → Int32) → (Nat → Int32) → (Nat → Int32) → (Nat → Int32) → (Nat → Int32) → Prop} {x1 x2 x3 : Int32} (hN : N ≤ 48)
    (e0 : (∀ i, i < N → ¬ zo i = 2) → post x2 (nI Lp, nI Rm, nI Tl, nI G, tr, nI Ns, nI N, zs, zr, zd, zt, zp, zc, zo, za, ru, cm, ct))
    (e1 : ∀ n m, m < N → zo m = 2 → (∀ i, i < N → zo i = 2 → ¬ tw_b zt zd zr zp zs i m) → wY_settle_44 post J x1 x2 x3 (nI Lp) (nI Rm) (nI Tl) (nI G) tr (nI Ns) (nI N) zs zr zd zt zp zc zo za ru cm ct (n + 1) (nI m) (nI N)) :
    ∃ n, wY_settle_44 post J x1 x2 x3 (nI Lp) (nI Rm) (nI Tl) (nI G) tr (nI Ns) (nI N) zs zr zd zt zp zc zo za ru cm ct n (-1) 0 := by
  refine ⟨N + 1, tw_min (fun n x5 x6 => wY_settle_44 post J x1 x2 x3 (nI Lp) (nI Rm) (nI Tl) (nI G) tr (nI Ns) (nI N) zs zr zd zt zp zc zo za ru cm ct n x5 x6) (fun i => zo i = 2) (tw_b zt zd zr zp zs) N (fun _ => tw_b_irr) (fun _ _ _ => tw_b_tr) ?_ ?_ ?_ ?_ ?_ e1⟩
  · intro n x i hi hn hW
    have ii : vp_in (nI i) 48 := pk_in i 48 (by omega)
    have ci : (nI i).toNatClampNeg = i := nI_clamp (by omega)
    refine pk_le N i (fun z => absurd z (by omega)) (fun _ => And.intro ii ?_)
    rw [ci]
    exact br_f hn (nm_r (nI_1 i) hW)
  · intro n i hi hp hW
    have ii : vp_in (nI i) 48 := pk_in i 48 (by omega)
    have ci : (nI i).toNatClampNeg = i := nI_clamp (by omega)
    refine pk_le N i (fun z => absurd z (by omega)) (fun _ => And.intro ii ?_)
    rw [ci]
    exact br_t hp (br_t (by decide) (nm_r (nI_1 i) hW))
  · intro n m i hm hi hp hb hW
    have ii : vp_in (nI i) 48 := pk_in i 48 (by omega)
    have ci : (nI i).toNatClampNeg = i := nI_clamp (by omega)
    refine pk_le N i (fun z => absurd z (by omega)) (fun _ => And.intro ii ?_)
    rw [ci]
    exact br_t hp (br_f (nI_pos (by omega)) (tw_y_before (by omega) (by omega) (fun _ => br_f (by decide) (nm_r (nI_1 i) hW)) (fun w => absurd hb w)))
  · intro n m i hm hi hp hb hW
    have ii : vp_in (nI i) 48 := pk_in i 48 (by omega)
    have ci : (nI i).toNatClampNeg = i := nI_clamp (by omega)
    refine pk_le N i (fun z => absurd z (by omega)) (fun _ => And.intro ii ?_)
    rw [ci]
    exact br_t hp (br_f (nI_pos (by omega)) (tw_y_before (by omega) (by omega) (fun w => absurd w hb) (fun _ => br_t rfl (nm_r (nI_1 i) hW))))
  · intro n hn
    exact pk_le N N (fun _ => br_f (by decide) (e0 hn)) (fun z => absurd z (by omega))
/-- both searches for the first ARRIVED event find one of the same LP -/
theorem tw_V_same (hL4 : Lp ≤ 4) (hV : tw_V Lp Tl N Ns op co se sr ti pa ca po an sb sf ss cu cm D o q l d) (hP : tw_P1 N o se sr D ti pa ca zs zr zd zt zp zc) (hzo : tw_P2 N o po zo) {b m : Nat} (hb : b < Lp) (hbd : d b < l b) (hbm : ∀ p, p < Lp → d p < l p → ¬ tw_hb (fun p => ti (q (48 * p + d p))) p b)
    (hm : m < N) (hz : zo m = 2) (hmin : ∀ i, i < N → zo i = 2 → ¬ tw_b zt zd zr zp zs i m) : zd m = nI b := by
  have hLm : tw_L o N (o m) := ⟨m, hm, rfl⟩
  have hDm := (hV.2.2.1 (o m) hLm).1
  have hzd : zd m = nI (D (o m)) := (hP m hm).2.2.1
  obtain ⟨j, h1, h2, h3⟩ := tw_V_arr hL4 hV hP hzo hDm hm hzd hz
  obtain ⟨i, hi, ei, z1, z2⟩ := tw_V_row hV hP hzo hb hbd
  rw [if_neg (by omega)] at z2
  have k1 := hmin i hi z2
  rw [tw_P1_b hP hi hm, ei] at k1
  have k2 := hbm (D (o m)) hDm (by omega)
  by_cases e : D (o m) = b
  · rw [hzd, e]
  · exfalso
    have hj : j = d (D (o m)) := by
      by_cases w : j = d (D (o m))
      · exact w
      · obtain ⟨i', hi', ei', y1, y2⟩ := tw_V_row hV hP hzo hDm (show d (D (o m)) < l (D (o m)) by omega)
        rw [if_neg (by omega)] at y2
        refine absurd ?_ (hmin i' hi' y2)
        rw [tw_P1_b hP hi' hm, ei']
        have h5 := (hV.2.2.2.2.1.1 _ hDm).2.2 (d (D (o m))) j (by omega) h2
        rw [h3] at h5
        exact h5
    rw [hj] at h3
    have hDb : D (q (48 * b + d b)) = b := ((hV.2.2.2.2.1.1 b hb).2.1 (d b) hbd).2.1
    unfold tw_hb at k2
    dsimp only at k2
    rw [h3] at k2
    apply k1
    have e1 : (tw_I D (q (48 * b + d b))).toInt = (b : Int) := by
      unfold tw_I
      rw [hDb]; exact nI_toInt (by omega)
    have e2 : (tw_I D (o m)).toInt = (D (o m) : Int) := nI_toInt (by omega)
    unfold tw_b
    omega
def tw_sX (post : Int32 → SX → Prop) (x2 : Int32) (n : Nat) (x3 : Int32) (u : SX) : Prop := wX_settle_10 post x2 n x3 u.1 u.2.1 u.2.2.1 u.2.2.2.1 u.2.2.2.2.1 u.2.2.2.2.2.1 u.2.2.2.2.2.2.1 u.2.2.2.2.2.2.2.1 u.2.2.2.2.2.2.2.2.1 u.2.2.2.2.2.2.2.2.2.1 u.2.2.2.2.2.2.2.2.2.2.1 u.2.2.2.2.2.2.2.2.2.2.2.1 u.2.2.2.2.2.2.2.2.2.2.2.2.1 u.2.2.2.2.2.2.2.2.2.2.2.2.2.1 u.2.2.2.2.2.2.2.2.2.2.2.2.2.2.1 u.2.2.2.2.2.2.2.2.2.2.2.2.2.2.2.1 u.2.2.2.2.2.2.2.2.2.2.2.2.2.2.2.2.1 u.2.2.2.2.2.2.2.2.2.2.2.2.2.2.2.2.2.1 u.2.2.2.2.2.2.2.2.2.2.2.2.2.2.2.2.2.2.1 u.2.2.2.2.2.2.2.2.2.2.2.2.2.2.2.2.2.2.2.1 u.2.2.2.2.2.2.2.2.2.2.2.2.2.2.2.2.2.2.2.2.1 u.2.2.2.2.2.2.2.2.2.2.2.2.2.2.2.2.2.2.2.2.2.1 u.2.2.2.2.2.2.2.2.2.2.2.2.2.2.2.2.2.2.2.2.2.2.1 u.2.2.2.2.2.2.2.2.2.2.2.2.2.2.2.2.2.2.2.2.2.2.2.1 u.2.2.2.2.2.2.2.2.2.2.2.2.2.2.2.2.2.2.2.2.2.2.2.2.1 u.2.2.2.2.2.2.2.2.2.2.2.2.2.2.2.2.2.2.2.2.2.2.2.2.2.1 u.2.2.2.2.2.2.2.2.2.2.2.2.2.2.2.2.2.2.2.2.2.2.2.2.2.2.1 u.2.2.2.2.2.2.2.2.2.2.2.2.2.2.2.2.2.2.2.2.2.2.2.2.2.2.2.1 u.2.2.2.2.2.2.2.2.2.2.2.2.2.2.2.2.2.2.2.2.2.2.2.2.2.2.2.2.1 u.2.2.2.2.2.2.2.2.2.2.2.2.2.2.2.2.2.2.2.2.2.2.2.2.2.2.2.2.2.1 u.2.2.2.2.2.2.2.2.2.2.2.2.2.2.2.2.2.2.2.2.2.2.2.2.2.2.2.2.2.2.1 u.2.2.2.2.2.2.2.2.2.2.2.2.2.2.2.2.2.2.2.2.2.2.2.2.2.2.2.2.2.2.2
def tw_sY (post : Int32 → SY → Prop) (x1 : Int32) (n : Nat) (x2 : Int32) (u : SY) : Prop := wY_settle_4 post x1 n x2 x2 u.1 u.2.1 u.2.2.1 u.2.2.2.1 u.2.2.2.2.1 u.2.2.2.2.2.1 u.2.2.2.2.2.2.1 u.2.2.2.2.2.2.2.1 u.2.2.2.2.2.2.2.2.1 u.2.2.2.2.2.2.2.2.2.1 u.2.2.2.2.2.2.2.2.2.2.1 u.2.2.2.2.2.2.2.2.2.2.2.1 u.2.2.2.2.2.2.2.2.2.2.2.2.1 u.2.2.2.2.2.2.2.2.2.2.2.2.2.1 u.2.2.2.2.2.2.2.2.2.2.2.2.2.2.1 u.2.2.2.2.2.2.2.2.2.2.2.2.2.2.2.1 u.2.2.2.2.2.2.2.2.2.2.2.2.2.2.2.2.1 u.2.2.2.2.2.2.2.2.2.2.2.2.2.2.2.2.2
theorem tw_se_loop {x : Int32} {w Bf : Nat} {S : (Int32 → SY → Prop) → Prop} (hw : w ≤ 16) (hBf : Bf + 2 < 2 ^ 29) (hx1 : ∀ a, a < w → ¬ x ≤ nI a) (hx2 : x ≤ nI w ∨ w = 16) :
    ∀ k a B (u : SX) (v : SY), a + k = w → B + 2 * k ≤ Bf → tw_Rel B u v → (∀ post : Int32 → SY → Prop, tw_sY post x (k + 1) (nI a) v → S post) → tw_sX (fun r u' => S (fun r' v' => r' = r ∧ tw_Rel Bf u' v')) (nI w) (k + 1) (nI a) u := by
  intro k
  induction k with
  | zero =>
    intro a B u v ha hB hR HS
    have : a = w := by omega
    subst this
    refine pk_le a a (fun _ => HS _ ?_) (fun z => absurd z (by omega))
    have hend : (nI a = nI a ∧ tw_Rel Bf u v) := ⟨rfl, tw_Rel_up (by omega) hR⟩
    rcases hx2 with h | h
    · exact br_t h hend
    · subst h
      exact br_c (fun _ => hend) (fun _ => br_t (by decide) hend)
  | succ k ih =>
    intro a B u v ha hB hR
    refine tw_el (P := fun u v => (∀ post : Int32 → SY → Prop, tw_sY post x (k + 1 + 1) (nI a) v → S post) → tw_sX (fun r u' => S (fun r' v' => r' = r ∧ tw_Rel Bf u' v')) (nI w) (k + 1 + 1) (nI a) u) ?_ hR
    intro Lp Rm Tl N Ns G tr op co la lb lg lh se sr ti pa ca po an sb sf ss cu cm ct D o q l d t zs zr zd zt zp zc zo za ru hZ HS0
    have HS : ∀ post : Int32 → SY → Prop, wY_settle_4 post x (k + 1 + 1) (nI a) (nI a) (nI Lp) (nI Rm) (nI Tl) (nI G) tr (nI Ns) (nI N) zs zr zd zt zp zc zo za ru cm ct → S post := HS0
    show wX_settle_10 (fun r u' => S (fun r' v' => r' = r ∧ tw_Rel Bf u' v')) (nI w) (k + 1 + 1) (nI a) (nI Lp) (nI Rm) (nI Tl) (nI N) (nI Ns) (nI G) tr op co la lb lg lh se sr (tw_I D) ti pa ca po an sb sf ss (tw_I o) (tw_I q) (tw_I l) (tw_I d) cu cm ct (tw_I t)
    obtain ⟨⟨n1, n2, n3, n4, n5, n6, n7, n8, n9⟩, hV, hE, hRR, hRY, hP, hzo, hza, htk⟩ := id hZ
    have ya : ¬ x ≤ nI a := hx1 a (by omega)
    have y16 : ¬ (16 : Int32) ≤ nI a := nI_ge (b := 16) (by omega) (by decide)
    refine pk_le w a (fun z => absurd z (by omega)) (fun _ => ?_)
    obtain ⟨c, FX, FY⟩ := tw_r_fly hZ 0
    refine FX _ ?_
    by_cases hc : c = -1
    · refine br_t hc (tw_x_fpl n2 (tw_V_l48 (by omega) hV) (tw_V_dl hV) ?_ ?_ ?_)
      · intro p hp hd
        exact tw_L48 hV.1 (by omega) ((hV.2.2.2.2.1.1 p hp).2.1 (d p) hd).1
      · intro hnone
        refine br_f (by decide) (HS _ (br_f ya (br_f y16 (FY _ (br_t hc (tw_y_se44 (by omega) (fun _ => ?_) ?_))))))
        · exact ⟨rfl, tw_mk (tw_Z_up (by omega) hZ)⟩
        · intro n m hm hz _
          exfalso
          have hLm : tw_L o N (o m) := ⟨m, hm, rfl⟩
          have hDm := (hV.2.2.1 (o m) hLm).1
          obtain ⟨j, h1, h2, h3⟩ := tw_V_arr n2 hV hP hzo hDm hm (hP m hm).2.2.1 hz
          exact hnone _ hDm (by omega)
      · intro b hb hbd hbm
        obtain ⟨r, v', hr, HY, HX⟩ := tw_l_step1 hZ (by omega) hb hbd
        refine br_t (nI_pos' (by omega)) (HX _ ?_)
        intro u' hR'
        have KY : ∀ post : Int32 → SY → Prop, ((r = -3 → post (nI a) v') ∧ (¬ r = -3 → tw_sY post x (k + 1) (nI (a + 1)) v')) → S post := by
          intro post H
          refine HS post (br_f ya (br_f y16 (FY _ (br_t hc (tw_y_se44 (by omega) ?_ ?_)))))
          · intro hnone
            exfalso
            obtain ⟨i, hi, ei, z1, z2⟩ := tw_V_row hV hP hzo hb hbd
            rw [if_neg (by omega)] at z2
            exact hnone i hi z2
          · intro n m hm hz hmin
            have e1 := tw_V_same n2 hV hP hzo hb hbd hbm hm hz hmin
            refine pk_le N N (fun _ => br_t (nI_pos' (by omega)) (And.intro (pk_in m 48 (by omega)) ?_)) (fun z => absurd z (by omega))
            rw [nI_clamp (show m < 2 ^ 31 by omega), e1]
            refine HY _ (br_c (fun z => H.1 z) (fun z => ?_))
            exact nm_r (nI_1 a) (nm_r (nI_1 a) (H.2 z))
        rcases hr with hr | hr
        · refine br_f (by rw [hr]; decide) (KY _ (br_t hr ?_))
          exact ⟨rfl, tw_Rel_up (by omega) hR'⟩
        · refine br_t hr (nm_r (nI_1 a) ?_)
          refine ih (a + 1) (B + 2) u' v' (by omega) (by omega) hR' (fun post H => KY post (br_f ?_ H))
          intro z
          rw [z] at hr
          exact absurd hr (by decide)
    · obtain ⟨r, v', HY, HX⟩ := tw_l_deliver hZ (by omega) c
      refine br_f hc (HX _ ?_)
      intro u' hR'
      refine nm_r (nI_1 a) (ih (a + 1) (B + 2) u' v' (by omega) (by omega) (tw_Rel_up (by omega) hR') (fun post H => HS post (br_f ya (br_f y16 (FY _ (br_f hc (HY _ ?_)))))))
      exact nm_r (nI_1 a) (nm_r (nI_1 a) H)
theorem tw_settle {u : SX} {v : SY} {x : Int32} {Bf : Nat} (hBf : B + 32 ≤ Bf) (hB : Bf + 2 < 2 ^ 29) (hR : tw_Rel B u v) : wpX_settle (fun r u' => wpY_settle (fun r' v' => r' = r ∧ tw_Rel Bf u' v') v x) u x := by
  have main : ∀ w, w ≤ 16 → (∀ a, a < w → ¬ x ≤ nI a) → (x ≤ nI w ∨ w = 16) → ∃ n, tw_sX (fun r u' => wpY_settle (fun r' v' => r' = r ∧ tw_Rel Bf u' v') v x) (nI w) n 0 u := by
    intro w hw h1 h2
    exact ⟨w + 1, tw_se_loop (S := fun post => wpY_settle post v x) hw hB h1 h2 w 0 B u v (by omega) (by omega) hR (fun post H => ⟨w + 1, H⟩)⟩
  have c16 : (16 : Int32).toInt = 16 := by decide
  by_cases h0 : (0 : Int32) ≤ x
  · by_cases h1 : x ≤ 16
    · obtain ⟨w, hw, e⟩ := nI_of2 (n := 16) c16 (Int32.not_lt.mpr h0) h1
      have := main w hw (fun a ha => by rw [e]; exact nI_ge ha (by omega)) (Or.inl (by rw [e]; exact Int32.le_refl _))
      rw [← e] at this
      exact br_t h0 (br_t h1 this)
    · have := main 16 (Nat.le_refl _) (fun a ha z => by
        rw [Int32.le_iff_toInt_le, nI_toInt (by omega)] at z
        rw [Int32.le_iff_toInt_le, c16] at h1
        omega) (Or.inr rfl)
      exact br_t h0 (br_f h1 this)
  · have := main 0 (by omega) (fun a ha => absurd ha (by omega)) (Or.inl (by
      rw [nI_0]
      rcases Int32.le_total x 0 with h | h
      · exact h
      · exact absurd h h0))
    exact br_f h0 this
end TWV
end
section
section TWW
variable {B : Nat} {Lp Rm Tl N Ns G : Nat} {tr : Int32} {op co la lb lg lh se sr ti pa ca po an sb sf ss cu cm ct : Nat → Int32} {D o q l d t : Nat → Nat} {zs zr zd zt zp zc zo za ru : Nat → Int32}
/-! ADVANCE: the new gvt -/
def tw_gi (Tl : Nat) (o : Nat → Nat) (ti po an : Nat → Int32) (a g : Int32) (i : Nat) : Prop :=
  -1 ≤ a.toInt ∧ a.toInt < Tl ∧ -1 ≤ g.toInt ∧ g.toInt < Tl ∧ (∀ j, j < i → (po (o j) ≠ 3 ∨ an (o j) = 1) → 0 ≤ a.toInt ∧ a.toInt ≤ (ti (o j)).toInt) ∧ ∀ j, j < i → (ti (o j)).toInt ≤ g.toInt
theorem tw_gvt6 (hN : N ≤ 48) (hT : Tl ≤ 1000) (hV : tw_V Lp Tl N Ns op co se sr ti pa ca po an sb sf ss cu cm D o q l d) (hP : tw_P1 N o se sr D ti pa ca zs zr zd zt zp zc) (hzo : tw_P2 N o po zo) (hza : tw_P2 N o an za) :
    ∀ k i a g, i + k = N → tw_gi Tl o ti po an a g i → ∃ a' g', tw_gi Tl o ti po an a' g' N ∧
      (∀ post : Int32 → Prop, wX_nextGvt_6 post (nI Lp) (nI Rm) (nI Tl) (nI N) (nI Ns) (nI G) tr op co la lb lg lh se sr (tw_I D) ti pa ca po an sb sf ss (tw_I o) (tw_I q) (tw_I l) (tw_I d) cu cm ct (tw_I t) 1 a' g' (nI N) → wX_nextGvt_6 post (nI Lp) (nI Rm) (nI Tl) (nI N) (nI Ns) (nI G) tr op co la lb lg lh se sr (tw_I D) ti pa ca po an sb sf ss (tw_I o) (tw_I q) (tw_I l) (tw_I d) cu cm ct (tw_I t) (k + 1) a g (nI i)) ∧
      ∀ post : Int32 → SY → Prop, wY_advance_6 post (nI Lp) (nI Rm) (nI Tl) (nI G) tr (nI Ns) (nI N) zs zr zd zt zp zc zo za ru cm ct 1 a' g' (nI N) → wY_advance_6 post (nI Lp) (nI Rm) (nI Tl) (nI G) tr (nI Ns) (nI N) zs zr zd zt zp zc zo za ru cm ct (k + 1) a g (nI i) := by
  intro k
  induction k with
  | zero =>
    intro i a g hi hg
    have : i = N := by omega
    subst this
    exact ⟨a, g, hg, fun post h => h, fun post h => h⟩
  | succ k ih =>
    intro i a g hi hg
    obtain ⟨g1, g2, g3, g4, g5, g6⟩ := hg
    have hLi : tw_L o N (o i) := ⟨i, by omega, rfl⟩
    obtain ⟨b1, b2, b3, b4, b5⟩ := hV.2.2.1 (o i) hLi
    have hs8 : o i < 48 := hV.1.1 i (by omega)
    have is : vp_in (nI (o i)) 48 := pk_in _ 48 hs8
    have ii : vp_in (nI i) 48 := pk_in i 48 (by omega)
    have cx : (nI (o i)).toNatClampNeg = o i := nI_clamp (by omega)
    have cy : (nI i).toNatClampNeg = i := nI_clamp (by omega)
    have p4 := (hP i (by omega)).2.2.2.1
    have p7 := hzo i (by omega)
    have p8 := hza i (by omega)
    have t0 : (0 : Int32).toInt = 0 := tw_t0
    -- the new greatest
    obtain ⟨g', hgg, G1, G2⟩ : ∃ g' : Int32, (g'.toInt < Tl ∧ g.toInt ≤ g'.toInt ∧ (ti (o i)).toInt ≤ g'.toInt) ∧
        (∀ (Q : Int32 → Prop), Q g' → (ti (o i) ≤ g → Q g) ∧ (¬ ti (o i) ≤ g → Q (ti (o i)))) ∧
        (∀ (J : Int32 → Int32 → Int32 → Prop) (x1 : Int32) (post : Int32 → SY → Prop), J x1 g' (nI (i + 1)) → wY_advance_77 post J x1 g (nI i) (nI Lp) (nI Rm) (nI Tl) (nI G) tr (nI Ns) (nI N) zs zr zd zt zp zc zo za ru cm ct) := by
      by_cases h : ti (o i) ≤ g
      · refine ⟨g, ?_, fun Q q => br_t h q, fun J x1 post hJ => And.intro ii (br_t (by rw [cy, p4]; exact h) (nm_r (nI_1 i) hJ))⟩
        rw [Int32.le_iff_toInt_le] at h
        omega
      · refine ⟨ti (o i), ?_, fun Q q => br_f h q, fun J x1 post hJ => And.intro ii (br_f (by rw [cy, p4]; exact h) (And.intro ii (nm_r (by rw [cy, p4]) (nm_r (nI_1 i) hJ))))⟩
        rw [Int32.le_iff_toInt_le] at h
        omega
    -- the new least
    obtain ⟨a', haa, A1, A2⟩ : ∃ a' : Int32, ((-1 ≤ a'.toInt ∧ a'.toInt < Tl) ∧ (0 ≤ a.toInt → 0 ≤ a'.toInt ∧ a'.toInt ≤ a.toInt) ∧ ((po (o i) ≠ 3 ∨ an (o i) = 1) → 0 ≤ a'.toInt ∧ a'.toInt ≤ (ti (o i)).toInt)) ∧
        (∀ (J : Int32 → Int32 → Int32 → Prop) (x2 : Int32) (post : Int32 → Prop), J a' x2 (nI (i + 1)) → wX_nextGvt_40 post J a x2 (nI i) (nI (o i)) (ti (o i)) (nI Lp) (nI Rm) (nI Tl) (nI N) (nI Ns) (nI G) tr op co la lb lg lh se sr (tw_I D) ti pa ca po an sb sf ss (tw_I o) (tw_I q) (tw_I l) (tw_I d) cu cm ct (tw_I t)) ∧
        (∀ (J : Int32 → Int32 → Int32 → Prop) (post : Int32 → SY → Prop), J a' g' (nI (i + 1)) →
          ((zo (nI i).toNatClampNeg = 1 → wY_advance_44 post J a g (nI i) (nI Lp) (nI Rm) (nI Tl) (nI G) tr (nI Ns) (nI N) zs zr zd zt zp zc zo za ru cm ct) ∧ (¬ zo (nI i).toNatClampNeg = 1 → (vp_in (nI i) 48 ∧ ((zo (nI i).toNatClampNeg = 2 → wY_advance_44 post J a g (nI i) (nI Lp) (nI Rm) (nI Tl) (nI G) tr (nI Ns) (nI N) zs zr zd zt zp zc zo za ru cm ct) ∧ (¬ zo (nI i).toNatClampNeg = 2 → (vp_in (nI i) 48 ∧ ((za (nI i).toNatClampNeg = 1 → wY_advance_44 post J a g (nI i) (nI Lp) (nI Rm) (nI Tl) (nI G) tr (nI Ns) (nI N) zs zr zd zt zp zc zo za ru cm ct) ∧ (¬ za (nI i).toNatClampNeg = 1 → wY_advance_49 post J a g (nI i) 0 (nI Lp) (nI Rm) (nI Tl) (nI G) tr (nI Ns) (nI N) zs zr zd zt zp zc zo za ru cm ct))))))))) := by
      by_cases ho : po (o i) ≠ 3 ∨ an (o i) = 1
      · -- not settled yet: the common part
        obtain ⟨a', ha1, K1, K2⟩ : ∃ a' : Int32, ((-1 ≤ a'.toInt ∧ a'.toInt < Tl) ∧ (0 ≤ a.toInt → 0 ≤ a'.toInt ∧ a'.toInt ≤ a.toInt) ∧ 0 ≤ a'.toInt ∧ a'.toInt ≤ (ti (o i)).toInt) ∧
            (∀ (J : Int32 → Int32 → Int32 → Prop) (x2 : Int32) (post : Int32 → Prop), J a' x2 (nI (i + 1)) → wX_nextGvt_67 post J a x2 (nI i) (ti (o i)) 1 (nI Lp) (nI Rm) (nI Tl) (nI N) (nI Ns) (nI G) tr op co la lb lg lh se sr (tw_I D) ti pa ca po an sb sf ss (tw_I o) (tw_I q) (tw_I l) (tw_I d) cu cm ct (tw_I t)) ∧
            (∀ (J : Int32 → Int32 → Int32 → Prop) (post : Int32 → SY → Prop), J a' g' (nI (i + 1)) → wY_advance_49 post J a g (nI i) 1 (nI Lp) (nI Rm) (nI Tl) (nI G) tr (nI Ns) (nI N) zs zr zd zt zp zc zo za ru cm ct) := by
          by_cases h0 : a < 0
          · refine ⟨ti (o i), ?_, fun J x2 post hJ => br_f (by decide) (br_t h0 (nm_r (nI_1 i) hJ)), fun J post hJ => br_f (by decide) (br_t h0 (And.intro ii (nm_r (by rw [cy, p4]) (G2 J _ post hJ))))⟩
            rw [Int32.lt_iff_toInt_lt, t0] at h0
            omega
          · by_cases h1 : a ≤ ti (o i)
            · refine ⟨a, ?_, fun J x2 post hJ => br_f (by decide) (br_f h0 (br_t h1 (nm_r (nI_1 i) hJ))), fun J post hJ => br_f (by decide) (br_f h0 (And.intro ii (br_t (by rw [cy, p4]; exact h1) (G2 J _ post hJ))))⟩
              rw [Int32.lt_iff_toInt_lt, t0] at h0
              rw [Int32.le_iff_toInt_le] at h1
              omega
            · refine ⟨ti (o i), ?_, fun J x2 post hJ => br_f (by decide) (br_f h0 (br_f h1 (nm_r (nI_1 i) hJ))), fun J post hJ => br_f (by decide) (br_f h0 (And.intro ii (br_f (by rw [cy, p4]; exact h1) (And.intro ii (nm_r (by rw [cy, p4]) (G2 J _ post hJ))))))⟩
              rw [Int32.lt_iff_toInt_lt, t0] at h0
              rw [Int32.le_iff_toInt_le] at h1
              omega
        refine ⟨a', ⟨ha1.1, ha1.2.1, fun _ => ha1.2.2⟩, fun J x2 post hJ => And.intro is ?_, fun J post hJ => ?_⟩
        · rw [cx]
          refine br_c (fun z => And.intro is (br_t ?_ (K1 J x2 post hJ))) (fun z => K1 J x2 post hJ)
          exact ho.resolve_left (fun w => w z)
        · rw [cy, p7, p8]
          refine br_c (fun _ => K2 J post hJ) (fun z1 => And.intro ii (br_c (fun _ => K2 J post hJ) (fun z2 => And.intro ii (br_t ?_ (K2 J post hJ)))))
          refine ho.resolve_left (fun w => w ?_)
          rcases b5 with b5 | b5 | b5
          · exact absurd b5 z1
          · exact absurd b5 z2
          · exact b5
      · have h3 : po (o i) = 3 := by
          by_cases z : po (o i) = 3
          · exact z
          · exact absurd (Or.inl z) ho
        have h1 : ¬ an (o i) = 1 := fun z => ho (Or.inr z)
        refine ⟨a, ⟨⟨g1, g2⟩, fun h => ⟨h, Int.le_refl _⟩, fun z => absurd z ho⟩, fun J x2 post hJ => And.intro is ?_, fun J post hJ => ?_⟩
        · rw [cx]
          exact br_t h3 (And.intro is (br_f h1 (br_t rfl (nm_r (nI_1 i) hJ))))
        · rw [cy, p7, p8]
          exact br_f (by rw [h3]; decide) (And.intro ii (br_f (by rw [h3]; decide) (And.intro ii (br_f h1 (br_t rfl (G2 J _ post hJ))))))
    have hinv : tw_gi Tl o ti po an a' g' (i + 1) := by
      refine ⟨haa.1.1, haa.1.2, by omega, hgg.1, ?_, ?_⟩
      · intro j hj hoj
        by_cases e : j = i
        · subst e; exact haa.2.2 hoj
        · obtain ⟨c1, c2⟩ := g5 j (by omega) hoj
          obtain ⟨c3, c4⟩ := haa.2.1 c1
          exact ⟨c3, by omega⟩
      · intro j hj
        by_cases e : j = i
        · subst e; exact hgg.2.2
        · have := g6 j (by omega)
          omega
    obtain ⟨af, gf, hf, HX, HY⟩ := ih (i + 1) a' g' (by omega) hinv
    refine ⟨af, gf, hf, fun post h => ?_, fun post h => ?_⟩
    · refine pk_le N i (fun z => absurd z (by omega)) (fun _ => And.intro ii (nm_r (tw_rd o rfl (by omega)) (And.intro is (nm_r (tw_ra ti rfl (by omega)) ?_))))
      exact G1 (fun x2 => wX_nextGvt_40 post _ a x2 (nI i) (nI (o i)) (ti (o i)) (nI Lp) (nI Rm) (nI Tl) (nI N) (nI Ns) (nI G) tr op co la lb lg lh se sr (tw_I D) ti pa ca po an sb sf ss (tw_I o) (tw_I q) (tw_I l) (tw_I d) cu cm ct (tw_I t)) (A1 _ g' post (HX post h))
    · exact pk_le N i (fun z => absurd z (by omega)) (fun _ => And.intro ii (A2 _ post (HY post h)))
theorem tw_gvt (hZ : tw_Z B Lp Rm Tl N Ns G tr op co la lb lg lh se sr ti pa ca po an sb sf ss cu cm ct D o q l d t zs zr zd zt zp zc zo za ru) : ∃ Gn : Nat, Gn ≤ 1000 ∧ (∀ s, tw_L o N s → (ti s).toInt < Gn → po s = 3) ∧ (∀ post : Int32 → Prop, post (nI Gn) → wpX_nextGvt post (nI Lp, nI Rm, nI Tl, nI N, nI Ns, nI G, tr, op, co, la, lb, lg, lh, se, sr, tw_I D, ti, pa, ca, po, an, sb, sf, ss, tw_I o, tw_I q, tw_I l, tw_I d, cu, cm, ct, tw_I t)) ∧
    ∀ post : Int32 → SY → Prop, (∃ n, wY_advance_131 post n 0 0 (nI Lp) (nI Rm) (nI Tl) (nI Gn) tr (nI Ns) (nI N) zs zr zd zt zp zc zo za ru cm ct) → wpY_advance post (nI Lp, nI Rm, nI Tl, nI G, tr, nI Ns, nI N, zs, zr, zd, zt, zp, zc, zo, za, ru, cm, ct) := by
  obtain ⟨⟨n1, n2, n3, n4, n5, n6, n7, n8, n9⟩, hV, hE, hRR, hRY, hP, hzo, hza, htk⟩ := id hZ
  by_cases hN : N = 0
  · subst hN
    exact ⟨G, n9, fun s hs _ => absurd hs (fun ⟨i, hi, _⟩ => by omega), fun post h => ⟨1, pk_le 0 0 (fun _ => br_t (by decide) (br_t (by decide) h)) (fun z => absurd z (by omega))⟩, fun post h => ⟨1, pk_le 0 0 (fun _ => br_t (by decide) (br_t (by decide) h)) (fun z => absurd z (by omega))⟩⟩
  obtain ⟨a, g, hg, HX, HY⟩ := tw_gvt6 (Rm := Rm) (G := G) (tr := tr) (la := la) (lb := lb) (lg := lg) (lh := lh) (ct := ct) (t := t) (ru := ru) (by omega) n6 hV hP hzo hza N 0 (-1) (-1) (by omega) ⟨by rw [tw_tm1]; omega, by rw [tw_tm1]; omega, by rw [tw_tm1]; omega, by rw [tw_tm1]; omega, fun j hj => absurd hj (by omega), fun j hj => absurd hj (by omega)⟩
  obtain ⟨g1, g2, g3, g4, g5, g6⟩ := hg
  have t0 : (0 : Int32).toInt = 0 := tw_t0
  by_cases h0 : a < 0
  · have h0' := h0
    rw [Int32.lt_iff_toInt_lt, t0] at h0'
    have hd : ∀ s, tw_L o N s → po s = 3 := by
      intro s hs
      obtain ⟨i, hi, rfl⟩ := hs
      by_cases z : po (o i) = 3
      · exact z
      · have := g5 i hi (Or.inl z)
        omega
    have hg0 : 0 ≤ g.toInt := by
      have c1 := g6 0 (by omega)
      have c2 := (hV.2.2.1 (o 0) ⟨0, by omega, rfl⟩).2.1
      omega
    obtain ⟨gn, hgn, eg⟩ := tw_of hg0
    subst eg
    rw [nI_toInt hgn] at g4 g6
    refine ⟨gn + 1, by omega, fun s hs _ => hd s hs, fun post h => ⟨N + 1, HX post ?_⟩, fun post h => ⟨N + 1, HY post ?_⟩⟩
    · refine pk_le N N (fun _ => br_t h0 (br_f (nI_pos hgn) ?_)) (fun z => absurd z (by omega))
      rw [nI_1]; exact h
    · exact pk_le N N (fun _ => br_t h0 (br_f (nI_nle (by omega) (by omega)) (nm_r (e' := nI (gn + 1)) (by rw [Int32.add_comm, nI_1]) h))) (fun z => absurd z (by omega))
  · have h0' : 0 ≤ a.toInt := by
      rw [Int32.lt_iff_toInt_lt, t0] at h0
      omega
    obtain ⟨gn, hgn, eg⟩ := tw_of h0'
    subst eg
    rw [nI_toInt hgn] at g2 g5
    refine ⟨gn, by omega, ?_, fun post h => ⟨N + 1, HX post (pk_le N N (fun _ => br_f h0 h) (fun z => absurd z (by omega)))⟩, fun post h => ⟨N + 1, HY post (pk_le N N (fun _ => br_f h0 h) (fun z => absurd z (by omega)))⟩⟩
    intro s hs hlt
    obtain ⟨i, hi, rfl⟩ := hs
    by_cases z : po (o i) = 3
    · exact z
    · have := g5 i hi (Or.inl z)
      omega
end TWW
end
section
section TWX
/-! ADVANCE: events taken one by one -/
def tw_Tk (Lp : Nat) (q t : Nat → Nat) (s : Nat) : Prop := ∃ p j, p < Lp ∧ j < t p ∧ q (48 * p + j) = s
def tw_Mid (Lp Gn N Ns c M : Nat) (op co se sr ti pa ca po an cm po1 cm1 : Nat → Int32) (D o q d t ot : Nat → Nat) (zs zr zd zt zp zc zo za : Nat → Int32) : Prop :=
  (∀ p, p < Lp → t p ≤ d p ∧ cm1 p = tw_fo op co cm pa q p (t p)) ∧
  (∀ s, (tw_Tk Lp q t s → po1 s = 0 ∧ (ti s).toInt < Gn) ∧ (¬ tw_Tk Lp q t s → po1 s = po s)) ∧
  (∀ s, tw_L ot M s ↔ tw_L o N s ∧ ¬ tw_Tk Lp q t s) ∧
  tw_S ot M Ns se ∧ c + M = N ∧
  tw_P1 M ot se sr D ti pa ca zs zr zd zt zp zc ∧ tw_P2 M ot po zo ∧ tw_P2 M ot an za
variable {B : Nat} {Lp Rm Tl N Ns G : Nat} {tr : Int32} {op co la lb lg lh se sr ti pa ca po an sb sf ss cu cm ct : Nat → Int32} {D o q l d t : Nat → Nat} {zs zr zd zt zp zc zo za ru : Nat → Int32} {po1 cm1 : Nat → Int32} {ot : Nat → Nat} {Gn M c : Nat}
theorem tw_S_inj {ot : Nat → Nat} {M Ns : Nat} {se : Nat → Int32} (hS : tw_S ot M Ns se) {i j : Nat} (hi : i < M) (hj : j < M) (e : ot i = ot j) : i = j := by
  by_cases h : i < j
  · have := hS.1 i j h hj; rw [e] at this; omega
  · by_cases h' : j < i
    · have := hS.1 j i h' hi; rw [e] at this; omega
    · omega
theorem tw_rm_Li {o : Nat → Nat} {m M : Nat} (hinj : ∀ i j, i < M + 1 → j < M + 1 → o i = o j → i = j) (hm : m ≤ M) : ∀ s, tw_L (tw_rm o m M) M s ↔ tw_L o (M + 1) s ∧ s ≠ o m := by
  intro s
  refine ⟨?_, ?_⟩
  · intro h
    obtain ⟨i, hi, e⟩ := h
    obtain ⟨i', e1, hc⟩ := tw_rm_ex (o := o) (i := i) hm
    rw [e1] at e
    refine ⟨⟨i', by omega, e⟩, ?_⟩
    intro z
    have := hinj i' m (by omega) (by omega) (e.trans z)
    omega
  · intro h
    obtain ⟨⟨i, hi, e⟩, hne⟩ := h
    have him : i ≠ m := by
      intro z
      subst z
      exact hne e.symm
    by_cases h1 : i < m
    · exact ⟨i, by omega, (tw_rm_lo h1 hm).trans e⟩
    · refine ⟨i - 1, by omega, ?_⟩
      rw [tw_rm_hi (by omega) (by omega), show i - 1 + 1 = i by omega]
      exact e
theorem tw_Tk_n (hV : tw_V Lp Tl N Ns op co se sr ti pa ca po an sb sf ss cu cm D o q l d) (hM : tw_Mid Lp Gn N Ns c M op co se sr ti pa ca po an cm po1 cm1 D o q d t ot zs zr zd zt zp zc zo za) {p : Nat} (hp : p < Lp) (ht : t p < d p) : ¬ tw_Tk Lp q t (q (48 * p + t p)) := by
  intro z
  obtain ⟨p', j, h1, h2, h3⟩ := z
  have hdl := tw_V_dl hV
  have a1 := hdl p hp
  have a2 := hdl p' h1
  have a3 := (hM.1 p' h1).1
  have hQ := hV.2.2.2.2.1
  have d1 := ((hQ.1 p' h1).2.1 j (by omega)).2.1
  have d2 := ((hQ.1 p hp).2.1 (t p) (by omega)).2.1
  rw [h3, d2] at d1
  subst d1
  have := tw_qinj hQ (fun _ => tw_b_irr) hp (by omega) (by omega) h3
  omega
theorem tw_Mid_s {p m s M1 : Nat} (hN : N ≤ 48) (hV : tw_V Lp Tl N Ns op co se sr ti pa ca po an sb sf ss cu cm D o q l d) (hM : tw_Mid Lp Gn N Ns c M op co se sr ti pa ca po an cm po1 cm1 D o q d t ot zs zr zd zt zp zc zo za) (hM1 : M = M1 + 1) (hp : p < Lp) (ht : t p < d p) (hs : q (48 * p + t p) = s) (hti : (ti s).toInt < Gn) (hm : m ≤ M1) (hom : ot m = s) :
    tw_Mid Lp Gn N Ns (c + 1) M1 op co se sr ti pa ca po an cm (upd po1 s 0) (upd cm1 p (tw_ap (op p) (co p) (cm1 p) (pa s))) D o q d (tw_u t p (t p + 1)) (tw_rm ot m M1) (tw_sh zs m M1) (tw_sh zr m M1) (tw_sh zd m M1) (tw_sh zt m M1) (tw_sh zp m M1) (tw_sh zc m M1) (tw_sh zo m M1) (tw_sh za m M1) := by
  have hTn := tw_Tk_n hV hM hp ht
  rw [hs] at hTn
  subst hM1
  obtain ⟨m1, m2, m3, m4, m5, m6, m7, m8⟩ := hM
  have hTk : ∀ x, tw_Tk Lp q (tw_u t p (t p + 1)) x ↔ tw_Tk Lp q t x ∨ x = s := by
    intro x
    refine ⟨fun z => ?_, fun z => ?_⟩
    · obtain ⟨p', j, h1, h2, h3⟩ := z
      by_cases e : p' = p
      · subst e
        rw [tw_us] at h2
        by_cases e2 : j = t p'
        · subst e2; exact Or.inr (h3.symm.trans hs)
        · exact Or.inl ⟨p', j, h1, by omega, h3⟩
      · rw [tw_un e] at h2
        exact Or.inl ⟨p', j, h1, h2, h3⟩
    · rcases z with ⟨p', j, h1, h2, h3⟩ | z
      · refine ⟨p', j, h1, ?_, h3⟩
        by_cases e : p' = p
        · subst e; rw [tw_us]; omega
        · rw [tw_un e]; exact h2
      · exact ⟨p, t p, hp, by rw [tw_us]; omega, hs.trans z.symm⟩
  refine ⟨?_, ?_, ?_, tw_rm_S m4 hm, by omega, tw_P1_rm rfl hm m6, fun i hi => tw_sh_rm hm hi m7, fun i hi => tw_sh_rm hm hi m8⟩
  · intro p' hp'
    obtain ⟨a1, a2⟩ := m1 p' hp'
    by_cases e : p' = p
    · subst e
      rw [tw_us, pk_us]
      refine ⟨by omega, ?_⟩
      rw [a2, ← hs]; rfl
    · rw [tw_un e, pk_un e]
      exact ⟨a1, a2⟩
  · intro x
    rw [hTk]
    by_cases e : x = s
    · subst e
      rw [pk_us]
      exact ⟨fun _ => ⟨rfl, hti⟩, fun z => absurd (Or.inr rfl) z⟩
    · rw [pk_un e]
      refine ⟨fun z => (m2 x).1 (z.resolve_right e), fun z => (m2 x).2 (fun w => z (Or.inl w))⟩
  · intro x
    rw [tw_rm_Li (fun i j hi hj e => tw_S_inj m4 hi hj e) hm x, m3 x, hom, hTk]
    exact ⟨fun z => ⟨z.1.1, fun w => w.elim z.1.2 z.2⟩, fun z => ⟨⟨z.1, fun w => z.2 (Or.inl w)⟩, fun w => z.2 (Or.inr w)⟩⟩
/-! firstToCommit -/
theorem tw_x_ftc {post : Int32 → Prop} {bd : Int32} (hL4 : Lp ≤ 4) (hd : ∀ p, p < Lp → d p ≤ 48) (htd : ∀ p, p < Lp → t p ≤ d p) (hq : ∀ p, p < Lp → t p < d p → q (48 * p + t p) < 48)
    (e0 : (∀ p, p < Lp → ¬ (t p < d p ∧ (ti (q (48 * p + t p))).toInt < bd.toInt)) → post (-1))
    (e1 : ∀ b, b < Lp → (t b < d b ∧ (ti (q (48 * b + t b))).toInt < bd.toInt) → (∀ p, p < Lp → (t p < d p ∧ (ti (q (48 * p + t p))).toInt < bd.toInt) → ¬ tw_hb (fun p => ti (q (48 * p + t p))) p b) → post (nI b)) :
    wpX_firstToCommit post (nI Lp, nI Rm, nI Tl, nI N, nI Ns, nI G, tr, op, co, la, lb, lg, lh, se, sr, tw_I D, ti, pa, ca, po, an, sb, sf, ss, tw_I o, tw_I q, tw_I l, tw_I d, cu, cm, ct, tw_I t) bd := by
  refine ⟨Lp + 1, ?_⟩
  have K := tw_min (fun n x2 x4 => ∀ x3 : Int32, x3.toInt ≤ bd.toInt → (x2 = -1 → x3 = bd) → (∀ b, b < 4 → x2 = nI b → x3 = ti (q (48 * b + t b))) → wX_firstToCommit_7 post (nI Lp) (nI Rm) (nI Tl) (nI N) (nI Ns) (nI G) tr op co la lb lg lh se sr (tw_I D) ti pa ca po an sb sf ss (tw_I o) (tw_I q) (tw_I l) (tw_I d) cu cm ct (tw_I t) n x2 x3 x4) (fun p => t p < d p ∧ (ti (q (48 * p + t p))).toInt < bd.toInt) (tw_hb (fun p => ti (q (48 * p + t p)))) Lp (fun _ => tw_hb_irr) (fun _ _ _ => tw_hb_tr) ?_ ?_ ?_ ?_ ?_ ?_
  · exact K bd (Int.le_refl _) (fun _ => rfl) (fun b hb z => absurd z.symm (tw_n1 (by omega)))
  all_goals
    have hP : ∀ n x2 x3 i, i < Lp → t i < d i →
        ((x3 ≤ ti (q (48 * i + t i)) → ∀ x4' : Int32, x4' = nI i + 1 → wX_firstToCommit_7 post (nI Lp) (nI Rm) (nI Tl) (nI N) (nI Ns) (nI G) tr op co la lb lg lh se sr (tw_I D) ti pa ca po an sb sf ss (tw_I o) (tw_I q) (tw_I l) (tw_I d) cu cm ct (tw_I t) n x2 x3 x4') ∧ (¬ x3 ≤ ti (q (48 * i + t i)) → ∀ x4' : Int32, x4' = nI i + 1 → wX_firstToCommit_7 post (nI Lp) (nI Rm) (nI Tl) (nI N) (nI Ns) (nI G) tr op co la lb lg lh se sr (tw_I D) ti pa ca po an sb sf ss (tw_I o) (tw_I q) (tw_I l) (tw_I d) cu cm ct (tw_I t) n (nI i) (ti (q (48 * i + t i))) x4')) →
        wX_firstToCommit_7 post (nI Lp) (nI Rm) (nI Tl) (nI N) (nI Ns) (nI G) tr op co la lb lg lh se sr (tw_I D) ti pa ca po an sb sf ss (tw_I o) (tw_I q) (tw_I l) (tw_I d) cu cm ct (tw_I t) (n + 1) x2 x3 (nI i) := by
      intro n x2 x3 i hi hp H
      have ii : vp_in (nI i) 4 := pk_in i 4 (by omega)
      have h1 := hd i hi
      have h8 := hq i hi hp
      have eq : nI (48 * i) + nI (t i) = nI (48 * i + t i) := nI_add _ _
      refine pk_le Lp i (fun z => absurd z (by omega)) (fun _ => And.intro ii (And.intro ii ?_))
      rw [tw_rd d rfl (show i < 2 ^ 31 by omega), tw_rd t rfl (show i < 2 ^ 31 by omega), tw_m48, tw_rd q eq (by omega), nI_clamp (show q (48 * i + t i) < 2 ^ 31 by omega)]
      exact br_f (nI_ge hp (by omega)) (And.intro ii (And.intro (pk_in _ 192 (by omega) eq) (And.intro (pk_in _ 48 h8) (nm_e H))))
  · intro n x i hi hn hW x3 k1 k2 k3
    by_cases hlt : t i < d i
    · refine hP n x x3 i hi hlt (br_t ?_ (nm_r (nI_1 i) (hW x3 k1 k2 k3)))
      rw [Int32.le_iff_toInt_le]
      have : ¬ (ti (q (48 * i + t i))).toInt < bd.toInt := fun w => hn ⟨hlt, w⟩
      omega
    · have ii : vp_in (nI i) 4 := pk_in i 4 (by omega)
      have h1 := hd i hi
      have h3 := htd i hi
      refine pk_le Lp i (fun z => absurd z (by omega)) (fun _ => And.intro ii (And.intro ii ?_))
      rw [tw_rd d rfl (show i < 2 ^ 31 by omega), tw_rd t rfl (show i < 2 ^ 31 by omega)]
      exact br_t (nI_le (by omega) (by omega)) (nm_r (nI_1 i) (hW x3 k1 k2 k3))
  · intro n i hi hp hW x3 k1 k2 k3
    refine hP n _ x3 i hi hp.1 (br_f ?_ (nm_r (nI_1 i) (hW _ (by omega) (fun z => absurd z (tw_n1 (by omega))) (fun b hb z => by rw [tw_inj z (by omega) (by omega)]))))
    rw [k2 rfl, Int32.le_iff_toInt_le]
    omega
  · intro n m i hm hi hp hb hW x3 k1 k2 k3
    refine hP n _ x3 i hi hp.1 (br_f ?_ (nm_r (nI_1 i) (hW _ (by omega) (fun z => absurd z (tw_n1 (by omega))) (fun b hb z => by rw [tw_inj z (by omega) (by omega)]))))
    rw [k3 m (by omega) rfl, Int32.le_iff_toInt_le]
    unfold tw_hb at hb
    dsimp only at hb
    omega
  · intro n m i hm hi hp hb hW x3 k1 k2 k3
    refine hP n _ x3 i hi hp.1 (br_t ?_ (nm_r (nI_1 i) (hW _ k1 k2 k3)))
    rw [k3 m (by omega) rfl, Int32.le_iff_toInt_le]
    unfold tw_hb at hb
    dsimp only at hb
    omega
  · intro n hn x3 _ _ _
    exact pk_le Lp Lp (fun _ => e0 hn) (fun z => absurd z (by omega))
  · intro n m hm hp hmin x3 _ _ _
    exact pk_le Lp Lp (fun _ => e1 m hm hp hmin) (fun z => absurd z (by omega))
/-! one event committed -/
def tw_tc (tr ti p sr pa r : Int32) : Int32 := 31 * (31 * (31 * (31 * (31 * tr + ti) + p) + sr) + pa) + r
theorem tw_x_commit {post : SX → Prop} {p s : Nat} {R : Int32} (hp : p < 4) (ht : t p < 48) (hs : q (48 * p + t p) = s) (hs8 : s < 48) (hR : R = tw_ap (op p) (co p) (cm p) (pa s))
    (h : post (nI Lp, nI Rm, nI Tl, nI N, nI Ns, nI G, tw_tc tr (ti s) (nI p) (sr s) (pa s) R, op, co, la, lb, lg, lh, se, sr, tw_I D, ti, pa, ca, upd po s 0, an, sb, sf, ss, tw_I o, tw_I q, tw_I l, tw_I d, cu, upd cm p R, upd ct p (ct p + 1), tw_I (tw_u t p (t p + 1)))) : wpX_commitNext post (nI Lp, nI Rm, nI Tl, nI N, nI Ns, nI G, tr, op, co, la, lb, lg, lh, se, sr, tw_I D, ti, pa, ca, po, an, sb, sf, ss, tw_I o, tw_I q, tw_I l, tw_I d, cu, cm, ct, tw_I t) (nI p) := by
  have ip : vp_in (nI p) 4 := pk_in p 4 hp
  have is : vp_in (nI s) 48 := pk_in s 48 hs8
  have cp : (nI p).toNatClampNeg = p := nI_clamp (by omega)
  have cs : (nI s).toNatClampNeg = s := nI_clamp (by omega)
  have eq : nI (48 * p) + nI (t p) = nI (48 * p + t p) := nI_add _ _
  unfold wpX_commitNext
  dsimp only
  rw [tw_rd t rfl (show p < 2 ^ 31 by omega), tw_m48, nI_1, cp]
  refine And.intro ip (And.intro (pk_in _ 192 (by omega) eq) (nm_r (e' := nI s) ((tw_rd q eq (by omega)).trans (congrArg nI hs)) (And.intro ip (And.intro ip (nm_r (tw_Iu t p (t p + 1)) (And.intro ip (And.intro is ?_)))))))
  rw [cs]
  refine tw_x_applyOp hp ?_
  rw [← hR]
  exact And.intro ip (nm_e (And.intro ip (And.intro ip (nm_e (And.intro is (nm_e (nm_e (And.intro is (nm_e (And.intro is (nm_e (nm_e (And.intro is (nm_e h))))))))))))))
theorem tw_y_commit {post : Int32 → SY → Prop} {J : Int32 → Int32 → Int32 → Int32 → Int32 → Int32 → Int32 → Int32 → Int32 → (Nat → Int32) → (Nat → Int32) → (Nat → Int32) → (Nat → Int32) → (Nat → Int32) → (Nat → Int32) → (Nat → Int32) → (Nat → Int32) → (Nat → Int32) → (Nat → Int32) → (Nat → Int32) → Prop} {p m M1 n : Nat} {x3 x4 R : Int32} (hp : p < 4) (hM : N = M1 + 1) (hN : N ≤ 48) (hm : m ≤ M1) (hRY : tw_RY op co la lb lg lh ru) (hz : zd m = nI p) (hR : R = tw_ap (op p) (co p) (cm p) (zp m))
    (h : J (x3 + 1) (x4 + 1) (nI Lp) (nI Rm) (nI Tl) (nI G) (tw_tc tr (zt m) (nI p) (zr m) (zp m) R) (nI Ns) (nI M1) (tw_sh zs m M1) (tw_sh zr m M1) (tw_sh zd m M1) (tw_sh zt m M1) (tw_sh zp m M1) (tw_sh zc m M1) (tw_sh zo m M1) (tw_sh za m M1) ru (upd cm p R) (upd ct p (ct p + 1))) :
    wY_advance_144 post J x3 x4 (nI Lp) (nI Rm) (nI Tl) (nI G) tr (nI Ns) (nI N) zs zr zd zt zp zc zo za ru cm ct (n + 1) (nI m) (nI N) := by
  have ip : vp_in (nI p) 4 := pk_in p 4 hp
  have im : vp_in (nI m) 48 := pk_in m 48 (by omega)
  have cp : (nI p).toNatClampNeg = p := nI_clamp (by omega)
  have cmm : (nI m).toNatClampNeg = m := nI_clamp (by omega)
  refine pk_le N N (fun _ => br_t (nI_pos' (by omega)) (And.intro im ?_)) (fun z => absurd z (by omega))
  rw [cmm]
  refine nm_r hz (And.intro ip (And.intro im ?_))
  rw [cp]
  refine tw_y_update hp hRY ?_
  rw [← hR]
  refine And.intro ip (nm_e (And.intro ip (And.intro ip (nm_e (And.intro im (nm_e (nm_e (And.intro im (nm_e (And.intro im (nm_e (And.intro ip (nm_e ?_)))))))))))))
  refine tw_y_drop (by omega) hM hm ?_
  refine nm_e (nm_e ?_)
  rw [pk_us]
  exact h
theorem tw_y_ad144 {post : Int32 → SY → Prop} {J : Int32 → Int32 → Int32 → Int32 → Int32 → Int32 → Int32 → Int32 → Int32 → (Nat → Int32) → (Nat → Int32) → (Nat → Int32) → (Nat → Int32) → (Nat → Int32) → (Nat → Int32) → (Nat → Int32) → (Nat → Int32) → (Nat → Int32) → (Nat → Int32) → (Nat → Int32) → Prop} {x3 x4 : Int32} (hN : N ≤ 48)
    (e0 : (∀ i, i < N → nI G ≤ zt i) → post x3 (nI Lp, nI Rm, nI Tl, nI G, tr, nI Ns, nI N, zs, zr, zd, zt, zp, zc, zo, za, ru, cm, ct))
    (e1 : ∀ n m, m < N → ¬ nI G ≤ zt m → (∀ i, i < N → ¬ nI G ≤ zt i → ¬ tw_b zt zd zr zp zs i m) → wY_advance_144 post J x3 x4 (nI Lp) (nI Rm) (nI Tl) (nI G) tr (nI Ns) (nI N) zs zr zd zt zp zc zo za ru cm ct (n + 1) (nI m) (nI N)) :
    ∃ n, wY_advance_144 post J x3 x4 (nI Lp) (nI Rm) (nI Tl) (nI G) tr (nI Ns) (nI N) zs zr zd zt zp zc zo za ru cm ct n (-1) 0 := by
  refine ⟨N + 1, tw_min (fun n x5 x6 => wY_advance_144 post J x3 x4 (nI Lp) (nI Rm) (nI Tl) (nI G) tr (nI Ns) (nI N) zs zr zd zt zp zc zo za ru cm ct n x5 x6) (fun i => ¬ nI G ≤ zt i) (tw_b zt zd zr zp zs) N (fun _ => tw_b_irr) (fun _ _ _ => tw_b_tr) ?_ ?_ ?_ ?_ ?_ e1⟩
  · intro n x i hi hn hW
    have ii : vp_in (nI i) 48 := pk_in i 48 (by omega)
    have ci : (nI i).toNatClampNeg = i := nI_clamp (by omega)
    refine pk_le N i (fun z => absurd z (by omega)) (fun _ => And.intro ii ?_)
    rw [ci]
    exact br_c (fun _ => nm_r (nI_1 i) hW) (fun z => absurd z hn)
  · intro n i hi hp hW
    have ii : vp_in (nI i) 48 := pk_in i 48 (by omega)
    have ci : (nI i).toNatClampNeg = i := nI_clamp (by omega)
    refine pk_le N i (fun z => absurd z (by omega)) (fun _ => And.intro ii ?_)
    rw [ci]
    exact br_f hp (br_t (by decide) (nm_r (nI_1 i) hW))
  · intro n m i hm hi hp hb hW
    have ii : vp_in (nI i) 48 := pk_in i 48 (by omega)
    have ci : (nI i).toNatClampNeg = i := nI_clamp (by omega)
    refine pk_le N i (fun z => absurd z (by omega)) (fun _ => And.intro ii ?_)
    rw [ci]
    exact br_f hp (br_f (nI_pos (by omega)) (tw_y_before (by omega) (by omega) (fun _ => br_f (by decide) (nm_r (nI_1 i) hW)) (fun w => absurd hb w)))
  · intro n m i hm hi hp hb hW
    have ii : vp_in (nI i) 48 := pk_in i 48 (by omega)
    have ci : (nI i).toNatClampNeg = i := nI_clamp (by omega)
    refine pk_le N i (fun z => absurd z (by omega)) (fun _ => And.intro ii ?_)
    rw [ci]
    exact br_f hp (br_f (nI_pos (by omega)) (tw_y_before (by omega) (by omega) (fun w => absurd w hb) (fun _ => br_t rfl (nm_r (nI_1 i) hW))))
  · intro n hn
    refine pk_le N N (fun _ => br_f (by decide) (e0 ?_)) (fun z => absurd z (by omega))
    intro i hi
    by_cases z : nI G ≤ zt i
    · exact z
    · exact absurd z (hn i hi)
end TWX
end
section
section TWY
variable {B : Nat} {Lp Rm Tl N Ns G : Nat} {tr : Int32} {op co la lb lg lh se sr ti pa ca po an sb sf ss cu cm ct : Nat → Int32} {D o q l d t : Nat → Nat} {zs zr zd zt zp zc zo za ru : Nat → Int32}
/-! the queues without what is taken -/
def tw_qg (q : Nat → Nat) (c g i : Nat) : Nat → Nat := fun k => if c ≤ k ∧ k + g < c + i then q (k + g) else q k
theorem tw_qg_0 (q : Nat → Nat) (c g : Nat) : tw_qg q c g g = q := by
  funext k
  unfold tw_qg
  rw [if_neg (by omega)]
theorem tw_qg_s (q : Nat → Nat) (c g i : Nat) (h : g ≤ i) : tw_u (tw_qg q c g i) (c + i - g) (tw_qg q c g i (c + i)) = tw_qg q c g (i + 1) := by
  funext k
  unfold tw_u tw_qg
  by_cases hk : k = c + i - g
  · rw [if_pos hk, if_neg (by omega), if_pos (by omega)]
    exact congrArg q (by omega)
  · rw [if_neg hk]
    by_cases h2 : c ≤ k ∧ k + g < c + i
    · rw [if_pos h2, if_pos (by omega)]
    · rw [if_neg h2, if_neg (by omega)]
theorem tw_x_dq25 {post : SX → Prop} {J : Int32 → (Nat → Int32) → (Nat → Int32) → (Nat → Int32) → (Nat → Int32) → (Nat → Int32) → (Nat → Int32) → (Nat → Int32) → (Nat → Int32) → (Nat → Int32) → (Nat → Int32) → (Nat → Int32) → (Nat → Int32) → (Nat → Int32) → (Nat → Int32) → (Nat → Int32) → (Nat → Int32) → (Nat → Int32) → (Nat → Int32) → (Nat → Int32) → (Nat → Int32) → (Nat → Int32) → (Nat → Int32) → (Nat → Int32) → (Nat → Int32) → (Nat → Int32) → Prop} {p g e : Nat} (hp : p < 4) (hl : l p = e) (he : e ≤ 48) (hge : g ≤ e) (hgd : g ≤ d p) (hd : d p ≤ 48)
    (h : J (nI (p + 1)) op co la lb lg lh se sr (tw_I D) ti pa ca po an sb sf ss (tw_I o) (tw_I (tw_qg q (48 * p) g e)) (tw_I (tw_u l p (e - g))) (tw_I (tw_u d p (d p - g))) cu cm ct (tw_I (tw_u t p 0))) :
    ∀ k i, i + k = e → g ≤ i → wX_dropCommittedFromQueues_25 post J (nI p) (nI g) (nI (48 * p)) (nI Lp) (nI Rm) (nI Tl) (nI N) (nI Ns) (nI G) tr (k + 1) (nI i) op co la lb lg lh se sr (tw_I D) ti pa ca po an sb sf ss (tw_I o) (tw_I (tw_qg q (48 * p) g i)) (tw_I l) (tw_I d) cu cm ct (tw_I t) := by
  have ip : vp_in (nI p) 4 := pk_in p 4 hp
  have el : tw_I l (nI p).toNatClampNeg = nI e := by rw [tw_rd l rfl (show p < 2 ^ 31 by omega), hl]
  have ed : tw_I d (nI p).toNatClampNeg = nI (d p) := tw_rd d rfl (by omega)
  intro k
  induction k with
  | zero =>
    intro i hi hgi
    have : i = e := by omega
    subst this
    refine And.intro ip (pk_le i i (fun _ => ?_) (fun z => absurd z (by omega)) el)
    exact And.intro ip (And.intro ip (nm_r (tw_rU l rfl (by omega) (by rw [el, pk_sub hge])) (And.intro ip (And.intro ip (nm_r (tw_rU d rfl (by omega) (by rw [ed, pk_sub hgd])) (And.intro ip (nm_r (tw_rU t rfl (by omega) (w := 0) rfl) (nm_r (nI_1 p) h))))))))
  | succ k ih =>
    intro i hi hgi
    have e1 : nI (48 * p) + nI i = nI (48 * p + i) := nI_add _ _
    have e2 : nI (48 * p) + nI i - nI g = nI (48 * p + i - g) := by rw [e1, pk_sub (by omega)]
    refine And.intro ip (pk_le e i (fun z => absurd z (by omega)) (fun _ => ?_) el)
    refine And.intro (pk_in _ 192 (by omega) e1) (And.intro (pk_in _ 192 (by omega) e2) (nm_r (tw_rU _ e2 (by omega) (tw_rd _ e1 (by omega))) (nm_r (nI_1 i) ?_)))
    rw [tw_qg_s q (48 * p) g i hgi]
    exact ih (i + 1) (by omega) (by omega)
def tw_DQ (Lp p : Nat) (q0 l0 d0 t0 q l d t : Nat → Nat) : Prop := ∀ p', p' < Lp →
  (p' < p → l p' = l0 p' - t0 p' ∧ d p' = d0 p' - t0 p' ∧ t p' = 0 ∧ ∀ j, j < l0 p' - t0 p' → q (48 * p' + j) = q0 (48 * p' + (t0 p' + j))) ∧
  (p ≤ p' → l p' = l0 p' ∧ d p' = d0 p' ∧ t p' = t0 p' ∧ ∀ j, j < 48 → q (48 * p' + j) = q0 (48 * p' + j))
theorem tw_x_dq2 {post : SX → Prop} {q0 l0 d0 t0 : Nat → Nat} (hL4 : Lp ≤ 4) (hl0 : ∀ p, p < Lp → l0 p ≤ 48) (hdl : ∀ p, p < Lp → d0 p ≤ l0 p) (htd : ∀ p, p < Lp → t0 p ≤ d0 p)
    (h : ∀ q' l' d' t', tw_DQ Lp Lp q0 l0 d0 t0 q' l' d' t' → post (nI Lp, nI Rm, nI Tl, nI N, nI Ns, nI G, tr, op, co, la, lb, lg, lh, se, sr, tw_I D, ti, pa, ca, po, an, sb, sf, ss, tw_I o, tw_I q', tw_I l', tw_I d', cu, cm, ct, tw_I t')) :
    ∀ (k p : Nat) (q l d t : Nat → Nat), p + k = Lp → tw_DQ Lp p q0 l0 d0 t0 q l d t → wX_dropCommittedFromQueues_2 post (nI Lp) (nI Rm) (nI Tl) (nI N) (nI Ns) (nI G) tr (k + 1) (nI p) op co la lb lg lh se sr (tw_I D) ti pa ca po an sb sf ss (tw_I o) (tw_I q) (tw_I l) (tw_I d) cu cm ct (tw_I t) := by
  intro k
  induction k with
  | zero =>
    intro p q l d t hp hD
    have : p = Lp := by omega
    subst this
    exact pk_le p p (fun _ => h q l d t hD) (fun z => absurd z (by omega))
  | succ k ih =>
    intro p q l d t hp hD
    have hpL : p < Lp := by omega
    have h1 := hl0 p hpL
    have h2 := hdl p hpL
    have h3 := htd p hpL
    obtain ⟨c1, c2, c3, c4⟩ := (hD p hpL).2 (Nat.le_refl _)
    refine pk_le Lp p (fun z => absurd z (by omega)) (fun _ => And.intro (pk_in p 4 (by omega)) (nm_r (tw_rd t rfl (by omega)) (nm_r (tw_m48 p) ⟨l p - t p + 1, ?_⟩)))
    have H := tw_x_dq25 (Lp := Lp) (Rm := Rm) (Tl := Tl) (N := N) (Ns := Ns) (G := G) (tr := tr) (post := post) (J := wX_dropCommittedFromQueues_2 post (nI Lp) (nI Rm) (nI Tl) (nI N) (nI Ns) (nI G) tr (k + 1)) (p := p) (g := t p) (e := l p) (q := q) (l := l) (d := d) (t := t) (by omega) rfl (by omega) (by omega) (by omega) (by omega) (ih (p + 1) _ _ _ _ (by omega) ?_) (l p - t p) (t p) (by omega) (Nat.le_refl _)
    · rw [tw_qg_0] at H
      exact H
    · intro p' hp'
      have g1 := hl0 p' hp'
      obtain ⟨f1, f2⟩ := hD p' hp'
      by_cases e : p' = p
      · subst e
        rw [tw_us, tw_us, tw_us]
        refine ⟨fun _ => ⟨by omega, by omega, rfl, ?_⟩, fun z => by omega⟩
        intro j hj
        unfold tw_qg
        rw [if_pos (by omega), show 48 * p' + j + t p' = 48 * p' + (t p' + j) by omega, c4 _ (by omega), c3]
      · rw [tw_un e, tw_un e, tw_un e]
        have key : ∀ j, j < 48 → tw_qg q (48 * p) (t p) (l p) (48 * p' + j) = q (48 * p' + j) := by
          intro j hj
          unfold tw_qg
          rw [if_neg (by omega)]
        refine ⟨fun z => ?_, fun z => ?_⟩
        · obtain ⟨b1, b2, b3, b4⟩ := f1 (by omega)
          refine ⟨b1, b2, b3, fun j hj => ?_⟩
          rw [key j (by omega)]
          exact b4 j hj
        · obtain ⟨b1, b2, b3, b4⟩ := f2 (by omega)
          refine ⟨b1, b2, b3, fun j hj => ?_⟩
          rw [key j hj]
          exact b4 j hj
theorem tw_x_dq {post : SX → Prop} (hL4 : Lp ≤ 4) (hl0 : ∀ p, p < Lp → l p ≤ 48) (hdl : ∀ p, p < Lp → d p ≤ l p) (htd : ∀ p, p < Lp → t p ≤ d p)
    (h : ∀ q' l' d' t', tw_DQ Lp Lp q l d t q' l' d' t' → post (nI Lp, nI Rm, nI Tl, nI N, nI Ns, nI G, tr, op, co, la, lb, lg, lh, se, sr, tw_I D, ti, pa, ca, po, an, sb, sf, ss, tw_I o, tw_I q', tw_I l', tw_I d', cu, cm, ct, tw_I t')) : wpX_dropCommittedFromQueues post (nI Lp, nI Rm, nI Tl, nI N, nI Ns, nI G, tr, op, co, la, lb, lg, lh, se, sr, tw_I D, ti, pa, ca, po, an, sb, sf, ss, tw_I o, tw_I q, tw_I l, tw_I d, cu, cm, ct, tw_I t) :=
  ⟨Lp + 1, tw_x_dq2 hL4 hl0 hdl htd h Lp 0 q l d t (by omega) (fun p' _ => ⟨fun z => by omega, fun _ => ⟨rfl, rfl, rfl, fun _ _ => rfl⟩⟩)⟩
/-! the order without the committed slots -/
def tw_DO (o : Nat → Nat) (se po : Nat → Int32) (oc : Nat → Nat) (kp i : Nat) : Prop :=
  tw_O oc ∧ kp ≤ i ∧ (∀ j, i ≤ j → j < 48 → oc j = o j) ∧ (∀ a, a < kp → ∃ j, j < i ∧ o j = oc a ∧ po (o j) ≠ 0) ∧ (∀ j, j < i → po (o j) ≠ 0 → ∃ a, a < kp ∧ oc a = o j) ∧ ∀ a b, a < b → b < kp → (se (oc a)).toInt < (se (oc b)).toInt
theorem tw_sw {oc : Nat → Nat} {i k s : Nat} (hs : oc i = s) (j : Nat) : ∃ j', tw_u (tw_u oc i (oc k)) k s j = oc j' ∧ (j = k ∧ j' = i ∨ j ≠ k ∧ j = i ∧ j' = k ∨ j ≠ k ∧ j ≠ i ∧ j' = j) := by
  by_cases h : j = k
  · subst h; exact ⟨i, by rw [tw_us, hs], Or.inl ⟨rfl, rfl⟩⟩
  · by_cases h2 : j = i
    · subst h2; exact ⟨k, by rw [tw_un h, tw_us], Or.inr (Or.inl ⟨h, rfl, rfl⟩)⟩
    · exact ⟨j, by rw [tw_un h, tw_un h2], Or.inr (Or.inr ⟨h, h2, rfl⟩)⟩
theorem tw_x_do4 {post : SX → Prop} (hN : N ≤ 48) (hS : tw_S o N Ns se)
    (h : ∀ o' K, K ≤ N → tw_DO o se po o' K N → post (nI Lp, nI Rm, nI Tl, nI K, nI Ns, nI G, tr, op, co, la, lb, lg, lh, se, sr, tw_I D, ti, pa, ca, po, an, sb, sf, ss, tw_I o', tw_I q, tw_I l, tw_I d, cu, cm, ct, tw_I t)) :
    ∀ (k i kp : Nat) (oc : Nat → Nat), i + k = N → tw_DO o se po oc kp i → wX_dropCommittedFromOrder_4 post (nI Lp) (nI Rm) (nI Tl) (nI N) (nI Ns) (nI G) tr (k + 1) (nI kp) (nI i) op co la lb lg lh se sr (tw_I D) ti pa ca po an sb sf ss (tw_I oc) (tw_I q) (tw_I l) (tw_I d) cu cm ct (tw_I t) := by
  intro k
  induction k with
  | zero =>
    intro i kp oc hi hD
    have : i = N := by omega
    subst this
    exact pk_le i i (fun _ => h oc kp hD.2.1 hD) (fun z => absurd z (by omega))
  | succ k ih =>
    intro i kp oc hi hD
    obtain ⟨h1, h2, h3, h4, h5, h6⟩ := hD
    have ii : vp_in (nI i) 48 := pk_in i 48 (by omega)
    have ik : vp_in (nI kp) 48 := pk_in kp 48 (by omega)
    obtain ⟨s, hs⟩ : ∃ s, oc i = s := ⟨_, rfl⟩
    have hs8 : s < 48 := by rw [← hs]; exact h1.1 i (by omega)
    have hso : o i = s := by rw [← hs]; exact (h3 i (Nat.le_refl _) (by omega)).symm
    have is : vp_in (nI s) 48 := pk_in s 48 hs8
    refine pk_le N i (fun z => absurd z (by omega)) (fun _ => And.intro ii (nm_r (e' := nI s) ((tw_rd oc rfl (by omega)).trans (congrArg nI hs)) (And.intro is ?_)))
    rw [nI_clamp (show s < 2 ^ 31 by omega)]
    refine br_c (fun z => nm_r (nI_1 i) (ih (i + 1) kp oc (by omega) ?_)) (fun z => And.intro ik (And.intro ii (nm_r (tw_rU oc rfl (by omega) (tw_rd oc rfl (by omega))) (And.intro ik (nm_r (tw_rU _ rfl (by omega) rfl) (nm_r (nI_1 kp) (nm_r (nI_1 i) (ih (i + 1) (kp + 1) _ (by omega) ?_))))))))
    · refine ⟨h1, by omega, fun j hj hj2 => h3 j (by omega) hj2, ?_, ?_, h6⟩
      · intro a ha
        obtain ⟨j, j1, j2⟩ := h4 a ha
        exact ⟨j, by omega, j2⟩
      · intro j hj hpj
        by_cases e : j = i
        · subst e
          rw [hso] at hpj
          exact absurd z hpj
        · exact h5 j (by omega) hpj
    · have hlo : ∀ a, a < kp → tw_u (tw_u oc i (oc kp)) kp s a = oc a := fun a ha => by rw [tw_un (by omega), tw_un (by omega)]
      refine ⟨⟨?_, ?_⟩, by omega, ?_, ?_, ?_, ?_⟩
      · intro j hj
        obtain ⟨j', e1, hc⟩ := tw_sw (k := kp) hs j
        rw [e1]
        exact h1.1 j' (by omega)
      · intro j j2 hj hj2 e
        obtain ⟨j', e1, hc⟩ := tw_sw (k := kp) hs j
        obtain ⟨j2', e2, hc2⟩ := tw_sw (k := kp) hs j2
        rw [e1, e2] at e
        have := h1.2 j' j2' (by omega) (by omega) e
        omega
      · intro j hj hj2
        rw [tw_un (by omega), tw_un (by omega)]
        exact h3 j (by omega) hj2
      · intro a ha
        by_cases e : a = kp
        · subst e
          rw [tw_us]
          exact ⟨i, by omega, hso, by rw [hso]; exact z⟩
        · rw [hlo a (by omega)]
          obtain ⟨j, j1, j2⟩ := h4 a (by omega)
          exact ⟨j, by omega, j2⟩
      · intro j hj hpj
        by_cases e : j = i
        · subst e
          exact ⟨kp, by omega, by rw [tw_us, hso]⟩
        · obtain ⟨a, a1, a2⟩ := h5 j (by omega) hpj
          exact ⟨a, by omega, (hlo a a1).trans a2⟩
      · intro a b hab hb
        rw [hlo a (by omega)]
        by_cases e : b = kp
        · subst e
          rw [tw_us]
          obtain ⟨j, j1, j2, _⟩ := h4 a (by omega)
          rw [← j2, ← hso]
          exact hS.1 j i (by omega) (by omega)
        · rw [hlo b (by omega)]
          exact h6 a b hab (by omega)
theorem tw_x_do {post : SX → Prop} (hN : N ≤ 48) (hO : tw_O o) (hS : tw_S o N Ns se)
    (h : ∀ o' K, K ≤ N → tw_DO o se po o' K N → post (nI Lp, nI Rm, nI Tl, nI K, nI Ns, nI G, tr, op, co, la, lb, lg, lh, se, sr, tw_I D, ti, pa, ca, po, an, sb, sf, ss, tw_I o', tw_I q, tw_I l, tw_I d, cu, cm, ct, tw_I t)) : wpX_dropCommittedFromOrder post (nI Lp, nI Rm, nI Tl, nI N, nI Ns, nI G, tr, op, co, la, lb, lg, lh, se, sr, tw_I D, ti, pa, ca, po, an, sb, sf, ss, tw_I o, tw_I q, tw_I l, tw_I d, cu, cm, ct, tw_I t) :=
  ⟨N + 1, tw_x_do4 hN hS h N 0 0 o (by omega) ⟨hO, by omega, fun _ _ _ => rfl, fun a ha => absurd ha (by omega), fun j hj => absurd hj (by omega), fun a b h1 h2 => absurd h2 (by omega)⟩⟩
end TWY
end
section
section TWZ
variable {B : Nat} {Lp Rm Tl N Ns G : Nat} {tr : Int32} {op co la lb lg lh se sr ti pa ca po an sb sf ss cu cm ct : Nat → Int32} {D o q l d t : Nat → Nat} {zs zr zd zt zp zc zo za ru : Nat → Int32} {po1 cm1 : Nat → Int32} {ot : Nat → Nat} {Gn M c : Nat}
/-! ADVANCE: the facts once the taken events are dropped -/
theorem tw_Tk_ge (hV : tw_V Lp Tl N Ns op co se sr ti pa ca po an sb sf ss cu cm D o q l d) (hM : tw_Mid Lp Gn N Ns c M op co se sr ti pa ca po an cm po1 cm1 D o q d t ot zs zr zd zt zp zc zo za) {p j : Nat} (hp : p < Lp) (hj : j < l p) (h : tw_Tk Lp q t (q (48 * p + j))) : j < t p := by
  obtain ⟨p', j', h1, h2, h3⟩ := h
  have hdl := tw_V_dl hV
  have a2 := hdl p' h1
  have a3 := (hM.1 p' h1).1
  have hQ := hV.2.2.2.2.1
  have d1 := ((hQ.1 p' h1).2.1 j' (by omega)).2.1
  have d2 := ((hQ.1 p hp).2.1 j hj).2.1
  rw [h3, d2] at d1
  subst d1
  have := tw_qinj hQ (fun _ => tw_b_irr) hp (by omega) hj h3
  omega
/-- a DONE slot that is not taken is in its queue behind the taken ones -/
theorem tw_Tk_at (hV : tw_V Lp Tl N Ns op co se sr ti pa ca po an sb sf ss cu cm D o q l d) (hM : tw_Mid Lp Gn N Ns c M op co se sr ti pa ca po an cm po1 cm1 D o q d t ot zs zr zd zt zp zc zo za) {s : Nat} (hs : tw_L o N s) (hn : ¬ tw_Tk Lp q t s) (h3 : po s = 3) : ∃ j, t (D s) ≤ j ∧ j < d (D s) ∧ q (48 * D s + j) = s := by
  have hQ := hV.2.2.2.2.1
  have hD := (hV.2.2.1 s hs).1
  obtain ⟨j, hj, ej⟩ := hQ.2 s hs (by rw [h3]; decide)
  have k3 := ((hQ.1 _ hD).2.1 j hj).2.2
  rw [ej, h3] at k3
  have hjd : j < d (D s) := by
    by_cases h : j < d (D s)
    · exact h
    · rw [if_neg h] at k3; exact absurd k3 (by decide)
  refine ⟨j, ?_, hjd, ej⟩
  by_cases h : j < t (D s)
  · exact absurd ⟨D s, j, hD, h, ej⟩ hn
  · omega
theorem tw_V_cm {K : Nat} {o' q' l' d' t' : Nat → Nat} (hV : tw_V Lp Tl N Ns op co se sr ti pa ca po an sb sf ss cu cm D o q l d) (hM : tw_Mid Lp Gn N Ns c M op co se sr ti pa ca po an cm po1 cm1 D o q d t ot zs zr zd zt zp zc zo za) (hend : ∀ s, tw_L o N s → ¬ tw_Tk Lp q t s → (Gn : Int) ≤ (ti s).toInt)
    (hO' : tw_O o') (hL' : ∀ s, tw_L o' K s ↔ tw_L o N s ∧ ¬ tw_Tk Lp q t s) (hS' : ∀ i j, i < j → j < K → (se (o' i)).toInt < (se (o' j)).toInt) (hDQ : tw_DQ Lp Lp q l d t q' l' d' t') :
    tw_V Lp Tl K Ns op co se sr ti pa ca po1 an sb sf ss cu cm1 D o' q' l' d' := by
  have hge := fun p j => tw_Tk_ge hV hM (p := p) (j := j)
  have hLe : tw_L o' K = fun s => tw_L o N s ∧ ¬ tw_Tk Lp q t s := by
    funext s
    exact propext (hL' s)
  obtain ⟨hO, hS, hA, hT, hQ, hC⟩ := hV
  obtain ⟨m1, m2, m3, m4, m5, m6, m7, m8⟩ := hM
  have hpo : ∀ s, ¬ tw_Tk Lp q t s → po1 s = po s := fun s h => (m2 s).2 h
  unfold tw_V
  rw [hLe]
  refine ⟨hO', ⟨hS', ?_⟩, ?_, ?_, ⟨?_, ?_⟩, ?_⟩
  · intro i hi
    obtain ⟨⟨j, hj, ej⟩, _⟩ := (hL' (o' i)).1 ⟨i, hi, rfl⟩
    rw [← ej]
    exact hS.2 j hj
  · intro s hs
    rw [hpo s hs.2]
    exact hA s hs.1
  · intro e he
    obtain ⟨h1, h2, h3, h4⟩ := hT e he.1
    have key : ∀ x, tw_F1 (tw_L o N) se ti ca an e x → tw_F1 (fun s => tw_L o N s ∧ ¬ tw_Tk Lp q t s) se ti ca an e x := by
      intro x hx
      rcases hx with hx | ⟨s, a1, a2, a3, a4, a5⟩
      · exact Or.inl hx
      · refine Or.inr ⟨s, ⟨a1, ?_⟩, a2, a3, a4, a5⟩
        intro z
        have b1 := ((m2 s).1 z).2
        have b2 := hend e he.1 he.2
        omega
    refine ⟨key _ h1, key _ h2, fun s hs => h3 s hs.1, ?_⟩
    rw [hpo e he.2]
    exact h4
  · intro p hp
    obtain ⟨a1, a2, a3⟩ := hQ.1 p hp
    obtain ⟨b1, b2, b3, b4⟩ := (hDQ p hp).1 hp
    have c1 := (m1 p hp).1
    refine ⟨by omega, ?_, ?_⟩
    · intro j hj
      rw [b4 j (by omega)]
      obtain ⟨k1, k2, k3⟩ := a2 (t p + j) (by omega)
      have hn : ¬ tw_Tk Lp q t (q (48 * p + (t p + j))) := by
        intro z
        have := hge p (t p + j) hp (by omega) z
        omega
      refine ⟨⟨k1, hn⟩, k2, ?_⟩
      rw [hpo _ hn, k3]
      by_cases h : t p + j < d p
      · rw [if_pos h, if_pos (by omega)]
      · rw [if_neg h, if_neg (by omega)]
    · intro j k hjk hk
      rw [b4 j (by omega), b4 k (by omega)]
      exact a3 _ _ (by omega) (by omega)
  · intro s hs hp1
    rw [hpo s hs.2] at hp1
    have hD := (hA s hs.1).1
    obtain ⟨j, hj, ej⟩ := hQ.2 s hs.1 hp1
    obtain ⟨b1, b2, b3, b4⟩ := (hDQ _ hD).1 hD
    have hjt : ¬ j < t (D s) := fun w => hs.2 ⟨D s, j, hD, w, ej⟩
    refine ⟨j - t (D s), by omega, ?_⟩
    rw [b4 _ (by omega), show t (D s) + (j - t (D s)) = j by omega]
    exact ej
  · intro p hp
    obtain ⟨a1, a2, a3⟩ := hQ.1 p hp
    obtain ⟨b1, b2, b3, b4⟩ := (hDQ p hp).1 hp
    obtain ⟨c1, c2⟩ := m1 p hp
    obtain ⟨e1, e2⟩ := hC p hp
    have kf : ∀ j, j ≤ d' p → tw_fo op co cm1 pa q' p j = tw_fo op co cm pa q p (t p + j) := fun j hj => tw_fo_sh c2 j (fun i hi => b4 i (by omega))
    refine ⟨?_, ?_⟩
    · rw [kf _ (Nat.le_refl _), e1, b2, show t p + (d p - t p) = d p by omega]
    · intro j hj
      rw [kf j (by omega), b4 j (by omega)]
      exact e2 _ (by omega)
/-- the relation again -/
theorem tw_Z_fin {K : Nat} {o' q' l' d' t' : Nat → Nat} {tr' : Int32} {ct' zs0 zr0 zd0 zt0 zp0 zc0 zo0 za0 : Nat → Int32} {t0 : Nat → Nat} {G0 : Nat} (hZ : tw_Z B Lp Rm Tl N Ns G0 tr op co la lb lg lh se sr ti pa ca po an sb sf ss cu cm ct D o q l d t0 zs0 zr0 zd0 zt0 zp0 zc0 zo0 za0 ru) (hM : tw_Mid Lp Gn N Ns c M op co se sr ti pa ca po an cm po1 cm1 D o q d t ot zs zr zd zt zp zc zo za) (hGn : Gn ≤ 1000) (hend : ∀ s, tw_L o N s → ¬ tw_Tk Lp q t s → (Gn : Int) ≤ (ti s).toInt)
    (hO' : tw_O o') (hL' : ∀ s, tw_L o' K s ↔ tw_L o N s ∧ ¬ tw_Tk Lp q t s) (hS' : ∀ i j, i < j → j < K → (se (o' i)).toInt < (se (o' j)).toInt) (hDQ : tw_DQ Lp Lp q l d t q' l' d' t') :
    K = M ∧ tw_Z B Lp Rm Tl K Ns Gn tr' op co la lb lg lh se sr ti pa ca po1 an sb sf ss cu cm1 ct' D o' q' l' d' t' zs zr zd zt zp zc zo za ru := by
  obtain ⟨⟨n1, n2, n3, n4, n5, n6, n7, n8, n9⟩, hV, hE, hRR, hRY, hP, hzo, hza, htk⟩ := hZ
  have hV' := tw_V_cm hV hM hend hO' hL' hS' hDQ
  obtain ⟨m1, m2, m3, m4, m5, m6, m7, m8⟩ := hM
  obtain ⟨hKM, heq⟩ := tw_uq (fun s => (se s).toInt) o' ot K M hS' m4.1 (fun i hi => by
    obtain ⟨j, hj, e⟩ := (m3 (o' i)).2 ((hL' (o' i)).1 ⟨i, hi, rfl⟩)
    exact ⟨j, hj, e⟩) (fun j hj => by
    obtain ⟨i, hi, e⟩ := (hL' (ot j)).2 ((m3 (ot j)).1 ⟨j, hj, rfl⟩)
    exact ⟨i, hi, e⟩)
  subst hKM
  have hpo : ∀ i, i < K → po1 (o' i) = po (o' i) := fun i hi => (m2 (o' i)).2 ((hL' (o' i)).1 ⟨i, hi, rfl⟩).2
  refine ⟨rfl, ⟨n1, n2, n3, n4, n5, n6, by omega, n8, hGn⟩, hV', ?_, hRR, hRY, ?_, ?_, ?_, ?_⟩
  · intro s hs hr
    obtain ⟨a1, a2⟩ := (hL' s).1 hs
    rw [(m2 s).2 a2]
    exact hE s a1 hr
  · intro i hi
    rw [heq i hi]
    exact m6 i hi
  · intro i hi
    rw [hpo i hi, heq i hi]
    exact m7 i hi
  · intro i hi
    rw [heq i hi]
    exact m8 i hi
  · intro p hp
    exact ((hDQ p hp).1 hp).2.2.1
end TWZ
end
section
section TWAA
variable {B : Nat} {Lp Rm Tl N Ns G : Nat} {tr : Int32} {op co la lb lg lh se sr ti pa ca po an sb sf ss cu cm ct : Nat → Int32} {D o q l d t : Nat → Nat} {zs zr zd zt zp zc zo za ru : Nat → Int32} {Gn : Nat}
/-! ADVANCE: both loops -/
theorem tw_adv_end {po1 cm1 : Nat → Int32} {ot : Nat → Nat} {M c : Nat} (hV : tw_V Lp Tl N Ns op co se sr ti pa ca po an sb sf ss cu cm D o q l d) (hM : tw_Mid Lp Gn N Ns c M op co se sr ti pa ca po an cm po1 cm1 D o q d t ot zs zr zd zt zp zc zo za) (hcl : ∀ s, tw_L o N s → (ti s).toInt < Gn → po s = 3)
    (h : ∀ p, p < Lp → ¬ (t p < d p ∧ (ti (q (48 * p + t p))).toInt < (nI Gn).toInt)) (hGn : Gn ≤ 1000) : ∀ s, tw_L o N s → ¬ tw_Tk Lp q t s → (Gn : Int) ≤ (ti s).toInt := by
  intro s hs hn
  by_cases z : (ti s).toInt < Gn
  · exfalso
    have hD := (hV.2.2.1 s hs).1
    obtain ⟨j, h1, h2, h3⟩ := tw_Tk_at hV hM hs hn (hcl s hs z)
    have hdl := tw_V_dl hV _ hD
    refine h (D s) hD ⟨by omega, ?_⟩
    rw [nI_toInt (by omega)]
    by_cases e : j = t (D s)
    · rw [← e, h3]; exact z
    · have := tw_b_ti ((hV.2.2.2.2.1.1 _ hD).2.2 (t (D s)) j (by omega) (by omega))
      rw [h3] at this
      omega
  · omega
/-- the row that the reference takes is the head that the component takes -/
theorem tw_adv_same {po1 cm1 : Nat → Int32} {ot : Nat → Nat} {M c b m : Nat} (hL4 : Lp ≤ 4) (hV : tw_V Lp Tl N Ns op co se sr ti pa ca po an sb sf ss cu cm D o q l d) (hM : tw_Mid Lp Gn N Ns c M op co se sr ti pa ca po an cm po1 cm1 D o q d t ot zs zr zd zt zp zc zo za) (hGn : Gn ≤ 1000) (hcl : ∀ s, tw_L o N s → (ti s).toInt < Gn → po s = 3)
    (hb : b < Lp) (hbP : t b < d b ∧ (ti (q (48 * b + t b))).toInt < (nI Gn).toInt)
    (hbm : ∀ p, p < Lp → (t p < d p ∧ (ti (q (48 * p + t p))).toInt < (nI Gn).toInt) → ¬ tw_hb (fun p => ti (q (48 * p + t p))) p b)
    (hm : m < M) (hz : ¬ nI Gn ≤ zt m) (hmin : ∀ i, i < M → ¬ nI Gn ≤ zt i → ¬ tw_b zt zd zr zp zs i m) : ot m = q (48 * b + t b) := by
  have hTn : ∀ p, p < Lp → t p < d p → ¬ tw_Tk Lp q t (q (48 * p + t p)) := fun p hp h => tw_Tk_n hV hM hp h
  have hat := fun s => tw_Tk_at hV hM (s := s)
  have hdl := tw_V_dl hV
  obtain ⟨m1, m2, m3, m4, m5, m6, m7, m8⟩ := hM
  have hg : (nI Gn).toInt = (Gn : Int) := nI_toInt (by omega)
  rw [hg] at hbP hbm
  have hQ := hV.2.2.2.2.1
  -- rows below the bound, by slots
  have row : ∀ s, tw_L o N s → ¬ tw_Tk Lp q t s → (ti s).toInt < Gn → ∃ i, i < M ∧ ot i = s ∧ ¬ nI Gn ≤ zt i := by
    intro s h1 h2 h3
    obtain ⟨i, hi, e⟩ := (m3 s).2 ⟨h1, h2⟩
    refine ⟨i, hi, e, ?_⟩
    rw [(m6 i hi).2.2.2.1, e, Int32.le_iff_toInt_le, hg]
    omega
  obtain ⟨hLs, hns⟩ := (m3 (ot m)).1 ⟨m, hm, rfl⟩
  have hts : (ti (ot m)).toInt < Gn := by
    rw [(m6 m hm).2.2.2.1, Int32.le_iff_toInt_le, hg] at hz
    omega
  have hD := (hV.2.2.1 (ot m) hLs).1
  obtain ⟨j, h1, h2, h3⟩ := hat (ot m) hLs hns (hcl _ hLs hts)
  have hdD := hdl _ hD
  have hdb := hdl b hb
  -- it is the head of its queue
  have hj : j = t (D (ot m)) := by
    by_cases e : j = t (D (ot m))
    · exact e
    · exfalso
      have s1 := (hQ.1 _ hD).2.2 (t (D (ot m))) j (by omega) (by omega)
      rw [h3] at s1
      have s2 := tw_b_ti s1
      obtain ⟨i, hi, ei, zi⟩ := row _ ((hQ.1 _ hD).2.1 (t (D (ot m))) (by omega)).1 (hTn _ hD (by omega)) (by omega)
      refine hmin i hi zi ?_
      rw [tw_P1_b m6 hi hm, ei]
      exact s1
  rw [hj] at h3
  by_cases e : D (ot m) = b
  · rw [← h3, e]
  · exfalso
    obtain ⟨i, hi, ei, zi⟩ := row _ ((hQ.1 b hb).2.1 (t b) (by omega)).1 (hTn b hb hbP.1) hbP.2
    have k1 := hmin i hi zi
    rw [tw_P1_b m6 hi hm, ei] at k1
    have k2 := hbm (D (ot m)) hD ⟨by omega, by rw [h3]; exact hts⟩
    have hDb : D (q (48 * b + t b)) = b := ((hQ.1 b hb).2.1 (t b) (by omega)).2.1
    unfold tw_hb at k2
    dsimp only at k2
    rw [h3] at k2
    apply k1
    have e1 : (tw_I D (q (48 * b + t b))).toInt = (b : Int) := by
      unfold tw_I
      rw [hDb]; exact nI_toInt (by omega)
    have e2 : (tw_I D (ot m)).toInt = (D (ot m) : Int) := nI_toInt (by omega)
    unfold tw_b
    omega
theorem tw_adv_loop {postX : Int32 → SX → Prop} {S : (Int32 → SY → Prop) → Prop} (hL4 : Lp ≤ 4) (hN : N ≤ 48) (hV : tw_V Lp Tl N Ns op co se sr ti pa ca po an sb sf ss cu cm D o q l d) (hRY : tw_RY op co la lb lg lh ru) (hGn : Gn ≤ 1000) (hcl : ∀ s, tw_L o N s → (ti s).toInt < Gn → po s = 3)
    (HX : ∀ (c M : Nat) (tr : Int32) (po1 cm1 ct : Nat → Int32) (t ot : Nat → Nat) (zs zr zd zt zp zc zo za : Nat → Int32), c ≤ 48 → tw_Mid Lp Gn N Ns c M op co se sr ti pa ca po an cm po1 cm1 D o q d t ot zs zr zd zt zp zc zo za → (c = 0 → ∀ p, p < Lp → t p = 0) → (∀ s, tw_L o N s → ¬ tw_Tk Lp q t s → (Gn : Int) ≤ (ti s).toInt) →
      (∀ post : Int32 → SY → Prop, post (nI c) (nI Lp, nI Rm, nI Tl, nI Gn, tr, nI Ns, nI M, zs, zr, zd, zt, zp, zc, zo, za, ru, cm1, ct) → S post) → wX_advance_50 postX (nI c) (nI Lp) (nI Rm) (nI Tl) (nI N) (nI Ns) (nI Gn) tr op co la lb lg lh se sr (tw_I D) ti pa ca po1 an sb sf ss (tw_I o) (tw_I q) (tw_I l) (tw_I d) cu cm1 ct (tw_I t)) :
    ∀ (k c M : Nat) (tr : Int32) (po1 cm1 ct : Nat → Int32) (t ot : Nat → Nat) (zs zr zd zt zp zc zo za : Nat → Int32), c + k = 48 → tw_Mid Lp Gn N Ns c M op co se sr ti pa ca po an cm po1 cm1 D o q d t ot zs zr zd zt zp zc zo za → (c = 0 → ∀ p, p < Lp → t p = 0) →
      (∀ post : Int32 → SY → Prop, wY_advance_131 post (k + 1) (nI c) (nI c) (nI Lp) (nI Rm) (nI Tl) (nI Gn) tr (nI Ns) (nI M) zs zr zd zt zp zc zo za ru cm1 ct → S post) →
      wX_advance_14 postX (nI Gn) (k + 1) (nI c) (nI c) (nI Lp) (nI Rm) (nI Tl) (nI N) (nI Ns) (nI Gn) tr op co la lb lg lh se sr (tw_I D) ti pa ca po1 an sb sf ss (tw_I o) (tw_I q) (tw_I l) (tw_I d) cu cm1 ct (tw_I t) := by
  have hdl := tw_V_dl hV
  have hl48 := tw_V_l48 hN hV
  intro k
  induction k with
  | zero =>
    intro c M tr po1 cm1 ct t ot zs zr zd zt zp zc zo za hc hM hc0 HS
    have : c = 48 := by omega
    subst this
    refine pk_le 48 48 (fun _ => HX 48 M tr po1 cm1 ct t ot zs zr zd zt zp zc zo za (by omega) hM hc0 ?_ ?_) (fun z => absurd z (by omega))
    · intro s hs hn
      obtain ⟨i, hi, _⟩ := (hM.2.2.1 s).2 ⟨hs, hn⟩
      have := hM.2.2.2.2.1
      omega
    · intro post h
      exact HS post (pk_le 48 48 (fun _ => h) (fun z => absurd z (by omega)))
  | succ k ih =>
    intro c M tr po1 cm1 ct t ot zs zr zd zt zp zc zo za hc hM hc0 HS
    have hMN := hM.2.2.2.2.1
    have htd : ∀ p, p < Lp → t p ≤ d p := fun p hp => (hM.1 p hp).1
    have hq8 : ∀ p, p < Lp → t p < d p → q (48 * p + t p) < 48 := fun p hp h => by
      have := hdl p hp
      exact tw_L48 hV.1 hN ((hV.2.2.2.2.1.1 p hp).2.1 (t p) (by omega)).1
    have hg : (nI Gn).toInt = (Gn : Int) := nI_toInt (by omega)
    refine pk_le 48 c (fun z => absurd z (by omega)) (fun _ => tw_x_ftc hL4 (fun p hp => by have := hdl p hp; have := hl48 p hp; omega) htd hq8 ?_ ?_)
    · intro hnone
      have hend := tw_adv_end hV hM hcl hnone hGn
      refine br_f (by decide) (HX c M tr po1 cm1 ct t ot zs zr zd zt zp zc zo za (by omega) hM hc0 hend ?_)
      intro post h
      refine HS post (pk_le 48 c (fun z => absurd z (by omega)) (fun _ => tw_y_ad144 (by omega) (fun _ => h) ?_))
      intro n m hm hz _
      exfalso
      obtain ⟨a1, a2⟩ := (hM.2.2.1 (ot m)).1 ⟨m, hm, rfl⟩
      have := hend _ a1 a2
      rw [(hM.2.2.2.2.2.1 m hm).2.2.2.1, Int32.le_iff_toInt_le, hg] at hz
      exact hz this
    · intro b hb hbP hbm
      have hdb := hdl b hb
      have hlb := hl48 b hb
      obtain ⟨s, hs⟩ : ∃ s, q (48 * b + t b) = s := ⟨_, rfl⟩
      have hs8 := hq8 b hb hbP.1
      have hLs := ((hV.2.2.2.2.1.1 b hb).2.1 (t b) (by omega)).1
      have hDs := ((hV.2.2.2.2.1.1 b hb).2.1 (t b) (by omega)).2.1
      have hTn := tw_Tk_n hV hM hb hbP.1
      rw [hs] at hs8 hLs hTn hDs
      obtain ⟨m, hm, hom⟩ := (hM.2.2.1 s).2 ⟨hLs, hTn⟩
      obtain ⟨M1, hM1⟩ : ∃ M1, M = M1 + 1 := ⟨M - 1, by omega⟩
      have hti : (ti s).toInt < Gn := by
        have := hbP.2
        rw [hs, hg] at this
        exact this
      obtain ⟨p1, p2, p3, p4, p5, p6⟩ := hM.2.2.2.2.2.1 m hm
      rw [hom] at p2 p3 p4 p5
      have hzd : zd m = nI b := by rw [p3]; unfold tw_I; rw [hDs]
      have hM' := tw_Mid_s hN hV hM hM1 hb hbP.1 hs hti (by omega) hom
      refine br_t (nI_pos' (by omega)) (tw_x_commit (by omega) (by omega) hs hs8 rfl ?_)
      refine nm_r (nI_1 c) (nm_r (nI_1 c) (ih (c + 1) M1 _ _ _ _ _ _ _ _ _ _ _ _ _ _ (by omega) hM' (fun z => by omega) ?_))
      intro post h
      refine HS post (pk_le 48 c (fun z => absurd z (by omega)) (fun _ => tw_y_ad144 (by omega) ?_ ?_))
      · intro hnone
        exfalso
        have := hnone m hm
        rw [p4, Int32.le_iff_toInt_le, hg] at this
        omega
      · intro n m' hm' hz' hmin
        have e1 := tw_adv_same hL4 hV hM hGn hcl hb hbP hbm hm' hz' hmin
        have e2 : m' = m := tw_S_inj hM.2.2.2.1 hm' hm (e1.trans (hs.trans hom.symm))
        subst e2
        refine tw_y_commit (p := b) (M1 := M1) (by omega) hM1 (by omega) (by omega) hRY hzd rfl ?_
        rw [nI_1, p2, p4, p5]
        exact h
theorem tw_advance {u : SX} {v : SY} {B' : Nat} (hB : B ≤ B') (hR : tw_Rel B u v) : wpX_advance (fun r u' => wpY_advance (fun r' v' => r' = r ∧ tw_Rel B' u' v') v) u := by
  refine tw_el (P := fun u v => wpX_advance (fun r u' => wpY_advance (fun r' v' => r' = r ∧ tw_Rel B' u' v') v) u) ?_ hR
  intro Lp Rm Tl N Ns G tr op co la lb lg lh se sr ti pa ca po an sb sf ss cu cm ct D o q l d t zs zr zd zt zp zc zo za ru hZ
  obtain ⟨⟨n1, n2, n3, n4, n5, n6, n7, n8, n9⟩, hV, hE, hRR, hRY, hP, hzo, hza, htk⟩ := id hZ
  obtain ⟨Gn, hGn, hcl, GX, GY⟩ := tw_gvt hZ
  unfold wpX_advance
  dsimp only
  refine GX _ ⟨49, ?_⟩
  have hTk0 : ∀ s, ¬ tw_Tk Lp q t s := by
    intro s z
    obtain ⟨p, j, h1, h2, _⟩ := z
    rw [htk p h1] at h2
    omega
  have hM0 : tw_Mid Lp Gn N Ns 0 N op co se sr ti pa ca po an cm po cm D o q d t o zs zr zd zt zp zc zo za := by
    refine ⟨fun p hp => ?_, fun s => ⟨fun z => absurd z (hTk0 s), fun _ => rfl⟩, fun s => ⟨fun z => ⟨z, hTk0 s⟩, fun z => z.1⟩, hV.2.1, by omega, hP, hzo, hza⟩
    rw [htk p hp]
    exact ⟨by omega, rfl⟩
  refine tw_adv_loop (S := fun post => wpY_advance post (nI Lp, nI Rm, nI Tl, nI G, tr, nI Ns, nI N, zs, zr, zd, zt, zp, zc, zo, za, ru, cm, ct)) n2 (by omega) hV hRY hGn hcl ?_ 48 0 N tr po cm ct t o zs zr zd zt zp zc zo za (by omega) hM0 (fun _ => htk) (fun post h => GY post ⟨49, h⟩)
  intro c M tr' po1 cm1 ct' t' ot ys yr yd yt yp yc yo ya hc hM hc0 hend HS
  have hl48 := tw_V_l48 (by omega) hV
  have hdl := tw_V_dl hV
  refine pk_le c 0 (fun z => ?_) (fun z => ?_)
  · have hc' : c = 0 := by omega
    have ht0 := hc0 hc'
    have hT0 : ∀ s, ¬ tw_Tk Lp q t' s := by
      intro s z
      obtain ⟨p, j, h1, h2, _⟩ := z
      rw [ht0 p h1] at h2
      omega
    obtain ⟨e1, hZ'⟩ := tw_Z_fin (o' := o) (K := N) (q' := q) (l' := l) (d' := d) (t' := t') (tr' := tr') (ct' := ct') hZ hM hGn hend hV.1 (fun s => ⟨fun w => ⟨w, hT0 s⟩, fun w => w.1⟩) hV.2.1.1 (fun p hp => ⟨fun _ => by
      rw [ht0 p hp]
      exact ⟨by omega, by omega, rfl, fun j hj => by rw [Nat.zero_add]⟩, fun w => by omega⟩)
    subst e1
    exact HS _ ⟨rfl, tw_mk (tw_Z_up hB hZ')⟩
  · refine tw_x_dq n2 hl48 hdl (fun p hp => (hM.1 p hp).1) ?_
    intro q' l' d' t'' hDQ
    refine tw_x_do (by omega) hV.1 hV.2.1 ?_
    intro o' K hK hDO
    obtain ⟨d1, d2, d3, d4, d5, d6⟩ := hDO
    have hlive : ∀ i, i < N → (po1 (o i) ≠ 0 ↔ ¬ tw_Tk Lp q t' (o i)) := by
      intro i hi
      obtain ⟨a1, a2⟩ := hM.2.1 (o i)
      refine ⟨fun w v => w (a1 v).1, fun w v => ?_⟩
      rw [a2 w] at v
      rcases (hV.2.2.1 (o i) ⟨i, hi, rfl⟩).2.2.2.2 with g | g | g
      · rw [g] at v; exact absurd v (by decide)
      · rw [g] at v; exact absurd v (by decide)
      · rw [g] at v; exact absurd v (by decide)
    obtain ⟨e1, hZ'⟩ := tw_Z_fin (o' := o') (K := K) (q' := q') (l' := l') (d' := d') (t' := t'') (tr' := tr') (ct' := ct') hZ hM hGn hend d1 (fun s => by
      refine ⟨fun w => ?_, fun w => ?_⟩
      · obtain ⟨a, ha, ea⟩ := w
        obtain ⟨j, j1, j2, j3⟩ := d4 a ha
        rw [← ea, ← j2]
        exact ⟨⟨j, j1, rfl⟩, (hlive j j1).1 j3⟩
      · obtain ⟨⟨j, j1, rfl⟩, j2⟩ := w
        obtain ⟨a, a1, a2⟩ := d5 j j1 ((hlive j j1).2 j2)
        exact ⟨a, a1, a2⟩) d6 hDQ
    subst e1
    exact HS _ ⟨rfl, tw_mk (tw_Z_up hB hZ')⟩
end TWAA
end
section
section TWBB
/-! THE CONSTRUCTORS -/
def tw_nx (Lp p : Nat) : Nat := if p + 1 < Lp then p + 1 else 0
def tw_la (Lp : Nat) : Nat → Nat → Int32
  | 0 => fun _ => 0
  | p + 1 => upd (upd (tw_la Lp p) (2 * p) (nI (tw_nx Lp p))) (2 * p + 1) (nI (tw_nx Lp p))
def tw_lb : Nat → Nat → Int32
  | 0 => fun _ => 0
  | p + 1 => upd (upd (tw_lb p) (2 * p) 1) (2 * p + 1) 1
def tw_rq (Lp : Nat) : Nat → Nat → Int32
  | 0 => fun _ => 0
  | p + 1 => upd (upd (upd (upd (tw_rq Lp p) (10 * p + 2) (nI (tw_nx Lp p))) (10 * p + 3) 1) (10 * p + 6) (nI (tw_nx Lp p))) (10 * p + 7) 1
theorem tw_rq_RY (Lp : Nat) : ∀ p, tw_RY (fun _ => 0) (fun _ => 0) (tw_la Lp p) (tw_lb p) (fun _ => 0) (fun _ => 0) (tw_rq Lp p) := by
  intro p
  induction p with
  | zero =>
    intro p' _
    exact ⟨rfl, rfl, fun k _ => ⟨rfl, rfl, rfl, rfl⟩⟩
  | succ p ih => exact tw_RY_ln (p := p) (c := 1) (by omega) (tw_RY_ln (p := p) (c := 0) (by omega) ih)
theorem tw_la_R (Lp : Nat) : ∀ p, p ≤ Lp → ∀ k, k < 2 * p → (∃ a, a < Lp ∧ tw_la Lp p k = nI a) ∧ 1 ≤ (tw_lb p k).toInt ∧ (tw_lb p k).toInt ≤ 100 := by
  intro p
  induction p with
  | zero => intro _ k hk; omega
  | succ p ih =>
    intro hp k hk
    have hnx : tw_nx Lp p < Lp := by
      unfold tw_nx
      split <;> omega
    show (∃ a, a < Lp ∧ upd (upd (tw_la Lp p) (2 * p) (nI (tw_nx Lp p))) (2 * p + 1) (nI (tw_nx Lp p)) k = nI a) ∧ 1 ≤ (upd (upd (tw_lb p) (2 * p) 1) (2 * p + 1) 1 k).toInt ∧ (upd (upd (tw_lb p) (2 * p) 1) (2 * p + 1) 1 k).toInt ≤ 100
    by_cases h1 : k = 2 * p + 1
    · rw [h1, pk_us, pk_us, tw_t1]
      exact ⟨⟨_, hnx, rfl⟩, by omega, by omega⟩
    · rw [pk_un h1, pk_un h1]
      by_cases h2 : k = 2 * p
      · rw [h2, pk_us, pk_us, tw_t1]
        exact ⟨⟨_, hnx, rfl⟩, by omega, by omega⟩
      · rw [pk_un h2, pk_un h2]
        exact ih (by omega) k (by omega)
def tw_oi (i : Nat) : Nat → Nat := fun j => if j < i then j else 0
def tw_mi (i : Nat) : Nat → Int32 := fun j => if j < i then -1 else 0
theorem tw_oi_s (i : Nat) : upd (tw_I (tw_oi i)) i (nI i) = tw_I (tw_oi (i + 1)) := by
  rw [tw_Iu]
  refine congrArg tw_I ?_
  funext j
  unfold tw_u tw_oi
  by_cases h : j = i
  · rw [if_pos h, if_pos (by omega), h]
  · rw [if_neg h]
    by_cases h2 : j < i
    · rw [if_pos h2, if_pos (by omega)]
    · rw [if_neg h2, if_neg (by omega)]
theorem tw_mi_s (i : Nat) : upd (tw_mi i) i (-1) = tw_mi (i + 1) := by
  funext j
  unfold upd tw_mi
  by_cases h : j = i
  · rw [if_pos h, if_pos (by omega)]
  · rw [if_neg h]
    by_cases h2 : j < i
    · rw [if_pos h2, if_pos (by omega)]
    · rw [if_neg h2, if_neg (by omega)]
theorem tw_u00 (k : Nat) : upd (fun _ => (0 : Int32)) k 0 = fun _ => 0 := by
  funext j
  unfold upd
  split <;> rfl
variable {Lp Rm Tl : Nat}
theorem tw_x_i280 {post : SX → Prop} (hL4 : Lp ≤ 4)
    (h : post (nI Lp, nI Rm, nI Tl, 0, 0, 0, 1, fun _ => 0, fun _ => 0, tw_la Lp Lp, tw_lb Lp, fun _ => 0, fun _ => 0, fun _ => 0, fun _ => 0, fun _ => 0, fun _ => 0, fun _ => 0, fun _ => 0, fun _ => 0, fun _ => 0, fun _ => 0, tw_mi 48, tw_mi 48, tw_I (tw_oi 48), fun _ => 0, fun _ => 0, fun _ => 0, fun _ => 0, fun _ => 0, fun _ => 0, fun _ => 0)) :
    ∀ k p, p + k = Lp → wX_init_280 post (nI Lp) (nI Rm) (nI Tl) 0 0 0 1 (k + 1) (nI p) (fun _ => 0) (fun _ => 0) (tw_la Lp p) (tw_lb p) (fun _ => 0) (fun _ => 0) (fun _ => 0) (fun _ => 0) (fun _ => 0) (fun _ => 0) (fun _ => 0) (fun _ => 0) (fun _ => 0) (fun _ => 0) (fun _ => 0) (tw_mi 48) (tw_mi 48) (tw_I (tw_oi 48)) (fun _ => 0) (fun _ => 0) (fun _ => 0) (fun _ => 0) (fun _ => 0) (fun _ => 0) (fun _ => 0) := by
  intro k
  induction k with
  | zero =>
    intro p hp
    have : p = Lp := by omega
    subst this
    exact pk_le p p (fun _ => h) (fun z => absurd z (by omega))
  | succ k ih =>
    intro p hp
    have H307 : ∀ x5 : Int32, x5 = nI (tw_nx Lp p) → wX_init_307 post (wX_init_280 post (nI Lp) (nI Rm) (nI Tl) 0 0 0 1 (k + 1)) (nI p) x5 (nI Lp) (nI Rm) (nI Tl) 0 0 0 1 (fun _ => 0) (fun _ => 0) (tw_la Lp p) (tw_lb p) (fun _ => 0) (fun _ => 0) (fun _ => 0) (fun _ => 0) (fun _ => 0) (fun _ => 0) (fun _ => 0) (fun _ => 0) (fun _ => 0) (fun _ => 0) (fun _ => 0) (tw_mi 48) (tw_mi 48) (tw_I (tw_oi 48)) (fun _ => 0) (fun _ => 0) (fun _ => 0) (fun _ => 0) (fun _ => 0) (fun _ => 0) (fun _ => 0) := by
      intro x5 hx
      subst hx
      have i0 : vp_in (nI (2 * p)) 8 := pk_in (2 * p) 8 (by omega)
      have i1 : vp_in (nI (2 * p + 1)) 8 := pk_in (2 * p + 1) 8 (by omega)
      have e2 : 2 * nI p + 2 = nI (2 * p + 2) := by rw [tw_m2]; exact nI_add (2 * p) 2
      refine And.intro (pk_in p 4 (by omega)) (nm_r (tw_u00 _) (nm_r (tw_m2 p) ⟨3, ?_⟩))
      refine pk_le (2 * p + 2) (2 * p) (fun z => absurd z (by omega)) (fun _ => ?_) e2
      refine And.intro i0 (nm_r (tw_ru _ rfl (by omega) rfl) (And.intro i0 (nm_r (tw_ru _ rfl (by omega) rfl) (And.intro i0 (nm_r (tw_u00 _) (And.intro i0 (nm_r (tw_u00 _) (nm_r (nI_1 _) ?_))))))))
      refine pk_le (2 * p + 2) (2 * p + 1) (fun z => absurd z (by omega)) (fun _ => ?_) e2
      refine And.intro i1 (nm_r (tw_ru _ rfl (by omega) rfl) (And.intro i1 (nm_r (tw_ru _ rfl (by omega) rfl) (And.intro i1 (nm_r (tw_u00 _) (And.intro i1 (nm_r (tw_u00 _) (nm_r (nI_1 _) ?_))))))))
      refine pk_le (2 * p + 2) (2 * p + 2) (fun _ => nm_r (nI_1 p) ?_) (fun z => absurd z (by omega)) e2
      exact ih (p + 1) (by omega)
    refine pk_le Lp p (fun z => absurd z (by omega)) (fun _ => nm_r (nI_1 p) (pk_lt (p + 1) Lp (fun z => H307 _ ?_) (fun z => H307 _ ?_)))
    · unfold tw_nx; rw [if_pos z]
    · unfold tw_nx; rw [if_neg (by omega)]; rfl
theorem tw_x_i239 {post : SX → Prop} (hL4 : Lp ≤ 4)
    (h : post (nI Lp, nI Rm, nI Tl, 0, 0, 0, 1, fun _ => 0, fun _ => 0, tw_la Lp Lp, tw_lb Lp, fun _ => 0, fun _ => 0, fun _ => 0, fun _ => 0, fun _ => 0, fun _ => 0, fun _ => 0, fun _ => 0, fun _ => 0, fun _ => 0, fun _ => 0, tw_mi 48, tw_mi 48, tw_I (tw_oi 48), fun _ => 0, fun _ => 0, fun _ => 0, fun _ => 0, fun _ => 0, fun _ => 0, fun _ => 0)) :
    ∀ k i, i + k = 48 → wX_init_239 post (nI Lp) (nI Rm) (nI Tl) 0 0 0 1 (k + 1) (nI i) (fun _ => 0) (fun _ => 0) (fun _ => 0) (fun _ => 0) (fun _ => 0) (fun _ => 0) (fun _ => 0) (fun _ => 0) (fun _ => 0) (fun _ => 0) (fun _ => 0) (fun _ => 0) (fun _ => 0) (fun _ => 0) (fun _ => 0) (tw_mi i) (tw_mi i) (tw_I (tw_oi i)) (fun _ => 0) (fun _ => 0) (fun _ => 0) (fun _ => 0) (fun _ => 0) (fun _ => 0) (fun _ => 0) := by
  intro k
  induction k with
  | zero =>
    intro i hi
    have : i = 48 := by omega
    subst this
    exact pk_le 48 48 (fun _ => ⟨Lp + 1, tw_x_i280 hL4 h Lp 0 (by omega)⟩) (fun z => absurd z (by omega))
  | succ k ih =>
    intro i hi
    have ii : vp_in (nI i) 48 := pk_in i 48 (by omega)
    have ci : (nI i).toNatClampNeg = i := nI_clamp (by omega)
    refine pk_le 48 i (fun z => absurd z (by omega)) (fun _ => And.intro ii ?_)
    rw [ci]
    exact nm_r (tw_oi_s i) (And.intro ii (nm_r (tw_mi_s i) (And.intro ii (nm_r (tw_mi_s i) (nm_r (nI_1 i) (ih (i + 1) (by omega)))))))
theorem tw_y_i150 {post : SY → Prop} (hL4 : Lp ≤ 4) (h : post (nI Lp, nI Rm, nI Tl, 0, 1, 0, 0, fun _ => 0, fun _ => 0, fun _ => 0, fun _ => 0, fun _ => 0, fun _ => 0, fun _ => 0, fun _ => 0, tw_rq Lp Lp, fun _ => 0, fun _ => 0)) :
    ∀ k p, p + k = Lp → wY_init_150 post (nI Lp) (nI Rm) (nI Tl) 0 1 0 0 (k + 1) (nI p) (fun _ => 0) (fun _ => 0) (fun _ => 0) (fun _ => 0) (fun _ => 0) (fun _ => 0) (fun _ => 0) (fun _ => 0) (tw_rq Lp p) (fun _ => 0) (fun _ => 0) := by
  intro k
  induction k with
  | zero =>
    intro p hp
    have : p = Lp := by omega
    subst this
    exact pk_le p p (fun _ => h) (fun z => absurd z (by omega))
  | succ k ih =>
    intro p hp
    have H178 : ∀ z0 : Int32, z0 = nI (tw_nx Lp p) → wY_init_178 post (wY_init_150 post (nI Lp) (nI Rm) (nI Tl) 0 1 0 0 (k + 1)) (nI p) z0 (nI Lp) (nI Rm) (nI Tl) 0 1 0 0 (fun _ => 0) (fun _ => 0) (fun _ => 0) (fun _ => 0) (fun _ => 0) (fun _ => 0) (fun _ => 0) (fun _ => 0) (tw_rq Lp p) (fun _ => 0) (fun _ => 0) := by
      intro z0 hz
      subst hz
      have e : ∀ c : Nat, nI p * 10 + nI c = nI (10 * p + c) := fun c => by rw [tw_m10, nI_add]
      exact And.intro (pk_in _ 40 (by omega) (e 2)) (nm_r (tw_ru _ (e 2) (by omega) rfl) (And.intro (pk_in _ 40 (by omega) (e 3)) (nm_r (tw_ru _ (e 3) (by omega) rfl) (And.intro (pk_in _ 40 (by omega) (e 6)) (nm_r (tw_ru _ (e 6) (by omega) rfl) (And.intro (pk_in _ 40 (by omega) (e 7)) (nm_r (tw_ru _ (e 7) (by omega) rfl) (nm_r (nI_1 p) (ih (p + 1) (by omega))))))))))
    have eL : nI Lp - 1 = nI (Lp - 1) := tw_s1 (by omega)
    refine pk_le Lp p (fun z => absurd z (by omega)) (fun _ => pk_eq p (Lp - 1) (fun z => H178 _ ?_) (fun z => H178 _ ?_) rfl eL)
    · unfold tw_nx; rw [if_neg (by omega)]; rfl
    · unfold tw_nx; rw [if_pos (by omega), nI_1]
theorem tw_clamp (x : Int32) (lo hi : Nat) (h : lo ≤ hi) (hh : hi < 2 ^ 31) : ∃ c, lo ≤ c ∧ c ≤ hi ∧ (∀ post : Int32 → Prop, post (nI c) → wpX_clamp post x (nI lo) (nI hi)) ∧ ∀ (post : Int32 → Prop) (u : SY), post (nI c) → wpY_clamp post u x (nI lo) (nI hi) := by
  by_cases h1 : nI lo ≤ x
  · have h0 : ¬ x < 0 := by
      rw [Int32.le_iff_toInt_le, nI_toInt (by omega)] at h1
      rw [Int32.lt_iff_toInt_lt, tw_t0]
      omega
    obtain ⟨j, hj, rfl⟩ := nI_of h0
    rw [nI_leI (by omega) hj] at h1
    by_cases h2 : j ≤ hi
    · exact ⟨j, h1, h2, fun post hp => br_t (nI_le h1 hj) (br_t (nI_le h2 hh) hp), fun post u hp => br_t (nI_le h1 hj) (br_t (nI_le h2 hh) hp)⟩
    · exact ⟨hi, h, Nat.le_refl _, fun post hp => br_t (nI_le h1 hj) (br_f (nI_ge (by omega) hj) hp), fun post u hp => br_t (nI_le h1 hj) (br_f (nI_ge (by omega) hj) hp)⟩
  · exact ⟨lo, Nat.le_refl _, h, fun post hp => br_f h1 hp, fun post u hp => br_f h1 hp⟩
theorem tw_init (k0 k1 k2 : Int32) : wpX_init (fun u => wpY_init (fun v => tw_Rel 24 u v) k0 k1 k2) k0 k1 k2 := by
  obtain ⟨Lp, l1, l2, LX, LY⟩ := tw_clamp k0 2 4 (by omega) (by omega)
  obtain ⟨Rm, r1, r2, RX, RY⟩ := tw_clamp k1 4 48 (by omega) (by omega)
  obtain ⟨Tl, t1, t2, TX, TY⟩ := tw_clamp k2 10 1000 (by omega) (by omega)
  refine LX _ (RX _ (TX _ ⟨49, tw_x_i239 (Lp := Lp) (Rm := Rm) (Tl := Tl) l2 ?_ 48 0 (by omega)⟩))
  refine LY _ _ (RY _ _ (TY _ _ ⟨Lp + 1, tw_y_i150 (Lp := Lp) (Rm := Rm) (Tl := Tl) l2 ?_ Lp 0 (by omega)⟩))
  have hL : ∀ s, ¬ tw_L (tw_oi 48) 0 s := by
    intro s z
    obtain ⟨i, hi, _⟩ := z
    omega
  refine tw_mk (Lp := Lp) (Rm := Rm) (Tl := Tl) (N := 0) (Ns := 0) (G := 0) (tr := 1) (op := fun _ => 0) (co := fun _ => 0) (la := tw_la Lp Lp) (lb := tw_lb Lp) (lg := fun _ => 0) (lh := fun _ => 0) (se := fun _ => 0) (sr := fun _ => 0) (ti := fun _ => 0) (pa := fun _ => 0) (ca := fun _ => 0) (po := fun _ => 0) (an := fun _ => 0) (sb := fun _ => 0) (sf := tw_mi 48) (ss := tw_mi 48) (cu := fun _ => 0) (cm := fun _ => 0) (ct := fun _ => 0) (D := fun _ => 0) (o := tw_oi 48) (q := fun _ => 0) (l := fun _ => 0) (d := fun _ => 0) (t := fun _ => 0) (zs := fun _ => 0) (zr := fun _ => 0) (zd := fun _ => 0) (zt := fun _ => 0) (zp := fun _ => 0) (zc := fun _ => 0) (zo := fun _ => 0) (za := fun _ => 0) (ru := tw_rq Lp Lp) ?_
  refine ⟨⟨l1, l2, r1, r2, t1, t2, by omega, by omega, by omega⟩, ⟨⟨?_, ?_⟩, ⟨?_, ?_⟩, ?_, ?_, ⟨?_, ?_⟩, ?_⟩, ?_, tw_la_R Lp Lp (Nat.le_refl _), tw_rq_RY Lp Lp, ?_, ?_, ?_, ?_⟩
  · intro i hi
    unfold tw_oi
    rw [if_pos hi]; exact hi
  · intro i j hi hj e
    unfold tw_oi at e
    rw [if_pos hi, if_pos hj] at e
    exact e
  · intro i j _ hj; omega
  · intro i hi; omega
  · intro s hs; exact absurd hs (hL s)
  · intro s hs; exact absurd hs (hL s)
  · intro p _
    exact ⟨Nat.le_refl _, fun j hj => absurd hj (Nat.not_lt_zero j), fun j k _ hk => absurd hk (Nat.not_lt_zero k)⟩
  · intro s hs; exact absurd hs (hL s)
  · intro p _
    exact ⟨rfl, fun j hj => absurd hj (Nat.not_lt_zero j)⟩
  · intro s hs; exact absurd hs (hL s)
  · intro i hi; omega
  · intro i hi; omega
  · intro i hi; omega
  · intro p _; rfl
end TWBB
end
section
section TWCC
/-! WHAT IS OWED -/
def i_Rel (k : Nat) (u : SX) (v : SY) : Prop := tw_Rel (8 * k) u v
theorem i_up {k : Nat} {u : SX} {v : SY} (h : i_Rel k u v) : i_Rel (k + 5) u v := tw_Rel_up (by omega) h
theorem i_vc0 (k0 : Int32) (k1 : Int32) (k2 : Int32) : wpX_init (fun u => wpY_init (fun v => i_Rel 3 u v) k0 k1 k2) k0 k1 k2 := tw_init k0 k1 k2
theorem i_vc_setOp {k : Nat} {u : SX} {v : SY} (I : i_Rel k u v) (hk : k + 5 ≤ 2563) (v1 : Int32) (v2 : Int32) (v3 : Int32) : wpX_setOp (fun r u' => wpY_setOp (fun r' v' => r' = r ∧ i_Rel (k + 5) u' v') v v1 v2 v3) u v1 v2 v3 := by
  obtain ⟨r, v', HY, HX⟩ := tw_el (P := fun u v => tw_Lk (8 * k) (fun post => wpX_setOp post u v1 v2 v3) (fun post => wpY_setOp post v v1 v2 v3)) (fun Lp Rm Tl N Ns G tr op co la lb lg lh se sr ti pa ca po an sb sf ss cu cm ct D o q l d t zs zr zd zt zp zc zo za ru hZ => tw_l_setOp hZ (by omega) v1 v2 v3) I
  exact HX _ (fun u' hR => HY _ ⟨rfl, tw_Rel_up (by omega) hR⟩)
theorem i_vc_setLink {k : Nat} {u : SX} {v : SY} (I : i_Rel k u v) (hk : k + 5 ≤ 2563) (v1 : Int32) (v2 : Int32) (v3 : Int32) (v4 : Int32) : wpX_setLink (fun r u' => wpY_setLink (fun r' v' => r' = r ∧ i_Rel (k + 5) u' v') v v1 v2 v3 v4) u v1 v2 v3 v4 := by
  obtain ⟨r, v', HY, HX⟩ := tw_el (P := fun u v => tw_Lk (8 * k) (fun post => wpX_setLink post u v1 v2 v3 v4) (fun post => wpY_setLink post v v1 v2 v3 v4)) (fun Lp Rm Tl N Ns G tr op co la lb lg lh se sr ti pa ca po an sb sf ss cu cm ct D o q l d t zs zr zd zt zp zc zo za ru hZ => tw_l_setLink hZ (by omega) v1 v2 v3 v4) I
  exact HX _ (fun u' hR => HY _ ⟨rfl, tw_Rel_up (by omega) hR⟩)
theorem i_vc_setGuard {k : Nat} {u : SX} {v : SY} (I : i_Rel k u v) (hk : k + 5 ≤ 2563) (v1 : Int32) (v2 : Int32) (v3 : Int32) (v4 : Int32) : wpX_setGuard (fun r u' => wpY_setGuard (fun r' v' => r' = r ∧ i_Rel (k + 5) u' v') v v1 v2 v3 v4) u v1 v2 v3 v4 := by
  obtain ⟨r, v', HY, HX⟩ := tw_el (P := fun u v => tw_Lk (8 * k) (fun post => wpX_setGuard post u v1 v2 v3 v4) (fun post => wpY_setGuard post v v1 v2 v3 v4)) (fun Lp Rm Tl N Ns G tr op co la lb lg lh se sr ti pa ca po an sb sf ss cu cm ct D o q l d t zs zr zd zt zp zc zo za ru hZ => tw_l_setGuard hZ (by omega) v1 v2 v3 v4) I
  exact HX _ (fun u' hR => HY _ ⟨rfl, tw_Rel_up (by omega) hR⟩)
theorem i_vc_inject {k : Nat} {u : SX} {v : SY} (I : i_Rel k u v) (hk : k + 5 ≤ 2563) (v1 : Int32) (v2 : Int32) (v3 : Int32) : wpX_inject (fun r u' => wpY_inject (fun r' v' => r' = r ∧ i_Rel (k + 5) u' v') v v1 v2 v3) u v1 v2 v3 := by
  obtain ⟨r, v', HY, HX⟩ := tw_el (P := fun u v => tw_Lk (8 * k + 1) (fun post => wpX_inject post u v1 v2 v3) (fun post => wpY_inject post v v1 v2 v3)) (fun Lp Rm Tl N Ns G tr op co la lb lg lh se sr ti pa ca po an sb sf ss cu cm ct D o q l d t zs zr zd zt zp zc zo za ru hZ => tw_l_inject hZ (by omega) v1 v2 v3) I
  exact HX _ (fun u' hR => HY _ ⟨rfl, tw_Rel_up (by omega) hR⟩)
theorem i_vc_withdraw {k : Nat} {u : SX} {v : SY} (I : i_Rel k u v) (hk : k + 5 ≤ 2563) (v1 : Int32) : wpX_withdraw (fun r u' => wpY_withdraw (fun r' v' => r' = r ∧ i_Rel (k + 5) u' v') v v1) u v1 := by
  obtain ⟨r, v', HY, HX⟩ := tw_el (P := fun u v => tw_Lk (8 * k) (fun post => wpX_withdraw post u v1) (fun post => wpY_withdraw post v v1)) (fun Lp Rm Tl N Ns G tr op co la lb lg lh se sr ti pa ca po an sb sf ss cu cm ct D o q l d t zs zr zd zt zp zc zo za ru hZ => tw_l_withdraw hZ (by omega) v1) I
  exact HX _ (fun u' hR => HY _ ⟨rfl, tw_Rel_up (by omega) hR⟩)
theorem i_vc_step {k : Nat} {u : SX} {v : SY} (I : i_Rel k u v) (hk : k + 5 ≤ 2563) (v1 : Int32) : wpX_step (fun r u' => wpY_step (fun r' v' => r' = r ∧ i_Rel (k + 5) u' v') v v1) u v1 := by
  obtain ⟨r, v', HY, HX⟩ := tw_el (P := fun u v => tw_Lk (8 * k + 2) (fun post => wpX_step post u v1) (fun post => wpY_step post v v1)) (fun Lp Rm Tl N Ns G tr op co la lb lg lh se sr ti pa ca po an sb sf ss cu cm ct D o q l d t zs zr zd zt zp zc zo za ru hZ => tw_l_step hZ (by omega) v1) I
  exact HX _ (fun u' hR => HY _ ⟨rfl, tw_Rel_up (by omega) hR⟩)
theorem i_vc_deliver {k : Nat} {u : SX} {v : SY} (I : i_Rel k u v) (hk : k + 5 ≤ 2563) (v1 : Int32) : wpX_deliver (fun r u' => wpY_deliver (fun r' v' => r' = r ∧ i_Rel (k + 5) u' v') v v1) u v1 := by
  obtain ⟨r, v', HY, HX⟩ := tw_el (P := fun u v => tw_Lk (8 * k) (fun post => wpX_deliver post u v1) (fun post => wpY_deliver post v v1)) (fun Lp Rm Tl N Ns G tr op co la lb lg lh se sr ti pa ca po an sb sf ss cu cm ct D o q l d t zs zr zd zt zp zc zo za ru hZ => tw_l_deliver hZ (by omega) v1) I
  exact HX _ (fun u' hR => HY _ ⟨rfl, tw_Rel_up (by omega) hR⟩)
theorem i_vc_settle {k : Nat} {u : SX} {v : SY} (I : i_Rel k u v) (hk : k + 5 ≤ 2563) (v1 : Int32) : wpX_settle (fun r u' => wpY_settle (fun r' v' => r' = r ∧ i_Rel (k + 5) u' v') v v1) u v1 := by
  exact tw_settle (by omega) (by omega) I
theorem i_vc_advance {k : Nat} {u : SX} {v : SY} (I : i_Rel k u v) (hk : k + 5 ≤ 2563) : wpX_advance (fun r u' => wpY_advance (fun r' v' => r' = r ∧ i_Rel (k + 5) u' v') v) u := tw_advance (by omega) I
theorem i_vc_gvt {k : Nat} {u : SX} {v : SY} (I : i_Rel k u v) (hk : k + 5 ≤ 2563) : wpX_gvt (fun r => wpY_gvt (fun r' => r' = r ∧ i_Rel (k + 5) u v) v) u := by
  obtain ⟨r, HX, HY⟩ := tw_el (P := fun u v => tw_Ro (fun post => wpX_gvt post u) (fun post => wpY_gvt post v)) (fun Lp Rm Tl N Ns G tr op co la lb lg lh se sr ti pa ca po an sb sf ss cu cm ct D o q l d t zs zr zd zt zp zc zo za ru hZ => tw_r_gvt) I
  exact HX _ (HY _ ⟨rfl, i_up I⟩)
theorem i_vc_state {k : Nat} {u : SX} {v : SY} (I : i_Rel k u v) (hk : k + 5 ≤ 2563) (v1 : Int32) : wpX_state (fun r => wpY_state (fun r' => r' = r ∧ i_Rel (k + 5) u v) v v1) u v1 := by
  obtain ⟨r, HX, HY⟩ := tw_el (P := fun u v => tw_Ro (fun post => wpX_state post u v1) (fun post => wpY_state post v v1)) (fun Lp Rm Tl N Ns G tr op co la lb lg lh se sr ti pa ca po an sb sf ss cu cm ct D o q l d t zs zr zd zt zp zc zo za ru hZ => tw_r_state hZ v1) I
  exact HX _ (HY _ ⟨rfl, i_up I⟩)
theorem i_vc_lvt {k : Nat} {u : SX} {v : SY} (I : i_Rel k u v) (hk : k + 5 ≤ 2563) (v1 : Int32) : wpX_lvt (fun r => wpY_lvt (fun r' => r' = r ∧ i_Rel (k + 5) u v) v v1) u v1 := by
  obtain ⟨r, HX, HY⟩ := tw_el (P := fun u v => tw_Ro (fun post => wpX_lvt post u v1) (fun post => wpY_lvt post v v1)) (fun Lp Rm Tl N Ns G tr op co la lb lg lh se sr ti pa ca po an sb sf ss cu cm ct D o q l d t zs zr zd zt zp zc zo za ru hZ => tw_r_lvt hZ v1) I
  exact HX _ (HY _ ⟨rfl, i_up I⟩)
theorem i_vc_pending {k : Nat} {u : SX} {v : SY} (I : i_Rel k u v) (hk : k + 5 ≤ 2563) (v1 : Int32) : wpX_pending (fun r => wpY_pending (fun r' => r' = r ∧ i_Rel (k + 5) u v) v v1) u v1 := by
  obtain ⟨r, HX, HY⟩ := tw_el (P := fun u v => tw_Ro (fun post => wpX_pending post u v1) (fun post => wpY_pending post v v1)) (fun Lp Rm Tl N Ns G tr op co la lb lg lh se sr ti pa ca po an sb sf ss cu cm ct D o q l d t zs zr zd zt zp zc zo za ru hZ => tw_r_pend hZ v1) I
  exact HX _ (HY _ ⟨rfl, i_up I⟩)
theorem i_vc_committedState {k : Nat} {u : SX} {v : SY} (I : i_Rel k u v) (hk : k + 5 ≤ 2563) (v1 : Int32) : wpX_committedState (fun r => wpY_committedState (fun r' => r' = r ∧ i_Rel (k + 5) u v) v v1) u v1 := by
  obtain ⟨r, HX, HY⟩ := tw_el (P := fun u v => tw_Ro (fun post => wpX_committedState post u v1) (fun post => wpY_committedState post v v1)) (fun Lp Rm Tl N Ns G tr op co la lb lg lh se sr ti pa ca po an sb sf ss cu cm ct D o q l d t zs zr zd zt zp zc zo za ru hZ => tw_r_cs v1 hZ.1.2.1) I
  exact HX _ (HY _ ⟨rfl, i_up I⟩)
theorem i_vc_committedCount {k : Nat} {u : SX} {v : SY} (I : i_Rel k u v) (hk : k + 5 ≤ 2563) (v1 : Int32) : wpX_committedCount (fun r => wpY_committedCount (fun r' => r' = r ∧ i_Rel (k + 5) u v) v v1) u v1 := by
  obtain ⟨r, HX, HY⟩ := tw_el (P := fun u v => tw_Ro (fun post => wpX_committedCount post u v1) (fun post => wpY_committedCount post v v1)) (fun Lp Rm Tl N Ns G tr op co la lb lg lh se sr ti pa ca po an sb sf ss cu cm ct D o q l d t zs zr zd zt zp zc zo za ru hZ => tw_r_cc v1 hZ.1.2.1) I
  exact HX _ (HY _ ⟨rfl, i_up I⟩)
theorem i_vc_commitTrace {k : Nat} {u : SX} {v : SY} (I : i_Rel k u v) (hk : k + 5 ≤ 2563) : wpX_commitTrace (fun r => wpY_commitTrace (fun r' => r' = r ∧ i_Rel (k + 5) u v) v) u := by
  obtain ⟨r, HX, HY⟩ := tw_el (P := fun u v => tw_Ro (fun post => wpX_commitTrace post u) (fun post => wpY_commitTrace post v)) (fun Lp Rm Tl N Ns G tr op co la lb lg lh se sr ti pa ca po an sb sf ss cu cm ct D o q l d t zs zr zd zt zp zc zo za ru hZ => tw_r_trace) I
  exact HX _ (HY _ ⟨rfl, i_up I⟩)
theorem i_vc_live {k : Nat} {u : SX} {v : SY} (I : i_Rel k u v) (hk : k + 5 ≤ 2563) : wpX_live (fun r => wpY_live (fun r' => r' = r ∧ i_Rel (k + 5) u v) v) u := by
  obtain ⟨r, HX, HY⟩ := tw_el (P := fun u v => tw_Ro (fun post => wpX_live post u) (fun post => wpY_live post v)) (fun Lp Rm Tl N Ns G tr op co la lb lg lh se sr ti pa ca po an sb sf ss cu cm ct D o q l d t zs zr zd zt zp zc zo za ru hZ => tw_r_live) I
  exact HX _ (HY _ ⟨rfl, i_up I⟩)
theorem i_vc_serials {k : Nat} {u : SX} {v : SY} (I : i_Rel k u v) (hk : k + 5 ≤ 2563) : wpX_serials (fun r => wpY_serials (fun r' => r' = r ∧ i_Rel (k + 5) u v) v) u := by
  obtain ⟨r, HX, HY⟩ := tw_el (P := fun u v => tw_Ro (fun post => wpX_serials post u) (fun post => wpY_serials post v)) (fun Lp Rm Tl N Ns G tr op co la lb lg lh se sr ti pa ca po an sb sf ss cu cm ct D o q l d t zs zr zd zt zp zc zo za ru hZ => tw_r_serials) I
  exact HX _ (HY _ ⟨rfl, i_up I⟩)
theorem i_vc_flying {k : Nat} {u : SX} {v : SY} (I : i_Rel k u v) (hk : k + 5 ≤ 2563) (v1 : Int32) : wpX_flying (fun r => wpY_flying (fun r' => r' = r ∧ i_Rel (k + 5) u v) v v1) u v1 := by
  obtain ⟨r, HX, HY⟩ := tw_el (P := fun u v => tw_Ro (fun post => wpX_flying post u v1) (fun post => wpY_flying post v v1)) (fun Lp Rm Tl N Ns G tr op co la lb lg lh se sr ti pa ca po an sb sf ss cu cm ct D o q l d t zs zr zd zt zp zc zo za ru hZ => tw_r_fly hZ v1) I
  exact HX _ (HY _ ⟨rfl, i_up I⟩)
theorem i_vc_messageField {k : Nat} {u : SX} {v : SY} (I : i_Rel k u v) (hk : k + 5 ≤ 2563) (v1 : Int32) (v2 : Int32) : wpX_messageField (fun r => wpY_messageField (fun r' => r' = r ∧ i_Rel (k + 5) u v) v v1 v2) u v1 v2 := by
  obtain ⟨r, HX, HY⟩ := tw_el (P := fun u v => tw_Ro (fun post => wpX_messageField post u v1 v2) (fun post => wpY_messageField post v v1 v2)) (fun Lp Rm Tl N Ns G tr op co la lb lg lh se sr ti pa ca po an sb sf ss cu cm ct D o q l d t zs zr zd zt zp zc zo za ru hZ => tw_r_mf hZ v1 v2) I
  exact HX _ (HY _ ⟨rfl, i_up I⟩)
theorem i_vc_rule {k : Nat} {u : SX} {v : SY} (I : i_Rel k u v) (hk : k + 5 ≤ 2563) (v1 : Int32) (v2 : Int32) : wpX_rule (fun r => wpY_rule (fun r' => r' = r ∧ i_Rel (k + 5) u v) v v1 v2) u v1 v2 := by
  obtain ⟨r, HX, HY⟩ := tw_el (P := fun u v => tw_Ro (fun post => wpX_rule post u v1 v2) (fun post => wpY_rule post v v1 v2)) (fun Lp Rm Tl N Ns G tr op co la lb lg lh se sr ti pa ca po an sb sf ss cu cm ct D o q l d t zs zr zd zt zp zc zo za ru hZ => tw_r_rule v1 v2 hZ.1.2.1 hZ.2.2.2.2.1) I
  exact HX _ (HY _ ⟨rfl, i_up I⟩)
theorem i_vc_limit {k : Nat} {u : SX} {v : SY} (I : i_Rel k u v) (hk : k + 5 ≤ 2563) (v1 : Int32) : wpX_limit (fun r => wpY_limit (fun r' => r' = r ∧ i_Rel (k + 5) u v) v v1) u v1 := by
  obtain ⟨r, HX, HY⟩ := tw_el (P := fun u v => tw_Ro (fun post => wpX_limit post u v1) (fun post => wpY_limit post v v1)) (fun Lp Rm Tl N Ns G tr op co la lb lg lh se sr ti pa ca po an sb sf ss cu cm ct D o q l d t zs zr zd zt zp zc zo za ru hZ => tw_r_limit v1) I
  exact HX _ (HY _ ⟨rfl, i_up I⟩)
end TWCC
end
