section
theorem pk_us {f : Nat → Int32} {k : Nat} {x : Int32} : upd f k x k = x := if_pos rfl
theorem pk_un {f : Nat → Int32} {k j : Nat} {x : Int32} (h : j ≠ k) : upd f k x j = f j := if_neg h
theorem pk_sub {a b : Nat} (h : b ≤ a) : nI a - nI b = nI (a - b) := by
  obtain ⟨c, rfl⟩ : ∃ c, a = c + b := ⟨a - b, by omega⟩
  rw [← nI_add, Int32.add_sub_cancel, Nat.add_sub_cancel]
theorem pk_m1 (n : Nat) : nI (n + 1) + (-1) = nI n := by
  rw [← nI_1, Int32.add_assoc, show (1 : Int32) + (-1) = 0 from rfl, Int32.add_zero]
theorem pk_mul (a b : Nat) : nI a * nI b = nI (a * b) := (Int32.ofNat_mul a b).symm
theorem pk_div {a d : Nat} (ha : a < 2 ^ 31) (h0 : 0 < d) (hd : d < 2 ^ 31) : nI a / nI d = nI (a / d) := by
  apply Int32.toInt_inj.mp
  rw [lg_idiv_nonneg (by rw [nI_toInt ha]; omega) (by rw [nI_toInt hd]; omega), nI_toInt ha, nI_toInt hd, nI_toInt (Nat.lt_of_le_of_lt (Nat.div_le_self a d) ha)]
  first | rfl | exact (Int.natCast_ediv _ _).symm
theorem pk_rem {a d : Nat} (ha : a < 2 ^ 31) (h0 : 0 < d) (hd : d < 2 ^ 31) : nI a - nI a / nI d * nI d = nI (a % d) := by
  rw [pk_div ha h0 hd, pk_mul, pk_sub (Nat.div_mul_le_self a d)]
  exact congrArg nI (by have := Nat.div_add_mod' a d; omega)
theorem pk_sub_toInt {a b : Nat} (ha : a < 2 ^ 30) (hb : b < 2 ^ 30) : (nI a - nI b).toInt = (a : Int) - b := by
  rw [Int32.toInt_sub, nI_toInt (by omega), nI_toInt (by omega)]
  exact Int.bmod_eq_of_le (by omega) (by omega)
theorem pk_sneg {a b : Nat} (hb : b < 2 ^ 30) (h : a < b) : nI a - nI b < 0 := by
  rw [Int32.lt_iff_toInt_lt, pk_sub_toInt (by omega) hb, show (0 : Int32).toInt = 0 from by decide]
  omega
theorem pk_ix (x : Int32) {n : Nat} (hn : n < 2 ^ 31) : x < 0 ∨ nI n ≤ x ∨ ∃ j : Nat, j < n ∧ x = nI j := by
  by_cases h : x < 0
  · exact Or.inl h
  · obtain ⟨j, hj, rfl⟩ := nI_of h
    by_cases h2 : j < n
    · exact Or.inr (Or.inr ⟨j, h2, rfl⟩)
    · exact Or.inr (Or.inl (nI_le (by omega) hj))
theorem pk_le {x y : Int32} {A B : Prop} (a b : Nat) (f : a ≤ b → A) (g : b < a → B) (hx : x = nI a := by rfl) (hy : y = nI b := by rfl) (ha : a < 2 ^ 31 := by omega) (hb : b < 2 ^ 31 := by omega) : (x ≤ y → A) ∧ (¬ x ≤ y → B) := by
  subst hx hy
  rw [nI_leI ha hb]
  exact ⟨f, fun z => g (by omega)⟩
theorem pk_lt {x y : Int32} {A B : Prop} (a b : Nat) (f : a < b → A) (g : b ≤ a → B) (hx : x = nI a := by rfl) (hy : y = nI b := by rfl) (ha : a < 2 ^ 31 := by omega) (hb : b < 2 ^ 31 := by omega) : (x < y → A) ∧ (¬ x < y → B) := by
  subst hx hy
  rw [nI_ltI ha hb]
  exact ⟨f, fun z => g (by omega)⟩
theorem pk_eq {x y : Int32} {A B : Prop} (a b : Nat) (f : a = b → A) (g : a ≠ b → B) (hx : x = nI a := by rfl) (hy : y = nI b := by rfl) (ha : a < 2 ^ 31 := by omega) (hb : b < 2 ^ 31 := by omega) : (x = y → A) ∧ (¬ x = y → B) := by
  subst hx hy
  rw [nI_eq ha hb]
  exact ⟨f, g⟩
theorem pk_in {x : Int32} (n N : Nat) (h : n < N) (hx : x = nI n := by rfl) (hN : N < 2 ^ 31 := by omega) : vp_in x N := by
  subst hx
  exact vp_in_nI h hN
theorem pk_cl {x : Int32} (n : Nat) (hx : x = nI n := by rfl) (h : n < 2 ^ 31 := by omega) : x.toNatClampNeg = n := by
  subst hx
  exact nI_clamp h
theorem pk_shr (a s : Int32) (k : Nat) (hs : (s.toBitVec.smod 32).toNat = k) : (a >>> s).toInt = a.toInt >>> k := by
  show (a.toBitVec.sshiftRight (s.toBitVec.smod 32).toNat).toInt = _
  rw [hs, BitVec.toInt_sshiftRight]
  rfl
theorem pk_shrN {n : Nat} (h : n < 2 ^ 31) (s : Int32) (k : Nat) (hs : (s.toBitVec.smod 32).toNat = k) : nI n >>> s = nI (n / 2 ^ k) := by
  apply Int32.toInt_inj.mp
  have h2 : n / 2 ^ k ≤ n := Nat.div_le_self _ _
  rw [pk_shr _ _ k hs, nI_toInt h, nI_toInt (by omega), Int.shiftRight_eq_div_pow]
  rfl
theorem pa_lt {x y : Int32} {A B : Prop} (f : x.toInt < y.toInt → A) (g : y.toInt ≤ x.toInt → B) : (x < y → A) ∧ (¬ x < y → B) :=
  ⟨fun h => f (Int32.lt_iff_toInt_lt.mp h), fun h => g (Int.not_lt.mp (fun z => h (Int32.lt_iff_toInt_lt.mpr z)))⟩
theorem pa_le {x y : Int32} {A B : Prop} (f : x.toInt ≤ y.toInt → A) (g : y.toInt < x.toInt → B) : (x ≤ y → A) ∧ (¬ x ≤ y → B) :=
  ⟨fun h => f (Int32.le_iff_toInt_le.mp h), fun h => g (Int.not_le.mp (fun z => h (Int32.le_iff_toInt_le.mpr z)))⟩
theorem pa_eq {x y : Int32} {A B : Prop} (f : x = y → A) (g : x.toInt ≠ y.toInt → B) : (x = y → A) ∧ (¬ x = y → B) :=
  ⟨f, fun h => g (fun z => h (Int32.toInt_inj.mp z))⟩
theorem pa_t1000 : (1000 : Int32).toInt = 1000 := by decide
theorem pa_tm1000 : (-1000 : Int32).toInt = -1000 := by decide
theorem pa_tm2000 : (-2000 : Int32).toInt = -2000 := by decide
theorem pa_t2000 : (2000 : Int32).toInt = 2000 := by decide
theorem pa_t0 : (0 : Int32).toInt = 0 := by decide
theorem pa_t1 : (1 : Int32).toInt = 1 := by decide
theorem pa_tm1 : (-1 : Int32).toInt = -1 := by decide
theorem pa_addI {x y : Int32} (h : -2147483648 ≤ x.toInt + y.toInt) (h2 : x.toInt + y.toInt < 2147483648) : (x + y).toInt = x.toInt + y.toInt := by
  rw [Int32.toInt_add]
  exact Int.bmod_eq_of_le (by omega) (by omega)
theorem pa_subI {x y : Int32} (h : -2147483648 ≤ x.toInt - y.toInt) (h2 : x.toInt - y.toInt < 2147483648) : (x - y).toInt = x.toInt - y.toInt := by
  rw [Int32.toInt_sub]
  exact Int.bmod_eq_of_le (by omega) (by omega)
theorem pa_add1 {x : Int32} (h : x.toInt < 2147483647) : (x + 1).toInt = x.toInt + 1 := by
  have h2 := x.le_toInt
  rw [pa_addI (by rw [pa_t1]; omega) (by rw [pa_t1]; omega), pa_t1]
theorem pa_neI {x y : Int32} (h : x.toInt ≠ y.toInt) : x ≠ y := fun e => h (by rw [e])
theorem pa_inj {x y : Int32} (h : x.toInt = y.toInt) : x = y := Int32.toInt_inj.mp h
end
section
def pa_pre (n : Nat → Nat) : Nat → Nat
  | 0 => 0
  | s + 1 => pa_pre n s + n s
theorem pa_pre_s (n : Nat → Nat) (s : Nat) : pa_pre n (s + 1) = pa_pre n s + n s := rfl
theorem pa_pre_mono (n : Nat → Nat) {a b : Nat} (h : a ≤ b) : pa_pre n a ≤ pa_pre n b := by
  induction b with
  | zero =>
    have e : a = 0 := by omega
    subst e
    exact Nat.le_refl _
  | succ b ih =>
    by_cases e : a = b + 1
    · subst e
      exact Nat.le_refl _
    · have h2 := ih (by omega)
      rw [pa_pre_s]
      omega
theorem pa_pre_congr {n m : Nat → Nat} {a : Nat} (h : ∀ s, s < a → n s = m s) : pa_pre n a = pa_pre m a := by
  induction a with
  | zero => rfl
  | succ a ih => rw [pa_pre_s, pa_pre_s, ih (fun s hs => h s (by omega)), h a (by omega)]
theorem pa_pre_from {n m : Nat → Nat} {a b : Nat} (hab : a ≤ b) (h0 : pa_pre n a = pa_pre m a) (h : ∀ s, a ≤ s → s < b → n s = m s) : pa_pre n b = pa_pre m b := by
  induction b with
  | zero =>
    have e : a = 0 := by omega
    subst e
    exact h0
  | succ b ih =>
    by_cases e : a = b + 1
    · subst e
      exact h0
    · rw [pa_pre_s, pa_pre_s, ih (by omega) (fun s h1 h2 => h s h1 (by omega)), h b (by omega) (by omega)]
theorem pa_find (n : Nat → Nat) {e p : Nat} (h : p < pa_pre n e) : ∃ s k, s < e ∧ k < n s ∧ p = pa_pre n s + k := by
  induction e with
  | zero => exact absurd h (Nat.not_lt_zero _)
  | succ e ih =>
    by_cases h2 : p < pa_pre n e
    · obtain ⟨s, k, h3, h4, h5⟩ := ih h2
      exact ⟨s, k, by omega, h4, h5⟩
    · rw [pa_pre_s] at h
      exact ⟨e, p - pa_pre n e, by omega, by omega, by omega⟩
def pa_Z (n : Nat → Nat) (sz : Nat → Int32) : Prop := ∀ s, s < 8 → sz s = nI (n s)
def pa_B (n : Nat → Nat) (N : Nat) : Prop := pa_pre n 8 = N ∧ N ≤ 48 ∧ ∀ s, s < 8 → n s ≤ 7
def pa_C (n : Nat → Nat) (K a : Nat → Int32) : Prop := ∀ s, s < 8 → ∀ k, k < n s → a (8 * s + k) = K (pa_pre n s + k)
def pa_S (N : Nat) (K : Nat → Int32) : Prop :=
  (∀ i j, i < j → j < N → (K i).toInt < (K j).toInt) ∧ (∀ i, i < N → -1000 ≤ (K i).toInt ∧ (K i).toInt ≤ 1000)
def pa_X (n : Nat → Nat) (N : Nat) (K V ks vs sz : Nat → Int32) : Prop :=
  pa_B n N ∧ pa_Z n sz ∧ pa_C n K ks ∧ pa_C n V vs ∧ pa_S N K
theorem pa_ltN {n : Nat → Nat} {N s j : Nat} (hB : pa_B n N) (hs : s < 8) (hj : j < n s) : pa_pre n s + j < N := by
  have h := pa_pre_mono n (a := s + 1) (b := 8) (by omega)
  rw [pa_pre_s, hB.1] at h
  omega
theorem pa_leN {n : Nat → Nat} {N s : Nat} (hB : pa_B n N) (hs : s ≤ 8) : pa_pre n s ≤ N := by
  have h := pa_pre_mono n (a := s) (b := 8) hs
  rw [hB.1] at h
  exact h
theorem pa_mono {N : Nat} {K : Nat → Int32} (hS : pa_S N K) {i j : Nat} (h : i ≤ j) (hj : j < N) : (K i).toInt ≤ (K j).toInt := by
  by_cases e : i = j
  · subst e
    exact Int.le_refl _
  · exact Int.le_of_lt (hS.1 i j (by omega) hj)
theorem pa_uniq {N : Nat} {K : Nat → Int32} (hS : pa_S N K) {i j : Nat} (hi : i < N) (hj : j < N) (h : K i = K j) : i = j := by
  rcases Nat.lt_trichotomy i j with h1 | h1 | h1
  · have h2 := hS.1 i j h1 hj
    rw [h] at h2
    omega
  · exact h1
  · have h2 := hS.1 j i h1 hi
    rw [h] at h2
    omega
def pa_SF (n : Nat → Nat) (N : Nat) (K : Nat → Int32) (x : Int32) (s : Nat) : Prop :=
  s < 8 ∧ (N = 0 ∨ (0 < n s ∧ (pa_pre n s = 0 ∨ (K (pa_pre n s)).toInt ≤ x.toInt))) ∧ ∀ i, pa_pre n (s + 1) ≤ i → i < N → x.toInt < (K i).toInt
theorem pa_SF_lo {n : Nat → Nat} {N s i : Nat} {K : Nat → Int32} {x : Int32} (hB : pa_B n N) (hS : pa_S N K) (h : pa_SF n N K x s) (hi : i < pa_pre n s) : (K i).toInt < x.toInt := by
  obtain ⟨h8, h1, h2⟩ := h
  have hN := pa_leN hB (Nat.le_of_lt h8)
  rcases h1 with h1 | ⟨h1, h3 | h3⟩
  · omega
  · omega
  · have h4 := pa_ltN hB h8 h1
    have h5 := hS.1 i (pa_pre n s) hi h4
    omega
def pa_R (N : Nat) (K : Nat → Int32) (x : Int32) (r : Nat) : Prop :=
  r ≤ N ∧ (∀ i, i < r → (K i).toInt < x.toInt) ∧ (∀ i, r ≤ i → i < N → x.toInt ≤ (K i).toInt)
theorem pa_R_uniq {N r q : Nat} {K : Nat → Int32} {x : Int32} (h : pa_R N K x r) (h2 : pa_R N K x q) : r = q := by
  rcases Nat.lt_trichotomy r q with h1 | h1 | h1
  · have a := h.2.2 r (Nat.le_refl _) (by have := h2.1; omega)
    have b := h2.2.1 r h1
    omega
  · exact h1
  · have a := h2.2.2 q (Nat.le_refl _) (by have := h.1; omega)
    have b := h.2.1 q h1
    omega
theorem pa_R_ex {N : Nat} {K : Nat → Int32} (hS : pa_S N K) (x : Int32) : ∃ r, pa_R N K x r := by
  have H : ∀ m, m ≤ N → ∃ r, r ≤ m ∧ (∀ i, i < r → (K i).toInt < x.toInt) ∧ (∀ i, r ≤ i → i < m → x.toInt ≤ (K i).toInt) := by
    intro m
    induction m with
    | zero => exact fun _ => ⟨0, Nat.le_refl _, fun i hi => absurd hi (Nat.not_lt_zero _), fun i _ hi => absurd hi (Nat.not_lt_zero _)⟩
    | succ m ih =>
      intro hm
      obtain ⟨r, h1, h2, h3⟩ := ih (by omega)
      by_cases e : (K m).toInt < x.toInt
      · refine ⟨m + 1, Nat.le_refl _, fun i hi => ?_, fun i hi hi2 => by omega⟩
        have := pa_mono hS (i := i) (j := m) (by omega) (by omega)
        omega
      · refine ⟨r, by omega, h2, fun i hi hi2 => ?_⟩
        by_cases e2 : i = m
        · subst e2
          omega
        · exact h3 i hi (by omega)
  exact H N (Nat.le_refl _)
def pa_Cn (N : Nat) (K : Nat → Int32) (lo hi : Int32) (r q : Nat) : Prop :=
  r + q ≤ N ∧ pa_R N K lo r ∧ ∀ i, i < N → ((lo.toInt ≤ (K i).toInt ∧ (K i).toInt ≤ hi.toInt) ↔ (r ≤ i ∧ i < r + q))
def pa_ins (K : Nat → Int32) (p : Nat) (x : Int32) : Nat → Int32 := fun i => if i < p then K i else if i = p then x else K (i - 1)
def pa_del (K : Nat → Int32) (p : Nat) : Nat → Int32 := fun i => if i < p then K i else K (i + 1)
theorem pa_ins_lt {K : Nat → Int32} {p i : Nat} {x : Int32} (h : i < p) : pa_ins K p x i = K i := if_pos h
theorem pa_ins_eq {K : Nat → Int32} {p : Nat} {x : Int32} : pa_ins K p x p = x := by
  unfold pa_ins
  rw [if_neg (Nat.lt_irrefl p), if_pos rfl]
theorem pa_ins_gt {K : Nat → Int32} {p i : Nat} {x : Int32} (h : p < i) : pa_ins K p x i = K (i - 1) := by
  unfold pa_ins
  rw [if_neg (by omega), if_neg (by omega)]
theorem pa_del_lt {K : Nat → Int32} {p i : Nat} (h : i < p) : pa_del K p i = K i := if_pos h
theorem pa_del_ge {K : Nat → Int32} {p i : Nat} (h : p ≤ i) : pa_del K p i = K (i + 1) := if_neg (by omega)
theorem pa_ins_del (K : Nat → Int32) (p : Nat) : pa_ins (pa_del K p) p (K p) = K := by
  funext i
  rcases Nat.lt_trichotomy i p with h | h | h
  · rw [pa_ins_lt h, pa_del_lt h]
  · subst h
    rw [pa_ins_eq]
  · rw [pa_ins_gt h, pa_del_ge (by omega)]
    exact congrArg K (by omega)
theorem pa_S_ins {N p : Nat} {K : Nat → Int32} {x : Int32} (hS : pa_S N K) (hp : p ≤ N) (h1 : ∀ i, i < p → (K i).toInt < x.toInt) (h2 : ∀ i, p ≤ i → i < N → x.toInt < (K i).toInt) (hx : -1000 ≤ x.toInt ∧ x.toInt ≤ 1000) : pa_S (N + 1) (pa_ins K p x) := by
  refine ⟨fun i j hij hj => ?_, fun i hi => ?_⟩
  · rcases Nat.lt_trichotomy j p with h | h | h
    · rw [pa_ins_lt h, pa_ins_lt (Nat.lt_trans hij h)]
      exact hS.1 i j hij (by omega)
    · subst h
      rw [pa_ins_eq, pa_ins_lt hij]
      exact h1 i hij
    · rw [pa_ins_gt h]
      rcases Nat.lt_trichotomy i p with h3 | h3 | h3
      · rw [pa_ins_lt h3]
        exact hS.1 i (j - 1) (by omega) (by omega)
      · subst h3
        rw [pa_ins_eq]
        exact h2 (j - 1) (by omega) (by omega)
      · rw [pa_ins_gt h3]
        exact hS.1 (i - 1) (j - 1) (by omega) (by omega)
  · rcases Nat.lt_trichotomy i p with h | h | h
    · rw [pa_ins_lt h]
      exact hS.2 i (by omega)
    · subst h
      rw [pa_ins_eq]
      exact hx
    · rw [pa_ins_gt h]
      exact hS.2 (i - 1) (by omega)
theorem pa_S_del {N p : Nat} {K : Nat → Int32} (hS : pa_S (N + 1) K) : pa_S N (pa_del K p) := by
  refine ⟨fun i j hij hj => ?_, fun i hi => ?_⟩
  · by_cases h : j < p
    · rw [pa_del_lt h, pa_del_lt (Nat.lt_trans hij h)]
      exact hS.1 i j hij (by omega)
    · rw [pa_del_ge (i := j) (by omega)]
      by_cases h3 : i < p
      · rw [pa_del_lt h3]
        exact hS.1 i (j + 1) (by omega) (by omega)
      · rw [pa_del_ge (by omega)]
        exact hS.1 (i + 1) (j + 1) (by omega) (by omega)
  · by_cases h : i < p
    · rw [pa_del_lt h]
      exact hS.2 i (by omega)
    · rw [pa_del_ge (by omega)]
      exact hS.2 (i + 1) (by omega)
theorem pa_C_upd {n : Nat → Nat} {K a : Nat → Int32} (h : pa_C n K a) (h7 : ∀ s, s < 8 → n s ≤ 7) {s k : Nat} (hs : s < 8) (hk : k < n s) (y : Int32) : pa_C n (upd K (pa_pre n s + k) y) (upd a (8 * s + k) y) := by
  intro t ht j hj
  have h1 := h7 t ht
  have h2 := h7 s hs
  by_cases e : t = s
  · subst e
    by_cases e2 : j = k
    · subst e2
      rw [pk_us, pk_us]
    · rw [pk_un (by omega), pk_un (by omega)]
      exact h t ht j hj
  · have h3 : pa_pre n t + j ≠ pa_pre n s + k := by
      rcases Nat.lt_or_gt_of_ne e with h4 | h4
      · have h5 := pa_pre_mono n (a := t + 1) (b := s) (by omega)
        rw [pa_pre_s] at h5
        omega
      · have h5 := pa_pre_mono n (a := s + 1) (b := t) (by omega)
        rw [pa_pre_s] at h5
        omega
    rw [pk_un (by omega), pk_un h3]
    exact h t ht j hj
def pa_inc (n : Nat → Nat) (s : Nat) : Nat → Nat := fun t => if t = s then n s + 1 else n t
def pa_dec (n : Nat → Nat) (s : Nat) : Nat → Nat := fun t => if t = s then n s - 1 else n t
theorem pa_inc_s {n : Nat → Nat} {s : Nat} : pa_inc n s s = n s + 1 := if_pos rfl
theorem pa_inc_n {n : Nat → Nat} {s t : Nat} (h : t ≠ s) : pa_inc n s t = n t := if_neg h
theorem pa_dec_s {n : Nat → Nat} {s : Nat} : pa_dec n s s = n s - 1 := if_pos rfl
theorem pa_dec_n {n : Nat → Nat} {s t : Nat} (h : t ≠ s) : pa_dec n s t = n t := if_neg h
theorem pa_inc_lo {n : Nat → Nat} {s t : Nat} (h : t ≤ s) : pa_pre (pa_inc n s) t = pa_pre n t := pa_pre_congr (fun i hi => pa_inc_n (by omega))
theorem pa_dec_lo {n : Nat → Nat} {s t : Nat} (h : t ≤ s) : pa_pre (pa_dec n s) t = pa_pre n t := pa_pre_congr (fun i hi => pa_dec_n (by omega))
theorem pa_inc_hi {n : Nat → Nat} {s t : Nat} (h : s < t) : pa_pre (pa_inc n s) t = pa_pre n t + 1 := by
  induction t with
  | zero => exact absurd h (Nat.not_lt_zero _)
  | succ t ih =>
    rw [pa_pre_s, pa_pre_s]
    by_cases e : t = s
    · subst e
      rw [pa_inc_lo (Nat.le_refl _), pa_inc_s]
      omega
    · rw [ih (by omega), pa_inc_n e]
      omega
theorem pa_dec_hi {n : Nat → Nat} {s t : Nat} (h : s < t) (h0 : 0 < n s) : pa_pre (pa_dec n s) t + 1 = pa_pre n t := by
  induction t with
  | zero => exact absurd h (Nat.not_lt_zero _)
  | succ t ih =>
    rw [pa_pre_s, pa_pre_s]
    by_cases e : t = s
    · subst e
      rw [pa_dec_lo (Nat.le_refl _), pa_dec_s]
      omega
    · have := ih (by omega)
      rw [pa_dec_n e]
      omega
def pa_sh (a : Nat → Int32) (lo hi : Nat) : Nat → Int32 := fun i => if lo < i ∧ i ≤ hi then a (i - 1) else a i
def pa_dr (a : Nat → Int32) (lo hi : Nat) : Nat → Int32 := fun i => if lo ≤ i ∧ i < hi then a (i + 1) else a i
theorem pa_sh_0 (a : Nat → Int32) (h : Nat) : pa_sh a h h = a := by
  funext i
  exact if_neg (by omega)
theorem pa_dr_0 (a : Nat → Int32) (h : Nat) : pa_dr a h h = a := by
  funext i
  exact if_neg (by omega)
theorem pa_sh_in {a : Nat → Int32} {lo hi i : Nat} (h : lo < i) (h2 : i ≤ hi) : pa_sh a lo hi i = a (i - 1) := if_pos ⟨h, h2⟩
theorem pa_sh_out {a : Nat → Int32} {lo hi i : Nat} (h : i ≤ lo ∨ hi < i) : pa_sh a lo hi i = a i := if_neg (by omega)
theorem pa_dr_in {a : Nat → Int32} {lo hi i : Nat} (h : lo ≤ i) (h2 : i < hi) : pa_dr a lo hi i = a (i + 1) := if_pos ⟨h, h2⟩
theorem pa_dr_out {a : Nat → Int32} {lo hi i : Nat} (h : i < lo ∨ hi ≤ i) : pa_dr a lo hi i = a i := if_neg (by omega)
theorem pa_sh_step (a : Nat → Int32) {l h : Nat} (hl : l < h) : upd (pa_sh a (l + 1) h) (l + 1) (pa_sh a (l + 1) h l) = pa_sh a l h := by
  funext i
  by_cases e : i = l + 1
  · subst e
    rw [pk_us, pa_sh_out (by omega), pa_sh_in (by omega) (by omega)]
    rfl
  · rw [pk_un e]
    by_cases e2 : l + 1 < i ∧ i ≤ h
    · rw [pa_sh_in e2.1 e2.2, pa_sh_in (by omega) e2.2]
    · rw [pa_sh_out (by omega), pa_sh_out (by omega)]
theorem pa_dr_step (a : Nat → Int32) {l h : Nat} (hl : l ≤ h) : upd (pa_dr a l h) h (pa_dr a l h (h + 1)) = pa_dr a l (h + 1) := by
  funext i
  by_cases e : i = h
  · subst e
    rw [pk_us, pa_dr_out (by omega), pa_dr_in hl (by omega)]
  · rw [pk_un e]
    by_cases e2 : l ≤ i ∧ i < h
    · rw [pa_dr_in e2.1 e2.2, pa_dr_in e2.1 (by omega)]
    · rw [pa_dr_out (by omega), pa_dr_out (by omega)]
theorem pa_C_ins {n : Nat → Nat} {K a : Nat → Int32} (h : pa_C n K a) (h7 : ∀ s, s < 8 → n s ≤ 7) {s k : Nat} (hs : s < 8) (hk : k ≤ n s) (x : Int32) : pa_C (pa_inc n s) (pa_ins K (pa_pre n s + k) x) (upd (pa_sh a (8 * s + k) (8 * s + n s)) (8 * s + k) x) := by
  intro t ht j hj
  have h2 := h7 s hs
  have h3 := h7 t ht
  rcases Nat.lt_trichotomy t s with e | e | e
  · rw [pa_inc_n (by omega)] at hj
    have h5 := pa_pre_mono n (a := t + 1) (b := s) (by omega)
    rw [pa_pre_s] at h5
    rw [pk_un (by omega), pa_sh_out (by omega), pa_inc_lo (by omega), pa_ins_lt (by omega)]
    exact h t ht j hj
  · subst e
    rw [pa_inc_s] at hj
    rw [pa_inc_lo (Nat.le_refl _)]
    rcases Nat.lt_trichotomy j k with f | f | f
    · rw [pk_un (by omega), pa_sh_out (by omega), pa_ins_lt (by omega)]
      exact h t ht j (by omega)
    · subst f
      rw [pk_us, pa_ins_eq]
    · rw [pk_un (by omega), pa_sh_in (by omega) (by omega), pa_ins_gt (by omega), show 8 * t + j - 1 = 8 * t + (j - 1) from by omega, show pa_pre n t + j - 1 = pa_pre n t + (j - 1) from by omega]
      exact h t ht (j - 1) (by omega)
  · rw [pa_inc_n (by omega)] at hj
    have h5 := pa_pre_mono n (a := s + 1) (b := t) (by omega)
    rw [pa_pre_s] at h5
    rw [pk_un (by omega), pa_sh_out (by omega), pa_inc_hi e, pa_ins_gt (by omega), show pa_pre n t + 1 + j - 1 = pa_pre n t + j from by omega]
    exact h t ht j hj
theorem pa_C_del {n : Nat → Nat} {K a : Nat → Int32} (h : pa_C n K a) (h7 : ∀ s, s < 8 → n s ≤ 7) {s k : Nat} (hs : s < 8) (hk : k < n s) : pa_C (pa_dec n s) (pa_del K (pa_pre n s + k)) (pa_dr a (8 * s + k) (8 * s + n s - 1)) := by
  intro t ht j hj
  have h2 := h7 s hs
  have h3 := h7 t ht
  rcases Nat.lt_trichotomy t s with e | e | e
  · rw [pa_dec_n (by omega)] at hj
    have h5 := pa_pre_mono n (a := t + 1) (b := s) (by omega)
    rw [pa_pre_s] at h5
    rw [pa_dr_out (by omega), pa_dec_lo (by omega), pa_del_lt (by omega)]
    exact h t ht j hj
  · subst e
    rw [pa_dec_s] at hj
    rw [pa_dec_lo (Nat.le_refl _)]
    by_cases f : j < k
    · rw [pa_dr_out (by omega), pa_del_lt (by omega)]
      exact h t ht j (by omega)
    · rw [pa_dr_in (by omega) (by omega), pa_del_ge (by omega), Nat.add_assoc, Nat.add_assoc]
      exact h t ht (j + 1) (by omega)
  · rw [pa_dec_n (by omega)] at hj
    have h5 := pa_pre_mono n (a := s + 1) (b := t) (by omega)
    rw [pa_pre_s] at h5
    have h6 := pa_dec_hi (n := n) e (by omega)
    rw [pa_dr_out (by omega), pa_del_ge (by omega), show pa_pre (pa_dec n s) t + j + 1 = pa_pre n t + j from by omega]
    exact h t ht j hj
theorem pa_B_inc {n : Nat → Nat} {N s : Nat} (hB : pa_B n N) (hs : s < 8) (h6 : n s ≤ 6) (hN : N < 48) : pa_B (pa_inc n s) (N + 1) := by
  refine ⟨by rw [pa_inc_hi hs, hB.1], by omega, fun t ht => ?_⟩
  by_cases e : t = s
  · subst e
    rw [pa_inc_s]
    omega
  · rw [pa_inc_n e]
    exact hB.2.2 t ht
theorem pa_B_dec {n : Nat → Nat} {N s : Nat} (hB : pa_B n (N + 1)) (hs : s < 8) (h0 : 0 < n s) : pa_B (pa_dec n s) N := by
  have h1 := pa_dec_hi (n := n) hs h0
  have h2 := hB.1
  have h3 := hB.2.1
  refine ⟨by omega, by omega, fun t ht => ?_⟩
  have h4 := hB.2.2 t ht
  by_cases e : t = s
  · subst e
    rw [pa_dec_s]
    omega
  · rw [pa_dec_n e]
    exact h4
theorem pa_Z_inc {n : Nat → Nat} {s : Nat} {sz : Nat → Int32} (hZ : pa_Z n sz) (hs : s < 8) : pa_Z (pa_inc n s) (upd sz s (sz s + 1)) := by
  intro t ht
  by_cases e : t = s
  · subst e
    rw [pk_us, pa_inc_s, hZ t ht, nI_1]
  · rw [pk_un e, pa_inc_n e]
    exact hZ t ht
theorem pa_Z_dec {n : Nat → Nat} {s : Nat} {sz : Nat → Int32} (hZ : pa_Z n sz) (hs : s < 8) (h0 : 0 < n s) : pa_Z (pa_dec n s) (upd sz s (sz s - 1)) := by
  intro t ht
  by_cases e : t = s
  · subst e
    rw [pk_us, pa_dec_s, hZ t ht]
    exact pk_sub (b := 1) h0
  · rw [pk_un e, pa_dec_n e]
    exact hZ t ht
end
section
section
variable {c g : Int32} {ks vs sz hk hv K V : Nat → Int32} {n : Nat → Nat} {N : Nat}
theorem pa_seg_loop {post : Int32 → Prop} {x : Int32} (hX : pa_X n N K V ks vs sz) (hp : ∀ s, pa_SF n N K x s → post (nI s)) :
    ∀ d j, j + d = 8 →
      (pa_pre n j = 0 → wX_segmentFor_4 post x c g ks vs sz hk hv (d + 1) (-1) (nI j)) ∧
      (∀ f, f < j → 0 < n f → (pa_pre n f = 0 ∨ (K (pa_pre n f)).toInt ≤ x.toInt) → (∀ i, pa_pre n (f + 1) ≤ i → i < pa_pre n j → x.toInt < (K i).toInt) → wX_segmentFor_4 post x c g ks vs sz hk hv (d + 1) (nI f) (nI j)) := by
  obtain ⟨hB, hZ, hC, hV, hS⟩ := hX
  intro d
  induction d with
  | zero =>
    intro j hj
    have hj8 : j = 8 := by omega
    subst hj8
    have hN := hB.1
    refine ⟨fun h0 => ?_, fun f hf hn h1 h2 => ?_⟩
    · exact br_t (by decide) (br_f (by decide) (hp 0 ⟨by omega, Or.inl (by omega), fun i _ hi => by omega⟩))
    · exact br_t (by decide) (br_t (nI_pos' (by omega)) (hp f ⟨hf, Or.inr ⟨hn, h1⟩, fun i a b => h2 i a (by omega)⟩))
  | succ d ih =>
    intro j hj
    have hj8 : j < 8 := by omega
    have ih' := ih (j + 1) (by omega)
    have hin : vp_in (nI j) 8 := vp_in_nI hj8 (by omega)
    have hcl : (nI j).toNatClampNeg = j := nI_clamp (by omega)
    have hz := hZ j hj8
    have h7 := hB.2.2 j hj8
    have hpre := pa_pre_s n j
    have hN := pa_leN hB (s := j + 1) (by omega)
    have h8 : ¬ (8 : Int32) ≤ nI j := nI_ge (b := 8) hj8 (by decide)
    have hmul : (8 : Int32) * nI j = nI (8 * j) := pk_mul 8 j
    have hcl2 : (nI (8 * j)).toNatClampNeg = 8 * j := nI_clamp (by omega)
    refine ⟨fun h0 => br_f h8 ⟨hin, ?_⟩, fun f hf hn h1 h2 => br_f h8 ⟨hin, ?_⟩⟩
    · rw [hcl, hz]
      refine pk_le (n j) 0 (fun e => nm_r (nI_1 j) (ih'.1 (by omega))) (fun e => br_t (by decide) (nm_r (nI_1 j) (ih'.2 j (by omega) e (Or.inl h0) (fun i a b => by omega))))
    · rw [hcl, hz]
      refine pk_le (n j) 0 (fun e => nm_r (nI_1 j) (ih'.2 f (by omega) hn h1 (fun i a b => h2 i a (by omega)))) (fun e => br_f (nI_pos (by omega)) ?_)
      rw [hmul, hcl2, show ks (8 * j) = K (pa_pre n j) from hC j hj8 0 e]
      refine ⟨vp_in_nI (by omega) (by omega), pa_lt (fun e2 => nm_r (nI_1 j) (ih'.2 f (by omega) hn h1 (fun i a b => ?_))) (fun e2 => nm_r (nI_1 j) (ih'.2 j (by omega) e (Or.inr e2) (fun i a b => by omega)))⟩
      by_cases e3 : i < pa_pre n j
      · exact h2 i a e3
      · have := pa_mono hS (i := pa_pre n j) (j := i) (by omega) (by omega)
        omega
theorem pa_segmentFor {post : Int32 → Prop} {x : Int32} (hX : pa_X n N K V ks vs sz) (hp : ∀ s, pa_SF n N K x s → post (nI s)) :
    wpX_segmentFor post (c, g, ks, vs, sz, hk, hv) x :=
  Exists.intro 9 ((pa_seg_loop hX hp 8 0 rfl).1 rfl)
theorem pa_les_loop {post : Int32 → Prop} {x : Int32} {s : Nat} (hX : pa_X n N K V ks vs sz) (hs : s < 8)
    (hp : ∀ k, k ≤ n s → (∀ j, j < k → (K (pa_pre n s + j)).toInt < x.toInt) → (∀ j, k ≤ j → j < n s → x.toInt ≤ (K (pa_pre n s + j)).toInt) → post (nI k)) :
    ∀ m st l h, st + m = 4 → l ≤ h → h ≤ n s → h - l < 2 ^ m → (∀ j, j < l → (K (pa_pre n s + j)).toInt < x.toInt) → (∀ j, h ≤ j → j < n s → x.toInt ≤ (K (pa_pre n s + j)).toInt) →
      wX_lesserIn_13 post (nI s) x c g ks vs sz hk hv (m + 1) (nI l) (nI h) (nI st) := by
  obtain ⟨hB, hZ, hC, hV, hS⟩ := hX
  have h7 := hB.2.2 s hs
  intro m
  induction m with
  | zero =>
    intro st l h hst hlh hn hd h1 h2
    have e : l = h := by omega
    have e4 : st = 4 := by omega
    subst e e4
    exact br_t (by decide) (hp l hn h1 h2)
  | succ m ih =>
    intro st l h hst hlh hn hd h1 h2
    have h4 : ¬ (4 : Int32) ≤ nI st := nI_ge (b := 4) (by omega) (by decide)
    rw [Nat.pow_succ] at hd
    refine br_f h4 (pk_le h l (fun e => ?_) (fun e => ?_))
    · have e2 : l = h := by omega
      subst e2
      exact hp l hn h1 h2
    · have hm1 : l ≤ (l + h) / 2 := by omega
      have hm2 : (l + h) / 2 < h := by omega
      have hsum : nI l + nI h = nI (l + h) := nI_add l h
      have hsh : nI (l + h) >>> ((1 : Int32) &&& 31) = nI ((l + h) / 2) := pk_shrN (by omega) _ 1 (by decide)
      have hd1 : (l + h) / 2 - l < 2 ^ m := by omega
      have hd2 : h - ((l + h) / 2 + 1) < 2 ^ m := by omega
      rw [hsum, hsh]
      generalize (l + h) / 2 = mid at hm1 hm2 hd1 hd2
      refine nm_e ?_
      have hix : (8 : Int32) * nI s + nI mid = nI (8 * s + mid) := by
        rw [show (8 : Int32) * nI s = nI (8 * s) from pk_mul 8 s, nI_add]
      have hcl : (nI (8 * s + mid)).toNatClampNeg = 8 * s + mid := nI_clamp (by omega)
      rw [hix, hcl, hC s hs mid (by omega)]
      refine ⟨vp_in_nI (by omega) (by omega), pa_le (fun e2 => nm_r (nI_1 st) ?_) (fun e2 => nm_r (nI_1 mid) (nm_r (nI_1 st) ?_))⟩
      · refine ih (st + 1) l mid (by omega) hm1 (by omega) hd1 h1 (fun j hj hj2 => ?_)
        have := pa_mono hS (i := pa_pre n s + mid) (j := pa_pre n s + j) (by omega) (pa_ltN hB hs hj2)
        omega
      · refine ih (st + 1) (mid + 1) h (by omega) (by omega) hn hd2 (fun j hj => ?_) h2
        have := pa_mono hS (i := pa_pre n s + j) (j := pa_pre n s + mid) (by omega) (pa_ltN hB hs (by omega))
        omega
theorem pa_lesserIn {post : Int32 → Prop} {x : Int32} {s : Nat} (hX : pa_X n N K V ks vs sz) (hs : s < 8)
    (hp : ∀ k, k ≤ n s → (∀ j, j < k → (K (pa_pre n s + j)).toInt < x.toInt) → (∀ j, k ≤ j → j < n s → x.toInt ≤ (K (pa_pre n s + j)).toInt) → post (nI k)) :
    wpX_lesserIn post (c, g, ks, vs, sz, hk, hv) (nI s) x := by
  have h7 := hX.1.2.2 s hs
  refine And.intro (vp_in_nI hs (by omega)) (nm_r (e' := nI (n s)) ?_ (Exists.intro 5 (pa_les_loop hX hs hp 4 0 0 (n s) rfl (by omega) (by omega) (by omega) (fun j hj => absurd hj (Nat.not_lt_zero _)) (fun j hj hj2 => by omega))))
  rw [nI_clamp (by omega)]
  exact hX.2.1 s hs
theorem pa_cellOf {post : Int32 → Prop} {x : Int32} (hX : pa_X n N K V ks vs sz)
    (hy : ∀ s k, s < 8 → k < n s → K (pa_pre n s + k) = x → post (nI (8 * s + k))) (hn : (∀ i, i < N → K i ≠ x) → post (-1)) :
    wpX_cellOf post (c, g, ks, vs, sz, hk, hv) x := by
  unfold wpX_cellOf
  refine pa_segmentFor hX (fun s hs => ?_)
  refine pa_lesserIn hX hs.1 (fun k hk1 h1 h2 => ?_)
  obtain ⟨hB, hZ, hC, hV, hS⟩ := hX
  have h7 := hB.2.2 s hs.1
  have hs8 := hs.1
  have hlo : ∀ i, i < pa_pre n s → K i ≠ x := fun i hi => pa_neI (by have := pa_SF_lo hB hS hs hi; omega)
  have hhi : ∀ i, pa_pre n (s + 1) ≤ i → i < N → K i ≠ x := fun i hi hi2 => pa_neI (by have := hs.2.2 i hi hi2; omega)
  have hpre := pa_pre_s n s
  have hcl : (nI s).toNatClampNeg = s := nI_clamp (by omega)
  have hix : (8 : Int32) * nI s + nI k = nI (8 * s + k) := by
    rw [show (8 : Int32) * nI s = nI (8 * s) from pk_mul 8 s, nI_add]
  have hcl2 : (nI (8 * s + k)).toNatClampNeg = 8 * s + k := nI_clamp (by omega)
  refine ⟨vp_in_nI hs8 (by omega), ?_⟩
  rw [hcl, hZ s hs8, hix, hcl2]
  refine pk_le (n s) k (fun e => hn (fun i hi => ?_)) (fun e => ⟨vp_in_nI (by omega) (by omega), ?_⟩)
  · by_cases a : i < pa_pre n s
    · exact hlo i a
    · by_cases b : pa_pre n (s + 1) ≤ i
      · exact hhi i b hi
      · have := h1 (i - pa_pre n s) (by omega)
        rw [show pa_pre n s + (i - pa_pre n s) = i from by omega] at this
        exact pa_neI (by omega)
  · rw [hC s hs8 k e]
    refine pa_eq (fun e2 => hy s k hs8 e e2) (fun e2 => hn (fun i hi => ?_))
    by_cases a : i < pa_pre n s
    · exact hlo i a
    · by_cases b : pa_pre n (s + 1) ≤ i
      · exact hhi i b hi
      · by_cases d : i - pa_pre n s < k
        · have := h1 (i - pa_pre n s) d
          rw [show pa_pre n s + (i - pa_pre n s) = i from by omega] at this
          exact pa_neI (by omega)
        · have e3 := h2 k (Nat.le_refl _) e
          have e4 := pa_mono hS (i := pa_pre n s + k) (j := i) (by omega) hi
          exact pa_neI (by omega)
theorem pa_cat_loop {post : Int32 → Prop} {p : Nat} (hX : pa_X n N K V ks vs sz) (hpN : p < N)
    (hp : ∀ s k, s < 8 → k < n s → p = pa_pre n s + k → post (nI (8 * s + k))) :
    ∀ d j, j + d = 8 → pa_pre n j ≤ p → wX_cellAt_4 post c g ks vs sz hk hv (d + 1) (nI (p - pa_pre n j)) (nI j) := by
  obtain ⟨hB, hZ, hC, hV, hS⟩ := hX
  have h48 := hB.2.1
  intro d
  induction d with
  | zero =>
    intro j hj h
    have hj8 : j = 8 := by omega
    subst hj8
    have := hB.1
    omega
  | succ d ih =>
    intro j hj h
    have hj8 : j < 8 := by omega
    have hin : vp_in (nI j) 8 := vp_in_nI hj8 (by omega)
    have hcl : (nI j).toNatClampNeg = j := nI_clamp (by omega)
    have hz := hZ j hj8
    have h7 := hB.2.2 j hj8
    have hpre := pa_pre_s n j
    have h8 : ¬ (8 : Int32) ≤ nI j := nI_ge (b := 8) hj8 (by decide)
    refine br_f h8 ⟨hin, ?_⟩
    rw [hcl, hz]
    refine pk_le (n j) (p - pa_pre n j) (fun e => ⟨hin, nm_r (e' := nI (p - pa_pre n (j + 1))) ?_ (nm_r (nI_1 j) (ih (j + 1) (by omega) (by omega)))⟩) (fun e => ?_)
    · rw [pk_sub e, hpre, Nat.sub_sub]
    · rw [show (8 : Int32) * nI j = nI (8 * j) from pk_mul 8 j, nI_add]
      exact hp j (p - pa_pre n j) hj8 e (by omega)
theorem pa_cellAt {post : Int32 → Prop} {p : Nat} (hX : pa_X n N K V ks vs sz) (hpN : p < N)
    (hp : ∀ s k, s < 8 → k < n s → p = pa_pre n s + k → post (nI (8 * s + k))) :
    wpX_cellAt post (c, g, ks, vs, sz, hk, hv) (nI p) :=
  Exists.intro 9 (pa_cat_loop hX hpN hp 8 0 rfl (Nat.zero_le _))
theorem pa_cellR {post : Int32 → Prop} {p : Nat} (hX : pa_X n N K V ks vs sz) (hpN : p < N)
    (hp : ∀ q, q < 64 → ks q = K p → vs q = V p → post (nI q)) :
    wpX_cellAt post (c, g, ks, vs, sz, hk, hv) (nI p) := by
  refine pa_cellAt hX hpN (fun s k hs hk1 e => ?_)
  have h7 := hX.1.2.2 s hs
  subst e
  exact hp _ (by omega) (hX.2.2.1 s hs k hk1) (hX.2.2.2.1 s hs k hk1)
theorem pa_rank_loop {post : Int32 → Prop} {x : Int32} (hX : pa_X n N K V ks vs sz) (hp : ∀ r, pa_R N K x r → post (nI r)) :
    ∀ d j, j + d = 8 → (∀ i, i < pa_pre n j → (K i).toInt < x.toInt) → wX_rank_4 post x c g ks vs sz hk hv (d + 1) (nI (pa_pre n j)) (nI j) := by
  have hX' := hX
  obtain ⟨hB, hZ, hC, hV, hS⟩ := hX
  have h48 := hB.2.1
  intro d
  induction d with
  | zero =>
    intro j hj h
    have hj8 : j = 8 := by omega
    subst hj8
    have hN := hB.1
    exact br_t (by decide) (hp _ ⟨by omega, h, fun i h1 h2 => by omega⟩)
  | succ d ih =>
    intro j hj h
    have hj8 : j < 8 := by omega
    have hin : vp_in (nI j) 8 := vp_in_nI hj8 (by omega)
    have hcl : (nI j).toNatClampNeg = j := nI_clamp (by omega)
    have hz := hZ j hj8
    have h7 := hB.2.2 j hj8
    have hpre := pa_pre_s n j
    have hN := pa_leN hB (s := j + 1) (by omega)
    have h8 : ¬ (8 : Int32) ≤ nI j := nI_ge (b := 8) hj8 (by decide)
    have J53 : (∃ k, k < n j ∧ x.toInt ≤ (K (pa_pre n j + k)).toInt) ∨ n j = 0 → wX_rank_53 post (wX_rank_4 post x c g ks vs sz hk hv (d + 1)) x (nI (pa_pre n j)) (nI j) c g ks vs sz hk hv := by
      intro hw
      refine And.intro hin ?_
      rw [hcl, hz]
      refine pk_le (n j) 0 (fun e => nm_r (nI_1 j) ?_) (fun e => ?_)
      · have e2 : pa_pre n (j + 1) = pa_pre n j := by omega
        have := ih (j + 1) (by omega) (by rw [e2]; exact h)
        rw [e2] at this
        exact this
      · refine pa_lesserIn hX' hj8 (fun k hk1 h1 h2 => ?_)
        rw [nI_add]
        refine hp _ ⟨by omega, fun i hi => ?_, fun i hi hi2 => ?_⟩
        · by_cases a : i < pa_pre n j
          · exact h i a
          · have := h1 (i - pa_pre n j) (by omega)
            rw [show pa_pre n j + (i - pa_pre n j) = i from by omega] at this
            exact this
        · obtain ⟨k2, hk2, hk3⟩ := hw.resolve_right (by omega)
          by_cases b : i < pa_pre n j + n j
          · have := h2 (i - pa_pre n j) (by omega) (by omega)
            rw [show pa_pre n j + (i - pa_pre n j) = i from by omega] at this
            exact this
          · have := pa_mono hS (i := pa_pre n j + k2) (j := i) (by omega) hi2
            omega
    refine br_f h8 ⟨hin, ?_⟩
    rw [hcl, hz]
    refine pk_le (n j) 0 (fun e => J53 (Or.inr (by omega))) (fun e => ⟨hin, ?_⟩)
    have hix : (8 : Int32) * nI j + nI (n j) - 1 = nI (8 * j + (n j - 1)) := by
      rw [show (8 : Int32) * nI j = nI (8 * j) from pk_mul 8 j, nI_add, show 8 * j + n j = 8 * j + (n j - 1) + 1 from by omega, nI_pred]
    have hcl2 : (nI (8 * j + (n j - 1))).toNatClampNeg = 8 * j + (n j - 1) := nI_clamp (by omega)
    rw [hix, hcl2, hC j hj8 (n j - 1) (by omega), nI_add, ← hpre]
    refine ⟨vp_in_nI (by omega) (by omega), pa_le (fun e2 => J53 (Or.inl ⟨n j - 1, by omega, e2⟩)) (fun e2 => ⟨hin, nm_e (nm_r (nI_1 j) (ih (j + 1) (by omega) (fun i hi => ?_)))⟩)⟩
    have := pa_mono hS (i := i) (j := pa_pre n j + (n j - 1)) (by omega) (by omega)
    omega
theorem pa_rank {post : Int32 → Prop} {x : Int32} (hX : pa_X n N K V ks vs sz) (hp : ∀ r, pa_R N K x r → post (nI r)) :
    wpX_rank post (c, g, ks, vs, sz, hk, hv) x :=
  Exists.intro 9 (pa_rank_loop hX hp 8 0 rfl (fun i hi => absurd hi (Nat.not_lt_zero _)))
theorem pa_count {post : Int32 → Prop} {lo hi : Int32} (hX : pa_X n N K V ks vs sz) (hp : ∀ r q, pa_Cn N K lo hi r q → post (nI q)) :
    wpX_count post (nI N, g, ks, vs, sz, hk, hv) lo hi := by
  have hS := hX.2.2.2.2
  obtain ⟨r, hr⟩ := pa_R_ex hS lo
  have h0 : (∀ i, i < N → ¬ (lo.toInt ≤ (K i).toInt ∧ (K i).toInt ≤ hi.toInt)) → post 0 := fun h => hp r 0 ⟨hr.1, hr, fun i hi => ⟨fun a => absurd a (h i hi), fun a => by omega⟩⟩
  have h35 : lo.toInt ≤ hi.toInt → ∀ z, z ≤ N → (∀ i, i < z → (K i).toInt ≤ hi.toInt) → (∀ i, z ≤ i → i < N → hi.toInt < (K i).toInt) → wX_count_35 post lo (nI z) (nI N) g ks vs sz hk hv := by
    intro hlh z hz h1 h2
    refine pa_rank (x := lo) hX (fun q hq => ?_)
    have hqz : q ≤ z := by
      by_cases e : q ≤ z
      · exact e
      · have a := hq.1
        have a1 := hq.2.1 z (by omega)
        have a2 := h2 z (Nat.le_refl _) (by omega)
        omega
    rw [pk_sub hqz]
    refine hp q (z - q) ⟨by omega, hq, fun i hi => ⟨fun a => ⟨?_, ?_⟩, fun a => ⟨hq.2.2 i a.1 hi, h1 i (by omega)⟩⟩⟩
    · by_cases e : q ≤ i
      · exact e
      · have := hq.2.1 i (by omega)
        omega
    · by_cases e : i < z
      · omega
      · have := h2 i (by omega) hi
        omega
  refine pa_lt (fun e => h0 (fun i hi a => by omega)) (fun e => pa_le (fun e2 => ?_) (fun e2 => h0 (fun i hi a => ?_)))
  · rw [pa_t1000] at e2
    refine pa_lt (fun e3 => ?_) (fun e3 => ?_)
    · rw [pa_t1000] at e3
      have e4 : (hi + 1).toInt = hi.toInt + 1 := pa_add1 (by omega)
      refine pa_rank (x := hi + 1) hX (fun q hq => h35 e q hq.1 (fun i a => ?_) (fun i a b => ?_))
      · have := hq.2.1 i a
        omega
      · have := hq.2.2 i a b
        omega
    · rw [pa_t1000] at e3
      refine h35 e N (Nat.le_refl _) (fun i a => ?_) (fun i a b => by omega)
      have := (hS.2 i a).2
      omega
  · rw [pa_t1000] at e2
    have := (hS.2 i hi).2
    omega
theorem pa_cr {post : Int32 → Int32 → Prop} {lo hi : Int32} (hX : pa_X n N K V ks vs sz) (hp : ∀ r q, pa_Cn N K lo hi r q → post (nI q) (nI r)) :
    wpX_count (fun a => wpX_rank (fun b => post a b) (nI N, g, ks, vs, sz, hk, hv) lo) (nI N, g, ks, vs, sz, hk, hv) lo hi := by
  refine pa_count hX (fun r q h => pa_rank hX (fun r2 h2 => ?_))
  have e := pa_R_uniq h2 h.2.1
  subst e
  exact hp _ _ h
theorem pa_ki_loop {post : Int32 → Prop} {a m : Nat} (hX : pa_X n N K V ks vs sz) (ha : a + m ≤ 8)
    (hp : post (nI (pa_pre n (a + m) - pa_pre n a))) :
    ∀ d j, j + d = a + m → a ≤ j → wX_keysIn_5 post (nI a) (nI m) c g ks vs sz hk hv (d + 1) (nI (pa_pre n j - pa_pre n a)) (nI j) := by
  obtain ⟨hB, hZ, hC, hV, hS⟩ := hX
  intro d
  induction d with
  | zero =>
    intro j hj h
    have hj8 : j = a + m := by omega
    subst hj8
    refine br_t ?_ hp
    rw [nI_add]
    exact nI_le (Nat.le_refl _) (by omega)
  | succ d ih =>
    intro j hj h
    have hj8 : j < 8 := by omega
    have hin : vp_in (nI j) 8 := vp_in_nI hj8 (by omega)
    have hcl : (nI j).toNatClampNeg = j := nI_clamp (by omega)
    have hpre := pa_pre_s n j
    have hmo := pa_pre_mono n h
    have h8 : ¬ nI a + nI m ≤ nI j := by
      rw [nI_add]
      exact nI_ge (by omega) (by omega)
    refine br_f h8 ⟨hin, nm_r (e' := nI (pa_pre n (j + 1) - pa_pre n a)) ?_ (nm_r (nI_1 j) (ih (j + 1) (by omega) (by omega)))⟩
    rw [hcl, hZ j hj8, nI_add, hpre]
    exact congrArg nI (by omega)
theorem pa_keysIn {post : Int32 → Prop} {a m : Nat} (hX : pa_X n N K V ks vs sz) (ha : a + m ≤ 8)
    (hp : post (nI (pa_pre n (a + m) - pa_pre n a))) :
    wpX_keysIn post (c, g, ks, vs, sz, hk, hv) (nI a) (nI m) := by
  have h := pa_ki_loop (c := c) (g := g) (hk := hk) (hv := hv) hX ha hp m a rfl (Nat.le_refl _)
  rw [Nat.sub_self] at h
  exact Exists.intro _ h
end
end
section
def pa_H (K V hk hv : Nat → Int32) (p G : Nat) : Prop := ∀ i, i < G → hk i = K (p + i) ∧ hv i = V (p + i)
section
variable {c g : Int32} {ks vs sz K V : Nat → Int32} {n : Nat → Nat} {N : Nat}
theorem pa_g20 {post : SX → Prop} {J : Int32 → Int32 → (Nat → Int32) → (Nat → Int32) → (Nat → Int32) → (Nat → Int32) → (Nat → Int32) → Prop} {x1 x2 : Int32} {a t : Nat}
    (hX : pa_X n N K V ks vs sz) (ha : a ≤ t) (ht : t < 8)
    (hJ : ∀ hk hv, pa_H K V hk hv (pa_pre n a) (pa_pre n (t + 1) - pa_pre n a) → J (nI (t + 1)) (nI (pa_pre n (t + 1) - pa_pre n a)) ks vs sz hk hv) :
    ∀ d j hk hv, j + d = n t → pa_H K V hk hv (pa_pre n a) (pa_pre n t + j - pa_pre n a) →
      wX_gather_20 post J x1 x2 (nI t) c (d + 1) (nI (8 * t + j)) (nI (pa_pre n t + j - pa_pre n a)) ks vs sz hk hv := by
  obtain ⟨hB, hZ, hC, hV, hS⟩ := hX
  have hin : vp_in (nI t) 8 := vp_in_nI ht (by omega)
  have hcl : (nI t).toNatClampNeg = t := nI_clamp (by omega)
  have h7 := hB.2.2 t ht
  have hix : (8 : Int32) * nI t + nI (n t) = nI (8 * t + n t) := by
    rw [show (8 : Int32) * nI t = nI (8 * t) from pk_mul 8 t, nI_add]
  have hmo := pa_pre_mono n ha
  have h48 := hB.2.1
  intro d
  induction d with
  | zero =>
    intro j hk hv hj hH
    have e : j = n t := by omega
    subst e
    refine And.intro hin ?_
    rw [hcl, hZ t ht, hix]
    refine br_t (nI_le (Nat.le_refl _) (by omega)) (nm_r (nI_1 t) (hJ hk hv hH))
  | succ d ih =>
    intro j hk hv hj hH
    have hjt : j < n t := by omega
    have hN := pa_ltN hB ht hjt
    have hcl2 : (nI (8 * t + j)).toNatClampNeg = 8 * t + j := nI_clamp (by omega)
    have hcl3 : (nI (pa_pre n t + j - pa_pre n a)).toNatClampNeg = pa_pre n t + j - pa_pre n a := nI_clamp (by omega)
    have hi1 : vp_in (nI (8 * t + j)) 64 := vp_in_nI (by omega) (by omega)
    have hi2 : vp_in (nI (pa_pre n t + j - pa_pre n a)) 48 := vp_in_nI (by omega) (by omega)
    refine And.intro hin ?_
    rw [hcl, hZ t ht, hix]
    refine br_f (nI_ge (by omega) (by omega)) ?_
    rw [hcl2, hcl3, hC t ht j hjt, hV t ht j hjt]
    refine ⟨hi1, hi2, nm_e ⟨hi1, hi2, nm_e (nm_r (e' := nI (pa_pre n t + (j + 1) - pa_pre n a)) ?_ (nm_r (nI_1 _) (ih (j + 1) _ _ (by omega) ?_)))⟩⟩
    · rw [nI_1]
      exact congrArg nI (by omega)
    · intro i hi
      by_cases e : i = pa_pre n t + j - pa_pre n a
      · subst e
        rw [pk_us, pk_us, show pa_pre n a + (pa_pre n t + j - pa_pre n a) = pa_pre n t + j from by omega]
        exact ⟨rfl, rfl⟩
      · rw [pk_un e, pk_un e]
        exact hH i (by omega)
theorem pa_g7 {post : SX → Prop} {a m : Nat} (hX : pa_X n N K V ks vs sz) (ham : a + m ≤ 8)
    (hp : ∀ hk hv, pa_H K V hk hv (pa_pre n a) (pa_pre n (a + m) - pa_pre n a) → post (c, nI (pa_pre n (a + m) - pa_pre n a), ks, vs, sz, hk, hv)) :
    ∀ d t hk hv, t + d = a + m → a ≤ t → pa_H K V hk hv (pa_pre n a) (pa_pre n t - pa_pre n a) →
      wX_gather_7 post (nI a) (nI m) c (d + 1) (nI t) (nI (pa_pre n t - pa_pre n a)) ks vs sz hk hv := by
  intro d
  induction d with
  | zero =>
    intro t hk hv ht ha hH
    have e : t = a + m := by omega
    subst e
    refine br_t ?_ (hp hk hv hH)
    rw [nI_add]
    exact nI_le (Nat.le_refl _) (by omega)
  | succ d ih =>
    intro t hk hv ht ha hH
    have h8 : ¬ nI a + nI m ≤ nI t := by
      rw [nI_add]
      exact nI_ge (by omega) (by omega)
    refine br_f h8 (nm_r (e' := nI (8 * t + 0)) (pk_mul 8 t) (Exists.intro (n t + 1) ?_))
    have := pa_g20 (post := post) (c := c) (x1 := nI a) (x2 := nI m) (a := a) (t := t) hX ha (by omega) (J := wX_gather_7 post (nI a) (nI m) c (d + 1)) (fun hk hv h => ih (t + 1) hk hv (by omega) (by omega) h) (n t) 0 hk hv (by omega) hH
    exact this
theorem pa_gather {post : SX → Prop} {hk hv : Nat → Int32} {a m : Nat} (hX : pa_X n N K V ks vs sz) (ham : a + m ≤ 8)
    (hp : ∀ hk hv, pa_H K V hk hv (pa_pre n a) (pa_pre n (a + m) - pa_pre n a) → post (c, nI (pa_pre n (a + m) - pa_pre n a), ks, vs, sz, hk, hv)) :
    wpX_gather post (c, g, ks, vs, sz, hk, hv) (nI a) (nI m) := by
  have h := pa_g7 hX ham hp m a hk hv rfl (Nat.le_refl _) (by rw [Nat.sub_self]; exact fun i hi => absurd hi (Nat.not_lt_zero _))
  rw [Nat.sub_self] at h
  exact Exists.intro _ h
end
def pa_spr (n : Nat → Nat) (a m G : Nat) : Nat → Nat := fun t => if a ≤ t ∧ t < a + m then G / m + (if t - a < G % m then 1 else 0) else n t
theorem pa_spr_in {n : Nat → Nat} {a m G t : Nat} (h : a ≤ t) (h2 : t < a + m) : pa_spr n a m G t = G / m + (if t - a < G % m then 1 else 0) := if_pos ⟨h, h2⟩
theorem pa_spr_out {n : Nat → Nat} {a m G t : Nat} (h : t < a ∨ a + m ≤ t) : pa_spr n a m G t = n t := if_neg (by omega)
theorem pa_spr_pre {n : Nat → Nat} {a m G : Nat} : ∀ j, j ≤ m → pa_pre (pa_spr n a m G) (a + j) = pa_pre n a + (j * (G / m) + (if j < G % m then j else G % m)) := by
  intro j
  induction j with
  | zero =>
    intro _
    rw [Nat.zero_mul, pa_pre_congr (n := pa_spr n a m G) (m := n) (a := a + 0) (fun s hs => pa_spr_out (by omega))]
    show pa_pre n a = _
    by_cases e : 0 < G % m
    · rw [if_pos e]
      rfl
    · rw [if_neg e]
      omega
  | succ j ih =>
    intro hj
    rw [← Nat.add_assoc, pa_pre_s, ih (by omega), pa_spr_in (by omega) (by omega), Nat.succ_mul, show a + j - a = j from by omega]
    generalize j * (G / m) = q1
    generalize G / m = q2
    by_cases e : j < G % m
    · rw [if_pos e, if_pos e]
      by_cases e2 : j + 1 < G % m
      · rw [if_pos e2]
        omega
      · rw [if_neg e2]
        omega
    · rw [if_neg e, if_neg e, if_neg (by omega)]
      omega
theorem pa_spr_tot {n : Nat → Nat} {a m G : Nat} (hm : 0 < m) : pa_pre (pa_spr n a m G) (a + m) = pa_pre n a + G := by
  rw [pa_spr_pre m (Nat.le_refl _)]
  have h1 := Nat.div_add_mod G m
  have h2 := Nat.mod_lt G hm
  rw [if_neg (by omega)]
  omega
theorem pa_spr_le {n : Nat → Nat} {a m G t : Nat} (hm : 0 < m) (hG : G ≤ 6 * m) (h : a ≤ t) (h2 : t < a + m) : pa_spr n a m G t ≤ 6 := by
  rw [pa_spr_in h h2]
  have h3 : G / m ≤ 6 := Nat.div_le_of_le_mul (by rw [Nat.mul_comm]; exact hG)
  by_cases e : G / m = 6
  · have h4 := Nat.div_add_mod G m
    rw [e] at h4
    rw [e, if_neg (by omega)]
    omega
  · by_cases e2 : t - a < G % m
    · rw [if_pos e2]
      omega
    · rw [if_neg e2]
      omega
theorem pa_spr_ge {n : Nat → Nat} {a m G t : Nat} (hm : 0 < m) (hG : m ≤ G) (h : a ≤ t) (h2 : t < a + m) : 0 < pa_spr n a m G t := by
  rw [pa_spr_in h h2]
  have h3 : 0 < G / m := Nat.div_pos hG hm
  omega
def pa_D (n' : Nat → Nat) (a t k : Nat) (ks0 hk ks : Nat → Int32) : Prop :=
  (∀ t', a ≤ t' → t' < t → ∀ j, j < n' t' → ks (8 * t' + j) = hk (pa_pre n' t' - pa_pre n' a + j)) ∧
  (∀ j, j < k → ks (8 * t + j) = hk (pa_pre n' t - pa_pre n' a + j)) ∧
  (∀ i, i < 8 * a ∨ 8 * t + k ≤ i → ks i = ks0 i)
def pa_DZ (n' : Nat → Nat) (a t : Nat) (sz0 sz : Nat → Int32) : Prop :=
  (∀ t', a ≤ t' → t' < t → sz t' = nI (n' t')) ∧ (∀ i, i < a ∨ t ≤ i → sz i = sz0 i)
theorem pa_D_s {n' : Nat → Nat} {a t k : Nat} {ks0 hk ks : Nat → Int32} (h : pa_D n' a t k ks0 hk ks) (hat : a ≤ t) (h8 : ∀ t', a ≤ t' → t' < t → n' t' ≤ 8) :
    pa_D n' a t (k + 1) ks0 hk (upd ks (8 * t + k) (hk (pa_pre n' t - pa_pre n' a + k))) := by
  refine ⟨fun t' h1 h2 j hj => ?_, fun j hj => ?_, fun i hi => ?_⟩
  · have h3 := h8 t' h1 h2
    rw [pk_un (by omega)]
    exact h.1 t' h1 h2 j hj
  · by_cases e : j = k
    · subst e
      rw [pk_us]
    · rw [pk_un (by omega)]
      exact h.2.1 j (by omega)
  · rw [pk_un (by omega)]
    exact h.2.2 i (by omega)
theorem pa_D_n {n' : Nat → Nat} {a t : Nat} {ks0 hk ks : Nat → Int32} (h : pa_D n' a t (n' t) ks0 hk ks) (h8 : n' t ≤ 8) : pa_D n' a (t + 1) 0 ks0 hk ks := by
  refine ⟨fun t' h1 h2 j hj => ?_, fun j hj => absurd hj (Nat.not_lt_zero _), fun i hi => h.2.2 i (by omega)⟩
  by_cases e : t' = t
  · subst e
    exact h.2.1 j hj
  · exact h.1 t' h1 (by omega) j hj
theorem pa_DZ_s {n' : Nat → Nat} {a t : Nat} {sz0 sz : Nat → Int32} (h : pa_DZ n' a t sz0 sz) (hat : a ≤ t) : pa_DZ n' a (t + 1) sz0 (upd sz t (nI (n' t))) := by
  refine ⟨fun t' h1 h2 => ?_, fun i hi => ?_⟩
  · by_cases e : t' = t
    · subst e
      rw [pk_us]
    · rw [pk_un e]
      exact h.1 t' h1 (by omega)
  · rw [pk_un (by omega)]
    exact h.2 i (by omega)
section
variable {c : Int32} {ks0 vs0 sz0 hk hv : Nat → Int32} {n' : Nat → Nat} {G : Nat}
theorem pa_s71 {post : SX → Prop} {J : Int32 → Int32 → (Nat → Int32) → (Nat → Int32) → (Nat → Int32) → (Nat → Int32) → (Nat → Int32) → Prop} {x1 x2 x3 x4 : Int32} {a m t : Nat} {sz : Nat → Int32}
    (hat : a ≤ t) (htm : t < a + m) (ham : a + m ≤ 8) (hG : pa_pre n' (a + m) = pa_pre n' a + G) (hG48 : G ≤ 48) (h8 : ∀ t', a ≤ t' → t' < a + m → n' t' ≤ 6)
    (hsz : sz t = nI (n' t))
    (hJ : ∀ ks vs, pa_D n' a (t + 1) 0 ks0 hk ks → pa_D n' a (t + 1) 0 vs0 hv vs → J (nI (pa_pre n' (t + 1) - pa_pre n' a)) (nI (t + 1)) ks vs sz hk hv) :
    ∀ d k ks vs, k + d = n' t → pa_D n' a t k ks0 hk ks → pa_D n' a t k vs0 hv vs →
      wX_spread_71 post J x1 x2 x3 x4 (nI t) c (nI G) (d + 1) (nI (pa_pre n' t - pa_pre n' a + k)) (nI k) ks vs sz hk hv := by
  have ht : t < 8 := by omega
  have hin : vp_in (nI t) 8 := vp_in_nI ht (by omega)
  have hcl : (nI t).toNatClampNeg = t := nI_clamp (by omega)
  have h6 := h8 t hat htm
  have hmo := pa_pre_mono n' hat
  have hpre := pa_pre_s n' t
  have hmo2 := pa_pre_mono n' (a := t + 1) (b := a + m) (by omega)
  intro d
  induction d with
  | zero =>
    intro k ks vs hk1 h1 h2
    have e : k = n' t := by omega
    subst e
    refine And.intro hin ?_
    rw [hcl, hsz]
    refine br_t (nI_le (Nat.le_refl _) (by omega)) (nm_r (nI_1 t) ?_)
    have := hJ ks vs (pa_D_n h1 (by omega)) (pa_D_n h2 (by omega))
    rw [show pa_pre n' t - pa_pre n' a + n' t = pa_pre n' (t + 1) - pa_pre n' a from by omega]
    exact this
  | succ d ih =>
    intro k ks vs hk1 h1 h2
    have hix : (8 : Int32) * nI t + nI k = nI (8 * t + k) := by
      rw [show (8 : Int32) * nI t = nI (8 * t) from pk_mul 8 t, nI_add]
    have hcl2 : (nI (8 * t + k)).toNatClampNeg = 8 * t + k := nI_clamp (by omega)
    have hcl3 : (nI (pa_pre n' t - pa_pre n' a + k)).toNatClampNeg = pa_pre n' t - pa_pre n' a + k := nI_clamp (by omega)
    have hi1 : vp_in (nI (8 * t + k)) 64 := vp_in_nI (by omega) (by omega)
    have hi2 : vp_in (nI (pa_pre n' t - pa_pre n' a + k)) 48 := vp_in_nI (by omega) (by omega)
    refine And.intro hin ?_
    rw [hcl, hsz]
    refine br_f (nI_ge (by omega) (by omega)) ?_
    rw [hix, hcl2, hcl3]
    exact ⟨hi2, hi1, nm_e ⟨hi2, hi1, nm_e (nm_r (nI_1 _) (nm_r (nI_1 k) (ih (k + 1) _ _ (by omega) (pa_D_s h1 hat (fun t' a1 a2 => by have := h8 t' a1 (by omega); omega)) (pa_D_s h2 hat (fun t' a1 a2 => by have := h8 t' a1 (by omega); omega)))))⟩⟩
end
section
variable {c : Int32} {ks0 vs0 sz0 hk hv : Nat → Int32} {n : Nat → Nat} {a m G : Nat}
theorem pa_s37 {post : SX → Prop} (hm : 0 < m) (ham : a + m ≤ 8) (hG : G ≤ 6 * m)
    (hp : ∀ ks vs sz, pa_D (pa_spr n a m G) a (a + m) 0 ks0 hk ks → pa_D (pa_spr n a m G) a (a + m) 0 vs0 hv vs → pa_DZ (pa_spr n a m G) a (a + m) sz0 sz → post (c, nI G, ks, vs, sz, hk, hv)) :
    ∀ d t ks vs sz, t + d = a + m → a ≤ t → pa_D (pa_spr n a m G) a t 0 ks0 hk ks → pa_D (pa_spr n a m G) a t 0 vs0 hv vs → pa_DZ (pa_spr n a m G) a t sz0 sz →
      wX_spread_37 post (nI a) (nI m) (nI (G / m)) (nI (G % m)) c (nI G) (d + 1) (nI (pa_pre (pa_spr n a m G) t - pa_pre (pa_spr n a m G) a)) (nI t) ks vs sz hk hv := by
  have htot : pa_pre (pa_spr n a m G) (a + m) = pa_pre (pa_spr n a m G) a + G := by
    rw [pa_spr_tot hm, pa_pre_congr (n := pa_spr n a m G) (m := n) (a := a) (fun s hs => pa_spr_out (by omega))]
  have hle : ∀ t', a ≤ t' → t' < a + m → pa_spr n a m G t' ≤ 6 := fun t' h1 h2 => pa_spr_le hm hG h1 h2
  have hmod := Nat.mod_lt G hm
  have hdl := Nat.div_le_self G m
  intro d
  induction d with
  | zero =>
    intro t ks vs sz ht hat h1 h2 h3
    have e : t = a + m := by omega
    subst e
    refine br_t ?_ (hp ks vs sz h1 h2 h3)
    rw [nI_add]
    exact nI_le (Nat.le_refl _) (by omega)
  | succ d ih =>
    intro t ks vs sz ht hat h1 h2 h3
    have h8 : ¬ nI a + nI m ≤ nI t := by
      rw [nI_add]
      exact nI_ge (by omega) (by omega)
    have hin : vp_in (nI t) 8 := vp_in_nI (by omega) (by omega)
    have hcl : (nI t).toNatClampNeg = t := nI_clamp (by omega)
    have K71 : ∀ y : Int32, y = nI (pa_spr n a m G t) → ∀ s1, s1 = upd sz t y → ∃ n71, wX_spread_71 post (wX_spread_37 post (nI a) (nI m) (nI (G / m)) (nI (G % m)) c (nI G) (d + 1)) (nI a) (nI m) (nI (G / m)) (nI (G % m)) (nI t) c (nI G) n71 (nI (pa_pre (pa_spr n a m G) t - pa_pre (pa_spr n a m G) a)) 0 ks vs s1 hk hv := by
      intro y ey s1 e1
      subst ey e1
      have h3' := pa_DZ_s h3 hat
      exact Exists.intro _ (pa_s71 (post := post) (c := c) (x1 := nI a) (x2 := nI m) (x3 := nI (G / m)) (x4 := nI (G % m)) (J := wX_spread_37 post (nI a) (nI m) (nI (G / m)) (nI (G % m)) c (nI G) (d + 1)) hat (by omega) ham htot (by omega) hle pk_us (fun ks vs a1 a2 => ih (t + 1) ks vs _ (by omega) (by omega) a1 a2 h3') (pa_spr n a m G t) 0 ks vs (by omega) h1 h2)
    refine br_f h8 ?_
    rw [hcl]
    refine pk_le (G % m) (t - a) (fun e => ⟨hin, K71 _ ?_⟩) (fun e => ⟨hin, K71 _ ?_⟩) rfl (pk_sub hat)
    · rw [pa_spr_in hat (by omega), if_neg (by omega)]
      rfl
    · rw [pa_spr_in hat (by omega), if_pos e, nI_1]
theorem pa_spread {post : SX → Prop} (hm : 0 < m) (ham : a + m ≤ 8) (hG : G ≤ 6 * m)
    (hp : ∀ ks vs sz, pa_D (pa_spr n a m G) a (a + m) 0 ks0 hk ks → pa_D (pa_spr n a m G) a (a + m) 0 vs0 hv vs → pa_DZ (pa_spr n a m G) a (a + m) sz0 sz → post (c, nI G, ks, vs, sz, hk, hv)) :
    wpX_spread post (c, nI G, ks0, vs0, sz0, hk, hv) (nI a) (nI m) := by
  have h0 : ¬ nI m ≤ 0 := nI_nle hm (by omega)
  have h1 : ¬ nI m = 0 := nI_ne0 hm (by omega)
  have hL := pa_s37 (c := c) (n := n) (ks0 := ks0) (vs0 := vs0) (sz0 := sz0) hm ham hG hp m a ks0 vs0 sz0 rfl (Nat.le_refl _)
    ⟨fun t' a1 a2 => by omega, fun j hj => absurd hj (Nat.not_lt_zero _), fun i _ => rfl⟩
    ⟨fun t' a1 a2 => by omega, fun j hj => absurd hj (Nat.not_lt_zero _), fun i _ => rfl⟩
    ⟨fun t' a1 a2 => by omega, fun i _ => rfl⟩
  rw [Nat.sub_self] at hL
  refine br_f h0 (And.intro h1 (nm_r (pk_div (by omega) hm (by omega)) (br_f h0 (And.intro h1 (nm_r (pk_rem (by omega) hm (by omega)) (Exists.intro _ hL))))))
theorem pa_reb {N : Nat} {K V ks vs sz ks' vs' sz' : Nat → Int32} (hX : pa_X n N K V ks vs sz) (hm : 0 < m) (ham : a + m ≤ 8) (hG : G = pa_pre n (a + m) - pa_pre n a) (hG6 : G ≤ 6 * m)
    (hH : pa_H K V hk hv (pa_pre n a) G) (h1 : pa_D (pa_spr n a m G) a (a + m) 0 ks hk ks') (h2 : pa_D (pa_spr n a m G) a (a + m) 0 vs hv vs') (h3 : pa_DZ (pa_spr n a m G) a (a + m) sz sz') :
    pa_X (pa_spr n a m G) N K V ks' vs' sz' := by
  obtain ⟨hB, hZ, hC, hV, hS⟩ := hX
  have hmo := pa_pre_mono n (a := a) (b := a + m) (by omega)
  have hlo : ∀ t, t ≤ a → pa_pre (pa_spr n a m G) t = pa_pre n t := fun t ht => pa_pre_congr (fun s hs => pa_spr_out (by omega))
  have htot : pa_pre (pa_spr n a m G) (a + m) = pa_pre n (a + m) := by
    rw [pa_spr_tot hm]
    omega
  have hhi : ∀ t, a + m ≤ t → pa_pre (pa_spr n a m G) t = pa_pre n t := fun t ht => pa_pre_from ht htot (fun s a1 a2 => pa_spr_out (by omega))
  have hC' : ∀ {K0 k0 k1 h0 : Nat → Int32}, pa_C n K0 k0 → pa_D (pa_spr n a m G) a (a + m) 0 k0 h0 k1 → (∀ i, i < G → h0 i = K0 (pa_pre n a + i)) → pa_C (pa_spr n a m G) K0 k1 := by
    intro K0 k0 k1 h0 c0 d0 e0 t ht j hj
    by_cases w : a ≤ t ∧ t < a + m
    · have w1 := pa_pre_mono (pa_spr n a m G) w.1
      have w2 := pa_pre_mono (pa_spr n a m G) (a := t + 1) (b := a + m) (by omega)
      rw [pa_pre_s] at w2
      have w3 := hlo a (Nat.le_refl _)
      rw [d0.1 t w.1 w.2 j hj, e0 _ (by omega)]
      exact congrArg K0 (by omega)
    · have hj' : j < n t := by
        rw [pa_spr_out (by omega)] at hj
        exact hj
      have hj7 := hB.2.2 t ht
      have ep : pa_pre (pa_spr n a m G) t = pa_pre n t := by
        by_cases w2 : t < a
        · exact hlo t (by omega)
        · exact hhi t (by omega)
      rw [d0.2.2 _ (by omega), ep]
      exact c0 t ht j hj'
  refine ⟨⟨by rw [hhi 8 ham]; exact hB.1, hB.2.1, fun t ht => ?_⟩, fun t ht => ?_, hC' hC h1 (fun i hi => (hH i hi).1), hC' hV h2 (fun i hi => (hH i hi).2), hS⟩
  · by_cases w : a ≤ t ∧ t < a + m
    · have := pa_spr_le (n := n) hm hG6 w.1 w.2
      omega
    · rw [pa_spr_out (by omega)]
      exact hB.2.2 t ht
  · by_cases w : a ≤ t ∧ t < a + m
    · exact h3.1 t w.1 w.2
    · rw [h3.2 t (by omega), pa_spr_out (by omega)]
      exact hZ t ht
end
end
section
section
variable {c g : Int32} {ks vs sz hk hv K V : Nat → Int32} {n : Nat → Nat} {N : Nat}
theorem pa_i109 {post : SX → Prop} {x y : Int32} {s k : Nat} (hs : s < 8) (h7 : n s ≤ 6) (hk1 : k ≤ n s) {sz : Nat → Int32}
    (hp : post (c + 1, g, upd (pa_sh ks (8 * s + k) (8 * s + n s)) (8 * s + k) x, upd (pa_sh vs (8 * s + k) (8 * s + n s)) (8 * s + k) y, upd sz s (sz s + 1), hk, hv)) :
    ∀ d, k + d ≤ n s → wX_insert_109 post x y (nI s) (nI k) c g (d + 1) (nI (8 * s + k + d)) (pa_sh ks (8 * s + k + d) (8 * s + n s)) (pa_sh vs (8 * s + k + d) (8 * s + n s)) sz hk hv := by
  have hin : vp_in (nI s) 8 := vp_in_nI hs (by omega)
  have hcl : (nI s).toNatClampNeg = s := nI_clamp (by omega)
  have hix : (8 : Int32) * nI s + nI k = nI (8 * s + k) := by
    rw [show (8 : Int32) * nI s = nI (8 * s) from pk_mul 8 s, nI_add]
  have hcl2 : (nI (8 * s + k)).toNatClampNeg = 8 * s + k := nI_clamp (by omega)
  have hi1 : vp_in (nI (8 * s + k)) 64 := vp_in_nI (by omega) (by omega)
  intro d
  induction d with
  | zero =>
    intro hd
    unfold wX_insert_109
    rw [hix, hcl2, hcl]
    exact br_t (nI_le (Nat.le_refl _) (by omega)) ⟨hi1, nm_e ⟨hi1, nm_e ⟨hin, hin, nm_e (nm_e hp)⟩⟩⟩
  | succ d ih =>
    intro hd
    have hpr : nI (8 * s + k + (d + 1)) - 1 = nI (8 * s + k + d) := nI_pred (8 * s + k + d)
    have hpr2 : nI (8 * s + k + (d + 1)) + (-1) = nI (8 * s + k + d) := pk_m1 (8 * s + k + d)
    have hcl3 : (nI (8 * s + k + (d + 1))).toNatClampNeg = 8 * s + k + (d + 1) := nI_clamp (by omega)
    have hcl4 : (nI (8 * s + k + d)).toNatClampNeg = 8 * s + k + d := nI_clamp (by omega)
    have hi2 : vp_in (nI (8 * s + k + (d + 1))) 64 := vp_in_nI (by omega) (by omega)
    have hi3 : vp_in (nI (8 * s + k + d)) 64 := vp_in_nI (by omega) (by omega)
    unfold wX_insert_109
    rw [hix, hpr, hpr2, hcl3, hcl4]
    refine br_f (nI_ge (by omega) (by omega)) ⟨hi3, hi2, nm_r (pa_sh_step ks (l := 8 * s + k + d) (by omega)) ⟨hi3, hi2, nm_r (pa_sh_step vs (l := 8 * s + k + d) (by omega)) (nm_e (ih (by omega)))⟩⟩
theorem pa_i88 {post : SX → Prop} {x y : Int32} {s : Nat} (hX : pa_X n N K V ks vs sz) (hF : pa_SF n N K x s) (h6 : n s ≤ 6) (hN : N < 48) (hx : -1000 ≤ x.toInt ∧ x.toInt ≤ 1000) (hno : ∀ i, i < N → K i ≠ x)
    (hp : ∀ n' p ks' vs' sz', p ≤ N → pa_X n' (N + 1) (pa_ins K p x) (pa_ins V p y) ks' vs' sz' → post (nI (N + 1), g, ks', vs', sz', hk, hv)) :
    wX_insert_88 post x y (nI s) (nI N) g ks vs sz hk hv := by
  refine pa_lesserIn hX hF.1 (fun k hk1 h1 h2 => ?_)
  obtain ⟨hB, hZ, hC, hV, hS⟩ := hX
  have hs := hF.1
  have hcl : (nI s).toNatClampNeg = s := nI_clamp (by omega)
  have hpre := pa_pre_s n s
  have hNs := pa_leN hB (s := s + 1) (by omega)
  have hix : (8 : Int32) * nI s + nI (n s) = nI (8 * s + n s) := by
    rw [show (8 : Int32) * nI s = nI (8 * s) from pk_mul 8 s, nI_add]
  have hpost : post (nI N + 1, g, upd (pa_sh ks (8 * s + k) (8 * s + n s)) (8 * s + k) x, upd (pa_sh vs (8 * s + k) (8 * s + n s)) (8 * s + k) y, upd sz s (sz s + 1), hk, hv) := by
    rw [nI_1]
    refine hp (pa_inc n s) (pa_pre n s + k) _ _ _ (by omega) ⟨pa_B_inc hB hs h6 hN, pa_Z_inc hZ hs, pa_C_ins hC hB.2.2 hs hk1 x, pa_C_ins hV hB.2.2 hs hk1 y, pa_S_ins hS (by omega) (fun i hi => ?_) (fun i hi hi2 => ?_) hx⟩
    · by_cases a : i < pa_pre n s
      · exact pa_SF_lo hB hS hF a
      · have := h1 (i - pa_pre n s) (by omega)
        rw [show pa_pre n s + (i - pa_pre n s) = i from by omega] at this
        exact this
    · by_cases b : pa_pre n (s + 1) ≤ i
      · exact hF.2.2 i b hi2
      · have e1 := h2 (i - pa_pre n s) (by omega) (by omega)
        rw [show pa_pre n s + (i - pa_pre n s) = i from by omega] at e1
        have e2 : (K i).toInt ≠ x.toInt := fun z => hno i hi2 (pa_inj z)
        omega
  have hL := pa_i109 (hk := hk) (hv := hv) hs h6 hk1 hpost (n s - k) (by omega)
  rw [show 8 * s + k + (n s - k) = 8 * s + n s from by omega, pa_sh_0, pa_sh_0] at hL
  refine And.intro (vp_in_nI hs (by omega)) (nm_r (e' := nI (8 * s + n s)) ?_ (Exists.intro _ hL))
  rw [hcl, hZ s hs, hix]
def pa_win (s m a : Nat) : Prop := nI s / nI m * nI m = nI a ∧ a ≤ s ∧ s < a + m ∧ a + m ≤ 8 ∧ 0 < m
theorem pa_win_of {s m : Nat} (hs : s < 8) (hm : m = 1 ∨ m = 2 ∨ m = 4 ∨ m = 8) : pa_win s m (s / m * m) := by
  refine ⟨?_, ?_, ?_, ?_, ?_⟩
  · rw [pk_div (by omega) (by omega) (by omega), pk_mul]
  · rcases hm with h | h | h | h <;> subst h <;> omega
  · rcases hm with h | h | h | h <;> subst h <;> omega
  · rcases hm with h | h | h | h <;> subst h <;> omega
  · omega
theorem pa_SF_stay {s s' a m G : Nat} {x : Int32} (hB : pa_B n N) (hB' : pa_B (pa_spr n a m G) N) (hm : 0 < m) (ham : a + m ≤ 8) (has : a ≤ s) (hsm : s < a + m) (hG : G = pa_pre n (a + m) - pa_pre n a) (hns : 0 < n s)
    (hF : pa_SF n N K x s) (hF' : pa_SF (pa_spr n a m G) N K x s') : a ≤ s' ∧ s' < a + m := by
  have hmo := pa_pre_mono n (a := a) (b := a + m) (by omega)
  have hlo : ∀ t, t ≤ a → pa_pre (pa_spr n a m G) t = pa_pre n t := fun t ht => pa_pre_congr (fun s hs => pa_spr_out (by omega))
  have htot : pa_pre (pa_spr n a m G) (a + m) = pa_pre n (a + m) := by
    rw [pa_spr_tot hm]
    omega
  have hhi : ∀ t, a + m ≤ t → pa_pre (pa_spr n a m G) t = pa_pre n t := fun t ht => pa_pre_from ht htot (fun s a1 a2 => pa_spr_out (by omega))
  have hN1 := pa_ltN hB hF.1 hns
  obtain ⟨h8, h1, h2⟩ := hF
  obtain ⟨h8', h1', h2'⟩ := hF'
  have k1 := h1.resolve_left (by omega)
  have k1' := h1'.resolve_left (by omega)
  have hpre := pa_pre_s n s
  have hpre' := pa_pre_s (pa_spr n a m G) s'
  refine ⟨?_, ?_⟩
  · by_cases e : a ≤ s'
    · exact e
    · have e1 := hlo (s' + 1) (by omega)
      have e2 := pa_pre_mono n (a := s' + 1) (b := s) (by omega)
      have e3 := h2' (pa_pre n s) (by omega) (by omega)
      rcases k1.2 with q | q <;> omega
  · by_cases e : s' < a + m
    · exact e
    · have e1 := hhi s' (by omega)
      have e2 := pa_pre_mono n (a := s + 1) (b := s') (by omega)
      have e4 := pa_ltN hB' h8' k1'.1
      rcases k1'.2 with q | q
      · omega
      · have e3 := h2 (pa_pre (pa_spr n a m G) s') (by omega) (by omega)
        omega
theorem pa_i51 {post : SX → Prop} {x y : Int32} {s m a : Nat} (hX : pa_X n N K V ks vs sz) (hF : pa_SF n N K x s) (hN : N < 48) (hx : -1000 ≤ x.toInt ∧ x.toInt ≤ 1000) (hno : ∀ i, i < N → K i ≠ x)
    (hw : pa_win s m a) (hm2 : 1 < m) (hG6 : pa_pre n (a + m) - pa_pre n a ≤ 6 * m) (hns : 0 < n s)
    (hp : ∀ g n' p ks' vs' sz' hk hv, p ≤ N → pa_X n' (N + 1) (pa_ins K p x) (pa_ins V p y) ks' vs' sz' → post (nI (N + 1), g, ks', vs', sz', hk, hv)) :
    wX_insert_51 post x y (nI s) (nI m) (nI N) g ks vs sz hk hv := by
  obtain ⟨w1, w2, w3, w4, w5⟩ := hw
  refine br_f (nI_ge (a := 1) hm2 (by omega)) (And.intro (nI_ne0 w5 (by omega)) (nm_r w1 ?_))
  refine pa_gather hX w4 (fun hk' hv' hH => ?_)
  refine pa_spread (n := n) w5 w4 hG6 (fun ks' vs' sz' h1 h2 h3 => ?_)
  have hX' := pa_reb hX w5 w4 rfl hG6 hH h1 h2 h3
  refine pa_segmentFor hX' (fun s' hF' => ?_)
  have hst := pa_SF_stay hX.1 hX'.1 w5 w4 w2 w3 rfl hns hF hF'
  exact pa_i88 hX' hF' (pa_spr_le w5 hG6 hst.1 hst.2) hN hx hno (fun n' p ks' vs' sz' hp1 h => hp _ n' p ks' vs' sz' _ _ hp1 h)
theorem pa_i51_1 {post : SX → Prop} {x y : Int32} {s : Nat} (hX : pa_X n N K V ks vs sz) (hF : pa_SF n N K x s) (h6 : n s ≤ 6) (hN : N < 48) (hx : -1000 ≤ x.toInt ∧ x.toInt ≤ 1000) (hno : ∀ i, i < N → K i ≠ x)
    (hp : ∀ g n' p ks' vs' sz' hk hv, p ≤ N → pa_X n' (N + 1) (pa_ins K p x) (pa_ins V p y) ks' vs' sz' → post (nI (N + 1), g, ks', vs', sz', hk, hv)) :
    wX_insert_51 post x y (nI s) (nI 1) (nI N) g ks vs sz hk hv :=
  br_t (nI_le (b := 1) (Nat.le_refl _) (by omega)) (pa_i88 hX hF h6 hN hx hno (fun n' p ks' vs' sz' hp1 h => hp _ n' p ks' vs' sz' _ _ hp1 h))
theorem pa_i12 {post : SX → Prop} {x y : Int32} {s m a M st f : Nat} (hX : pa_X n N K V ks vs sz) (hw : pa_win s m a) (hst : st < 3)
    (hM : ∀ P : Int32 → Prop, P (nI M) → wpX_mostIn P (nI m)) (hM3 : M < 100)
    (hlt : pa_pre n (a + m) - pa_pre n a < M → wX_insert_51 post x y (nI s) (nI m) c g ks vs sz hk hv)
    (hge : M ≤ pa_pre n (a + m) - pa_pre n a → wX_insert_12 post x y (nI s) c g ks vs sz hk hv f (nI (2 * m)) (nI (st + 1))) :
    wX_insert_12 post x y (nI s) c g ks vs sz hk hv (f + 1) (nI m) (nI st) := by
  obtain ⟨w1, w2, w3, w4, w5⟩ := hw
  have hN := pa_leN hX.1 (s := a + m) w4
  have h48 := hX.1.2.1
  refine br_f (nI_ge (b := 3) hst (by decide)) (And.intro (nI_ne0 w5 (by omega)) ?_)
  rw [w1]
  refine pa_keysIn hX w4 (hM _ ?_)
  refine pk_lt (pa_pre n (a + m) - pa_pre n a) M hlt (fun e => nm_r (pk_mul 2 m) (nm_r (nI_1 st) (hge e)))
theorem pa_most1 (P : Int32 → Prop) (h : P (nI 7)) : wpX_mostIn P (nI 1) := br_t (by decide) h
theorem pa_most2 (P : Int32 → Prop) (h : P (nI 13)) : wpX_mostIn P (nI 2) := br_f (by decide) (br_t (by decide) h)
theorem pa_most4 (P : Int32 → Prop) (h : P (nI 25)) : wpX_mostIn P (nI 4) := br_f (by decide) (br_f (by decide) (br_t (by decide) h))
theorem pa_insert {post : SX → Prop} {x y : Int32} (hX : pa_X n N K V ks vs sz) (hN : N < 48) (hx : -1000 ≤ x.toInt ∧ x.toInt ≤ 1000) (hno : ∀ i, i < N → K i ≠ x)
    (hp : ∀ g n' p ks' vs' sz' hk hv, p ≤ N → pa_X n' (N + 1) (pa_ins K p x) (pa_ins V p y) ks' vs' sz' → post (nI (N + 1), g, ks', vs', sz', hk, hv)) :
    wpX_insert post (nI N, g, ks, vs, sz, hk, hv) x y := by
  unfold wpX_insert
  refine pa_segmentFor hX (fun s hF => Exists.intro 4 ?_)
  have hs := hF.1
  have hw1 := pa_win_of (m := 1) hs (by omega)
  have hw2 := pa_win_of (m := 2) hs (by omega)
  have hw4 := pa_win_of (m := 4) hs (by omega)
  have hw8 := pa_win_of (m := 8) hs (by omega)
  have e1 : s / 1 * 1 = s := by omega
  rw [e1] at hw1
  have hd : pa_pre n (s + 1) - pa_pre n s = n s := by
    rw [pa_pre_s]
    exact Nat.add_sub_cancel_left _ _
  refine pa_i12 (st := 0) (M := 7) hX hw1 (by omega) pa_most1 (by omega) (fun e => pa_i51_1 hX hF (by rw [hd] at e; omega) hN hx hno hp) (fun e => ?_)
  have hns : 7 ≤ n s := by
    rw [hd] at e
    exact e
  refine pa_i12 (m := 2) (st := 1) (M := 13) hX hw2 (by omega) pa_most2 (by omega) (fun e => pa_i51 hX hF hN hx hno hw2 (by omega) (by omega) (by omega) hp) (fun e => ?_)
  refine pa_i12 (m := 4) (st := 2) (M := 25) hX hw4 (by omega) pa_most4 (by omega) (fun e => pa_i51 hX hF hN hx hno hw4 (by omega) (by omega) (by omega) hp) (fun e => ?_)
  refine br_t (by decide) (pa_i51 (m := 8) hX hF hN hx hno hw8 (by omega) ?_ (by omega) hp)
  have := pa_leN hX.1 (s := s / 8 * 8 + 8) hw8.2.2.2.1
  omega
theorem pa_d116 {post : SX → Prop} {s m a : Nat} (hX : pa_X n N K V ks vs sz) (hw : pa_win s m a) (hG6 : 1 < m → pa_pre n (a + m) - pa_pre n a ≤ 6 * m)
    (hp : ∀ g n' ks' vs' sz' hk hv, pa_X n' N K V ks' vs' sz' → post (c, g, ks', vs', sz', hk, hv)) :
    wX_drop_116 post (nI s) (nI m) c g ks vs sz hk hv := by
  obtain ⟨w1, w2, w3, w4, w5⟩ := hw
  refine pk_le m 1 (fun e => hp _ _ _ _ _ _ _ hX) (fun e => And.intro (nI_ne0 w5 (by omega)) (nm_r w1 ?_))
  refine pa_gather hX w4 (fun hk' hv' hH => ?_)
  refine pa_spread (n := n) w5 w4 (hG6 e) (fun ks' vs' sz' h1 h2 h3 => ?_)
  exact hp _ _ _ _ _ _ _ (pa_reb hX w5 w4 rfl (hG6 e) hH h1 h2 h3)
theorem pa_least (P : Int32 → Prop) {m : Nat} (hm : m < 8) (h : P (nI m)) : wpX_leastIn P (nI m) :=
  br_f (fun e => by rw [show (8 : Int32) = nI 8 from rfl, nI_eq (by omega) (by omega)] at e; omega) h
theorem pa_d83 {post : SX → Prop} {s m a st f : Nat} (hX : pa_X n N K V ks vs sz) (hw : pa_win s m a) (hst : st < 3) (hm8 : m < 8)
    (hge : m ≤ pa_pre n (a + m) - pa_pre n a → wX_drop_116 post (nI s) (nI m) c g ks vs sz hk hv)
    (hlt : pa_pre n (a + m) - pa_pre n a < m → wX_drop_83 post (nI s) c g ks vs sz hk hv f (nI (2 * m)) (nI (st + 1))) :
    wX_drop_83 post (nI s) c g ks vs sz hk hv (f + 1) (nI m) (nI st) := by
  obtain ⟨w1, w2, w3, w4, w5⟩ := hw
  have hN := pa_leN hX.1 (s := a + m) w4
  have h48 := hX.1.2.1
  refine br_f (nI_ge (b := 3) hst (by decide)) (And.intro (nI_ne0 w5 (by omega)) ?_)
  rw [w1]
  refine pa_keysIn hX w4 (pa_least _ hm8 ?_)
  refine pk_le m (pa_pre n (a + m) - pa_pre n a) hge (fun e => nm_r (pk_mul 2 m) (nm_r (nI_1 st) (hlt e)))
theorem pa_two {s a : Nat} (hB : pa_B n N) (hz : n s = 0) (h : s = a ∨ s = a + 1) (ha : a + 2 ≤ 8) : pa_pre n (a + 2) - pa_pre n a ≤ 7 := by
  have a0 := pa_pre_s n a
  have a1 : pa_pre n (a + 2) = pa_pre n (a + 1) + n (a + 1) := pa_pre_s n (a + 1)
  have b0 := hB.2.2 a (by omega)
  have b1 := hB.2.2 (a + 1) (by omega)
  rcases h with h | h <;> rw [h] at hz <;> omega
theorem pa_four {s a : Nat} (hB : pa_B n N) (hz : n s = 0) (h : s = a ∨ s = a + 1 ∨ s = a + 2 ∨ s = a + 3) (ha : a + 4 ≤ 8) : pa_pre n (a + 4) - pa_pre n a ≤ 24 := by
  have a0 := pa_pre_s n a
  have a1 : pa_pre n (a + 2) = pa_pre n (a + 1) + n (a + 1) := pa_pre_s n (a + 1)
  have a2 : pa_pre n (a + 3) = pa_pre n (a + 2) + n (a + 2) := pa_pre_s n (a + 2)
  have a3 : pa_pre n (a + 4) = pa_pre n (a + 3) + n (a + 3) := pa_pre_s n (a + 3)
  have b0 := hB.2.2 a (by omega)
  have b1 := hB.2.2 (a + 1) (by omega)
  have b2 := hB.2.2 (a + 2) (by omega)
  have b3 := hB.2.2 (a + 3) (by omega)
  rcases h with h | h | h | h <;> rw [h] at hz <;> omega
theorem pa_d83_all {post : SX → Prop} {s : Nat} (hX : pa_X n N K V ks vs sz) (hs : s < 8)
    (hp : ∀ g n' ks' vs' sz' hk hv, pa_X n' N K V ks' vs' sz' → post (c, g, ks', vs', sz', hk, hv)) :
    wX_drop_83 post (nI s) c g ks vs sz hk hv 4 1 0 := by
  have hw1 := pa_win_of (m := 1) hs (by omega)
  have hw2 := pa_win_of (m := 2) hs (by omega)
  have hw4 := pa_win_of (m := 4) hs (by omega)
  have hw8 := pa_win_of (m := 8) hs (by omega)
  have e1 : s / 1 * 1 = s := by omega
  rw [e1] at hw1
  have hB := hX.1
  have h48 := hB.2.1
  have hpre := pa_pre_s n s
  refine pa_d83 (m := 1) (st := 0) hX hw1 (by omega) (by omega) (fun e => pa_d116 hX hw1 (by omega) hp) (fun e => ?_)
  have hz : n s = 0 := by omega
  have h2 := pa_two hB hz (a := s / 2 * 2) (by omega) (by omega)
  refine pa_d83 (m := 2) (st := 1) hX hw2 (by omega) (by omega) (fun e => pa_d116 hX hw2 (fun _ => by omega) hp) (fun e2 => ?_)
  have h4 := pa_four hB hz (a := s / 4 * 4) (by omega) (by omega)
  refine pa_d83 (m := 4) (st := 2) hX hw4 (by omega) (by omega) (fun e => pa_d116 hX hw4 (fun _ => by omega) hp) (fun e4 => ?_)
  refine br_t (by decide) (pa_d116 (m := 8) hX hw8 (fun _ => ?_) hp)
  have := pa_leN hB (s := s / 8 * 8 + 8) hw8.2.2.2.1
  omega
theorem pa_d9 {post : SX → Prop} {s k : Nat} (hX : pa_X n (N + 1) K V ks vs sz) (hs : s < 8) (hk1 : k < n s)
    (hp : ∀ g n' ks' vs' sz' hk hv, pa_X n' N (pa_del K (pa_pre n s + k)) (pa_del V (pa_pre n s + k)) ks' vs' sz' → post (nI N, g, ks', vs', sz', hk, hv)) :
    ∀ d j, j + d = n s → k < j → wX_drop_9 post (nI s) (nI (N + 1)) g (d + 1) (nI (8 * s + j)) (pa_dr ks (8 * s + k) (8 * s + j - 1)) (pa_dr vs (8 * s + k) (8 * s + j - 1)) sz hk hv := by
  obtain ⟨hB, hZ, hC, hV, hS⟩ := hX
  have hin : vp_in (nI s) 8 := vp_in_nI hs (by omega)
  have hcl : (nI s).toNatClampNeg = s := nI_clamp (by omega)
  have h7 := hB.2.2 s hs
  have hix : (8 : Int32) * nI s + nI (n s) = nI (8 * s + n s) := by
    rw [show (8 : Int32) * nI s = nI (8 * s) from pk_mul 8 s, nI_add]
  intro d
  induction d with
  | zero =>
    intro j hj hkj
    have e : j = n s := by omega
    subst e
    have hX' : pa_X (pa_dec n s) N (pa_del K (pa_pre n s + k)) (pa_del V (pa_pre n s + k)) (pa_dr ks (8 * s + k) (8 * s + n s - 1)) (pa_dr vs (8 * s + k) (8 * s + n s - 1)) (upd sz s (sz s - 1)) :=
      ⟨pa_B_dec hB hs (by omega), pa_Z_dec hZ hs (by omega), pa_C_del hC hB.2.2 hs hk1, pa_C_del hV hB.2.2 hs hk1, pa_S_del hS⟩
    have hL := pa_d83_all (c := nI N) (g := g) (hk := hk) (hv := hv) hX' hs hp
    unfold wX_drop_9
    rw [hcl]
    refine And.intro hin ?_
    refine br_t ?_ ⟨hin, hin, nm_e (nm_r (nI_pred N) (Exists.intro 4 hL))⟩
    rw [hZ s hs, hix]
    exact nI_le (Nat.le_refl _) (by omega)
  | succ d ih =>
    intro j hj hkj
    have hpr : nI (8 * s + j) - 1 = nI (8 * s + j - 1) := by
      rw [show 8 * s + j = 8 * s + j - 1 + 1 from by omega, nI_pred]
      rfl
    have hcl3 : (nI (8 * s + j)).toNatClampNeg = 8 * s + j := nI_clamp (by omega)
    have hcl4 : (nI (8 * s + j - 1)).toNatClampNeg = 8 * s + j - 1 := nI_clamp (by omega)
    have hi2 : vp_in (nI (8 * s + j)) 64 := vp_in_nI (by omega) (by omega)
    have hi3 : vp_in (nI (8 * s + j - 1)) 64 := vp_in_nI (by omega) (by omega)
    have st : ∀ a : Nat → Int32, upd (pa_dr a (8 * s + k) (8 * s + j - 1)) (8 * s + j - 1) (pa_dr a (8 * s + k) (8 * s + j - 1) (8 * s + j)) = pa_dr a (8 * s + k) (8 * s + (j + 1) - 1) := by
      intro a
      have h := pa_dr_step a (l := 8 * s + k) (h := 8 * s + j - 1) (by omega)
      rw [show 8 * s + j - 1 + 1 = 8 * s + j from by omega] at h
      exact h
    unfold wX_drop_9
    rw [hcl, hpr, hcl3, hcl4, hZ s hs, hix]
    refine And.intro hin (br_f (nI_ge (by omega) (by omega)) ⟨hi2, hi3, nm_r (st ks) ⟨hi2, hi3, nm_r (st vs) (nm_r (nI_1 _) (ih (j + 1) (by omega) (by omega)))⟩⟩)
theorem pa_drop {post : SX → Prop} {s k : Nat} (hX : pa_X n (N + 1) K V ks vs sz) (hs : s < 8) (hk1 : k < n s)
    (hp : ∀ g n' ks' vs' sz' hk hv, pa_X n' N (pa_del K (pa_pre n s + k)) (pa_del V (pa_pre n s + k)) ks' vs' sz' → post (nI N, g, ks', vs', sz', hk, hv)) :
    wpX_drop post (nI (N + 1), g, ks, vs, sz, hk, hv) (nI (8 * s + k)) := by
  have h7 := hX.1.2.2 s hs
  have hL := pa_d9 (g := g) (hk := hk) (hv := hv) hX hs hk1 hp (n s - (k + 1)) (k + 1) (by omega) (by omega)
  rw [show 8 * s + (k + 1) - 1 = 8 * s + k from rfl, pa_dr_0, pa_dr_0] at hL
  refine And.intro (by decide) (nm_r (e' := nI s) ?_ (nm_r (nI_1 _) (Exists.intro _ hL)))
  have h := pk_div (a := 8 * s + k) (d := 8) (by omega) (by omega) (by omega)
  rw [show (8 * s + k) / 8 = s from by omega] at h
  exact h
end
end
section
def pa_ls (a b : Nat → Int32) : Nat → List (Int32 × Int32)
  | 0 => []
  | n + 1 => pa_ls a b n ++ [(a n, b n)]
theorem pa_ls_s (a b : Nat → Int32) (n : Nat) : pa_ls a b (n + 1) = pa_ls a b n ++ [(a n, b n)] := rfl
theorem pa_ls_mem {a b : Nat → Int32} {n : Nat} {e : Int32 × Int32} : e ∈ pa_ls a b n ↔ ∃ i, i < n ∧ e = (a i, b i) := by
  induction n with
  | zero => exact ⟨fun h => absurd h List.not_mem_nil, fun ⟨i, h, _⟩ => absurd h (Nat.not_lt_zero _)⟩
  | succ n ih =>
    rw [pa_ls_s, List.mem_append, ih, List.mem_singleton]
    constructor
    · intro h
      rcases h with ⟨i, h1, h2⟩ | h
      · exact ⟨i, by omega, h2⟩
      · exact ⟨n, by omega, h⟩
    · intro ⟨i, h1, h2⟩
      by_cases e2 : i = n
      · subst e2
        exact Or.inr h2
      · exact Or.inl ⟨i, by omega, h2⟩
theorem pa_ls_congr {a b a' b' : Nat → Int32} {n : Nat} (h : ∀ i, i < n → a i = a' i ∧ b i = b' i) : pa_ls a b n = pa_ls a' b' n := by
  induction n with
  | zero => rfl
  | succ n ih => rw [pa_ls_s, pa_ls_s, ih (fun i hi => h i (by omega)), (h n (by omega)).1, (h n (by omega)).2]
theorem pa_ls_map {a b a' b' : Nat → Int32} {n : Nat} (f : Int32 × Int32 → Int32 × Int32) (h : ∀ i, i < n → f (a i, b i) = (a' i, b' i)) : (pa_ls a b n).map f = pa_ls a' b' n := by
  induction n with
  | zero => rfl
  | succ n ih => rw [pa_ls_s, pa_ls_s, List.map_append, ih (fun i hi => h i (by omega)), List.map_cons, List.map_nil, h n (by omega)]
theorem pa_ls_ins (a b : Nat → Int32) (x y : Int32) {p : Nat} : ∀ {n : Nat}, p ≤ n → List.Perm (pa_ls (pa_ins a p x) (pa_ins b p y) (n + 1)) ((x, y) :: pa_ls a b n) := by
  intro n
  induction n with
  | zero =>
    intro h
    have e : p = 0 := by omega
    subst e
    exact List.Perm.refl _
  | succ n ih =>
    intro h
    rw [pa_ls_s]
    by_cases e : p = n + 1
    · subst e
      rw [pa_ins_eq, pa_ins_eq, pa_ls_congr (a' := a) (b' := b) (fun i hi => ⟨pa_ins_lt hi, pa_ins_lt hi⟩)]
      exact List.perm_append_singleton _ _
    · rw [pa_ins_gt (i := n + 1) (by omega), pa_ins_gt (i := n + 1) (by omega)]
      exact (ih (by omega)).append_right _
theorem pa_ls_del (a b : Nat → Int32) {p n : Nat} (h : p ≤ n) : List.Perm (pa_ls a b (n + 1)) ((a p, b p) :: pa_ls (pa_del a p) (pa_del b p) n) := by
  have h1 := pa_ls_ins (pa_del a p) (pa_del b p) (a p) (b p) h
  rw [pa_ins_del, pa_ins_del] at h1
  exact h1
theorem pa_del_upd (a : Nat → Int32) (p : Nat) (x : Int32) : pa_del (upd a p x) p = pa_del a p := by
  funext i
  by_cases h : i < p
  · rw [pa_del_lt h, pa_del_lt h, pk_un (by omega)]
  · rw [pa_del_ge (by omega), pa_del_ge (by omega), pk_un (by omega)]
theorem pa_ls_rem (a b : Nat → Int32) {j n : Nat} (h : j ≤ n) : List.Perm (pa_ls a b (n + 1)) ((a j, b j) :: pa_ls (upd a j (a n)) (upd b j (b n)) n) := by
  rw [pa_ls_s]
  by_cases e : j = n
  · subst e
    rw [pa_ls_congr (n := j) (a := upd a j (a j)) (b := upd b j (b j)) (a' := a) (b' := b) (fun i hi => ⟨pk_un (by omega), pk_un (by omega)⟩)]
    exact List.perm_append_singleton _ _
  · obtain ⟨m, rfl⟩ : ∃ m, n = m + 1 := ⟨n - 1, by omega⟩
    have h1 := pa_ls_del a b (p := j) (n := m) (by omega)
    have h2 := pa_ls_del (upd a j (a (m + 1))) (upd b j (b (m + 1))) (p := j) (n := m) (by omega)
    rw [pa_del_upd, pa_del_upd, pk_us, pk_us] at h2
    refine (h1.append_right _).trans ?_
    refine (List.perm_append_singleton _ _).trans ?_
    refine (List.Perm.swap _ _ _).trans ?_
    exact List.Perm.cons _ h2.symm
theorem pa_pw {R : Int32 × Int32 → Int32 × Int32 → Prop} {a b : Nat → Int32} {n : Nat} : (pa_ls a b n).Pairwise R ↔ ∀ i j, i < j → j < n → R (a i, b i) (a j, b j) := by
  induction n with
  | zero => exact ⟨fun _ i j _ h => absurd h (Nat.not_lt_zero _), fun _ => List.Pairwise.nil⟩
  | succ n ih =>
    rw [pa_ls_s, List.pairwise_append, ih]
    constructor
    · intro ⟨h1, _, h3⟩ i j hij hj
      by_cases e : j = n
      · subst e
        exact h3 _ (pa_ls_mem.mpr ⟨i, hij, rfl⟩) _ (List.mem_singleton.mpr rfl)
      · exact h1 i j hij (by omega)
    · intro h
      refine ⟨fun i j hij hj => h i j hij (by omega), List.pairwise_singleton _ _, fun e1 h1 e2 h2 => ?_⟩
      obtain ⟨i, hi, rfl⟩ := pa_ls_mem.mp h1
      rw [List.mem_singleton.mp h2]
      exact h i n hi (by omega)
theorem pa_dist {a b a' b' : Nat → Int32} {n : Nat} (hP : List.Perm (pa_ls a b n) (pa_ls a' b' n)) (h : ∀ i j, i < j → j < n → a i ≠ a j) : ∀ i j, i < j → j < n → a' i ≠ a' j := by
  have h1 : (pa_ls a b n).Pairwise (fun e f => e.1 ≠ f.1) := pa_pw.mpr h
  have h2 := (hP.pairwise_iff (R := fun e f => e.1 ≠ f.1) (fun h => Ne.symm h)).mp h1
  exact pa_pw.mp h2
theorem pa_swap {a b a' b' : Nat → Int32} {i : Nat} (h1 : a' i = a (i + 1) ∧ b' i = b (i + 1)) (h2 : a' (i + 1) = a i ∧ b' (i + 1) = b i) (h3 : ∀ j, j ≠ i → j ≠ i + 1 → a' j = a j ∧ b' j = b j) :
    ∀ n, i + 1 < n → List.Perm (pa_ls a' b' n) (pa_ls a b n) := by
  intro n
  induction n with
  | zero => exact fun h => absurd h (Nat.not_lt_zero _)
  | succ n ih =>
    intro h
    rw [pa_ls_s, pa_ls_s]
    by_cases e : n = i + 1
    · subst e
      rw [pa_ls_s, pa_ls_s, h1.1, h1.2, h2.1, h2.2, pa_ls_congr (n := i) (a := a') (b := b') (a' := a) (b' := b) (fun j hj => h3 j (by omega) (by omega)), List.append_assoc, List.append_assoc]
      exact List.Perm.append_left _ (List.Perm.swap _ _ _)
    · rw [(h3 n (by omega) e).1, (h3 n (by omega) e).2]
      exact (ih (by omega)).append_right _
theorem pa_cnt_s (P : Int32 × Int32 → Bool) (a b : Nat → Int32) (n : Nat) : (pa_ls a b (n + 1)).countP P = (pa_ls a b n).countP P + (if P (a n, b n) = true then 1 else 0) := by
  rw [pa_ls_s, List.countP_append, List.countP_singleton]
theorem pa_cnt_le (P : Int32 × Int32 → Bool) (a b : Nat → Int32) (n : Nat) : (pa_ls a b n).countP P ≤ n := by
  induction n with
  | zero => exact Nat.le_refl _
  | succ n ih =>
    rw [pa_cnt_s]
    by_cases e : P (a n, b n) = true
    · rw [if_pos e]
      omega
    · rw [if_neg e]
      omega
theorem pa_cntR (P : Int32 × Int32 → Bool) {a b : Nat → Int32} {N r q : Nat} (hr : r + q ≤ N) (h : ∀ i, i < N → (P (a i, b i) = true ↔ (r ≤ i ∧ i < r + q))) : (pa_ls a b N).countP P = q := by
  have H : ∀ m, m ≤ N → (pa_ls a b m).countP P = if m ≤ r then 0 else if m ≤ r + q then m - r else q := by
    intro m
    induction m with
    | zero =>
      intro _
      rw [if_pos (Nat.zero_le _)]
      rfl
    | succ m ih =>
      intro hm
      rw [pa_cnt_s, ih (by omega)]
      have hi := h m (by omega)
      by_cases e : P (a m, b m) = true
      · have e2 := hi.mp e
        rw [if_pos e]
        by_cases e3 : m ≤ r
        · rw [if_pos e3, if_neg (by omega), if_pos (by omega)]
          omega
        · rw [if_neg e3, if_pos (by omega), if_neg (by omega), if_pos (by omega)]
          omega
      · have e2 : ¬ (r ≤ m ∧ m < r + q) := fun z => e (hi.mpr z)
        rw [if_neg e]
        by_cases e3 : m < r
        · rw [if_pos (by omega), if_pos (by omega)]
        · by_cases e4 : m = r
          · have e5 : q = 0 := by omega
            subst e4 e5
            rw [if_pos (Nat.le_refl _), if_neg (by omega), if_neg (by omega)]
          · rw [if_neg (by omega), if_neg (c := m + 1 ≤ r) (by omega), if_neg (c := m + 1 ≤ r + q) (by omega)]
            by_cases e6 : m ≤ r + q
            · rw [if_pos e6]
              omega
            · rw [if_neg e6]
              rfl
  rw [H N (Nat.le_refl _)]
  by_cases e : N ≤ r
  · rw [if_pos e]
    omega
  · rw [if_neg e]
    by_cases e2 : N ≤ r + q
    · rw [if_pos e2]
      omega
    · rw [if_neg e2]
def pa_sum (P : Int32 × Int32 → Bool) : List (Int32 × Int32) → Int32
  | [] => 0
  | e :: l => (if P e = true then e.2 else 0) + pa_sum P l
theorem pa_sum_c (P : Int32 × Int32 → Bool) (e : Int32 × Int32) (l : List (Int32 × Int32)) : pa_sum P (e :: l) = (if P e = true then e.2 else 0) + pa_sum P l := rfl
theorem pa_sum_a (P : Int32 × Int32 → Bool) (e : Int32 × Int32) (l : List (Int32 × Int32)) : pa_sum P (l ++ [e]) = pa_sum P l + (if P e = true then e.2 else 0) := by
  induction l with
  | nil =>
    show (if P e = true then e.2 else 0) + 0 = 0 + _
    rw [Int32.add_zero, Int32.zero_add]
  | cons f l ih => rw [List.cons_append, pa_sum_c, pa_sum_c, ih, Int32.add_assoc]
theorem pa_sum_p (P : Int32 × Int32 → Bool) {l m : List (Int32 × Int32)} (h : List.Perm l m) : pa_sum P l = pa_sum P m := by
  induction h with
  | nil => rfl
  | cons e _ ih => rw [pa_sum_c, pa_sum_c, ih]
  | swap e f l => rw [pa_sum_c, pa_sum_c, pa_sum_c, pa_sum_c, ← Int32.add_assoc, ← Int32.add_assoc, Int32.add_comm (if P f = true then f.2 else 0)]
  | trans _ _ ih1 ih2 => rw [ih1, ih2]
theorem pa_sum_s (P : Int32 × Int32 → Bool) (a b : Nat → Int32) (n : Nat) : pa_sum P (pa_ls a b (n + 1)) = pa_sum P (pa_ls a b n) + (if P (a n, b n) = true then b n else 0) := by
  rw [pa_ls_s, pa_sum_a]
theorem pa_sum_out (P : Int32 × Int32 → Bool) {a b : Nat → Int32} {m : Nat} : ∀ d, (∀ i, m ≤ i → i < m + d → ¬ P (a i, b i) = true) → pa_sum P (pa_ls a b (m + d)) = pa_sum P (pa_ls a b m) := by
  intro d
  induction d with
  | zero => exact fun _ => rfl
  | succ d ih =>
    intro h
    rw [← Nat.add_assoc, pa_sum_s, if_neg (h (m + d) (by omega) (by omega)), Int32.add_zero, ih (fun i h1 h2 => h i h1 (by omega))]
theorem pa_AB {K V ya yb : Nat → Int32} {N : Nat} (h : List.Perm (pa_ls K V N) (pa_ls ya yb N)) : ∀ i, i < N → ∃ j, j < N ∧ ya j = K i ∧ yb j = V i := by
  intro i hi
  obtain ⟨j, hj, e⟩ := pa_ls_mem.mp (h.mem_iff.mp (pa_ls_mem.mpr ⟨i, hi, rfl⟩))
  exact ⟨j, hj, (congrArg Prod.fst e).symm, (congrArg Prod.snd e).symm⟩
theorem pa_yinj {K V ya yb : Nat → Int32} {N : Nat} (hS : pa_S N K) (h : List.Perm (pa_ls K V N) (pa_ls ya yb N)) {i j : Nat} (hi : i < N) (hj : j < N) (e : ya i = ya j) : i = j := by
  have hd := pa_dist h (fun i j hij hj => pa_neI (by have := hS.1 i j hij hj; omega))
  rcases Nat.lt_trichotomy i j with h1 | h1 | h1
  · exact absurd e (hd i j h1 hj)
  · exact h1
  · exact absurd e.symm (hd j i h1 hi)
theorem pa_ygd {K V ya yb : Nat → Int32} {N : Nat} (hS : pa_S N K) (h : List.Perm (pa_ls K V N) (pa_ls ya yb N)) : ∀ j, j < N → -1000 ≤ (ya j).toInt ∧ (ya j).toInt ≤ 1000 := by
  intro j hj
  obtain ⟨i, hi, e, _⟩ := pa_AB h.symm j hj
  rw [← e]
  exact hS.2 i hi
end
section
def pa_gd (x : Int32) : Prop := -1000 ≤ x.toInt ∧ x.toInt ≤ 1000
def pa_in (lo hi x : Int32) : Bool := decide (lo.toInt ≤ x.toInt) && decide (x.toInt ≤ hi.toInt)
theorem pa_in_iff {lo hi x : Int32} : pa_in lo hi x = true ↔ lo.toInt ≤ x.toInt ∧ x.toInt ≤ hi.toInt := by
  unfold pa_in
  rw [Bool.and_eq_true, decide_eq_true_iff, decide_eq_true_iff]
theorem pa_goodX {P : Int32 → Prop} {x : Int32} (h1 : pa_gd x → P 1) (h0 : ¬ pa_gd x → P 0) : wpX_isGood P x :=
  pa_lt (fun e => h0 (fun z => by rw [pa_tm1000] at e; have := z.1; omega)) (fun e => pa_lt (fun e2 => h0 (fun z => by rw [pa_t1000] at e2; have := z.2; omega)) (fun e2 => h1 ⟨by rw [pa_tm1000] at e; exact e, by rw [pa_t1000] at e2; exact e2⟩))
theorem pa_goodY {P : Int32 → Prop} {x f : Int32} {a b : Nat → Int32} (h1 : pa_gd x → P 1) (h0 : ¬ pa_gd x → P 0) : wpY_good P (f, a, b) x :=
  pa_lt (fun e => h0 (fun z => by rw [pa_tm1000] at e; have := z.1; omega)) (fun e => pa_lt (fun e2 => h0 (fun z => by rw [pa_t1000] at e2; have := z.2; omega)) (fun e2 => h1 ⟨by rw [pa_tm1000] at e; exact e, by rw [pa_t1000] at e2; exact e2⟩))
theorem pa_inY {P : Int32 → Prop} {x lo hi f : Int32} {a b : Nat → Int32} (h1 : pa_in lo hi x = true → P 1) (h0 : ¬ pa_in lo hi x = true → P 0) : wpY_in P (f, a, b) x lo hi :=
  pa_lt (fun e => h0 (fun z => by have := pa_in_iff.mp z; omega)) (fun e => pa_lt (fun e2 => h0 (fun z => by have := pa_in_iff.mp z; omega)) (fun e2 => h1 (pa_in_iff.mpr ⟨e, e2⟩)))
def pa_srt (h : Nat → Int32) (i : Nat) : Prop := ∀ a b, a < b → b < i → (h a).toInt ≤ (h b).toInt
section
variable {c g : Int32} {ks vs sz : Nat → Int32}
theorem pa_sh83 {post : SX → Prop} {J : Int32 → (Nat → Int32) → (Nat → Int32) → (Nat → Int32) → (Nat → Int32) → (Nat → Int32) → Prop} {i t : Nat} {y1 y2 : Int32} {hk hv : Nat → Int32} (ht : t < 48)
    (h : J (nI (i + 1)) ks vs sz (upd hk t y1) (upd hv t y2)) : wX_sortHeld_83 post J (nI i) y1 y2 (nI t) c g ks vs sz hk hv := by
  have hcl : (nI t).toNatClampNeg = t := nI_clamp (by omega)
  have hin : vp_in (nI t) 48 := vp_in_nI ht (by omega)
  unfold wX_sortHeld_83
  rw [hcl]
  exact ⟨hin, nm_e ⟨hin, nm_e (nm_r (nI_1 i) h)⟩⟩
theorem pa_sh27 {post : SX → Prop} {J : Int32 → (Nat → Int32) → (Nat → Int32) → (Nat → Int32) → (Nat → Int32) → (Nat → Int32) → Prop} {L0 : List (Int32 × Int32)} {i G : Nat} {y1 y2 : Int32} (hi : i < G) (hG : G ≤ 48)
    (hJ : ∀ hk hv, List.Perm (pa_ls hk hv G) L0 → pa_srt hk (i + 1) → J (nI (i + 1)) ks vs sz hk hv) :
    ∀ t hk hv, t ≤ i → List.Perm (pa_ls (upd hk t y1) (upd hv t y2) G) L0 → (∀ a b, a < b → b ≤ i → a ≠ t → b ≠ t → (hk a).toInt ≤ (hk b).toInt) → (∀ b, t < b → b ≤ i → y1.toInt < (hk b).toInt) →
      wX_sortHeld_27 post J (nI i) y1 y2 c g (t + 1) (nI t) ks vs sz hk hv := by
  intro t
  induction t with
  | zero =>
    intro hk hv ht hP h1 h2
    refine br_t (by decide) (pa_sh83 (t := 0) (by omega) (hJ _ _ hP (fun a b hab hb => ?_)))
    by_cases e : a = 0
    · subst e
      rw [pk_us, pk_un (by omega)]
      exact Int.le_of_lt (h2 b hab (by omega))
    · rw [pk_un e, pk_un (by omega)]
      exact h1 a b hab (by omega) e (by omega)
  | succ t ih =>
    intro hk hv ht hP h1 h2
    have hpr : nI (t + 1) - 1 = nI t := nI_pred t
    have hpr2 : nI (t + 1) + (-1) = nI t := pk_m1 t
    have hcl : (nI t).toNatClampNeg = t := nI_clamp (by omega)
    have hcl2 : (nI (t + 1)).toNatClampNeg = t + 1 := nI_clamp (by omega)
    have hi1 : vp_in (nI t) 48 := vp_in_nI (by omega) (by omega)
    have hi2 : vp_in (nI (t + 1)) 48 := vp_in_nI (by omega) (by omega)
    unfold wX_sortHeld_27
    rw [hpr, hpr2, hcl, hcl2]
    refine br_f (nI_nle (by omega) (by omega)) ⟨hi1, pa_le (fun e => pa_sh83 (by omega) (hJ _ _ hP (fun a b hab hb => ?_))) (fun e => ⟨hi1, hi2, nm_e ⟨hi1, hi2, nm_e (nm_e (ih _ _ (by omega) ?_ (fun a b hab hb ha1 hb1 => ?_) (fun b hb1 hb2 => ?_)))⟩⟩)⟩
    · by_cases ea : a = t + 1
      · subst ea
        rw [pk_us, pk_un (by omega)]
        exact Int.le_of_lt (h2 b hab (by omega))
      · rw [pk_un ea]
        by_cases eb : b = t + 1
        · subst eb
          rw [pk_us]
          by_cases e3 : a = t
          · subst e3
            exact e
          · have := h1 a t (by omega) (by omega) ea (by omega)
            omega
        · rw [pk_un eb]
          exact h1 a b hab (by omega) ea eb
    · refine List.Perm.trans (pa_swap (i := t) (a := upd hk (t + 1) y1) (b := upd hv (t + 1) y2) ⟨?_, ?_⟩ ⟨?_, ?_⟩ (fun j j1 j2 => ⟨?_, ?_⟩) G (by omega)) hP
      · rw [pk_us, pk_us]
      · rw [pk_us, pk_us]
      · rw [pk_un (by omega), pk_us, pk_un (by omega)]
      · rw [pk_un (by omega), pk_us, pk_un (by omega)]
      · rw [pk_un j1, pk_un j2, pk_un j2]
      · rw [pk_un j1, pk_un j2, pk_un j2]
    · by_cases eb : b = t + 1
      · subst eb
        rw [pk_us, pk_un (by omega)]
        exact h1 a t (by omega) (by omega) (by omega) (by omega)
      · rw [pk_un eb]
        by_cases ea : a = t + 1
        · subst ea
          rw [pk_us]
          exact h1 t b (by omega) hb (by omega) eb
        · rw [pk_un ea]
          exact h1 a b hab hb ea eb
    · by_cases eb : b = t + 1
      · subst eb
        rw [pk_us]
        exact e
      · rw [pk_un eb]
        exact h2 b (by omega) hb2
theorem pa_sh2 {post : SX → Prop} {L0 : List (Int32 × Int32)} {G : Nat} (hG : G ≤ 48)
    (hp : ∀ hk hv, List.Perm (pa_ls hk hv G) L0 → pa_srt hk G → post (c, nI G, ks, vs, sz, hk, hv)) :
    ∀ d i hk hv, G ≤ i + d → i < 60 → List.Perm (pa_ls hk hv G) L0 → pa_srt hk i → wX_sortHeld_2 post c (nI G) (d + 1) (nI i) ks vs sz hk hv := by
  intro d
  induction d with
  | zero =>
    intro i hk hv hd h60 hP h
    exact br_t (nI_le (by omega) (by omega)) (hp hk hv hP (fun a b hab hb => h a b hab (by omega)))
  | succ d ih =>
    intro i hk hv hd h60 hP h
    refine pk_le G i (fun e => hp hk hv hP (fun a b hab hb => h a b hab (by omega))) (fun e => ?_)
    have hin : vp_in (nI i) 48 := vp_in_nI (by omega) (by omega)
    have hcl : (nI i).toNatClampNeg = i := nI_clamp (by omega)
    rw [hcl]
    refine ⟨hin, nm_e ⟨hin, nm_e (Exists.intro (i + 1) (pa_sh27 e hG (fun hk hv a1 a2 => ih (i + 1) hk hv (by omega) (by omega) a1 a2) i hk hv (Nat.le_refl _) ?_ (fun a b hab hb ha1 hb1 => h a b hab (by omega)) (fun b hb1 hb2 => by omega)))⟩⟩
    rw [pa_ls_congr (a := upd hk i (hk i)) (b := upd hv i (hv i)) (a' := hk) (b' := hv) (fun j hj => ⟨?_, ?_⟩)]
    · exact hP
    · by_cases ej : j = i
      · subst ej
        exact pk_us
      · exact pk_un ej
    · by_cases ej : j = i
      · subst ej
        exact pk_us
      · exact pk_un ej
theorem pa_sortHeld {post : SX → Prop} {hk hv : Nat → Int32} {G : Nat} (hG : G ≤ 48)
    (hp : ∀ hk' hv', List.Perm (pa_ls hk' hv' G) (pa_ls hk hv G) → pa_srt hk' G → post (c, nI G, ks, vs, sz, hk', hv')) :
    wpX_sortHeld post (c, nI G, ks, vs, sz, hk, hv) :=
  Exists.intro _ (pa_sh2 hG hp G 1 hk hv (by omega) (by omega) (List.Perm.refl _) (fun a b hab hb => by omega))
end
def pa_mv (h : Nat → Int32) (y : Int32) (r k : Nat) : Nat → Int32 := fun i => if r ≤ i ∧ i < k then h i + y else h i
theorem pa_mv_in {h : Nat → Int32} {y : Int32} {r k i : Nat} (h1 : r ≤ i) (h2 : i < k) : pa_mv h y r k i = h i + y := if_pos ⟨h1, h2⟩
theorem pa_mv_out {h : Nat → Int32} {y : Int32} {r k i : Nat} (h1 : i < r ∨ k ≤ i) : pa_mv h y r k i = h i := if_neg (by omega)
theorem pa_mv_0 (h : Nat → Int32) (y : Int32) (r : Nat) : pa_mv h y r r = h := by
  funext i
  exact pa_mv_out (by omega)
theorem pa_mv_s (h : Nat → Int32) (y : Int32) {r k : Nat} (hr : r ≤ k) : upd (pa_mv h y r k) k (pa_mv h y r k k + y) = pa_mv h y r (k + 1) := by
  funext i
  by_cases e : i = k
  · subst e
    rw [pk_us, pa_mv_out (by omega), pa_mv_in hr (by omega)]
  · rw [pk_un e]
    by_cases e2 : r ≤ i ∧ i < k
    · rw [pa_mv_in e2.1 e2.2, pa_mv_in e2.1 (by omega)]
    · rw [pa_mv_out (by omega), pa_mv_out (by omega)]
theorem pa_reb0 {n : Nat → Nat} {N : Nat} {hk hv ks vs sz ks' vs' sz' : Nat → Int32} (hN : N ≤ 48) (hS : pa_S N hk)
    (h1 : pa_D (pa_spr n 0 8 N) 0 (0 + 8) 0 ks hk ks') (h2 : pa_D (pa_spr n 0 8 N) 0 (0 + 8) 0 vs hv vs') (h3 : pa_DZ (pa_spr n 0 8 N) 0 (0 + 8) sz sz') :
    pa_X (pa_spr n 0 8 N) N hk hv ks' vs' sz' := by
  have h0 : pa_pre (pa_spr n 0 8 N) 0 = 0 := rfl
  have ht : pa_pre (pa_spr n 0 8 N) (0 + 8) = pa_pre n 0 + N := pa_spr_tot (by omega)
  rw [show pa_pre n 0 = 0 from rfl, Nat.zero_add, Nat.zero_add] at ht
  refine ⟨⟨ht, hN, fun t ht => ?_⟩, fun t ht => h3.1 t (Nat.zero_le _) (by omega), fun t ht j hj => ?_, fun t ht j hj => ?_, hS⟩
  · have := pa_spr_le (n := n) (a := 0) (m := 8) (G := N) (t := t) (by omega) (by omega) (by omega) (by omega)
    omega
  · rw [h1.1 t (Nat.zero_le _) (by omega) j hj, h0, Nat.sub_zero]
  · rw [h2.1 t (Nat.zero_le _) (by omega) j hj, h0, Nat.sub_zero]
theorem pa_far {x y : Int32} (hx : pa_gd x) (hy : y.toInt < -2000 ∨ 2000 < y.toInt) : ¬ pa_gd (x + y) := by
  intro h
  have h1 := h.1
  have h2 := h.2
  have h3 := hx.1
  have h4 := hx.2
  have h5 := y.le_toInt
  have h6 := y.toInt_lt
  have h7 : (x + y).toInt % 4294967296 = (x.toInt + y.toInt) % 4294967296 := by
    rw [Int32.toInt_add]
    exact Int.bmod_emod
  omega
theorem pa_near {x y : Int32} (hx : pa_gd x) (h1 : -2000 ≤ y.toInt) (h2 : y.toInt ≤ 2000) : (x + y).toInt = x.toInt + y.toInt := by
  have h3 := hx.1
  have h4 := hx.2
  exact pa_addI (by omega) (by omega)
section
variable {g : Int32} {ks vs sz hk hv K V : Nat → Int32} {n : Nat → Nat} {N : Nat}
def pa_slL (K V : Nat → Int32) (N r q : Nat) (y : Int32) : List (Int32 × Int32) := pa_ls (pa_mv K y r (r + q)) V N
theorem pa_s173 {post : Int32 → SX → Prop} {y : Int32} {r q : Nat} (hX : pa_X n N K V ks vs sz) (hrq : r + q ≤ N) (hH : ∀ i, i < N → hk i = K i ∧ hv i = V i)
    (hd : ∀ i j, i < j → j < N → pa_mv K y r (r + q) i ≠ pa_mv K y r (r + q) j) (hgd : ∀ i, i < N → pa_gd (pa_mv K y r (r + q) i))
    (hp : ∀ n' K' V' ks' vs' sz', pa_X n' N K' V' ks' vs' sz' → List.Perm (pa_ls K' V' N) (pa_slL K V N r q y) → post (nI q) (nI N, nI N, ks', vs', sz', K', V')) :
    ∀ d k, k + d = r + q → r ≤ k → wX_slide_173 post y (nI q) (nI r) (nI N) (nI N) (d + 1) (nI k) ks vs sz (pa_mv hk y r k) hv := by
  have h48 := hX.1.2.1
  intro d
  induction d with
  | zero =>
    intro k hk1 hr
    have e : k = r + q := by omega
    subst e
    refine br_t (by rw [nI_add]; exact nI_le (Nat.le_refl _) (by omega)) ?_
    refine pa_sortHeld h48 (fun K' V' hP hs => ?_)
    have eL : pa_ls (pa_mv hk y r (r + q)) hv N = pa_slL K V N r q y := by
      refine pa_ls_congr (fun i hi => ⟨?_, (hH i hi).2⟩)
      by_cases w : r ≤ i ∧ i < r + q
      · rw [pa_mv_in w.1 w.2, pa_mv_in w.1 w.2, (hH i hi).1]
      · rw [pa_mv_out (by omega), pa_mv_out (by omega), (hH i hi).1]
    rw [eL] at hP
    have hd' := pa_dist hP.symm hd
    have hS' : pa_S N K' := by
      refine ⟨fun i j hij hj => ?_, fun i hi => ?_⟩
      · have a1 := hs i j hij hj
        have a2 : (K' i).toInt ≠ (K' j).toInt := fun z => hd' i j hij hj (pa_inj z)
        omega
      · obtain ⟨j, hj, e1, _⟩ := pa_AB hP i hi
        rw [← e1]
        exact hgd j hj
    refine pa_spread (n := n) (a := 0) (m := 8) (by omega) (by omega) (by omega) (fun ks' vs' sz' h1 h2 h3 => ?_)
    exact hp _ _ _ _ _ _ (pa_reb0 h48 hS' h1 h2 h3) hP
  | succ d ih =>
    intro k hk1 hr
    have hin : vp_in (nI k) 48 := vp_in_nI (by omega) (by omega)
    have hcl : (nI k).toNatClampNeg = k := nI_clamp (by omega)
    refine br_f (by rw [nI_add]; exact nI_ge (by omega) (by omega)) ?_
    rw [hcl]
    exact ⟨hin, hin, nm_r (pa_mv_s hk y hr) (nm_r (nI_1 k) (ih (k + 1) (by omega) (by omega)))⟩
theorem pa_s137 {post : Int32 → SX → Prop} {J : Int32 → Prop} {c x3 x4 x5 x6 x7 x9 z0 : Int32} {k : Nat} (hX : pa_X n N K V ks vs sz)
    (h0 : z0 = 0 → (∃ i, i < N ∧ K i = x9) → post (-2) (c, g, ks, vs, sz, hk, hv)) (h1 : (z0 = 0 → ∀ i, i < N → K i ≠ x9) → J (nI (k + 1))) :
    wX_slide_137 post J x3 x4 x5 x6 x7 (nI k) x9 z0 c g ks vs sz hk hv := by
  refine br_c (fun e => ?_) (fun e => nm_r (nI_1 k) (h1 (fun z => absurd z e)))
  refine pa_cellOf hX (fun s j hs hj e2 => br_f (nI_pos ?_) (h0 e ⟨_, pa_ltN hX.1 hs hj, e2⟩)) (fun hn => br_t (by decide) (nm_r (nI_1 k) (h1 (fun _ => hn))))
  have := hX.1.2.2 s hs
  omega
theorem pa_s93 {post : Int32 → SX → Prop} {y f l : Int32} {r q : Nat} (hX : pa_X n N K V ks vs sz) (hrq : r + q ≤ N)
    (hcol : ∀ p, r ≤ p → p < r + q → ((K p + y).toInt < f.toInt ∨ l.toInt < (K p + y).toInt) → (∃ i, i < N ∧ K i = K p + y) → post (-2) (nI N, g, ks, vs, sz, hk, hv))
    (hok : (∀ p, r ≤ p → p < r + q → ((K p + y).toInt < f.toInt ∨ l.toInt < (K p + y).toInt) → ∀ i, i < N → K i ≠ K p + y) →
      ∀ hk' hv', pa_H K V hk' hv' 0 N → ∃ n173 : Nat, wX_slide_173 post y (nI q) (nI r) (nI N) (nI N) n173 (nI r) ks vs sz hk' hv') :
    ∀ d k, k + d = r + q → r ≤ k → (∀ p, r ≤ p → p < k → ((K p + y).toInt < f.toInt ∨ l.toInt < (K p + y).toInt) → ∀ i, i < N → K i ≠ K p + y) →
      wX_slide_93 post y (nI q) (nI r) f l (nI N) g ks vs sz hk hv (d + 1) (nI k) := by
  have h48 := hX.1.2.1
  intro d
  induction d with
  | zero =>
    intro k hk1 hr hno
    have e : k = r + q := by omega
    subst e
    refine br_t (by rw [nI_add]; exact nI_le (Nat.le_refl _) (by omega)) ?_
    refine pa_gather (a := 0) (m := 8) hX (by omega) (fun hk' hv' hH => ?_)
    have e8 : pa_pre n (0 + 8) - pa_pre n 0 = N := hX.1.1
    rw [e8] at hH ⊢
    exact hok hno hk' hv' hH
  | succ d ih =>
    intro k hk1 hr hno
    refine br_f (by rw [nI_add]; exact nI_ge (by omega) (by omega)) ?_
    refine pa_cellR hX (p := k) (by omega) (fun c hc e1 e2 => ⟨vp_in_nI hc (by omega), ?_⟩)
    rw [nI_clamp (n := c) (by omega), e1]
    refine nm_e ?_
    have hstep : (((K k + y).toInt < f.toInt ∨ l.toInt < (K k + y).toInt) → ∀ i, i < N → K i ≠ K k + y) → wX_slide_93 post y (nI q) (nI r) f l (nI N) g ks vs sz hk hv (d + 1) (nI (k + 1)) := by
      intro hz
      refine ih (k + 1) (by omega) (by omega) (fun p hp1 hp2 => ?_)
      by_cases ep : p = k
      · subst ep
        exact hz
      · exact hno p hp1 (by omega)
    refine pa_lt (fun e3 => ?_) (fun e3 => pa_lt (fun e4 => ?_) (fun e4 => ?_))
    · exact pa_s137 hX (fun _ h => hcol k hr (by omega) (Or.inl e3) h) (fun h => hstep (fun _ => h rfl))
    · exact pa_s137 hX (fun _ h => hcol k hr (by omega) (Or.inr e4) h) (fun h => hstep (fun _ => h rfl))
    · exact pa_s137 hX (fun h => absurd h (by decide)) (fun h => hstep (fun z => by omega))
end
end
section
section
variable {ya yb : Nat → Int32} {N : Nat}
theorem pa_plc_loop {post : Int32 → Prop} {x : Int32} (hN : N ≤ 48) (hy : ∀ j, j < N → ya j = x → post (nI j)) (hn : (∀ j, j < N → ya j ≠ x) → post (-1)) :
    ∀ d j, j + d = N → (∀ i, i < j → ya i ≠ x) → wY_place_2 post x (nI N) ya yb (d + 1) (nI j) := by
  intro d
  induction d with
  | zero =>
    intro j hj h
    exact br_t (nI_le (by omega) (by omega)) (hn (fun i hi => h i (by omega)))
  | succ d ih =>
    intro j hj h
    have hin : vp_in (nI j) 48 := vp_in_nI (by omega) (by omega)
    have hcl : (nI j).toNatClampNeg = j := nI_clamp (by omega)
    refine br_f (nI_ge (by omega) (by omega)) ⟨hin, ?_⟩
    rw [hcl]
    refine pa_eq (fun e => hy j (by omega) e) (fun e => nm_r (nI_1 j) (ih (j + 1) (by omega) (fun i hi => ?_)))
    by_cases ei : i = j
    · subst ei
      exact pa_neI e
    · exact h i (by omega)
theorem pa_place {post : Int32 → Prop} {x : Int32} (hN : N ≤ 48) (hy : ∀ j, j < N → ya j = x → post (nI j)) (hn : (∀ j, j < N → ya j ≠ x) → post (-1)) :
    wpY_place post (nI N, ya, yb) x :=
  Exists.intro _ (pa_plc_loop hN hy hn N 0 (by omega) (fun i hi => absurd hi (Nat.not_lt_zero _)))
theorem pa_yput_bad {post : Int32 → SY → Prop} {f x y : Int32} (hb : ¬ pa_gd x) (h : post (-1) (f, ya, yb)) : wpY_put post (f, ya, yb) x y := by
  unfold wpY_put
  exact pa_goodY (fun z => absurd z hb) (fun _ => br_t rfl h)
theorem pa_yput_old {post : Int32 → SY → Prop} {x y : Int32} {j : Nat} (hN : N ≤ 48) (hg : pa_gd x) (hj : j < N) (e : ya j = x) (hu : ∀ i, i < N → ya i = x → i = j) (h : post 0 (nI N, ya, upd yb j y)) : wpY_put post (nI N, ya, yb) x y := by
  unfold wpY_put
  refine pa_goodY (fun _ => br_f (by decide) ?_) (fun z => absurd hg z)
  refine pa_place hN (fun i hi ei => ?_) (fun z => absurd e (z j hj))
  have e2 := hu i hi ei
  subst e2
  rw [nI_clamp (n := i) (by omega)]
  exact br_f (nI_pos (by omega)) ⟨vp_in_nI (by omega) (by omega), nm_e h⟩
theorem pa_yput_full {post : Int32 → SY → Prop} {x y : Int32} (hN : N = 48) (hg : pa_gd x) (hno : ∀ i, i < N → ya i ≠ x) (h : post (-2) (nI N, ya, yb)) : wpY_put post (nI N, ya, yb) x y := by
  unfold wpY_put
  refine pa_goodY (fun _ => br_f (by decide) ?_) (fun z => absurd hg z)
  refine pa_place (by omega) (fun i hi ei => absurd ei (hno i hi)) (fun _ => br_t (by decide) (br_f ?_ h))
  exact nI_nlt (b := 48) (by omega) (by omega)
theorem pa_yput_new {post : Int32 → SY → Prop} {x y : Int32} (hN : N < 48) (hg : pa_gd x) (hno : ∀ i, i < N → ya i ≠ x) (h : post 1 (nI (N + 1), upd ya N x, upd yb N y)) : wpY_put post (nI N, ya, yb) x y := by
  unfold wpY_put
  refine pa_goodY (fun _ => br_f (by decide) ?_) (fun z => absurd hg z)
  refine pa_place (by omega) (fun i hi ei => absurd ei (hno i hi)) (fun _ => br_t (by decide) (br_t (nI_lt (b := 48) hN (by omega)) ?_))
  have hin : vp_in (nI N) 48 := vp_in_nI hN (by omega)
  rw [nI_clamp (n := N) (by omega)]
  exact ⟨hin, nm_e ⟨hin, nm_e (nm_r (nI_1 N) h)⟩⟩
theorem pa_yrem_bad {post : Int32 → SY → Prop} {f x : Int32} (hb : ¬ pa_gd x) (h : post (-1) (f, ya, yb)) : wpY_remove post (f, ya, yb) x := by
  unfold wpY_remove
  exact pa_goodY (fun z => absurd z hb) (fun _ => br_t rfl h)
theorem pa_yrem_no {post : Int32 → SY → Prop} {x : Int32} (hN : N ≤ 48) (hg : pa_gd x) (hno : ∀ i, i < N → ya i ≠ x) (h : post (-2) (nI N, ya, yb)) : wpY_remove post (nI N, ya, yb) x := by
  unfold wpY_remove
  refine pa_goodY (fun _ => br_f (by decide) ?_) (fun z => absurd hg z)
  exact pa_place hN (fun i hi ei => absurd ei (hno i hi)) (fun _ => br_f (by decide) h)
theorem pa_yrem_old {post : Int32 → SY → Prop} {x : Int32} {M : Nat} (hN : M + 1 ≤ 48) (hg : pa_gd x) (hex : ∃ i, i < M + 1 ∧ ya i = x) (h : ∀ j, j < M + 1 → ya j = x → post 0 (nI M, upd ya j (ya M), upd yb j (yb M))) : wpY_remove post (nI (M + 1), ya, yb) x := by
  unfold wpY_remove
  refine pa_goodY (fun _ => br_f (by decide) ?_) (fun z => absurd hg z)
  refine pa_place hN (fun j hj ej => br_t (nI_pos' (by omega)) (nm_r (nI_pred M) ?_)) (fun z => ?_)
  · have hin : vp_in (nI M) 48 := vp_in_nI (by omega) (by omega)
    have hin2 : vp_in (nI j) 48 := vp_in_nI (by omega) (by omega)
    rw [nI_clamp (n := M) (by omega), nI_clamp (n := j) (by omega)]
    exact ⟨hin, hin2, nm_e ⟨hin, hin2, nm_e (h j hj ej)⟩⟩
  · obtain ⟨i, hi, e⟩ := hex
    exact absurd e (z i hi)
def pa_ltB (x : Int32) : Int32 × Int32 → Bool := fun e => decide (e.1.toInt < x.toInt)
def pa_inB (lo hi : Int32) : Int32 × Int32 → Bool := fun e => pa_in lo hi e.1
theorem pa_yrank_loop {post : Int32 → Prop} {x : Int32} (hN : N ≤ 48) (hp : post (nI ((pa_ls ya yb N).countP (pa_ltB x)))) :
    ∀ d j, j + d = N → wY_rank_4 post x (nI N) ya yb (d + 1) (nI ((pa_ls ya yb j).countP (pa_ltB x))) (nI j) := by
  intro d
  induction d with
  | zero =>
    intro j hj
    have e : j = N := by omega
    subst e
    exact br_t (nI_le (by omega) (by omega)) hp
  | succ d ih =>
    intro j hj
    have hin : vp_in (nI j) 48 := vp_in_nI (by omega) (by omega)
    have hcl : (nI j).toNatClampNeg = j := nI_clamp (by omega)
    have h2 := ih (j + 1) (by omega)
    rw [pa_cnt_s] at h2
    refine br_f (nI_ge (by omega) (by omega)) ⟨hin, ?_⟩
    rw [hcl]
    refine pa_le (fun e => nm_r (nI_1 j) ?_) (fun e => nm_r (nI_1 _) (nm_r (nI_1 j) ?_))
    · have e2 : ¬ pa_ltB x (ya j, yb j) = true := fun z => by
        have := of_decide_eq_true z
        dsimp only at this
        omega
      rw [if_neg e2] at h2
      exact h2
    · have e2 : pa_ltB x (ya j, yb j) = true := decide_eq_true e
      rw [if_pos e2] at h2
      exact h2
theorem pa_yrank {post : Int32 → Prop} {x : Int32} (hN : N ≤ 48) (hp : post (nI ((pa_ls ya yb N).countP (pa_ltB x)))) : wpY_rank post (nI N, ya, yb) x :=
  Exists.intro _ (pa_yrank_loop hN hp N 0 (by omega))
theorem pa_rank_eq {K V : Nat → Int32} {x : Int32} {r : Nat} (hR : pa_R N K x r) (hP : List.Perm (pa_ls K V N) (pa_ls ya yb N)) : (pa_ls ya yb N).countP (pa_ltB x) = r := by
  rw [← hP.countP_eq]
  refine pa_cntR (r := 0) _ (by have := hR.1; omega) (fun i hi => ⟨fun z => ?_, fun z => ?_⟩)
  · have h1 : (K i).toInt < x.toInt := of_decide_eq_true z
    by_cases e : i < r
    · omega
    · have := hR.2.2 i (by omega) hi
      omega
  · exact decide_eq_true (hR.2.1 i (by omega))
theorem pa_ycount_loop {post : Int32 → Prop} {lo hi : Int32} (hN : N ≤ 48) (hp : post (nI ((pa_ls ya yb N).countP (pa_inB lo hi)))) :
    ∀ d j, j + d = N → wY_count_5 post lo hi (nI N) ya yb (d + 1) (nI ((pa_ls ya yb j).countP (pa_inB lo hi))) (nI j) := by
  intro d
  induction d with
  | zero =>
    intro j hj
    have e : j = N := by omega
    subst e
    exact br_t (nI_le (by omega) (by omega)) hp
  | succ d ih =>
    intro j hj
    have hin : vp_in (nI j) 48 := vp_in_nI (by omega) (by omega)
    have hcl : (nI j).toNatClampNeg = j := nI_clamp (by omega)
    have h2 := ih (j + 1) (by omega)
    rw [pa_cnt_s] at h2
    refine br_f (nI_ge (by omega) (by omega)) ⟨hin, ?_⟩
    rw [hcl]
    refine pa_inY (fun e => br_f (by decide) (nm_r (nI_1 _) (nm_r (nI_1 j) ?_))) (fun e => br_t rfl (nm_r (nI_1 j) ?_))
    · have e2 : pa_inB lo hi (ya j, yb j) = true := e
      rw [if_pos e2] at h2
      exact h2
    · have e2 : ¬ pa_inB lo hi (ya j, yb j) = true := e
      rw [if_neg e2] at h2
      exact h2
theorem pa_ycount {post : Int32 → Prop} {lo hi : Int32} (hN : N ≤ 48) (hp : post (nI ((pa_ls ya yb N).countP (pa_inB lo hi)))) : wpY_count post (nI N, ya, yb) lo hi :=
  Exists.intro _ (pa_ycount_loop hN hp N 0 (by omega))
theorem pa_count_eq {K V : Nat → Int32} {lo hi : Int32} {r q : Nat} (hC : pa_Cn N K lo hi r q) (hP : List.Perm (pa_ls K V N) (pa_ls ya yb N)) : (pa_ls ya yb N).countP (pa_inB lo hi) = q := by
  rw [← hP.countP_eq]
  exact pa_cntR (r := r) _ hC.1 (fun i hi => Iff.trans pa_in_iff (hC.2.2 i hi))
theorem pa_ysum_loop {post : Int32 → Prop} {lo hi : Int32} (hN : N ≤ 48) (hp : post (pa_sum (pa_inB lo hi) (pa_ls ya yb N))) :
    ∀ d j, j + d = N → wY_sum_5 post lo hi (nI N) ya yb (d + 1) (pa_sum (pa_inB lo hi) (pa_ls ya yb j)) (nI j) := by
  intro d
  induction d with
  | zero =>
    intro j hj
    have e : j = N := by omega
    subst e
    exact br_t (nI_le (by omega) (by omega)) hp
  | succ d ih =>
    intro j hj
    have hin : vp_in (nI j) 48 := vp_in_nI (by omega) (by omega)
    have hcl : (nI j).toNatClampNeg = j := nI_clamp (by omega)
    have h2 := ih (j + 1) (by omega)
    rw [pa_sum_s] at h2
    refine br_f (nI_ge (by omega) (by omega)) ⟨hin, ?_⟩
    rw [hcl]
    refine pa_inY (fun e => br_f (by decide) ⟨hin, nm_e (nm_r (nI_1 j) ?_)⟩) (fun e => br_t rfl (nm_r (nI_1 j) ?_))
    · have e2 : pa_inB lo hi (ya j, yb j) = true := e
      rw [if_pos e2] at h2
      exact h2
    · have e2 : ¬ pa_inB lo hi (ya j, yb j) = true := e
      rw [if_neg e2, Int32.add_zero] at h2
      exact h2
theorem pa_ysum {post : Int32 → Prop} {lo hi : Int32} (hN : N ≤ 48) (hp : post (pa_sum (pa_inB lo hi) (pa_ls ya yb N))) : wpY_sum post (nI N, ya, yb) lo hi :=
  Exists.intro _ (pa_ysum_loop hN hp N 0 (by omega))
theorem pa_ysel_loop {post : Int32 → Prop} {K V : Nat → Int32} {x : Int32} (hS : pa_S N K) (hP : List.Perm (pa_ls K V N) (pa_ls ya yb N)) (hN : N ≤ 48)
    (h1 : ∀ k, k < N → x = nI k → post (K k)) (h0 : (∀ k, k < N → x ≠ nI k) → post (-2000)) :
    ∀ d j, j + d = N → (∀ i, i < j → ∀ k, k < N → K k = ya i → x ≠ nI k) → wY_select_2 post x (nI N) ya yb (d + 1) (nI j) := by
  intro d
  induction d with
  | zero =>
    intro j hj h
    refine br_t (nI_le (by omega) (by omega)) (h0 (fun k hk => ?_))
    obtain ⟨i, hi, e, _⟩ := pa_AB hP k hk
    exact h i (by omega) k hk e.symm
  | succ d ih =>
    intro j hj h
    have hin : vp_in (nI j) 48 := vp_in_nI (by omega) (by omega)
    have hcl : (nI j).toNatClampNeg = j := nI_clamp (by omega)
    obtain ⟨p, hp, e, _⟩ := pa_AB hP.symm j (by omega)
    have hR : pa_R N K (ya j) p := by
      rw [← e]
      exact ⟨by omega, fun i hi => hS.1 i p hi hp, fun i hi hi2 => pa_mono hS hi hi2⟩
    refine br_f (nI_ge (by omega) (by omega)) ⟨hin, ?_⟩
    rw [hcl]
    refine pa_yrank hN ?_
    rw [pa_rank_eq hR hP]
    refine br_c (fun e2 => ⟨hin, ?_⟩) (fun e2 => nm_r (nI_1 j) (ih (j + 1) (by omega) (fun i hi k hk ek => ?_)))
    · rw [← e]
      exact h1 p hp e2.symm
    · by_cases ei : i = j
      · subst ei
        have ekp := pa_uniq hS hk hp (ek.trans e.symm)
        subst ekp
        exact fun z => e2 z.symm
      · exact h i (by omega) k hk ek
theorem pa_yselect {post : Int32 → Prop} {K V : Nat → Int32} {x : Int32} (hS : pa_S N K) (hP : List.Perm (pa_ls K V N) (pa_ls ya yb N)) (hN : N ≤ 48)
    (h1 : ∀ k, k < N → x = nI k → post (K k)) (h0 : (∀ k, k < N → x ≠ nI k) → post (-2000)) : wpY_select post (nI N, ya, yb) x :=
  Exists.intro _ (pa_ysel_loop hS hP hN h1 h0 N 0 (by omega) (fun i hi => absurd hi (Nat.not_lt_zero _)))
def pa_Nx (ya : Nat → Int32) (m : Nat) (x f : Int32) : Prop :=
  (f = -2000 ∧ ∀ j, j < m → (ya j).toInt ≤ x.toInt) ∨ (∃ j, j < m ∧ f = ya j ∧ x.toInt < (ya j).toInt ∧ ∀ i, i < m → x.toInt < (ya i).toInt → (ya j).toInt ≤ (ya i).toInt)
theorem pa_ynext_loop {post : Int32 → Prop} {x : Int32} (hN : N ≤ 48) (hg : ∀ j, j < N → -1000 ≤ (ya j).toInt ∧ (ya j).toInt ≤ 1000) (hp : ∀ f, pa_Nx ya N x f → post f) :
    ∀ d j f, j + d = N → pa_Nx ya j x f → wY_next_6 post x (nI N) ya yb (d + 1) f (nI j) := by
  intro d
  induction d with
  | zero =>
    intro j f hj h
    have e : j = N := by omega
    subst e
    exact br_t (nI_le (by omega) (by omega)) (hp f h)
  | succ d ih =>
    intro j f hj h
    have hin : vp_in (nI j) 48 := vp_in_nI (by omega) (by omega)
    have hcl : (nI j).toNatClampNeg = j := nI_clamp (by omega)
    have hgj := hg j (by omega)
    refine br_f (nI_ge (by omega) (by omega)) ⟨hin, ?_⟩
    rw [hcl]
    refine pa_le (fun e => nm_r (nI_1 j) (ih (j + 1) f (by omega) ?_)) (fun e => br_c (fun e2 => ⟨hin, nm_e (nm_r (nI_1 j) (ih (j + 1) _ (by omega) ?_))⟩) (fun e2 => ⟨hin, pa_le (fun e3 => nm_r (nI_1 j) (ih (j + 1) f (by omega) ?_)) (fun e3 => ⟨hin, nm_e (nm_r (nI_1 j) (ih (j + 1) _ (by omega) ?_))⟩)⟩))
    · rcases h with ⟨h1, h2⟩ | ⟨i, h1, h2, h3, h4⟩
      · refine Or.inl ⟨h1, fun i hi => ?_⟩
        by_cases ei : i = j
        · subst ei
          exact e
        · exact h2 i (by omega)
      · refine Or.inr ⟨i, by omega, h2, h3, fun k hk hk2 => ?_⟩
        by_cases ek : k = j
        · subst ek
          omega
        · exact h4 k (by omega) hk2
    · rcases h with ⟨h1, h2⟩ | ⟨i, h1, h2, h3, h4⟩
      · refine Or.inr ⟨j, by omega, rfl, e, fun k hk hk2 => ?_⟩
        by_cases ek : k = j
        · subst ek
          exact Int.le_refl _
        · have := h2 k (by omega)
          omega
      · exfalso
        have hgi := hg i (by omega)
        rw [← h2, e2, pa_tm2000] at hgi
        omega
    · rcases h with ⟨h1, h2⟩ | ⟨i, h1, h2, h3, h4⟩
      · exact absurd h1 e2
      · rw [h2] at e3
        refine Or.inr ⟨i, by omega, h2, h3, fun k hk hk2 => ?_⟩
        by_cases ek : k = j
        · subst ek
          exact e3
        · exact h4 k (by omega) hk2
    · rcases h with ⟨h1, h2⟩ | ⟨i, h1, h2, h3, h4⟩
      · exact absurd h1 e2
      · rw [h2] at e3
        refine Or.inr ⟨j, by omega, rfl, e, fun k hk hk2 => ?_⟩
        by_cases ek : k = j
        · subst ek
          exact Int.le_refl _
        · have := h4 k (by omega) hk2
          omega
theorem pa_ynext {post : Int32 → Prop} {x : Int32} (hN : N ≤ 48) (hg : ∀ j, j < N → -1000 ≤ (ya j).toInt ∧ (ya j).toInt ≤ 1000) (hp : ∀ f, pa_Nx ya N x f → post f) : wpY_next post (nI N, ya, yb) x :=
  Exists.intro _ (pa_ynext_loop hN hg hp N 0 _ (by omega) (Or.inl ⟨rfl, fun i hi => absurd hi (Nat.not_lt_zero _)⟩))
def pa_Pv (ya : Nat → Int32) (m : Nat) (x f : Int32) : Prop :=
  (f = -2000 ∧ ∀ j, j < m → x.toInt ≤ (ya j).toInt) ∨ (∃ j, j < m ∧ f = ya j ∧ (ya j).toInt < x.toInt ∧ ∀ i, i < m → (ya i).toInt < x.toInt → (ya i).toInt ≤ (ya j).toInt)
theorem pa_yprev_loop {post : Int32 → Prop} {x : Int32} (hN : N ≤ 48) (hg : ∀ j, j < N → -1000 ≤ (ya j).toInt ∧ (ya j).toInt ≤ 1000) (hp : ∀ f, pa_Pv ya N x f → post f) :
    ∀ d j f, j + d = N → pa_Pv ya j x f → wY_previous_6 post x (nI N) ya yb (d + 1) f (nI j) := by
  intro d
  induction d with
  | zero =>
    intro j f hj h
    have e : j = N := by omega
    subst e
    exact br_t (nI_le (by omega) (by omega)) (hp f h)
  | succ d ih =>
    intro j f hj h
    have hin : vp_in (nI j) 48 := vp_in_nI (by omega) (by omega)
    have hcl : (nI j).toNatClampNeg = j := nI_clamp (by omega)
    have hgj := hg j (by omega)
    refine br_f (nI_ge (by omega) (by omega)) ⟨hin, ?_⟩
    rw [hcl]
    refine pa_le (fun e => nm_r (nI_1 j) (ih (j + 1) f (by omega) ?_)) (fun e => ⟨hin, pa_le (fun e3 => nm_r (nI_1 j) (ih (j + 1) f (by omega) ?_)) (fun e3 => ⟨hin, nm_e (nm_r (nI_1 j) (ih (j + 1) _ (by omega) ?_))⟩)⟩)
    · rcases h with ⟨h1, h2⟩ | ⟨i, h1, h2, h3, h4⟩
      · refine Or.inl ⟨h1, fun i hi => ?_⟩
        by_cases ei : i = j
        · subst ei
          exact e
        · exact h2 i (by omega)
      · refine Or.inr ⟨i, by omega, h2, h3, fun k hk hk2 => ?_⟩
        by_cases ek : k = j
        · subst ek
          omega
        · exact h4 k (by omega) hk2
    · rcases h with ⟨h1, h2⟩ | ⟨i, h1, h2, h3, h4⟩
      · exfalso
        rw [h1, pa_tm2000] at e3
        omega
      · rw [h2] at e3
        refine Or.inr ⟨i, by omega, h2, h3, fun k hk hk2 => ?_⟩
        by_cases ek : k = j
        · subst ek
          exact e3
        · exact h4 k (by omega) hk2
    · rcases h with ⟨h1, h2⟩ | ⟨i, h1, h2, h3, h4⟩
      · refine Or.inr ⟨j, by omega, rfl, e, fun k hk hk2 => ?_⟩
        by_cases ek : k = j
        · subst ek
          exact Int.le_refl _
        · have := h2 k (by omega)
          omega
      · rw [h2] at e3
        refine Or.inr ⟨j, by omega, rfl, e, fun k hk hk2 => ?_⟩
        by_cases ek : k = j
        · subst ek
          exact Int.le_refl _
        · have := h4 k (by omega) hk2
          omega
theorem pa_yprev {post : Int32 → Prop} {x : Int32} (hN : N ≤ 48) (hg : ∀ j, j < N → -1000 ≤ (ya j).toInt ∧ (ya j).toInt ≤ 1000) (hp : ∀ f, pa_Pv ya N x f → post f) : wpY_previous post (nI N, ya, yb) x :=
  Exists.intro _ (pa_yprev_loop hN hg hp N 0 _ (by omega) (Or.inl ⟨rfl, fun i hi => absurd hi (Nat.not_lt_zero _)⟩))
end
end
section
def pa_ry (ya z : Nat → Int32) (lo hi y : Int32) (j : Nat) : Nat → Int32 := fun i => if i < j ∧ pa_in lo hi (ya i) = true then z i + y else z i
theorem pa_ry_in {ya z : Nat → Int32} {lo hi y : Int32} {j i : Nat} (h : i < j) (h2 : pa_in lo hi (ya i) = true) : pa_ry ya z lo hi y j i = z i + y := if_pos ⟨h, h2⟩
theorem pa_ry_out {ya z : Nat → Int32} {lo hi y : Int32} {j i : Nat} (h2 : ¬ pa_in lo hi (ya i) = true) : pa_ry ya z lo hi y j i = z i := if_neg (fun h => h2 h.2)
theorem pa_ry_ge {ya z : Nat → Int32} {lo hi y : Int32} {j i : Nat} (h : j ≤ i) : pa_ry ya z lo hi y j i = z i := if_neg (by omega)
theorem pa_ry_0 (ya z : Nat → Int32) (lo hi y : Int32) : pa_ry ya z lo hi y 0 = z := by
  funext i
  exact pa_ry_ge (Nat.zero_le _)
theorem pa_ry_y (ya z : Nat → Int32) (lo hi y : Int32) {j : Nat} (h : pa_in lo hi (ya j) = true) : upd (pa_ry ya z lo hi y j) j (z j + y) = pa_ry ya z lo hi y (j + 1) := by
  funext i
  by_cases e : i = j
  · subst e
    rw [pk_us, pa_ry_in (by omega) h]
  · rw [pk_un e]
    by_cases e2 : pa_in lo hi (ya i) = true
    · by_cases e3 : i < j
      · rw [pa_ry_in e3 e2, pa_ry_in (by omega) e2]
      · rw [pa_ry_ge (by omega), pa_ry_ge (by omega)]
    · rw [pa_ry_out e2, pa_ry_out e2]
theorem pa_ry_n (ya z : Nat → Int32) (lo hi y : Int32) {j : Nat} (h : ¬ pa_in lo hi (ya j) = true) : pa_ry ya z lo hi y j = pa_ry ya z lo hi y (j + 1) := by
  funext i
  by_cases e2 : pa_in lo hi (ya i) = true
  · by_cases e3 : i < j
    · rw [pa_ry_in e3 e2, pa_ry_in (by omega) e2]
    · by_cases e : i = j
      · subst e
        exact absurd e2 h
      · rw [pa_ry_ge (by omega), pa_ry_ge (by omega)]
  · rw [pa_ry_out e2, pa_ry_out e2]
section
variable {ya yb : Nat → Int32} {N : Nat}
theorem pa_yraise_loop {post : Int32 → SY → Prop} {lo hi y : Int32} (hN : N ≤ 48) (hp : post (nI ((pa_ls ya yb N).countP (pa_inB lo hi))) (nI N, ya, pa_ry ya yb lo hi y N)) :
    ∀ d j, j + d = N → wY_raise_6 post lo hi y (nI N) (d + 1) (nI ((pa_ls ya yb j).countP (pa_inB lo hi))) (nI j) ya (pa_ry ya yb lo hi y j) := by
  intro d
  induction d with
  | zero =>
    intro j hj
    have e : j = N := by omega
    subst e
    exact br_t (nI_le (by omega) (by omega)) hp
  | succ d ih =>
    intro j hj
    have hin : vp_in (nI j) 48 := vp_in_nI (by omega) (by omega)
    have hcl : (nI j).toNatClampNeg = j := nI_clamp (by omega)
    have h2 := ih (j + 1) (by omega)
    rw [pa_cnt_s] at h2
    refine br_f (nI_ge (by omega) (by omega)) ⟨hin, ?_⟩
    rw [hcl, pa_ry_ge (ya := ya) (z := yb) (lo := lo) (hi := hi) (y := y) (Nat.le_refl j)]
    refine pa_inY (fun e => br_f (by decide) ⟨hin, hin, nm_r (pa_ry_y ya yb lo hi y e) (nm_r (nI_1 _) (nm_r (nI_1 j) ?_))⟩) (fun e => br_t rfl (nm_r (nI_1 j) ?_))
    · have e2 : pa_inB lo hi (ya j, yb j) = true := e
      rw [if_pos e2] at h2
      exact h2
    · have e2 : ¬ pa_inB lo hi (ya j, yb j) = true := e
      rw [if_neg e2] at h2
      rw [pa_ry_n ya yb lo hi y e]
      exact h2
theorem pa_yraise {post : Int32 → SY → Prop} {lo hi y : Int32} (hN : N ≤ 48) (hp : post (nI ((pa_ls ya yb N).countP (pa_inB lo hi))) (nI N, ya, pa_ry ya yb lo hi y N)) :
    wpY_raise post (nI N, ya, yb) lo hi y := by
  have h := pa_yraise_loop hN hp N 0 (by omega)
  rw [pa_ry_0] at h
  exact Exists.intro _ h
theorem pa_ysl154 {post : Int32 → SY → Prop} {lo hi y x4 : Int32} (hN : N ≤ 48) (hp : post x4 (nI N, pa_ry ya ya lo hi y N, yb)) :
    ∀ d j, j + d = N → wY_slide_154 post lo hi y x4 (nI N) (d + 1) (nI j) (pa_ry ya ya lo hi y j) yb := by
  intro d
  induction d with
  | zero =>
    intro j hj
    have e : j = N := by omega
    subst e
    exact br_t (nI_le (by omega) (by omega)) hp
  | succ d ih =>
    intro j hj
    have hin : vp_in (nI j) 48 := vp_in_nI (by omega) (by omega)
    have hcl : (nI j).toNatClampNeg = j := nI_clamp (by omega)
    have h2 := ih (j + 1) (by omega)
    refine br_f (nI_ge (by omega) (by omega)) ⟨hin, ?_⟩
    rw [hcl, pa_ry_ge (ya := ya) (z := ya) (lo := lo) (hi := hi) (y := y) (Nat.le_refl j)]
    refine pa_inY (fun e => br_f (by decide) ⟨hin, hin, nm_r (pa_ry_y ya ya lo hi y e) (nm_r (nI_1 j) h2)⟩) (fun e => br_t rfl (nm_r (nI_1 j) ?_))
    rw [pa_ry_n ya ya lo hi y e]
    exact h2
theorem pa_ysl92 {post : Int32 → SY → Prop} {J : Int32 → Int32 → Prop} {lo hi y x4 : Int32} {i : Nat} (hN : N ≤ 48) (hi1 : i < N)
    (hcol : (∃ j, j < N ∧ ya j = ya i + y ∧ ¬ pa_in lo hi (ya j) = true) → post (-2) (nI N, ya, yb))
    (hJ : (∀ j, j < N → ya j = ya i + y → pa_in lo hi (ya j) = true) → J x4 (nI (i + 1))) :
    ∀ d j, j + d = N → (∀ k, k < j → ya k = ya i + y → pa_in lo hi (ya k) = true) → wY_slide_92 post J lo hi y x4 (nI i) (nI N) ya yb (d + 1) (nI j) := by
  have hin1 : vp_in (nI i) 48 := vp_in_nI (by omega) (by omega)
  have hcl1 : (nI i).toNatClampNeg = i := nI_clamp (by omega)
  intro d
  induction d with
  | zero =>
    intro j hj h
    exact br_t (nI_le (by omega) (by omega)) (nm_r (nI_1 i) (hJ (fun k hk => h k (by omega))))
  | succ d ih =>
    intro j hj h
    have hin : vp_in (nI j) 48 := vp_in_nI (by omega) (by omega)
    have hcl : (nI j).toNatClampNeg = j := nI_clamp (by omega)
    have hst : (ya j = ya i + y → pa_in lo hi (ya j) = true) → ∀ k, k < j + 1 → ya k = ya i + y → pa_in lo hi (ya k) = true := by
      intro h1 k hk
      by_cases ek : k = j
      · subst ek
        exact h1
      · exact h k (by omega)
    refine br_f (nI_ge (by omega) (by omega)) ⟨hin, hin1, ?_⟩
    rw [hcl, hcl1]
    refine br_c (fun e => ⟨hin, pa_inY (fun e2 => br_f (by decide) (nm_r (nI_1 j) (ih (j + 1) (by omega) (hst (fun _ => e2))))) (fun e2 => br_t rfl (hcol ⟨j, by omega, e, e2⟩))⟩) (fun e => nm_r (nI_1 j) (ih (j + 1) (by omega) (hst (fun z => absurd z e))))
theorem pa_ysl58 {post : Int32 → SY → Prop} {lo hi y : Int32} (hN : N ≤ 48)
    (hcol : (∃ i, i < N ∧ pa_in lo hi (ya i) = true ∧ ∃ j, j < N ∧ ya j = ya i + y ∧ ¬ pa_in lo hi (ya j) = true) → post (-2) (nI N, ya, yb))
    (hp : (∀ i, i < N → pa_in lo hi (ya i) = true → ∀ j, j < N → ya j = ya i + y → pa_in lo hi (ya j) = true) → post (nI ((pa_ls ya yb N).countP (pa_inB lo hi))) (nI N, pa_ry ya ya lo hi y N, yb)) :
    ∀ d i, i + d = N → (∀ k, k < i → pa_in lo hi (ya k) = true → ∀ j, j < N → ya j = ya k + y → pa_in lo hi (ya j) = true) →
      wY_slide_58 post lo hi y (nI N) ya yb (d + 1) (nI ((pa_ls ya yb i).countP (pa_inB lo hi))) (nI i) := by
  intro d
  induction d with
  | zero =>
    intro i hi1 h
    have e : i = N := by omega
    subst e
    have h2 := pa_ysl154 (lo := lo) (hi := hi) (y := y) hN (hp h) i 0 (by omega)
    rw [pa_ry_0] at h2
    exact br_t (nI_le (by omega) (by omega)) (Exists.intro _ h2)
  | succ d ih =>
    intro i hi1 h
    have hin : vp_in (nI i) 48 := vp_in_nI (by omega) (by omega)
    have hcl : (nI i).toNatClampNeg = i := nI_clamp (by omega)
    have h2 := ih (i + 1) (by omega)
    rw [pa_cnt_s] at h2
    have hst : (pa_in lo hi (ya i) = true → ∀ j, j < N → ya j = ya i + y → pa_in lo hi (ya j) = true) → ∀ k, k < i + 1 → pa_in lo hi (ya k) = true → ∀ j, j < N → ya j = ya k + y → pa_in lo hi (ya j) = true := by
      intro h1 k hk
      by_cases ek : k = i
      · subst ek
        exact h1
      · exact h k (by omega)
    refine br_f (nI_ge (by omega) (by omega)) ⟨hin, ?_⟩
    rw [hcl]
    refine pa_inY (fun e => br_f (by decide) (nm_r (nI_1 _) (Exists.intro (N + 1) ?_))) (fun e => br_t rfl (nm_r (nI_1 i) ?_))
    · have e2 : pa_inB lo hi (ya i, yb i) = true := e
      rw [if_pos e2] at h2
      exact pa_ysl92 hN (by omega) (fun hx => hcol ⟨i, by omega, e, hx⟩) (fun hx => h2 (hst (fun _ => hx))) N 0 (by omega) (fun k hk => absurd hk (Nat.not_lt_zero _))
    · have e2 : ¬ pa_inB lo hi (ya i, yb i) = true := e
      rw [if_neg e2] at h2
      exact h2 (hst (fun z => absurd z e))
theorem pa_ysl3 {post : Int32 → SY → Prop} {lo hi y : Int32} (hN : N ≤ 48)
    (hbad : (∃ i, i < N ∧ pa_in lo hi (ya i) = true ∧ ¬ pa_gd (ya i + y)) → post (-1) (nI N, ya, yb))
    (hgo : (∀ i, i < N → pa_in lo hi (ya i) = true → pa_gd (ya i + y)) → ∃ n58 : Nat, wY_slide_58 post lo hi y (nI N) ya yb n58 0 0) :
    ∀ d i, i + d = N → (∀ k, k < i → pa_in lo hi (ya k) = true → pa_gd (ya k + y)) → wY_slide_3 post lo hi y (nI N) ya yb (d + 1) (nI i) := by
  intro d
  induction d with
  | zero =>
    intro i hi1 h
    exact br_t (nI_le (by omega) (by omega)) (hgo (fun k hk => h k (by omega)))
  | succ d ih =>
    intro i hi1 h
    have hin : vp_in (nI i) 48 := vp_in_nI (by omega) (by omega)
    have hcl : (nI i).toNatClampNeg = i := nI_clamp (by omega)
    have h2 := ih (i + 1) (by omega)
    have hst : (pa_in lo hi (ya i) = true → pa_gd (ya i + y)) → ∀ k, k < i + 1 → pa_in lo hi (ya k) = true → pa_gd (ya k + y) := by
      intro h1 k hk
      by_cases ek : k = i
      · subst ek
        exact h1
      · exact h k (by omega)
    refine br_f (nI_ge (by omega) (by omega)) ⟨hin, ?_⟩
    rw [hcl]
    refine pa_inY (fun e => br_f (by decide) ⟨hin, pa_goodY (fun e2 => br_f (by decide) (nm_r (nI_1 i) (h2 (hst (fun _ => e2))))) (fun e2 => br_t rfl (hbad ⟨i, by omega, e, e2⟩))⟩) (fun e => br_t rfl (nm_r (nI_1 i) (h2 (hst (fun z => absurd z e)))))
theorem pa_yslide {post : Int32 → SY → Prop} {lo hi y : Int32} (hN : N ≤ 48)
    (hbad : (∃ i, i < N ∧ pa_in lo hi (ya i) = true ∧ ¬ pa_gd (ya i + y)) → post (-1) (nI N, ya, yb))
    (hcol : (∀ i, i < N → pa_in lo hi (ya i) = true → pa_gd (ya i + y)) → (∃ i, i < N ∧ pa_in lo hi (ya i) = true ∧ ∃ j, j < N ∧ ya j = ya i + y ∧ ¬ pa_in lo hi (ya j) = true) → post (-2) (nI N, ya, yb))
    (hp : (∀ i, i < N → pa_in lo hi (ya i) = true → pa_gd (ya i + y)) → (∀ i, i < N → pa_in lo hi (ya i) = true → ∀ j, j < N → ya j = ya i + y → pa_in lo hi (ya j) = true) → post (nI ((pa_ls ya yb N).countP (pa_inB lo hi))) (nI N, pa_ry ya ya lo hi y N, yb)) :
    wpY_slide post (nI N, ya, yb) lo hi y :=
  Exists.intro _ (pa_ysl3 hN hbad (fun h => Exists.intro _ (pa_ysl58 hN (hcol h) (hp h) N 0 (by omega) (fun k hk => absurd hk (Nat.not_lt_zero _)))) N 0 (by omega) (fun k hk => absurd hk (Nat.not_lt_zero _)))
def pa_Bs (ya yb : Nat → Int32) (lo hi : Int32) (m : Nat) (f : Int32) : Prop :=
  (f = -1 ∧ ∀ i, i < m → ¬ pa_in lo hi (ya i) = true) ∨ (∃ j, j < m ∧ f = nI j ∧ pa_in lo hi (ya j) = true ∧ ∀ i, i < m → pa_in lo hi (ya i) = true → (yb i).toInt < (yb j).toInt ∨ ((yb i).toInt = (yb j).toInt ∧ (ya j).toInt ≤ (ya i).toInt))
theorem pa_b101_n {post : Int32 → Prop} {J : Int32 → Int32 → Prop} {lo hi x3 z0 f : Int32} {j : Nat} (h : J (nI j) (nI (j + 1))) : wY_best_101 post J lo hi x3 (nI j) 1 z0 f ya yb :=
  br_f (by decide) (nm_r (nI_1 j) h)
theorem pa_b101_e {post : Int32 → Prop} {J : Int32 → Int32 → Prop} {lo hi x3 f : Int32} {j : Nat} (h : J (nI j) (nI (j + 1))) : wY_best_101 post J lo hi x3 (nI j) 0 1 f ya yb :=
  br_t rfl (br_f (by decide) (nm_r (nI_1 j) h))
theorem pa_b101_o {post : Int32 → Prop} {J : Int32 → Int32 → Prop} {lo hi x3 f : Int32} {j : Nat} (h : J x3 (nI (j + 1))) : wY_best_101 post J lo hi x3 (nI j) 0 0 f ya yb :=
  br_t rfl (br_t rfl (nm_r (nI_1 j) h))
theorem pa_ybest_loop {post : Int32 → Prop} {lo hi : Int32} (hN : N ≤ 48) (h0 : (∀ i, i < N → ¬ pa_in lo hi (ya i) = true) → post (-2000))
    (h1 : ∀ j, j < N → pa_in lo hi (ya j) = true → (∀ i, i < N → pa_in lo hi (ya i) = true → (yb i).toInt < (yb j).toInt ∨ ((yb i).toInt = (yb j).toInt ∧ (ya j).toInt ≤ (ya i).toInt)) → post (ya j)) :
    ∀ d j f, j + d = N → pa_Bs ya yb lo hi j f → wY_best_5 post lo hi (nI N) ya yb (d + 1) f (nI j) := by
  intro d
  induction d with
  | zero =>
    intro j f hj h
    have e : j = N := by omega
    subst e
    refine br_t (nI_le (by omega) (by omega)) ?_
    rcases h with ⟨rfl, h2⟩ | ⟨i, h2, rfl, h3, h4⟩
    · exact br_f (by decide) (h0 h2)
    · refine br_t (nI_pos' (by omega)) ⟨vp_in_nI (by omega) (by omega), ?_⟩
      rw [nI_clamp (by omega)]
      exact h1 i h2 h3 h4
  | succ d ih =>
    intro j f hj h
    have hin : vp_in (nI j) 48 := vp_in_nI (by omega) (by omega)
    have hcl : (nI j).toNatClampNeg = j := nI_clamp (by omega)
    refine br_f (nI_ge (by omega) (by omega)) ⟨hin, ?_⟩
    rw [hcl]
    refine pa_inY (fun e => br_f (by decide) ?_) (fun e => br_t rfl (nm_r (nI_1 j) (ih (j + 1) f (by omega) ?_)))
    · rcases h with ⟨rfl, h2⟩ | ⟨i, h2, rfl, h3, h4⟩
      · refine br_t (by decide) (br_t (by decide) (pa_b101_n (ih (j + 1) _ (by omega) (Or.inr ⟨j, by omega, rfl, e, fun k hk hk2 => ?_⟩))))
        by_cases ek : k = j
        · subst ek
          exact Or.inr ⟨rfl, Int.le_refl _⟩
        · exact absurd hk2 (h2 k (by omega))
      · have hin2 : vp_in (nI i) 48 := vp_in_nI (by omega) (by omega)
        have hcl2 : (nI i).toNatClampNeg = i := nI_clamp (by omega)
        have keep : (yb j).toInt < (yb i).toInt ∨ ((yb j).toInt = (yb i).toInt ∧ (ya i).toInt ≤ (ya j).toInt) → wY_best_5 post lo hi (nI N) ya yb (d + 1) (nI i) (nI (j + 1)) := by
          intro hk
          refine ih (j + 1) _ (by omega) (Or.inr ⟨i, by omega, rfl, h3, fun k hk1 hk2 => ?_⟩)
          by_cases ek : k = j
          · subst ek
            exact hk
          · exact h4 k (by omega) hk2
        have take : (yb i).toInt < (yb j).toInt ∨ ((yb i).toInt = (yb j).toInt ∧ (ya j).toInt ≤ (ya i).toInt) → wY_best_5 post lo hi (nI N) ya yb (d + 1) (nI j) (nI (j + 1)) := by
          intro hk
          refine ih (j + 1) _ (by omega) (Or.inr ⟨j, by omega, rfl, e, fun k hk1 hk2 => ?_⟩)
          by_cases ek : k = j
          · subst ek
            exact Or.inr ⟨rfl, Int.le_refl _⟩
          · have := h4 k (by omega) hk2
            omega
        have hn : ¬ nI i < 0 := nI_pos (by omega)
        refine br_f hn ⟨hin, hin2, ?_⟩
        rw [hcl2]
        refine pa_le (fun e2 => ?_) (fun e2 => ?_)
        · unfold wY_best_58
          rw [hcl, hcl2]
          refine br_f hn ⟨hin, hin2, pa_eq (fun e3 => ⟨hin, hin2, pa_le (fun e4 => pa_b101_o (keep (Or.inr ⟨by rw [e3], e4⟩))) (fun e4 => pa_b101_e (take (Or.inr ⟨by rw [e3], by omega⟩)))⟩) (fun e3 => pa_b101_o (keep (Or.inl (by omega))))⟩
        · unfold wY_best_53 wY_best_58
          rw [hcl, hcl2]
          refine br_f hn ⟨hin, hin2, pa_eq (fun e3 => by rw [e3] at e2; omega) (fun e3 => pa_b101_n (take (Or.inl e2)))⟩
    · rcases h with ⟨h1', h2⟩ | ⟨i, h2, h2', h3, h4⟩
      · refine Or.inl ⟨h1', fun k hk => ?_⟩
        by_cases ek : k = j
        · subst ek
          exact e
        · exact h2 k (by omega)
      · refine Or.inr ⟨i, by omega, h2', h3, fun k hk hk2 => ?_⟩
        by_cases ek : k = j
        · subst ek
          exact absurd hk2 e
        · exact h4 k (by omega) hk2
theorem pa_ybest {post : Int32 → Prop} {lo hi : Int32} (hN : N ≤ 48) (h0 : (∀ i, i < N → ¬ pa_in lo hi (ya i) = true) → post (-2000))
    (h1 : ∀ j, j < N → pa_in lo hi (ya j) = true → (∀ i, i < N → pa_in lo hi (ya i) = true → (yb i).toInt < (yb j).toInt ∨ ((yb i).toInt = (yb j).toInt ∧ (ya j).toInt ≤ (ya i).toInt)) → post (ya j)) :
    wpY_best post (nI N, ya, yb) lo hi :=
  Exists.intro _ (pa_ybest_loop hN h0 h1 N 0 _ (by omega) (Or.inl ⟨rfl, fun i hi => absurd hi (Nat.not_lt_zero _)⟩))
def pa_Q (N i j a b : Nat) : Prop := b < N ∧ (a < i ∨ (a = i ∧ b < j))
def pa_Cy (ya : Nat → Int32) (N i j : Nat) (d : Int32) : Prop :=
  (d.toInt = 0 ∧ ∀ a b, pa_Q N i j a b → (ya a).toInt ≤ (ya b).toInt) ∨
  (0 < d.toInt ∧ (∃ a b, pa_Q N i j a b ∧ d.toInt = (ya a).toInt - (ya b).toInt) ∧ ∀ a b, pa_Q N i j a b → (ya b).toInt < (ya a).toInt → d.toInt ≤ (ya a).toInt - (ya b).toInt)
theorem pa_Q_s {N i j a b : Nat} (h : pa_Q N i (j + 1) a b) : pa_Q N i j a b ∨ (a = i ∧ b = j) := by
  unfold pa_Q at *
  omega
theorem pa_Q_u {N i j a b : Nat} (h : pa_Q N i j a b) : pa_Q N i (j + 1) a b := by
  unfold pa_Q at *
  omega
theorem pa_ycl14 {post : Int32 → Prop} {J : Int32 → Int32 → Prop} {i : Nat} (hN : N ≤ 48) (hi : i < N) (hg : ∀ j, j < N → -1000 ≤ (ya j).toInt ∧ (ya j).toInt ≤ 1000)
    (hJ : ∀ x, pa_Cy ya N (i + 1) 0 x → J x (nI (i + 1))) :
    ∀ d j x, j + d = N → pa_Cy ya N i j x → wY_closest_14 post J (nI i) (nI N) ya yb (d + 1) x (nI j) := by
  have hin1 : vp_in (nI i) 48 := vp_in_nI (by omega) (by omega)
  have hcl1 : (nI i).toNatClampNeg = i := nI_clamp (by omega)
  have hgi := hg i hi
  intro d
  induction d with
  | zero =>
    intro j x hj h
    have e : j = N := by omega
    subst e
    refine br_t (nI_le (by omega) (by omega)) (nm_r (nI_1 i) (hJ x ?_))
    have hq1 : ∀ {a b}, pa_Q j (i + 1) 0 a b → pa_Q j i j a b := by
      intro a b hq
      unfold pa_Q at *
      omega
    have hq2 : ∀ {a b}, pa_Q j i j a b → pa_Q j (i + 1) 0 a b := by
      intro a b hq
      unfold pa_Q at *
      omega
    rcases h with ⟨h1, h2⟩ | ⟨h1, ⟨a, b, h2, h3⟩, h4⟩
    · exact Or.inl ⟨h1, fun a b hq => h2 a b (hq1 hq)⟩
    · exact Or.inr ⟨h1, ⟨a, b, hq2 h2, h3⟩, fun a b hq => h4 a b (hq1 hq)⟩
  | succ d ih =>
    intro j x hj h
    have hin : vp_in (nI j) 48 := vp_in_nI (by omega) (by omega)
    have hcl : (nI j).toNatClampNeg = j := nI_clamp (by omega)
    have hgj := hg j (by omega)
    have hsub : (ya i - ya j).toInt = (ya i).toInt - (ya j).toInt := pa_subI (by omega) (by omega)
    have hqn : pa_Q N i (j + 1) i j := by
      unfold pa_Q
      omega
    refine br_f (nI_ge (by omega) (by omega)) ⟨hin1, hin, ?_⟩
    rw [hcl, hcl1]
    refine nm_e (pa_le (fun e => nm_r (nI_1 j) (ih (j + 1) x (by omega) ?_)) (fun e => pa_eq (fun e2 => nm_r (nI_1 j) (ih (j + 1) _ (by omega) ?_)) (fun e2 => pa_le (fun e3 => nm_r (nI_1 j) (ih (j + 1) x (by omega) ?_)) (fun e3 => nm_r (nI_1 j) (ih (j + 1) _ (by omega) ?_)))))
    · rw [pa_t0, hsub] at e
      rcases h with ⟨h1, h2⟩ | ⟨h1, ⟨a, b, h2, h3⟩, h4⟩
      · refine Or.inl ⟨h1, fun a b hq => ?_⟩
        rcases pa_Q_s hq with hq | ⟨rfl, rfl⟩
        · exact h2 a b hq
        · omega
      · refine Or.inr ⟨h1, ⟨a, b, pa_Q_u h2, h3⟩, fun a b hq hl => ?_⟩
        rcases pa_Q_s hq with hq | ⟨rfl, rfl⟩
        · exact h4 a b hq hl
        · omega
    · rw [pa_t0, hsub] at e
      refine Or.inr ⟨by rw [hsub]; exact e, ⟨i, j, hqn, hsub⟩, fun a b hq hl => ?_⟩
      rw [hsub]
      rcases pa_Q_s hq with hq | ⟨rfl, rfl⟩
      · rcases h with ⟨h1, h2⟩ | ⟨h1, ⟨a', b', h2, h3⟩, h4⟩
        · have := h2 a b hq
          omega
        · rw [e2, pa_t0] at h1
          omega
      · exact Int.le_refl _
    · rw [pa_t0, hsub] at e
      rw [hsub] at e3
      rw [pa_t0] at e2
      rcases h with ⟨h1, h2⟩ | ⟨h1, ⟨a, b, h2, h3⟩, h4⟩
      · exact absurd h1 e2
      · refine Or.inr ⟨h1, ⟨a, b, pa_Q_u h2, h3⟩, fun a b hq hl => ?_⟩
        rcases pa_Q_s hq with hq | ⟨rfl, rfl⟩
        · exact h4 a b hq hl
        · exact e3
    · rw [pa_t0, hsub] at e
      rw [hsub] at e3
      rw [pa_t0] at e2
      refine Or.inr ⟨by rw [hsub]; exact e, ⟨i, j, hqn, hsub⟩, fun a b hq hl => ?_⟩
      rw [hsub]
      rcases pa_Q_s hq with hq | ⟨rfl, rfl⟩
      · rcases h with ⟨h1, h2⟩ | ⟨h1, ⟨a', b', h2, h3⟩, h4⟩
        · exact absurd h1 e2
        · have := h4 a b hq hl
          omega
      · exact Int.le_refl _
theorem pa_ycl4 {post : Int32 → Prop} (hN : N ≤ 48) (hg : ∀ j, j < N → -1000 ≤ (ya j).toInt ∧ (ya j).toInt ≤ 1000) (hp : ∀ x, pa_Cy ya N N 0 x → post x) :
    ∀ d i x, i + d = N → pa_Cy ya N i 0 x → wY_closest_4 post (nI N) ya yb (d + 1) x (nI i) := by
  intro d
  induction d with
  | zero =>
    intro i x hi h
    have e : i = N := by omega
    subst e
    exact br_t (nI_le (by omega) (by omega)) (hp x h)
  | succ d ih =>
    intro i x hi h
    exact br_f (nI_ge (by omega) (by omega)) (Exists.intro _ (pa_ycl14 hN (by omega) hg (fun x hx => ih (i + 1) x (by omega) hx) N 0 x (by omega) h))
theorem pa_yclosest {post : Int32 → Prop} (hN : N ≤ 48) (hg : ∀ j, j < N → -1000 ≤ (ya j).toInt ∧ (ya j).toInt ≤ 1000) (hp : ∀ x, pa_Cy ya N N 0 x → post x) : wpY_closest post (nI N, ya, yb) :=
  Exists.intro _ (pa_ycl4 hN hg hp N 0 _ (by omega) (Or.inl ⟨pa_t0, fun a b hq => by unfold pa_Q at hq; omega⟩))
theorem pa_ygap_loop {post : Int32 → Prop} {x : Int32} (hN : N ≤ 48)
    (h0 : (∀ z : Int32, x.toInt ≤ z.toInt → pa_gd z → ∃ j, j < N ∧ ya j = z) → post (-2000))
    (h1 : ∀ y : Int32, pa_gd y → x.toInt ≤ y.toInt → (∀ z : Int32, x.toInt ≤ z.toInt → pa_gd z → z.toInt < y.toInt → ∃ j, j < N ∧ ya j = z) → (∀ j, j < N → ya j ≠ y) → post y) :
    ∀ (d : Nat) (y : Int32), y.toInt + (d : Int) = 1001 → -1000 ≤ y.toInt → (∀ z : Int32, x.toInt ≤ z.toInt → pa_gd z → z.toInt < y.toInt → ∃ j, j < N ∧ ya j = z) → wY_gap_4 post x (nI N) ya yb (d + 1) y := by
  intro d
  induction d with
  | zero =>
    intro y hy hy1 h
    refine pa_lt (fun e => h0 (fun z hz1 hz2 => h z hz1 hz2 ?_)) (fun e => ?_)
    · have := hz2.2
      omega
    · rw [pa_t1000] at e
      omega
  | succ d ih =>
    intro y hy hy1 h
    have hy2 : (y + 1).toInt = y.toInt + 1 := pa_add1 (by omega)
    have hnext : (x.toInt ≤ y.toInt → ∃ j, j < N ∧ ya j = y) → wY_gap_4 post x (nI N) ya yb (d + 1) (y + 1) := by
      intro hh
      refine ih (y + 1) (by rw [hy2]; omega) (by omega) (fun z hz1 hz2 hz3 => ?_)
      by_cases e : z.toInt = y.toInt
      · have e2 := pa_inj e
        subst e2
        exact hh hz1
      · exact h z hz1 hz2 (by omega)
    refine pa_lt (fun e => ?_) (fun e => pa_lt (fun e2 => nm_e (hnext (fun z => by omega))) (fun e2 => pa_place hN (fun j hj ej => br_t (nI_pos' (by omega)) (nm_e (hnext (fun _ => ⟨j, hj, ej⟩)))) (fun hno => br_f (by decide) (h1 y ⟨hy1, ?_⟩ e2 h hno))))
    · rw [pa_t1000] at e
      omega
    · rw [pa_t1000] at e
      omega
theorem pa_ygap {post : Int32 → Prop} {x : Int32} (hN : N ≤ 48)
    (h0 : (∀ z : Int32, x.toInt ≤ z.toInt → pa_gd z → ∃ j, j < N ∧ ya j = z) → post (-2000))
    (h1 : ∀ y : Int32, pa_gd y → x.toInt ≤ y.toInt → (∀ z : Int32, x.toInt ≤ z.toInt → pa_gd z → z.toInt < y.toInt → ∃ j, j < N ∧ ya j = z) → (∀ j, j < N → ya j ≠ y) → post y) :
    wpY_gap post (nI N, ya, yb) x :=
  Exists.intro _ (pa_ygap_loop hN h0 h1 2001 (-1000) (by rw [pa_tm1000]; rfl) (by rw [pa_tm1000]; omega) (fun z hz1 hz2 hz3 => by rw [pa_tm1000] at hz3; have := hz2.1; omega))
end
end
section
section
variable {c g : Int32} {ks vs sz hk hv K V : Nat → Int32} {n : Nat → Nat} {N : Nat}
theorem pa_select {post : Int32 → Prop} {x : Int32} (hX : pa_X n N K V ks vs sz) (h1 : ∀ k, k < N → x = nI k → post (K k)) (h0 : (∀ k, k < N → x ≠ nI k) → post (-2000)) :
    wpX_select post (nI N, g, ks, vs, sz, hk, hv) x := by
  have h48 := hX.1.2.1
  refine br_c (fun e => h0 (fun k hk z => ?_)) (fun e => ?_)
  · rw [z] at e
    exact nI_pos (n := k) (by omega) e
  · obtain ⟨k, hk1, rfl⟩ := nI_of e
    refine pk_le N k (fun e2 => h0 (fun j hj z => ?_)) (fun e2 => ?_)
    · have := (nI_eq (by omega) (by omega)).mp z
      omega
    · refine pa_cellR hX e2 (fun q hq e3 e4 => ⟨vp_in_nI hq (by omega), ?_⟩)
      rw [nI_clamp (by omega), e3]
      exact h1 k e2 rfl
theorem pa_xsum_loop {post : Int32 → Prop} {lo hi : Int32} {r q : Nat} (hX : pa_X n N K V ks vs sz) (hC : pa_Cn N K lo hi r q) (hp : post (pa_sum (pa_inB lo hi) (pa_ls K V N))) :
    ∀ d p, p + d = r + q → r ≤ p → wX_sum_21 post (nI q) (nI r) c g ks vs sz hk hv (d + 1) (pa_sum (pa_inB lo hi) (pa_ls K V p)) (nI p) := by
  have h48 := hX.1.2.1
  have hrq := hC.1
  intro d
  induction d with
  | zero =>
    intro p hp1 hr
    have e : p = r + q := by omega
    subst e
    refine br_t (by rw [nI_add]; exact nI_le (Nat.le_refl _) (by omega)) ?_
    have h2 := pa_sum_out (pa_inB lo hi) (a := K) (b := V) (m := r + q) (N - (r + q)) (fun i h1 h2 z => by
      have := (hC.2.2 i (by omega)).mp (pa_in_iff.mp z)
      omega)
    rw [show r + q + (N - (r + q)) = N from by omega] at h2
    rw [← h2]
    exact hp
  | succ d ih =>
    intro p hp1 hr
    have h2 := ih (p + 1) (by omega) (by omega)
    have hin : pa_inB lo hi (K p, V p) = true := pa_in_iff.mpr ((hC.2.2 p (by omega)).mpr ⟨hr, by omega⟩)
    rw [pa_sum_s, if_pos hin] at h2
    refine br_f (by rw [nI_add]; exact nI_ge (by omega) (by omega)) ?_
    refine pa_cellR hX (p := p) (by omega) (fun c hc e1 e2 => ⟨vp_in_nI hc (by omega), ?_⟩)
    rw [nI_clamp (n := c) (by omega), e2]
    exact nm_e (nm_r (nI_1 p) h2)
theorem pa_xsum {post : Int32 → Prop} {lo hi : Int32} (hX : pa_X n N K V ks vs sz) (hp : post (pa_sum (pa_inB lo hi) (pa_ls K V N))) :
    wpX_sum post (nI N, g, ks, vs, sz, hk, hv) lo hi := by
  unfold wpX_sum
  refine pa_cr hX (fun r q hC => ?_)
  have h1 := pa_xsum_loop (c := nI N) (g := g) (hk := hk) (hv := hv) hX hC hp q r rfl (Nat.le_refl _)
  have hrq := hC.1
  have h2 := pa_sum_out (pa_inB lo hi) (a := K) (b := V) (m := 0) r (fun i a1 a2 z => by
    have := (hC.2.2 i (by omega)).mp (pa_in_iff.mp z)
    omega)
  rw [Nat.zero_add] at h2
  rw [h2] at h1
  exact Exists.intro _ h1
def pa_Bx (K V : Nat → Int32) (r p : Nat) (x y : Int32) : Prop :=
  (p = r ∧ x = -2000) ∨ (∃ i, r ≤ i ∧ i < p ∧ x = K i ∧ y = V i ∧ ∀ k, r ≤ k → k < p → (V k).toInt < (V i).toInt ∨ ((V k).toInt = (V i).toInt ∧ i ≤ k))
theorem pa_xb63 {post : Int32 → Prop} {J : Int32 → Int32 → Int32 → Prop} {x3 x4 : Int32} {p q : Nat} (hq : q < 64) (h : J (ks q) (vs q) (nI (p + 1))) : wX_best_63 post J x3 x4 (nI p) (nI q) c g ks vs sz hk hv := by
  unfold wX_best_63
  rw [nI_clamp (n := q) (by omega)]
  exact ⟨vp_in_nI hq (by omega), nm_e ⟨vp_in_nI hq (by omega), nm_e (nm_r (nI_1 p) h)⟩⟩
theorem pa_xbest_loop {post : Int32 → Prop} {r q : Nat} (hX : pa_X n N K V ks vs sz) (hrq : r + q ≤ N) (hp : ∀ x y, pa_Bx K V r (r + q) x y → post x) :
    ∀ d p x y, p + d = r + q → r ≤ p → pa_Bx K V r p x y → wX_best_26 post (nI q) (nI r) c g ks vs sz hk hv (d + 1) x y (nI p) := by
  have h48 := hX.1.2.1
  have hS := hX.2.2.2.2
  intro d
  induction d with
  | zero =>
    intro p x y hp1 hr h
    have e : p = r + q := by omega
    subst e
    exact br_t (by rw [nI_add]; exact nI_le (Nat.le_refl _) (by omega)) (hp x y h)
  | succ d ih =>
    intro p x y hp1 hr h
    refine br_f (by rw [nI_add]; exact nI_ge (by omega) (by omega)) ?_
    refine pa_cellR hX (p := p) (by omega) (fun c hc e1 e2 => ?_)
    refine br_c (fun e => pa_xb63 hc ?_) (fun e => ⟨vp_in_nI hc (by omega), ?_⟩)
    · rw [e1, e2]
      refine ih (p + 1) _ _ (by omega) (by omega) (Or.inr ⟨p, hr, by omega, rfl, rfl, fun k hk1 hk2 => ?_⟩)
      rcases h with ⟨h1, h2⟩ | ⟨i, h1, h2, h3, h4, h5⟩
      · have ek : k = p := by omega
        subst ek
        exact Or.inr ⟨rfl, Nat.le_refl _⟩
      · exfalso
        have hgi := (hS.2 i (by omega)).1
        rw [← h3, e, pa_tm2000] at hgi
        omega
    · rw [nI_clamp (n := c) (by omega), e2]
      rcases h with ⟨h1, h2⟩ | ⟨i, h1, h2, h3, h4, h5⟩
      · exact absurd h2 e
      · subst h3 h4
        refine pa_le (fun e3 => nm_r (nI_1 p) (ih (p + 1) _ _ (by omega) (by omega) (Or.inr ⟨i, h1, by omega, rfl, rfl, fun k hk1 hk2 => ?_⟩))) (fun e3 => pa_xb63 hc ?_)
        · by_cases ek : k = p
          · subst ek
            omega
          · exact h5 k hk1 (by omega)
        · rw [e1, e2]
          refine ih (p + 1) _ _ (by omega) (by omega) (Or.inr ⟨p, hr, by omega, rfl, rfl, fun k hk1 hk2 => ?_⟩)
          by_cases ek : k = p
          · subst ek
            exact Or.inr ⟨rfl, Nat.le_refl _⟩
          · have := h5 k hk1 (by omega)
            omega
theorem pa_xbest {post : Int32 → Prop} {lo hi : Int32} (hX : pa_X n N K V ks vs sz) (hp : ∀ r q x y, pa_Cn N K lo hi r q → pa_Bx K V r (r + q) x y → post x) :
    wpX_best post (nI N, g, ks, vs, sz, hk, hv) lo hi := by
  unfold wpX_best
  refine pa_cr hX (fun r q hC => Exists.intro _ (pa_xbest_loop hX hC.1 (fun x y h => hp r q x y hC h) q r _ _ rfl (Nat.le_refl _) (Or.inl ⟨rfl, rfl⟩)))
def pa_Cx (K : Nat → Int32) (p : Nat) (x y : Int32) : Prop :=
  (p = 0 ∧ x = 0 ∧ y = -2000) ∨ (0 < p ∧ y = K (p - 1) ∧ ((p = 1 ∧ x = 0) ∨ (∃ i, i + 1 < p ∧ x.toInt = (K (i + 1)).toInt - (K i).toInt ∧ ∀ k, k + 1 < p → x.toInt ≤ (K (k + 1)).toInt - (K k).toInt)))
theorem pa_xc64 {post : Int32 → Prop} {J8 J : Int32 → Int32 → Int32 → Prop} {x3 x5 : Int32} {q : Nat} (hq : q < 64) (h : J x5 (ks q) (nI (q + 1))) : wX_closest_64 post J8 J x3 (nI q) x5 c g ks vs sz hk hv := by
  unfold wX_closest_64
  rw [nI_clamp (n := q) (by omega)]
  exact ⟨vp_in_nI hq (by omega), nm_e (nm_r (nI_1 q) h)⟩
theorem pa_xc20 {post : Int32 → Prop} {J8 : Int32 → Int32 → Int32 → Prop} {t : Nat} (hX : pa_X n N K V ks vs sz) (ht : t < 8) (hJ : ∀ x y, pa_Cx K (pa_pre n (t + 1)) x y → J8 x y (nI (t + 1))) :
    ∀ d j x y, j + d = n t → pa_Cx K (pa_pre n t + j) x y → wX_closest_20 post J8 (nI t) c g ks vs sz hk hv (d + 1) x y (nI (8 * t + j)) := by
  obtain ⟨hB, hZ, hC, hV, hS⟩ := hX
  have hin : vp_in (nI t) 8 := vp_in_nI ht (by omega)
  have hcl : (nI t).toNatClampNeg = t := nI_clamp (by omega)
  have h7 := hB.2.2 t ht
  have hix : (8 : Int32) * nI t + nI (n t) = nI (8 * t + n t) := by
    rw [show (8 : Int32) * nI t = nI (8 * t) from pk_mul 8 t, nI_add]
  intro d
  induction d with
  | zero =>
    intro j x y hj h
    have e : j = n t := by omega
    subst e
    refine And.intro hin ?_
    rw [hcl, hZ t ht, hix]
    exact br_t (nI_le (Nat.le_refl _) (by omega)) (nm_r (nI_1 t) (hJ x y h))
  | succ d ih =>
    intro j x y hj h
    have hjt : j < n t := by omega
    have hN := pa_ltN hB ht hjt
    have hq : 8 * t + j < 64 := by omega
    have hcl2 : (nI (8 * t + j)).toNatClampNeg = 8 * t + j := nI_clamp (by omega)
    have hi1 : vp_in (nI (8 * t + j)) 64 := vp_in_nI (by omega) (by omega)
    have hkk := hC t ht j hjt
    have h2 : ∀ x y, pa_Cx K (pa_pre n t + j + 1) x y → wX_closest_20 post J8 (nI t) c g ks vs sz hk hv (d + 1) x y (nI (8 * t + j + 1)) := fun x y hh => ih (j + 1) x y (by omega) hh
    refine And.intro hin ?_
    rw [hcl, hZ t ht, hix]
    refine br_f (nI_ge (by omega) (by omega)) ?_
    rw [hcl2, hkk]
    generalize pa_pre n t + j = p at *
    have hgp := hS.2 p hN
    refine ⟨hi1, nm_e (br_c (fun e => ⟨hi1, nm_e (nm_r (nI_1 _) (h2 _ _ ?_))⟩) (fun e => pa_eq (fun e2 => pa_xc64 hq ?_) (fun e2 => pa_le (fun e3 => ⟨hi1, nm_e (nm_r (nI_1 _) (h2 _ _ ?_))⟩) (fun e3 => pa_xc64 hq ?_))))⟩
    · rcases h with ⟨h1, h3, h4⟩ | ⟨h1, h3, h4⟩
      · exact Or.inr ⟨by omega, rfl, Or.inl ⟨by omega, h3⟩⟩
      · exfalso
        have hg := (hS.2 (p - 1) (by omega)).1
        rw [← h3, e, pa_tm2000] at hg
        omega
    · rw [hkk]
      rcases h with ⟨h1, h3, h4⟩ | ⟨h1, h3, h4⟩
      · exact absurd h4 e
      · subst h3
        have hg := hS.2 (p - 1) (by omega)
        have hsub : (K p - K (p - 1)).toInt = (K p).toInt - (K (p - 1)).toInt := pa_subI (by omega) (by omega)
        rcases h4 with ⟨h5, h6⟩ | ⟨i, h5, h6, h7⟩
        · subst h5
          refine h2 _ _ (Or.inr ⟨by omega, rfl, Or.inr ⟨0, by omega, hsub, fun k hk1 => ?_⟩⟩)
          have ek : k = 0 := by omega
          subst ek
          rw [hsub]
          exact Int.le_refl _
        · exfalso
          have := hS.1 i (i + 1) (by omega) (by omega)
          rw [e2, pa_t0] at h6
          omega
    · rcases h with ⟨h1, h3, h4⟩ | ⟨h1, h3, h4⟩
      · exact absurd h4 e
      · subst h3
        have hg := hS.2 (p - 1) (by omega)
        have hsub : (K p - K (p - 1)).toInt = (K p).toInt - (K (p - 1)).toInt := pa_subI (by omega) (by omega)
        rw [hsub] at e3
        rcases h4 with ⟨h5, h6⟩ | ⟨i, h5, h6, h7⟩
        · rw [h6] at e2
          exact absurd rfl e2
        · refine Or.inr ⟨by omega, rfl, Or.inr ⟨i, by omega, h6, fun k hk1 => ?_⟩⟩
          by_cases ek : k + 1 = p
          · have ek2 : p - 1 = k := by omega
            rw [ek2] at e3
            rw [ek]
            exact e3
          · exact h7 k (by omega)
    · rw [hkk]
      rcases h with ⟨h1, h3, h4⟩ | ⟨h1, h3, h4⟩
      · exact absurd h4 e
      · subst h3
        have hg := hS.2 (p - 1) (by omega)
        have hsub : (K p - K (p - 1)).toInt = (K p).toInt - (K (p - 1)).toInt := pa_subI (by omega) (by omega)
        rw [hsub] at e3
        rcases h4 with ⟨h5, h6⟩ | ⟨i, h5, h6, h7⟩
        · rw [h6] at e2
          exact absurd rfl e2
        · refine h2 _ _ (Or.inr ⟨by omega, rfl, Or.inr ⟨p - 1, by omega, ?_, fun k hk1 => ?_⟩⟩)
          · rw [hsub, show p - 1 + 1 = p from by omega]
          · rw [hsub]
            by_cases ek : k + 1 = p
            · have ek2 : p - 1 = k := by omega
              rw [ek2, ek]
              exact Int.le_refl _
            · have := h7 k (by omega)
              omega
theorem pa_xc8 {post : Int32 → Prop} (hX : pa_X n N K V ks vs sz) (hp : ∀ x y, pa_Cx K N x y → post x) :
    ∀ d t x y, t + d = 8 → pa_Cx K (pa_pre n t) x y → wX_closest_8 post c g ks vs sz hk hv (d + 1) x y (nI t) := by
  intro d
  induction d with
  | zero =>
    intro t x y ht h
    have e : t = 8 := by omega
    subst e
    rw [hX.1.1] at h
    exact br_t (by decide) (hp x y h)
  | succ d ih =>
    intro t x y ht h
    exact br_f (nI_ge (b := 8) (by omega) (by decide)) (nm_r (e' := nI (8 * t + 0)) (pk_mul 8 t) (Exists.intro _ (pa_xc20 hX (by omega) (fun x y hh => ih (t + 1) x y (by omega) hh) (n t) 0 x y (by omega) h)))
theorem pa_xclosest {post : Int32 → Prop} (hX : pa_X n N K V ks vs sz) (hp : ∀ x y, pa_Cx K N x y → post x) : wpX_closest post (c, g, ks, vs, sz, hk, hv) :=
  Exists.intro _ (pa_xc8 hX hp 8 0 _ _ rfl (Or.inl ⟨rfl, rfl, rfl⟩))
theorem pa_xgap_loop {post : Int32 → Prop} {z0 : Int32} (hX : pa_X n N K V ks vs sz)
    (h0 : (∀ z : Int32, z0.toInt ≤ z.toInt → pa_gd z → ∃ i, i < N ∧ K i = z) → post (-2000))
    (h1 : ∀ y : Int32, z0.toInt ≤ y.toInt → y.toInt ≤ 1000 → (∀ z : Int32, z0.toInt ≤ z.toInt → z.toInt < y.toInt → ∃ i, i < N ∧ K i = z) → (∀ i, i < N → K i ≠ y) → post y) :
    ∀ d k (y : Int32), k + d = N → y.toInt ≤ 1001 → z0.toInt ≤ y.toInt → pa_R N K y k → (∀ z : Int32, z0.toInt ≤ z.toInt → z.toInt < y.toInt → ∃ i, i < N ∧ K i = z) →
      wX_gap_32 post (nI N) g ks vs sz hk hv (d + 1) y (nI k) := by
  have h48 := hX.1.2.1
  have hS := hX.2.2.2.2
  intro d
  induction d with
  | zero =>
    intro k y hk1 hy1 hy2 hR h
    have e : k = N := by omega
    subst e
    refine br_t (nI_le (Nat.le_refl _) (by omega)) (pa_lt (fun e => h0 (fun z hz1 hz2 => h z hz1 ?_)) (fun e => h1 y hy2 ?_ h (fun i hi => pa_neI ?_)))
    · rw [pa_t1000] at e
      have := hz2.2
      omega
    · rw [pa_t1000] at e
      exact e
    · have := hR.2.1 i hi
      omega
  | succ d ih =>
    intro k y hk1 hy1 hy2 hR h
    refine br_f (nI_ge (by omega) (by omega)) (pa_lt (fun e => pa_lt (fun e' => h0 (fun z hz1 hz2 => h z hz1 ?_)) (fun e' => by omega)) (fun e => ?_))
    · rw [pa_t1000] at e
      have := hz2.2
      omega
    · rw [pa_t1000] at e
      refine pa_cellR hX (p := k) (by omega) (fun c hc e1 e2 => ⟨vp_in_nI hc (by omega), ?_⟩)
      rw [nI_clamp (n := c) (by omega), e1]
      have hy3 : (y + 1).toInt = y.toInt + 1 := pa_add1 (by omega)
      refine pa_eq (fun e3 => nm_e (nm_r (nI_1 k) (ih (k + 1) (y + 1) (by omega) (by omega) (by omega) ⟨by omega, fun i hi => ?_, fun i hi hi2 => ?_⟩ (fun z hz1 hz2 => ?_)))) (fun e3 => pa_lt (fun e' => ?_) (fun e' => h1 y hy2 e h (fun i hi => ?_)))
      · have := pa_mono hS (i := i) (j := k) (by omega) (by omega)
        rw [e3] at this
        omega
      · have := hS.1 k i (by omega) hi2
        rw [e3] at this
        omega
      · by_cases ez : z.toInt = y.toInt
        · exact ⟨k, by omega, e3.trans (pa_inj ez).symm⟩
        · exact h z hz1 (by omega)
      · rw [pa_t1000] at e'
        omega
      · by_cases ei : i < k
        · exact pa_neI (by have := hR.2.1 i ei; omega)
        · have a1 := hR.2.2 k (Nat.le_refl _) (by omega)
          have a2 := pa_mono hS (i := k) (j := i) (by omega) hi
          exact pa_neI (by omega)
theorem pa_xgap {post : Int32 → Prop} {x : Int32} (hX : pa_X n N K V ks vs sz)
    (h0 : (∀ z : Int32, x.toInt ≤ z.toInt → pa_gd z → ∃ i, i < N ∧ K i = z) → post (-2000))
    (h1 : ∀ y : Int32, pa_gd y → x.toInt ≤ y.toInt → (∀ z : Int32, x.toInt ≤ z.toInt → pa_gd z → z.toInt < y.toInt → ∃ i, i < N ∧ K i = z) → (∀ i, i < N → K i ≠ y) → post y) :
    wpX_gap post (nI N, g, ks, vs, sz, hk, hv) x := by
  have key : ∀ z0 : Int32, x.toInt ≤ z0.toInt → -1000 ≤ z0.toInt → z0.toInt ≤ 1000 → (∀ z : Int32, x.toInt ≤ z.toInt → pa_gd z → z0.toInt ≤ z.toInt) → wX_gap_25 post z0 (nI N) g ks vs sz hk hv := by
    intro z0 hz0 hz1 hz2 hz3
    refine pa_rank (x := z0) hX (fun r hR => Exists.intro _ (pa_xgap_loop (z0 := z0) hX (fun hh => h0 (fun z a1 a2 => hh z (hz3 z a1 a2) a2)) (fun y a1 a2 a3 a4 => h1 y ⟨by omega, a2⟩ (by omega) (fun z b1 b2 b3 => a3 z (hz3 z b1 b2) b3) a4) (N - r) r z0 (by have := hR.1; omega) (by omega) (Int.le_refl _) hR (fun z a1 a2 => by omega)))
  refine pa_le (fun e => pa_le (fun e2 => ?_) (fun e2 => ?_)) (fun e => h0 (fun z hz1 hz2 => ?_))
  · rw [pa_t1000] at e
    rw [pa_tm1000] at e2
    exact key x (Int.le_refl _) e2 e (fun z a1 a2 => a1)
  · rw [pa_tm1000] at e2
    exact key (-1000) (by rw [pa_tm1000]; omega) (by rw [pa_tm1000]; omega) (by rw [pa_tm1000]; omega) (fun z a1 a2 => by rw [pa_tm1000]; exact a2.1)
  · rw [pa_t1000] at e
    have := hz2.2
    omega
end
def pa_cut (K : Nat → Int32) (r j : Nat) : Nat → Int32 := fun i => if i < r then K i else K (i + j)
theorem pa_cut_lt {K : Nat → Int32} {r j i : Nat} (h : i < r) : pa_cut K r j i = K i := if_pos h
theorem pa_cut_ge {K : Nat → Int32} {r j i : Nat} (h : r ≤ i) : pa_cut K r j i = K (i + j) := if_neg (by omega)
theorem pa_cut_0 (K : Nat → Int32) (r : Nat) : pa_cut K r 0 = K := by
  funext i
  by_cases e : i < r
  · exact pa_cut_lt e
  · exact pa_cut_ge (by omega)
theorem pa_cut_s (K : Nat → Int32) (r j : Nat) : pa_del (pa_cut K r j) r = pa_cut K r (j + 1) := by
  funext i
  by_cases e : i < r
  · rw [pa_del_lt e, pa_cut_lt e, pa_cut_lt e]
  · rw [pa_del_ge (by omega), pa_cut_ge (by omega), pa_cut_ge (by omega)]
    exact congrArg K (by omega)
theorem pa_S_cut {N j r : Nat} {K : Nat → Int32} (hS : pa_S N K) (hj : j ≤ N) : pa_S (N - j) (pa_cut K r j) := by
  refine ⟨fun a b hab hb => ?_, fun a ha => ?_⟩
  · by_cases e : b < r
    · rw [pa_cut_lt e, pa_cut_lt (by omega)]
      exact hS.1 a b hab (by omega)
    · rw [pa_cut_ge (i := b) (by omega)]
      by_cases e2 : a < r
      · rw [pa_cut_lt e2]
        exact hS.1 a (b + j) (by omega) (by omega)
      · rw [pa_cut_ge (by omega)]
        exact hS.1 (a + j) (b + j) (by omega) (by omega)
  · by_cases e : a < r
    · rw [pa_cut_lt e]
      exact hS.2 a (by omega)
    · rw [pa_cut_ge (by omega)]
      exact hS.2 (a + j) (by omega)
theorem pa_rem_perm {K V ya yb : Nat → Int32} {M p j : Nat} (hS : pa_S (M + 1) K) (hP : List.Perm (pa_ls K V (M + 1)) (pa_ls ya yb (M + 1))) (hp : p < M + 1) (hj : j < M + 1) (e : ya j = K p) :
    List.Perm (pa_ls (pa_del K p) (pa_del V p) M) (pa_ls (upd ya j (ya M)) (upd yb j (yb M)) M) := by
  obtain ⟨i, hi, e1, e2⟩ := pa_AB hP.symm j hj
  have ei := pa_uniq hS hi hp (e1.trans e)
  subst ei
  have h1 := pa_ls_del K V (p := i) (n := M) (by omega)
  have h2 := pa_ls_rem ya yb (j := j) (n := M) (by omega)
  rw [← e1, ← e2] at h2
  exact (h1.symm.trans (hP.trans h2)).cons_inv
end
section
theorem pa_xclear_loop {post : Int32 → SX → Prop} {K V : Nat → Int32} {N r q : Nat} (hN : N ≤ 48) (hrq : r + q ≤ N)
    (hp : ∀ n' g ks' vs' sz' hk hv, pa_X n' (N - q) (pa_cut K r q) (pa_cut V r q) ks' vs' sz' → post (nI q) (nI (N - q), g, ks', vs', sz', hk, hv)) :
    ∀ d j n g ks vs sz hk hv, j + d = q → pa_X n (N - j) (pa_cut K r j) (pa_cut V r j) ks vs sz → wX_clear_17 post (nI q) (nI r) (d + 1) (nI j) (nI (N - j)) g ks vs sz hk hv := by
  intro d
  induction d with
  | zero =>
    intro j n g ks vs sz hk hv hj hX
    have e : j = q := by omega
    subst e
    exact br_t (nI_le (Nat.le_refl _) (by omega)) (hp _ _ _ _ _ _ _ hX)
  | succ d ih =>
    intro j n g ks vs sz hk hv hj hX
    refine br_f (nI_ge (by omega) (by omega)) ?_
    refine pa_cellAt hX (p := r) (by omega) (fun s k hs hk1 e => ?_)
    have eM : N - j = N - (j + 1) + 1 := by omega
    rw [eM] at hX ⊢
    refine pa_drop hX hs hk1 (fun g' n' ks' vs' sz' hk' hv' hX' => nm_r (nI_1 j) ?_)
    rw [← e, pa_cut_s, pa_cut_s] at hX'
    exact ih (j + 1) n' g' ks' vs' sz' hk' hv' (by omega) hX'
theorem pa_xclear {post : Int32 → SX → Prop} {n : Nat → Nat} {N : Nat} {K V ks vs sz hk hv : Nat → Int32} {g lo hi : Int32} (hX : pa_X n N K V ks vs sz)
    (hp : ∀ r q, pa_Cn N K lo hi r q → ∀ n' g ks' vs' sz' hk hv, pa_X n' (N - q) (pa_cut K r q) (pa_cut V r q) ks' vs' sz' → post (nI q) (nI (N - q), g, ks', vs', sz', hk, hv)) :
    wpX_clear post (nI N, g, ks, vs, sz, hk, hv) lo hi := by
  unfold wpX_clear
  refine pa_cr hX (fun r q hC => ?_)
  have h := pa_xclear_loop hX.1.2.1 hC.1 (hp r q hC) q 0 n g ks vs sz hk hv (by omega) (by rw [pa_cut_0, pa_cut_0]; exact hX)
  exact Exists.intro _ h
theorem pa_yclear_loop {post : Int32 → SY → Prop} {K V : Nat → Int32} {N r q : Nat} {lo hi : Int32} (hN : N ≤ 48) (hS : pa_S N K) (hC : pa_Cn N K lo hi r q)
    (hp : ∀ ya yb, List.Perm (pa_ls (pa_cut K r q) (pa_cut V r q) (N - q)) (pa_ls ya yb (N - q)) → post (nI q) (nI (N - q), ya, yb)) :
    ∀ (d : Nat) (x : Int32) j ya yb, x.toInt + (d : Int) = 1001 → -1000 ≤ x.toInt → j ≤ q → (∀ i, i < j → (K (r + i)).toInt < x.toInt) → (∀ i, j ≤ i → i < q → x.toInt ≤ (K (r + i)).toInt) →
      List.Perm (pa_ls (pa_cut K r j) (pa_cut V r j) (N - j)) (pa_ls ya yb (N - j)) → wY_clear_7 post lo hi (d + 1) (nI j) x (nI (N - j)) ya yb := by
  have hrq := hC.1
  intro d
  induction d with
  | zero =>
    intro x j ya yb hx hx1 hj h1 h2 hP
    have e : j = q := by
      by_cases e : j = q
      · exact e
      · have a1 := h2 j (Nat.le_refl _) (by omega)
        have a2 := (hS.2 (r + j) (by omega)).2
        omega
    subst e
    refine pa_lt (fun e => hp ya yb hP) (fun e => ?_)
    rw [pa_t1000] at e
    omega
  | succ d ih =>
    intro x j ya yb hx hx1 hj h1 h2 hP
    have hx2 : (x + 1).toInt = x.toInt + 1 := pa_add1 (by omega)
    have hx3 : x.toInt ≤ 1000 := by omega
    have skip : (∀ i, j ≤ i → i < q → (K (r + i)).toInt ≠ x.toInt) → wY_clear_7 post lo hi (d + 1) (nI j) (x + 1) (nI (N - j)) ya yb := by
      intro hne
      refine ih (x + 1) j ya yb (by rw [hx2]; omega) (by omega) hj (fun i hi => ?_) (fun i hi hi2 => ?_) hP
      · have := h1 i hi
        omega
      · have a1 := h2 i hi hi2
        have a2 := hne i hi hi2
        omega
    refine pa_lt (fun e => ?_) (fun e => pa_inY (fun e2 => br_f (by decide) ?_) (fun e2 => br_t rfl (nm_e (skip (fun i hi hi2 z => e2 (pa_in_iff.mpr ?_))))))
    · rw [pa_t1000] at e
      omega
    · have e3 := pa_in_iff.mp e2
      refine pa_place (by omega) (fun j' hj' ej => br_f (nI_pos (by omega)) ?_) (fun hno => br_t (by decide) (nm_e (skip (fun i hi hi2 z => ?_))))
      · obtain ⟨i, hi, ei, _⟩ := pa_AB hP.symm j' hj'
        rw [ej] at ei
        have hir : r ≤ i := by
          by_cases hir : r ≤ i
          · exact hir
          · rw [pa_cut_lt (by omega)] at ei
            have := hC.2.1.2.1 i (by omega)
            rw [ei] at this
            omega
        rw [pa_cut_ge hir] at ei
        have hiq := (hC.2.2 (i + j) (by omega)).mp (by rw [ei]; exact e3)
        have hjq : j < q := by omega
        have eK : K (r + j) = x := by
          have a1 := h2 j (Nat.le_refl _) hjq
          have a2 := pa_mono hS (i := r + j) (j := i + j) (by omega) (by omega)
          rw [ei] at a2
          exact pa_inj (by omega)
        have eM : N - j = N - (j + 1) + 1 := by omega
        have hS' := pa_S_cut (r := r) hS (j := j) (by omega)
        rw [eM] at hP hj' hS' ⊢
        refine pa_yrem_old (by omega) ⟨hx1, hx3⟩ ⟨j', hj', ej⟩ (fun j2 hj2 ej2 => nm_r (nI_1 j) (nm_e ?_))
        have hP2 := pa_rem_perm hS' hP (p := r) (by omega) hj2 (by rw [pa_cut_ge (Nat.le_refl _), eK]; exact ej2)
        rw [pa_cut_s, pa_cut_s] at hP2
        refine ih (x + 1) (j + 1) _ _ (by rw [hx2]; omega) (by omega) (by omega) (fun i hi => ?_) (fun i hi hi2 => ?_) hP2
        · by_cases ej3 : i = j
          · subst ej3
            rw [eK]
            omega
          · have := h1 i (by omega)
            omega
        · have := hS.1 (r + j) (r + i) (by omega) (by omega)
          rw [eK] at this
          omega
      · obtain ⟨j2, hj2, ej2, _⟩ := pa_AB hP (r + (i - j)) (by omega)
        rw [pa_cut_ge (by omega), show r + (i - j) + j = r + i from by omega] at ej2
        exact hno j2 hj2 (ej2.trans (pa_inj z))
    · rw [← z]
      exact (hC.2.2 (r + i) (by omega)).mpr ⟨by omega, by omega⟩
theorem pa_yclear {post : Int32 → SY → Prop} {K V ya yb : Nat → Int32} {N r q : Nat} {lo hi : Int32} (hN : N ≤ 48) (hS : pa_S N K) (hC : pa_Cn N K lo hi r q) (hP : List.Perm (pa_ls K V N) (pa_ls ya yb N))
    (hp : ∀ ya yb, List.Perm (pa_ls (pa_cut K r q) (pa_cut V r q) (N - q)) (pa_ls ya yb (N - q)) → post (nI q) (nI (N - q), ya, yb)) :
    wpY_clear post (nI N, ya, yb) lo hi := by
  have hrq := hC.1
  have h := pa_yclear_loop hN hS hC hp 2001 (-1000) 0 ya yb (by rw [pa_tm1000]; rfl) (by rw [pa_tm1000]; omega) (by omega) (fun i hi => absurd hi (Nat.not_lt_zero _)) (fun i hi hi2 => by rw [pa_tm1000]; exact (hS.2 (r + i) (by omega)).1) (by rw [pa_cut_0, pa_cut_0]; exact hP)
  exact Exists.intro _ h
theorem pa_xraise_loop {post : Int32 → SX → Prop} {n : Nat → Nat} {N r q : Nat} {K V ks sz hk hv : Nat → Int32} {c g y : Int32} (hrq : r + q ≤ N)
    (hp : ∀ vs, pa_X n N K (pa_mv V y r (r + q)) ks vs sz → post (nI q) (c, g, ks, vs, sz, hk, hv)) :
    ∀ d p vs, p + d = r + q → r ≤ p → pa_X n N K (pa_mv V y r p) ks vs sz → wX_raise_19 post y (nI q) (nI r) c g (d + 1) (nI p) ks vs sz hk hv := by
  intro d
  induction d with
  | zero =>
    intro p vs hp1 hr hX
    have e : p = r + q := by omega
    subst e
    have h48 := hX.1.2.1
    exact br_t (by rw [nI_add]; exact nI_le (Nat.le_refl _) (by omega)) (hp vs hX)
  | succ d ih =>
    intro p vs hp1 hr hX
    have h48 := hX.1.2.1
    refine br_f (by rw [nI_add]; exact nI_ge (by omega) (by omega)) ?_
    refine pa_cellAt hX (p := p) (by omega) (fun s k hs hk1 e => ?_)
    have h7 := hX.1.2.2 s hs
    have hin : vp_in (nI (8 * s + k)) 64 := vp_in_nI (by omega) (by omega)
    have e1 : vs (8 * s + k) = pa_mv V y r p p := by
      rw [e]
      have := hX.2.2.2.1 s hs k hk1
      rw [← e] at this ⊢
      exact this
    rw [nI_clamp (n := 8 * s + k) (by omega), e1]
    refine ⟨hin, hin, nm_e (nm_r (nI_1 p) (ih (p + 1) _ (by omega) (by omega) ⟨hX.1, hX.2.1, hX.2.2.1, ?_, hX.2.2.2.2⟩))⟩
    have h2 := pa_C_upd hX.2.2.2.1 hX.1.2.2 hs hk1 (pa_mv V y r p p + y)
    rw [← e, pa_mv_s V y hr] at h2
    exact h2
theorem pa_xraise {post : Int32 → SX → Prop} {n : Nat → Nat} {N : Nat} {K V ks vs sz hk hv : Nat → Int32} {g lo hi y : Int32} (hX : pa_X n N K V ks vs sz)
    (hp : ∀ r q, pa_Cn N K lo hi r q → ∀ vs, pa_X n N K (pa_mv V y r (r + q)) ks vs sz → post (nI q) (nI N, g, ks, vs, sz, hk, hv)) :
    wpX_raise post (nI N, g, ks, vs, sz, hk, hv) lo hi y := by
  unfold wpX_raise
  refine pa_cr hX (fun r q hC => ?_)
  exact Exists.intro _ (pa_xraise_loop hC.1 (hp r q hC) q r vs rfl (Nat.le_refl _) (by rw [pa_mv_0]; exact hX))
theorem pa_mv_dist {K : Nat → Int32} {N r q : Nat} {y : Int32} (hS : pa_S N K) (hrq : r + q ≤ N) (hy1 : -2000 ≤ y.toInt) (hy2 : y.toInt ≤ 2000)
    (hno : ∀ p, r ≤ p → p < r + q → ∀ i, i < N → K i = K p + y → r ≤ i ∧ i < r + q) : ∀ i j, i < j → j < N → pa_mv K y r (r + q) i ≠ pa_mv K y r (r + q) j := by
  intro i j hij hj
  have hlt := hS.1 i j hij hj
  by_cases ei : r ≤ i ∧ i < r + q
  · rw [pa_mv_in ei.1 ei.2]
    by_cases ej : r ≤ j ∧ j < r + q
    · rw [pa_mv_in ej.1 ej.2]
      refine pa_neI ?_
      rw [pa_near (hS.2 i (by omega)) hy1 hy2, pa_near (hS.2 j hj) hy1 hy2]
      omega
    · rw [pa_mv_out (by omega)]
      exact fun z => ej (hno i ei.1 ei.2 j hj z.symm)
  · rw [pa_mv_out (i := i) (by omega)]
    by_cases ej : r ≤ j ∧ j < r + q
    · rw [pa_mv_in ej.1 ej.2]
      exact fun z => ei (hno j ej.1 ej.2 i (by omega) z)
    · rw [pa_mv_out (by omega)]
      exact pa_neI (by omega)
theorem pa_xslide {post : Int32 → SX → Prop} {n : Nat → Nat} {N : Nat} {K V ks vs sz hk hv : Nat → Int32} {g lo hi y : Int32} (hX : pa_X n N K V ks vs sz)
    (h0 : ∀ r, pa_Cn N K lo hi r 0 → post 0 (nI N, g, ks, vs, sz, hk, hv))
    (h1 : ∀ r q, pa_Cn N K lo hi r q → (∃ i, r ≤ i ∧ i < r + q ∧ ¬ pa_gd (K i + y)) → post (-1) (nI N, g, ks, vs, sz, hk, hv))
    (h2 : ∀ r q, pa_Cn N K lo hi r q → (∀ i, r ≤ i → i < r + q → pa_gd (K i + y)) → (∃ p, r ≤ p ∧ p < r + q ∧ ∃ i, i < N ∧ K i = K p + y ∧ ¬ (r ≤ i ∧ i < r + q)) → post (-2) (nI N, g, ks, vs, sz, hk, hv))
    (h3 : ∀ r q, pa_Cn N K lo hi r q → (∀ i, r ≤ i → i < r + q → pa_gd (K i + y)) → (∀ p, r ≤ p → p < r + q → ∀ i, i < N → K i = K p + y → r ≤ i ∧ i < r + q) →
      ∀ n' K' V' ks' vs' sz', pa_X n' N K' V' ks' vs' sz' → List.Perm (pa_ls K' V' N) (pa_slL K V N r q y) → post (nI q) (nI N, nI N, ks', vs', sz', K', V')) :
    wpX_slide post (nI N, g, ks, vs, sz, hk, hv) lo hi y := by
  have hS := hX.2.2.2.2
  have h48 := hX.1.2.1
  unfold wpX_slide
  refine pa_cr hX (fun r q hC => ?_)
  have hrq := hC.1
  refine pk_eq q 0 (fun e => ?_) (fun e => ?_)
  · subst e
    exact h0 r hC
  · refine pa_cellR hX (p := r) (by omega) (fun c1 hc1 a1 a2 => ⟨vp_in_nI hc1 (by omega), ?_⟩)
    rw [nI_clamp (n := c1) (by omega), a1]
    refine nm_e ?_
    have eix : nI r + nI q - 1 = nI (r + q - 1) := by
      rw [nI_add, show r + q = r + q - 1 + 1 from by omega, nI_pred]
      rfl
    rw [eix]
    refine pa_cellR hX (p := r + q - 1) (by omega) (fun c2 hc2 b1 b2 => ⟨vp_in_nI hc2 (by omega), ?_⟩)
    rw [nI_clamp (n := c2) (by omega), b1]
    refine nm_e ?_
    have hgr := hS.2 r (by omega)
    have hgl := hS.2 (r + q - 1) (by omega)
    refine pa_lt (fun e1 => h1 r q hC ⟨r, by omega, by omega, ?_⟩) (fun e1 => pa_lt (fun e2 => h1 r q hC ⟨r, by omega, by omega, ?_⟩) (fun e2 => pa_goodX (fun g1 => br_f (by decide) (pa_goodX (fun g2 => br_f (by decide) ?_) (fun g2 => br_t rfl (h1 r q hC ⟨r + q - 1, by omega, by omega, g2⟩)))) (fun g1 => br_t rfl (h1 r q hC ⟨r, by omega, by omega, g1⟩))))
    · rw [pa_tm2000] at e1
      exact pa_far hgr (Or.inl e1)
    · rw [pa_t2000] at e2
      exact pa_far hgr (Or.inr e2)
    · rw [pa_tm2000] at e1
      rw [pa_t2000] at e2
      have n1 := pa_near hgr e1 e2
      have n2 := pa_near hgl e1 e2
      have hgood : ∀ i, r ≤ i → i < r + q → pa_gd (K i + y) := by
        intro i hi1 hi2
        have n3 := pa_near (hS.2 i (by omega)) e1 e2
        have m1 := pa_mono hS (i := r) (j := i) hi1 (by omega)
        have m2 := pa_mono hS (i := i) (j := r + q - 1) (by omega) (by omega)
        have q1 := g1.1
        have q2 := g2.2
        exact ⟨by omega, by omega⟩
      refine Exists.intro (q + 1) (pa_s93 hX hrq (fun p p1 p2 p3 p4 => ?_) (fun hno hk' hv' hH => ?_) q r rfl (Nat.le_refl _) (fun p p1 p2 => by omega))
      · obtain ⟨i, hi, ei⟩ := p4
        refine h2 r q hC hgood ⟨p, p1, p2, i, hi, ei, fun z => ?_⟩
        have m1 := pa_mono hS (i := r) (j := i) z.1 (by omega)
        have m2 := pa_mono hS (i := i) (j := r + q - 1) (by omega) (by omega)
        rw [← ei] at p3
        omega
      · have hno2 : ∀ p, r ≤ p → p < r + q → ∀ i, i < N → K i = K p + y → r ≤ i ∧ i < r + q := by
          intro p p1 p2 i hi ei
          by_cases w : (K p + y).toInt < (K r).toInt ∨ (K (r + q - 1)).toInt < (K p + y).toInt
          · exact absurd ei (hno p p1 p2 w i hi)
          · rw [← ei] at w
            refine ⟨?_, ?_⟩
            · by_cases w2 : r ≤ i
              · exact w2
              · have := hS.1 i r (by omega) (by omega)
                omega
            · by_cases w2 : i < r + q
              · exact w2
              · have := hS.1 (r + q - 1) i (by omega) hi
                omega
        have hgd : ∀ i, i < N → pa_gd (pa_mv K y r (r + q) i) := by
          intro i hi
          by_cases w : r ≤ i ∧ i < r + q
          · rw [pa_mv_in w.1 w.2]
            exact hgood i w.1 w.2
          · rw [pa_mv_out (by omega)]
            exact hS.2 i hi
        have hH' : ∀ i, i < N → hk' i = K i ∧ hv' i = V i := by
          intro i hi
          have := hH i hi
          rw [Nat.zero_add] at this
          exact this
        have hL := pa_s173 (post := post) hX hrq hH' (pa_mv_dist hS hrq e1 e2 hno2) hgd (h3 r q hC hgood hno2) q r rfl (Nat.le_refl _)
        rw [pa_mv_0] at hL
        exact Exists.intro _ hL
end
section
def pa_Rel (u : SX) (v : SY) : Prop :=
  ∃ (n : Nat → Nat) (N : Nat) (K V : Nat → Int32) (g : Int32) (ks vs sz hk hv ya yb : Nat → Int32), u = (nI N, g, ks, vs, sz, hk, hv) ∧ v = (nI N, ya, yb) ∧ pa_X n N K V ks vs sz ∧ List.Perm (pa_ls K V N) (pa_ls ya yb N)
theorem pa_mk {n : Nat → Nat} {N : Nat} {K V : Nat → Int32} {g : Int32} {ks vs sz hk hv ya yb : Nat → Int32} (hX : pa_X n N K V ks vs sz) (hP : List.Perm (pa_ls K V N) (pa_ls ya yb N)) : pa_Rel (nI N, g, ks, vs, sz, hk, hv) (nI N, ya, yb) :=
  ⟨n, N, K, V, g, ks, vs, sz, hk, hv, ya, yb, rfl, rfl, hX, hP⟩
theorem pa_el {P : SX → SY → Prop} {u : SX} {v : SY}
    (h : ∀ (n : Nat → Nat) (N : Nat) (K V : Nat → Int32) (g : Int32) (ks vs sz hk hv ya yb : Nat → Int32), pa_X n N K V ks vs sz → List.Perm (pa_ls K V N) (pa_ls ya yb N) → P (nI N, g, ks, vs, sz, hk, hv) (nI N, ya, yb))
    (I : pa_Rel u v) : P u v := by
  obtain ⟨n, N, K, V, g, ks, vs, sz, hk, hv, ya, yb, rfl, rfl, hX, hP⟩ := I
  exact h n N K V g ks vs sz hk hv ya yb hX hP
theorem pa_upd_perm {K V ya yb : Nat → Int32} {N p j : Nat} {x : Int32} (hS : pa_S N K) (hP : List.Perm (pa_ls K V N) (pa_ls ya yb N)) (hp : p < N) (hj : j < N) (e1 : K p = x) (e2 : ya j = x) (y : Int32) :
    List.Perm (pa_ls K (upd V p y) N) (pa_ls ya (upd yb j y) N) := by
  have h1 : (pa_ls K V N).map (fun e => if e.1 = x then (e.1, y) else e) = pa_ls K (upd V p y) N := by
    refine pa_ls_map _ (fun i hi => ?_)
    dsimp only
    by_cases e : i = p
    · subst e
      rw [if_pos e1, pk_us]
    · rw [if_neg (fun z => e (pa_uniq hS hi hp (z.trans e1.symm))), pk_un e]
  have h2 : (pa_ls ya yb N).map (fun e => if e.1 = x then (e.1, y) else e) = pa_ls ya (upd yb j y) N := by
    refine pa_ls_map _ (fun i hi => ?_)
    dsimp only
    by_cases e : i = j
    · subst e
      rw [if_pos e2, pk_us]
    · rw [if_neg (fun z => e (pa_yinj hS hP hi hj (z.trans e2.symm))), pk_un e]
  rw [← h1, ← h2]
  exact hP.map _
theorem pa_new_perm {K V ya yb : Nat → Int32} {N p : Nat} {x y : Int32} (hP : List.Perm (pa_ls K V N) (pa_ls ya yb N)) (hp : p ≤ N) :
    List.Perm (pa_ls (pa_ins K p x) (pa_ins V p y) (N + 1)) (pa_ls (upd ya N x) (upd yb N y) (N + 1)) := by
  refine (pa_ls_ins K V x y hp).trans ?_
  rw [pa_ls_s, pk_us, pk_us, pa_ls_congr (a := upd ya N x) (b := upd yb N y) (a' := ya) (b' := yb) (fun i hi => ⟨pk_un (by omega), pk_un (by omega)⟩)]
  exact (List.Perm.cons _ hP).trans (List.perm_append_singleton _ _).symm
theorem pa_raise_perm {K V ya yb : Nat → Int32} {N r q : Nat} {lo hi : Int32} (hC : pa_Cn N K lo hi r q) (hP : List.Perm (pa_ls K V N) (pa_ls ya yb N)) (y : Int32) :
    List.Perm (pa_ls K (pa_mv V y r (r + q)) N) (pa_ls ya (pa_ry ya yb lo hi y N) N) := by
  have h1 : (pa_ls K V N).map (fun e => if pa_in lo hi e.1 = true then (e.1, e.2 + y) else e) = pa_ls K (pa_mv V y r (r + q)) N := by
    refine pa_ls_map _ (fun i hi1 => ?_)
    dsimp only
    have h := Iff.trans pa_in_iff (hC.2.2 i hi1)
    by_cases e : pa_in lo hi (K i) = true
    · have e2 := h.mp e
      rw [if_pos e, pa_mv_in e2.1 e2.2]
    · have e2 : ¬ (r ≤ i ∧ i < r + q) := fun z => e (h.mpr z)
      rw [if_neg e, pa_mv_out (by omega)]
  have h2 : (pa_ls ya yb N).map (fun e => if pa_in lo hi e.1 = true then (e.1, e.2 + y) else e) = pa_ls ya (pa_ry ya yb lo hi y N) N := by
    refine pa_ls_map _ (fun i hi1 => ?_)
    dsimp only
    by_cases e : pa_in lo hi (ya i) = true
    · rw [if_pos e, pa_ry_in hi1 e]
    · rw [if_neg e, pa_ry_out e]
  rw [← h1, ← h2]
  exact hP.map _
theorem pa_slide_perm {K V ya yb : Nat → Int32} {N r q : Nat} {lo hi : Int32} (hC : pa_Cn N K lo hi r q) (hP : List.Perm (pa_ls K V N) (pa_ls ya yb N)) (y : Int32) :
    List.Perm (pa_slL K V N r q y) (pa_ls (pa_ry ya ya lo hi y N) yb N) := by
  have h1 : (pa_ls K V N).map (fun e => if pa_in lo hi e.1 = true then (e.1 + y, e.2) else e) = pa_slL K V N r q y := by
    refine pa_ls_map _ (fun i hi1 => ?_)
    dsimp only
    have h := Iff.trans pa_in_iff (hC.2.2 i hi1)
    by_cases e : pa_in lo hi (K i) = true
    · have e2 := h.mp e
      rw [if_pos e, pa_mv_in e2.1 e2.2]
    · have e2 : ¬ (r ≤ i ∧ i < r + q) := fun z => e (h.mpr z)
      rw [if_neg e, pa_mv_out (by omega)]
  have h2 : (pa_ls ya yb N).map (fun e => if pa_in lo hi e.1 = true then (e.1 + y, e.2) else e) = pa_ls (pa_ry ya ya lo hi y N) yb N := by
    refine pa_ls_map _ (fun i hi1 => ?_)
    dsimp only
    by_cases e : pa_in lo hi (ya i) = true
    · rw [if_pos e, pa_ry_in hi1 e]
    · rw [if_neg e, pa_ry_out e]
  rw [← h1, ← h2]
  exact hP.map _
theorem pa_no_y {K V ya yb : Nat → Int32} {N : Nat} {x : Int32} (hP : List.Perm (pa_ls K V N) (pa_ls ya yb N)) (h : ∀ i, i < N → K i ≠ x) : ∀ j, j < N → ya j ≠ x := by
  intro j hj z
  obtain ⟨i, hi, e, _⟩ := pa_AB hP.symm j hj
  exact h i hi (e.trans z)
theorem pa_put {u : SX} {v : SY} (I : pa_Rel u v) (x y : Int32) {post : Int32 → SX → Prop}
    (hp : ∀ r u' v', pa_Rel u' v' → (∀ pY : Int32 → SY → Prop, pY r v' → wpY_put pY v x y) → post r u') : wpX_put post u x y := by
  revert hp
  refine pa_el (P := fun u v => (∀ r u' v', pa_Rel u' v' → (∀ pY : Int32 → SY → Prop, pY r v' → wpY_put pY v x y) → post r u') → wpX_put post u x y) ?_ I
  intro n N K V g ks vs sz hk hv ya yb hX hP hp
  have h48 := hX.1.2.1
  have hS := hX.2.2.2.2
  unfold wpX_put
  refine pa_goodX (fun hg => br_f (by decide) ?_) (fun hb => br_t rfl (hp _ _ _ (pa_mk hX hP) (fun pY h => pa_yput_bad hb h)))
  refine pa_cellOf hX (fun s k hs hk1 e => ?_) (fun hno => br_t (by decide) (pk_eq N 48 (fun e => ?_) (fun e => ?_)))
  · have h7 := hX.1.2.2 s hs
    have hpN := pa_ltN hX.1 hs hk1
    obtain ⟨j, hj, e1, e2⟩ := pa_AB hP _ hpN
    have ej := e1.trans e
    refine br_f (nI_pos (by omega)) ⟨vp_in_nI (by omega) (by omega), ?_⟩
    rw [nI_clamp (n := 8 * s + k) (by omega)]
    refine nm_e (hp _ _ _ (pa_mk (V := upd V (pa_pre n s + k) y) ⟨hX.1, hX.2.1, hX.2.2.1, pa_C_upd hX.2.2.2.1 hX.1.2.2 hs hk1 y, hS⟩ (pa_upd_perm hS hP hpN hj e ej y)) (fun pY h => pa_yput_old h48 hg hj ej (fun i hi ei => pa_yinj hS hP hi hj (ei.trans ej.symm)) h))
  · exact hp _ _ _ (pa_mk hX hP) (fun pY h => pa_yput_full e hg (pa_no_y hP hno) h)
  · exact pa_insert hX (by omega) hg hno (fun g' n' p ks' vs' sz' hk' hv' hpN hX' => hp _ _ _ (pa_mk hX' (pa_new_perm hP hpN)) (fun pY h => pa_yput_new (by omega) hg (pa_no_y hP hno) h))
theorem pa_ser_loop {x st val : Int32} {m : Nat} (hm : m ≤ 48) {post : Int32 → SX → Prop} :
    ∀ d j (u : SX) (v : SY), j + d = m → pa_Rel u v →
      (∀ (u' : SX) (v' : SY), pa_Rel u' v' → (∀ pY : Int32 → SY → Prop, pY u'.1 v' → ∃ f, wY_series_42 pY x st (nI m) val f (nI j) v.1 v.2.1 v.2.2) → post u'.1 u') →
      wX_series_41 post x st (nI m) val (d + 1) (nI j) u.1 u.2.1 u.2.2.1 u.2.2.2.1 u.2.2.2.2.1 u.2.2.2.2.2.1 u.2.2.2.2.2.2 := by
  intro d
  induction d with
  | zero =>
    intro j u v hj I h
    have e : j = m := by omega
    subst e
    refine br_t (nI_le (Nat.le_refl _) (by omega)) (h u v I (fun pY hY => Exists.intro 1 (br_t (nI_le (Nat.le_refl _) (by omega)) ?_)))
    have e1 : u.1 = v.1 := pa_el (P := fun u v => u.1 = v.1) (fun n N K V g ks vs sz hk hv ya yb _ _ => rfl) I
    rw [e1] at hY
    exact hY
  | succ d ih =>
    intro j u v hj I h
    refine br_f (nI_ge (by omega) (by omega)) ?_
    refine pa_put I _ _ (fun r u1 v1 R1 hY => ?_)
    refine nm_r (nI_1 j) (ih (j + 1) u1 v1 (by omega) R1 (fun u' v' R' hh => h u' v' R' (fun pY hp => ?_)))
    obtain ⟨f, hf⟩ := hh pY hp
    exact Exists.intro (f + 1) (br_f (nI_ge (by omega) (by omega)) (hY _ (nm_r (nI_1 j) hf)))
theorem pa_yser {post : Int32 → SY → Prop} {x st cnt val held : Int32} {ya yb : Nat → Int32} (hg : pa_gd x)
    (h : (st < (-100) → post (-2) (held, ya, yb)) ∧ (¬ st < (-100) → ((st ≤ 100 → ((cnt < 1 → post (-3) (held, ya, yb)) ∧ (¬ cnt < 1 → ((cnt ≤ 48 → ∃ f : Nat, wY_series_42 post x st cnt val f 0 held ya yb) ∧ (¬ cnt ≤ 48 → post (-3) (held, ya, yb)))))) ∧ (¬ st ≤ 100 → post (-2) (held, ya, yb))))) : wpY_series post (held, ya, yb) x st cnt val := by
  unfold wpY_series
  exact pa_goodY (fun _ => br_f (by decide) h) (fun z => absurd hg z)
end
section
/-- the relation at the head of a turn: both hold the same pairs; the component segment by segment in order, the reference in any order -/
def i_Rel (k : Nat) (u : SX) (v : SY) : Prop := pa_Rel u v
theorem i_up {k : Nat} {u : SX} {v : SY} (h : i_Rel k u v) : i_Rel (k + 5) u v := h
theorem i_vc0 : wpX_init (fun u => wpY_init (fun v => i_Rel 0 u v)) := by
  have hX : pa_X (fun _ => 0) 0 (fun _ => 0) (fun _ => 0) (fun _ => 0) (fun _ => 0) (fun _ => 0) :=
    ⟨⟨rfl, by omega, fun s _ => Nat.zero_le 7⟩, fun s _ => rfl, fun s _ j hj => absurd hj (Nat.not_lt_zero _), fun s _ j hj => absurd hj (Nat.not_lt_zero _), fun i j _ hj => absurd hj (Nat.not_lt_zero _), fun i hi => absurd hi (Nat.not_lt_zero _)⟩
  have R := pa_mk (g := 0) (hk := fun _ => 0) (hv := fun _ => 0) (ya := fun _ => 0) (yb := fun _ => 0) hX (List.Perm.refl _)
  exact R
theorem i_vc_put {k : Nat} {u : SX} {v : SY} (I : i_Rel k u v) (hk : k + 5 ≤ 2560) (v1 : Int32) (v2 : Int32) : wpX_put (fun r u' => wpY_put (fun r' v' => r' = r ∧ i_Rel (k + 5) u' v') v v1 v2) u v1 v2 :=
  pa_put I v1 v2 (fun r u' v' R hY => hY _ ⟨rfl, R⟩)
theorem i_vc_series {k : Nat} {u : SX} {v : SY} (I : i_Rel k u v) (hk : k + 5 ≤ 2560) (v1 : Int32) (v2 : Int32) (v3 : Int32) (v4 : Int32) : wpX_series (fun r u' => wpY_series (fun r' v' => r' = r ∧ i_Rel (k + 5) u' v') v v1 v2 v3 v4) u v1 v2 v3 v4 := by
  obtain ⟨c, g, ks, vs, sz, hk0, hv⟩ := u
  obtain ⟨f, ya, yb⟩ := v
  unfold wpX_series
  refine pa_goodX (fun hg => br_f (by decide) ?_) (fun hb => br_t rfl ?_)
  · refine br_c (fun e => pa_yser hg (br_t e ⟨rfl, I⟩)) (fun e => br_c (fun e2 => br_c (fun e3 => pa_yser hg (br_f e (br_t e2 (br_t e3 ⟨rfl, I⟩)))) (fun e3 => br_c (fun e4 => ?_) (fun e4 => pa_yser hg (br_f e (br_t e2 (br_f e3 (br_f e4 ⟨rfl, I⟩))))))) (fun e2 => pa_yser hg (br_f e (br_f e2 ⟨rfl, I⟩))))
    have e5 : ¬ v3 < 0 := fun z => e3 (Int32.lt_trans z (by decide))
    obtain ⟨m, hm, rfl⟩ := nI_of2 (M := 48) (n := 48) (by decide) e5 e4
    refine Exists.intro (m + 1) (pa_ser_loop hm m 0 (c, g, ks, vs, sz, hk0, hv) (f, ya, yb) (by omega) I (fun u' v' R hY => ?_))
    exact pa_yser hg (br_f e (br_t e2 (br_f e3 (br_t e4 (hY _ ⟨rfl, R⟩)))))
  · unfold wpY_series
    exact pa_goodY (fun z => absurd z hb) (fun _ => br_t rfl ⟨rfl, I⟩)
theorem i_vc_remove {k : Nat} {u : SX} {v : SY} (I : i_Rel k u v) (hk : k + 5 ≤ 2560) (v1 : Int32) : wpX_remove (fun r u' => wpY_remove (fun r' v' => r' = r ∧ i_Rel (k + 5) u' v') v v1) u v1 := by
  have R := I
  obtain ⟨n, N, K, V, g, ks, vs, sz, hk0, hv, ya, yb, rfl, rfl, hX, hP⟩ := I
  have h48 := hX.1.2.1
  unfold wpX_remove
  refine pa_goodX (fun hg => br_f (by decide) ?_) (fun hb => br_t rfl (pa_yrem_bad hb ⟨rfl, R⟩))
  refine pa_cellOf hX (fun s j hs hj e => ?_) (fun hno => br_f (by decide) (pa_yrem_no h48 hg (pa_no_y hP hno) ⟨rfl, R⟩))
  have h7 := hX.1.2.2 s hs
  have hpN := pa_ltN hX.1 hs hj
  refine br_t (nI_pos' (by omega)) ?_
  obtain ⟨M, rfl⟩ : ∃ M, N = M + 1 := ⟨N - 1, by omega⟩
  obtain ⟨i, hi, e1, e2⟩ := pa_AB hP _ hpN
  refine pa_drop hX hs hj (fun g' n' ks' vs' sz' hk' hv' hX' => ?_)
  exact pa_yrem_old h48 hg ⟨i, hi, e1.trans e⟩ (fun j2 hj2 ej2 => ⟨rfl, pa_mk hX' (pa_rem_perm hX.2.2.2.2 hP hpN hj2 (ej2.trans e.symm))⟩)
theorem i_vc_clear {k : Nat} {u : SX} {v : SY} (I : i_Rel k u v) (hk : k + 5 ≤ 2560) (v1 : Int32) (v2 : Int32) : wpX_clear (fun r u' => wpY_clear (fun r' v' => r' = r ∧ i_Rel (k + 5) u' v') v v1 v2) u v1 v2 := by
  obtain ⟨n, N, K, V, g, ks, vs, sz, hk0, hv, ya, yb, rfl, rfl, hX, hP⟩ := I
  refine pa_xclear hX (fun r q hC n' g' ks' vs' sz' hk' hv' hX' => ?_)
  exact pa_yclear hX.1.2.1 hX.2.2.2.2 hC hP (fun ya' yb' hP' => ⟨rfl, pa_mk hX' hP'⟩)
theorem i_vc_slide {k : Nat} {u : SX} {v : SY} (I : i_Rel k u v) (hk : k + 5 ≤ 2560) (v1 : Int32) (v2 : Int32) (v3 : Int32) : wpX_slide (fun r u' => wpY_slide (fun r' v' => r' = r ∧ i_Rel (k + 5) u' v') v v1 v2 v3) u v1 v2 v3 := by
  have R := I
  obtain ⟨n, N, K, V, g, ks, vs, sz, hk0, hv, ya, yb, rfl, rfl, hX, hP⟩ := I
  have h48 := hX.1.2.1
  have hin : ∀ {r q}, pa_Cn N K v1 v2 r q → ∀ i, i < N → (pa_in v1 v2 (K i) = true ↔ (r ≤ i ∧ i < r + q)) := fun hC i hi => Iff.trans pa_in_iff (hC.2.2 i hi)
  have nob : ∀ {r q}, pa_Cn N K v1 v2 r q → (∀ i, r ≤ i → i < r + q → pa_gd (K i + v3)) → ∀ j, j < N → pa_in v1 v2 (ya j) = true → pa_gd (ya j + v3) := by
    intro r q hC hg j hj hj2
    obtain ⟨i, hi, e, _⟩ := pa_AB hP.symm j hj
    rw [← e] at hj2 ⊢
    have := (hin hC i hi).mp hj2
    exact hg i this.1 this.2
  have noc : ∀ {r q}, pa_Cn N K v1 v2 r q → (∀ p, r ≤ p → p < r + q → ∀ i, i < N → K i = K p + v3 → r ≤ i ∧ i < r + q) → ∀ i, i < N → pa_in v1 v2 (ya i) = true → ∀ j, j < N → ya j = ya i + v3 → pa_in v1 v2 (ya j) = true := by
    intro r q hC hno i hi hi2 j hj ej
    obtain ⟨p, hp, e, _⟩ := pa_AB hP.symm i hi
    obtain ⟨l, hl, e2, _⟩ := pa_AB hP.symm j hj
    rw [← e] at hi2
    have w := (hin hC p hp).mp hi2
    rw [← e2]
    exact (hin hC l hl).mpr (hno p w.1 w.2 l hl (by rw [e, e2]; exact ej))
  refine pa_xslide hX (fun r hC => ?_) (fun r q hC hb => ?_) (fun r q hC hg hc => ?_) (fun r q hC hg hno n' K' V' ks' vs' sz' hX' hP' => ?_)
  · have hno : ∀ j, j < N → ¬ pa_in v1 v2 (ya j) = true := by
      intro j hj z
      obtain ⟨i, hi, e, _⟩ := pa_AB hP.symm j hj
      rw [← e] at z
      have := (hin hC i hi).mp z
      omega
    refine pa_yslide h48 (fun ⟨i, hi, h, _⟩ => absurd h (hno i hi)) (fun _ ⟨i, hi, h, _⟩ => absurd h (hno i hi)) (fun _ _ => ?_)
    rw [pa_count_eq hC hP]
    have hP2 := pa_slide_perm hC hP v3
    unfold pa_slL at hP2
    rw [Nat.add_zero, pa_mv_0] at hP2
    exact ⟨rfl, pa_mk hX hP2⟩
  · obtain ⟨i, hi1, hi2, hb⟩ := hb
    have hrq := hC.1
    obtain ⟨j, hj, e, _⟩ := pa_AB hP i (by omega)
    have hj2 : pa_in v1 v2 (ya j) = true := by
      rw [e]
      exact (hin hC i (by omega)).mpr ⟨hi1, hi2⟩
    have hb2 : ¬ pa_gd (ya j + v3) := by
      rw [e]
      exact hb
    exact pa_yslide h48 (fun _ => ⟨rfl, R⟩) (fun h _ => absurd (h j hj hj2) hb2) (fun h _ => absurd (h j hj hj2) hb2)
  · obtain ⟨p, hp1, hp2, i, hi, ei, hio⟩ := hc
    have hrq := hC.1
    obtain ⟨j, hj, e, _⟩ := pa_AB hP p (by omega)
    obtain ⟨l, hl, e2, _⟩ := pa_AB hP i hi
    have hj2 : pa_in v1 v2 (ya j) = true := by
      rw [e]
      exact (hin hC p (by omega)).mpr ⟨hp1, hp2⟩
    have hl2 : ¬ pa_in v1 v2 (ya l) = true := by
      rw [e2]
      exact fun z => hio ((hin hC i hi).mp z)
    have el : ya l = ya j + v3 := by
      rw [e, e2]
      exact ei
    exact pa_yslide h48 (fun ⟨a, ha, h, h2⟩ => absurd (nob hC hg a ha h) h2) (fun _ _ => ⟨rfl, R⟩) (fun _ h => absurd (h j hj hj2 l hl el) hl2)
  · refine pa_yslide h48 (fun ⟨a, ha, h, h2⟩ => absurd (nob hC hg a ha h) h2) (fun _ ⟨a, ha, h, b, hb, h2, h3⟩ => absurd (noc hC hno a ha h b hb h2) h3) (fun _ _ => ?_)
    rw [pa_count_eq hC hP]
    exact ⟨rfl, pa_mk hX' (hP'.trans (pa_slide_perm hC hP v3))⟩
theorem i_vc_raise {k : Nat} {u : SX} {v : SY} (I : i_Rel k u v) (hk : k + 5 ≤ 2560) (v1 : Int32) (v2 : Int32) (v3 : Int32) : wpX_raise (fun r u' => wpY_raise (fun r' v' => r' = r ∧ i_Rel (k + 5) u' v') v v1 v2 v3) u v1 v2 v3 := by
  obtain ⟨n, N, K, V, g, ks, vs, sz, hk0, hv, ya, yb, rfl, rfl, hX, hP⟩ := I
  refine pa_xraise hX (fun r q hC vs' hX' => pa_yraise hX.1.2.1 ?_)
  rw [pa_count_eq hC hP]
  exact ⟨rfl, pa_mk hX' (pa_raise_perm hC hP v3)⟩
theorem i_vc_size {k : Nat} {u : SX} {v : SY} (I : i_Rel k u v) (hk : k + 5 ≤ 2560) : wpX_size (fun r => wpY_size (fun r' => r' = r ∧ i_Rel (k + 5) u v) v) u := by
  have R := I
  obtain ⟨n, N, K, V, g, ks, vs, sz, hk0, hv, ya, yb, rfl, rfl, hX, hP⟩ := I
  exact And.intro rfl R
theorem i_vc_has {k : Nat} {u : SX} {v : SY} (I : i_Rel k u v) (hk : k + 5 ≤ 2560) (v1 : Int32) : wpX_has (fun r => wpY_has (fun r' => r' = r ∧ i_Rel (k + 5) u v) v v1) u v1 := by
  have R := I
  obtain ⟨n, N, K, V, g, ks, vs, sz, hk0, hv, ya, yb, rfl, rfl, hX, hP⟩ := I
  have h48 := hX.1.2.1
  unfold wpX_has wpY_has
  refine pa_goodX (fun hg => br_f (by decide) (pa_cellOf hX (fun s j hs hj e => br_f (nI_pos ?_) ?_) (fun hno => br_t (by decide) ?_))) (fun hb => br_t rfl (pa_goodY (fun z => absurd z hb) (fun _ => br_t rfl ⟨rfl, R⟩)))
  · have h7 := hX.1.2.2 s hs
    omega
  · obtain ⟨i, hi, e1, e2⟩ := pa_AB hP _ (pa_ltN hX.1 hs hj)
    exact pa_goodY (fun _ => br_f (by decide) (pa_place h48 (fun j2 hj2 ej2 => br_f (nI_pos (by omega)) ⟨rfl, R⟩) (fun z => absurd (e1.trans e) (z i hi)))) (fun z => absurd hg z)
  · exact pa_goodY (fun _ => br_f (by decide) (pa_place h48 (fun j2 hj2 ej2 => absurd ej2 (pa_no_y hP hno j2 hj2)) (fun z => br_t (by decide) ⟨rfl, R⟩))) (fun z => absurd hg z)
theorem i_vc_get {k : Nat} {u : SX} {v : SY} (I : i_Rel k u v) (hk : k + 5 ≤ 2560) (v1 : Int32) : wpX_get (fun r => wpY_get (fun r' => r' = r ∧ i_Rel (k + 5) u v) v v1) u v1 := by
  have R := I
  obtain ⟨n, N, K, V, g, ks, vs, sz, hk0, hv, ya, yb, rfl, rfl, hX, hP⟩ := I
  have h48 := hX.1.2.1
  have hS := hX.2.2.2.2
  unfold wpX_get wpY_get
  refine pa_goodX (fun hg => br_f (by decide) (pa_cellOf hX (fun s j hs hj e => ?_) (fun hno => br_f (by decide) ?_))) (fun hb => br_t rfl ?_)
  · have h7 := hX.1.2.2 s hs
    have hpN := pa_ltN hX.1 hs hj
    obtain ⟨i, hi, e1, e2⟩ := pa_AB hP _ hpN
    refine br_t (nI_pos' (by omega)) ⟨vp_in_nI (by omega) (by omega), ?_⟩
    rw [nI_clamp (n := 8 * s + j) (by omega), hX.2.2.2.1 s hs j hj]
    refine pa_place h48 (fun j2 hj2 ej2 => br_f (nI_pos (by omega)) ⟨vp_in_nI (by omega) (by omega), ?_⟩) (fun z => absurd (e1.trans e) (z i hi))
    rw [nI_clamp (n := j2) (by omega)]
    have ej := pa_yinj hS hP hj2 hi (ej2.trans (e1.trans e).symm)
    subst ej
    exact ⟨e2, R⟩
  · exact pa_place h48 (fun j2 hj2 ej2 => absurd ej2 (pa_no_y hP hno j2 hj2)) (fun z => br_t (by decide) ⟨rfl, R⟩)
  · refine pa_place h48 (fun j2 hj2 ej2 => absurd ?_ hb) (fun z => br_t (by decide) ⟨rfl, R⟩)
    rw [← ej2]
    exact pa_ygd hS hP j2 hj2
theorem i_vc_rank {k : Nat} {u : SX} {v : SY} (I : i_Rel k u v) (hk : k + 5 ≤ 2560) (v1 : Int32) : wpX_rank (fun r => wpY_rank (fun r' => r' = r ∧ i_Rel (k + 5) u v) v v1) u v1 := by
  have R := I
  obtain ⟨n, N, K, V, g, ks, vs, sz, hk0, hv, ya, yb, rfl, rfl, hX, hP⟩ := I
  exact pa_rank hX (fun r hR => pa_yrank hX.1.2.1 ⟨by rw [pa_rank_eq hR hP], R⟩)
theorem i_vc_select {k : Nat} {u : SX} {v : SY} (I : i_Rel k u v) (hk : k + 5 ≤ 2560) (v1 : Int32) : wpX_select (fun r => wpY_select (fun r' => r' = r ∧ i_Rel (k + 5) u v) v v1) u v1 := by
  have R := I
  obtain ⟨n, N, K, V, g, ks, vs, sz, hk0, hv, ya, yb, rfl, rfl, hX, hP⟩ := I
  have h48 := hX.1.2.1
  refine pa_select hX (fun p hp e => pa_yselect hX.2.2.2.2 hP h48 (fun p2 hp2 e2 => ⟨?_, R⟩) (fun h => absurd e (h p hp))) (fun h => pa_yselect hX.2.2.2.2 hP h48 (fun p2 hp2 e2 => absurd e2 (h p2 hp2)) (fun _ => ⟨rfl, R⟩))
  have := (nI_eq (by omega) (by omega)).mp (e2.symm.trans e)
  rw [this]
theorem i_vc_next {k : Nat} {u : SX} {v : SY} (I : i_Rel k u v) (hk : k + 5 ≤ 2560) (v1 : Int32) : wpX_next (fun r => wpY_next (fun r' => r' = r ∧ i_Rel (k + 5) u v) v v1) u v1 := by
  have R := I
  obtain ⟨n, N, K, V, g, ks, vs, sz, hk0, hv, ya, yb, rfl, rfl, hX, hP⟩ := I
  have h48 := hX.1.2.1
  have hS := hX.2.2.2.2
  have hyg := pa_ygd hS hP
  unfold wpX_next
  refine pa_lt (fun e => ?_) (fun e => pa_ynext h48 hyg (fun f hf => ⟨?_, R⟩))
  · rw [pa_t1000] at e
    have e1 : (v1 + 1).toInt = v1.toInt + 1 := pa_add1 (by omega)
    refine pa_rank hX (fun r hR => pa_select hX (fun p hp ep => pa_ynext h48 hyg (fun f hf => ⟨?_, R⟩)) (fun hno => pa_ynext h48 hyg (fun f hf => ⟨?_, R⟩)))
    · have hrN := hR.1
      have e2 := (nI_eq (by omega) (by omega)).mp ep
      subst e2
      obtain ⟨j0, hj0, ej0, _⟩ := pa_AB hP r hp
      have a1 := hR.2.2 r (Nat.le_refl _) hp
      rcases hf with ⟨h1, h2⟩ | ⟨j, hj, h2, h3, h4⟩
      · have := h2 j0 hj0
        rw [ej0] at this
        omega
      · obtain ⟨i, hi, ei, _⟩ := pa_AB hP.symm j hj
        have a2 := h4 j0 hj0 (by rw [ej0]; omega)
        rw [ej0] at a2
        have a3 : r ≤ i := by
          by_cases a3 : r ≤ i
          · exact a3
          · have := hR.2.1 i (by omega)
            rw [ei] at this
            omega
        have a4 := pa_mono hS a3 hi
        rw [ei] at a4
        rw [h2]
        exact pa_inj (by omega)
    · have hrN := hR.1
      have erN : r = N := by
        by_cases erN : r = N
        · exact erN
        · exact absurd rfl (hno r (by omega))
      rcases hf with ⟨h1, h2⟩ | ⟨j, hj, h2, h3, h4⟩
      · exact h1
      · obtain ⟨i, hi, ei, _⟩ := pa_AB hP.symm j hj
        have := hR.2.1 i (by omega)
        rw [ei] at this
        omega
  · rw [pa_t1000] at e
    rcases hf with ⟨h1, h2⟩ | ⟨j, hj, h2, h3, h4⟩
    · exact h1
    · have := (hyg j hj).2
      omega
theorem i_vc_previous {k : Nat} {u : SX} {v : SY} (I : i_Rel k u v) (hk : k + 5 ≤ 2560) (v1 : Int32) : wpX_previous (fun r => wpY_previous (fun r' => r' = r ∧ i_Rel (k + 5) u v) v v1) u v1 := by
  have R := I
  obtain ⟨n, N, K, V, g, ks, vs, sz, hk0, hv, ya, yb, rfl, rfl, hX, hP⟩ := I
  have h48 := hX.1.2.1
  have hS := hX.2.2.2.2
  have hyg := pa_ygd hS hP
  unfold wpX_previous
  refine pa_rank hX (fun r hR => pa_select hX (fun p hp ep => pa_yprev h48 hyg (fun f hf => ⟨?_, R⟩)) (fun hno => pa_yprev h48 hyg (fun f hf => ⟨?_, R⟩)))
  · have hrN := hR.1
    have e2 : r = p + 1 := by
      have e3 : nI r = nI (p + 1) := by
        rw [← nI_1, ← ep, Int32.sub_add_cancel]
      exact (nI_eq (by omega) (by omega)).mp e3
    subst e2
    obtain ⟨j0, hj0, ej0, _⟩ := pa_AB hP p hp
    have a1 := hR.2.1 p (by omega)
    rcases hf with ⟨h1, h2⟩ | ⟨j, hj, h2, h3, h4⟩
    · have := h2 j0 hj0
      rw [ej0] at this
      omega
    · obtain ⟨i, hi, ei, _⟩ := pa_AB hP.symm j hj
      have a2 := h4 j0 hj0 (by rw [ej0]; omega)
      rw [ej0] at a2
      have a3 : i ≤ p := by
        by_cases a3 : i ≤ p
        · exact a3
        · have := hR.2.2 i (by omega) hi
          rw [ei] at this
          omega
      have a4 := pa_mono hS a3 hp
      rw [ei] at a4
      rw [h2]
      exact pa_inj (by omega)
  · have hrN := hR.1
    have er0 : r = 0 := by
      by_cases er0 : r = 0
      · exact er0
      · exact absurd (pk_sub (a := r) (b := 1) (by omega)) (hno (r - 1) (by omega))
    rcases hf with ⟨h1, h2⟩ | ⟨j, hj, h2, h3, h4⟩
    · exact h1
    · obtain ⟨i, hi, ei, _⟩ := pa_AB hP.symm j hj
      have := hR.2.2 i (by omega) hi
      rw [ei] at this
      omega
theorem i_vc_count {k : Nat} {u : SX} {v : SY} (I : i_Rel k u v) (hk : k + 5 ≤ 2560) (v1 : Int32) (v2 : Int32) : wpX_count (fun r => wpY_count (fun r' => r' = r ∧ i_Rel (k + 5) u v) v v1 v2) u v1 v2 := by
  have R := I
  obtain ⟨n, N, K, V, g, ks, vs, sz, hk0, hv, ya, yb, rfl, rfl, hX, hP⟩ := I
  exact pa_count hX (fun r q hC => pa_ycount hX.1.2.1 ⟨by rw [pa_count_eq hC hP], R⟩)
theorem i_vc_sum {k : Nat} {u : SX} {v : SY} (I : i_Rel k u v) (hk : k + 5 ≤ 2560) (v1 : Int32) (v2 : Int32) : wpX_sum (fun r => wpY_sum (fun r' => r' = r ∧ i_Rel (k + 5) u v) v v1 v2) u v1 v2 := by
  have R := I
  obtain ⟨n, N, K, V, g, ks, vs, sz, hk0, hv, ya, yb, rfl, rfl, hX, hP⟩ := I
  exact pa_xsum hX (pa_ysum hX.1.2.1 ⟨(pa_sum_p _ hP).symm, R⟩)
theorem i_vc_best {k : Nat} {u : SX} {v : SY} (I : i_Rel k u v) (hk : k + 5 ≤ 2560) (v1 : Int32) (v2 : Int32) : wpX_best (fun r => wpY_best (fun r' => r' = r ∧ i_Rel (k + 5) u v) v v1 v2) u v1 v2 := by
  have R := I
  obtain ⟨n, N, K, V, g, ks, vs, sz, hk0, hv, ya, yb, rfl, rfl, hX, hP⟩ := I
  have h48 := hX.1.2.1
  have hS := hX.2.2.2.2
  refine pa_xbest hX (fun r q x y hC hB => ?_)
  have hin : ∀ i, i < N → (pa_in v1 v2 (K i) = true ↔ (r ≤ i ∧ i < r + q)) := fun i hi => Iff.trans pa_in_iff (hC.2.2 i hi)
  have hrq := hC.1
  refine pa_ybest h48 (fun hno => ⟨?_, R⟩) (fun j hj hj2 hj3 => ⟨?_, R⟩)
  · rcases hB with ⟨h1, h2⟩ | ⟨i, h1, h2, h3, h4, h5⟩
    · exact h2.symm
    · obtain ⟨j, hj, e, _⟩ := pa_AB hP i (by omega)
      refine absurd ?_ (hno j hj)
      rw [e]
      exact (hin i (by omega)).mpr ⟨h1, h2⟩
  · obtain ⟨i', hi', e', e2'⟩ := pa_AB hP.symm j hj
    rw [← e'] at hj2
    have w := (hin i' hi').mp hj2
    rcases hB with ⟨h1, h2⟩ | ⟨i, h1, h2, h3, h4, h5⟩
    · omega
    · obtain ⟨j0, hj0, e, e2⟩ := pa_AB hP i (by omega)
      have a1 := hj3 j0 hj0 (by rw [e]; exact (hin i (by omega)).mpr ⟨h1, h2⟩)
      rw [e, e2] at a1
      have a2 := h5 i' w.1 w.2
      rw [← e', ← e2'] at a1
      rw [h3, ← e']
      have a3 : i ≤ i' ∧ (K i').toInt ≤ (K i).toInt := by omega
      have a4 := pa_mono hS a3.1 hi'
      exact pa_inj (by omega)
theorem i_vc_closest {k : Nat} {u : SX} {v : SY} (I : i_Rel k u v) (hk : k + 5 ≤ 2560) : wpX_closest (fun r => wpY_closest (fun r' => r' = r ∧ i_Rel (k + 5) u v) v) u := by
  have R := I
  obtain ⟨n, N, K, V, g, ks, vs, sz, hk0, hv, ya, yb, rfl, rfl, hX, hP⟩ := I
  have h48 := hX.1.2.1
  have hS := hX.2.2.2.2
  have hyg := pa_ygd hS hP
  refine pa_xclosest hX (fun x y hx => pa_yclosest h48 hyg (fun z hz => ⟨pa_inj ?_, R⟩))
  have hQ : ∀ {a b}, a < N → b < N → pa_Q N N 0 a b := by
    intro a b ha hb
    unfold pa_Q
    omega
  have hQ' : ∀ {a b}, pa_Q N N 0 a b → a < N ∧ b < N := by
    intro a b hq
    unfold pa_Q at hq
    omega
  have small : N ≤ 1 → z.toInt = 0 := by
    intro h1
    rcases hz with ⟨h2, _⟩ | ⟨h2, ⟨a, b, h3, h4⟩, _⟩
    · exact h2
    · have h5 := hQ' h3
      have h6 : a = b := by omega
      subst h6
      omega
  rcases hx with ⟨h1, h2, _⟩ | ⟨h1, _, ⟨h2, h3⟩ | ⟨i, h2, h3, h4⟩⟩
  · rw [h2, pa_t0]
    exact small (by omega)
  · rw [h3, pa_t0]
    exact small (by omega)
  · have s1 := hS.1 i (i + 1) (by omega) h2
    obtain ⟨ja, hja, ea, _⟩ := pa_AB hP (i + 1) h2
    obtain ⟨jb, hjb, eb, _⟩ := pa_AB hP i (by omega)
    rcases hz with ⟨h5, h6⟩ | ⟨h5, ⟨a, b, h6, h7⟩, h8⟩
    · have := h6 ja jb (hQ hja hjb)
      rw [ea, eb] at this
      omega
    · have t1 := h8 ja jb (hQ hja hjb) (by rw [ea, eb]; exact s1)
      rw [ea, eb] at t1
      have hab := hQ' h6
      obtain ⟨p, hp, ep, _⟩ := pa_AB hP.symm a hab.1
      obtain ⟨l, hl, el, _⟩ := pa_AB hP.symm b hab.2
      rw [← ep, ← el] at h7
      have hlp : l < p := by
        by_cases hlp : l < p
        · exact hlp
        · have := pa_mono hS (i := p) (j := l) (by omega) hl
          omega
      have t2 := h4 l (by omega)
      have t3 := pa_mono hS (i := l + 1) (j := p) (by omega) hp
      omega
theorem i_vc_gap {k : Nat} {u : SX} {v : SY} (I : i_Rel k u v) (hk : k + 5 ≤ 2560) (v1 : Int32) : wpX_gap (fun r => wpY_gap (fun r' => r' = r ∧ i_Rel (k + 5) u v) v v1) u v1 := by
  have R := I
  obtain ⟨n, N, K, V, g, ks, vs, sz, hk0, hv, ya, yb, rfl, rfl, hX, hP⟩ := I
  have h48 := hX.1.2.1
  have toY : ∀ {z : Int32}, (∃ i, i < N ∧ K i = z) → ∃ j, j < N ∧ ya j = z := by
    intro z ⟨i, hi, e⟩
    obtain ⟨j, hj, e2, _⟩ := pa_AB hP i hi
    exact ⟨j, hj, e2.trans e⟩
  have toX : ∀ {z : Int32}, (∃ j, j < N ∧ ya j = z) → ∃ i, i < N ∧ K i = z := by
    intro z ⟨j, hj, e⟩
    obtain ⟨i, hi, e2, _⟩ := pa_AB hP.symm j hj
    exact ⟨i, hi, e2.trans e⟩
  refine pa_xgap hX (fun hall => pa_ygap h48 (fun _ => ⟨rfl, R⟩) (fun y hg hy hlow hno => ?_)) (fun y hg hy hlow hno => pa_ygap h48 (fun hall => ?_) (fun y2 hg2 hy2 hlow2 hno2 => ⟨?_, R⟩))
  · obtain ⟨j, hj, e⟩ := toY (hall y hy hg)
    exact absurd e (hno j hj)
  · obtain ⟨i, hi, e⟩ := toX (hall y hy hg)
    exact absurd e (hno i hi)
  · rcases Int.lt_trichotomy y2.toInt y.toInt with h | h | h
    · obtain ⟨j, hj, e⟩ := toY (hlow y2 hy2 hg2 h)
      exact absurd e (hno2 j hj)
    · exact pa_inj h
    · obtain ⟨i, hi, e⟩ := toX (hlow2 y hy hg h)
      exact absurd e (hno i hi)
end
