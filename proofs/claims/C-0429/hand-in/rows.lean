section
/-! pure rows to paste: stores, nI and lN arithmetic, masks, shifts, narrowing, branches by naturals (pk_le, pk_lt, pk_eq), loops (lp1 .. lp16: the measure of the state; rp1 ..: recursion), negatives. Take what you need -/
theorem pk_us {f : Nat → Int32} {k : Nat} {x : Int32} : upd f k x k = x := if_pos rfl
theorem pk_un {f : Nat → Int32} {k j : Nat} {x : Int32} (h : j ≠ k) : upd f k x j = f j := if_neg h
theorem pk_sub {a b : Nat} (h : b ≤ a) : nI a - nI b = nI (a - b) := by
  obtain ⟨c, rfl⟩ : ∃ c, a = c + b := ⟨a - b, by omega⟩
  rw [← nI_add, Int32.add_sub_cancel, Nat.add_sub_cancel]
theorem pk_m1 (n : Nat) : nI (n + 1) + (-1) = nI n := by
  rw [← nI_1, Int32.add_assoc, show (1 : Int32) + (-1) = 0 from rfl, Int32.add_zero]
theorem pk_mul (a b : Nat) : nI a * nI b = nI (a * b) := (Int32.ofNat_mul a b).symm
theorem pk_div {a d : Nat} (ha : a < 2 ^ 31) (h0 : 0 < d) (hd : d < 2 ^ 31) : nI a / nI d = nI (a / d) := by
  apply Int32.toInt_inj.mp
  rw [lg_idiv_nonneg (by rw [nI_toInt ha]; omega) (by rw [nI_toInt hd]; omega), nI_toInt ha, nI_toInt hd, nI_toInt (Nat.lt_of_le_of_lt (Nat.div_le_self a d) ha)]
  first | rfl | exact (Int.natCast_ediv _ _).symm
theorem pk_rem {a d : Nat} (ha : a < 2 ^ 31) (h0 : 0 < d) (hd : d < 2 ^ 31) : nI a - nI a / nI d * nI d = nI (a % d) := by
  rw [pk_div ha h0 hd, pk_mul, pk_sub (Nat.div_mul_le_self a d)]
  exact congrArg nI (by have := Nat.div_add_mod' a d; omega)
theorem pk_sub_toInt {a b : Nat} (ha : a < 2 ^ 30) (hb : b < 2 ^ 30) : (nI a - nI b).toInt = (a : Int) - b := by
  rw [Int32.toInt_sub, nI_toInt (by omega), nI_toInt (by omega)]
  exact Int.bmod_eq_of_le (by omega) (by omega)
theorem pk_sneg {a b : Nat} (hb : b < 2 ^ 30) (h : a < b) : nI a - nI b < 0 := by
  rw [Int32.lt_iff_toInt_lt, pk_sub_toInt (by omega) hb, show (0 : Int32).toInt = 0 from by decide]
  omega
theorem pk_ix (x : Int32) {n : Nat} (hn : n < 2 ^ 31) : x < 0 ∨ nI n ≤ x ∨ ∃ j : Nat, j < n ∧ x = nI j := by
  by_cases h : x < 0
  · exact Or.inl h
  · obtain ⟨j, hj, rfl⟩ := nI_of h
    by_cases h2 : j < n
    · exact Or.inr (Or.inr ⟨j, h2, rfl⟩)
    · exact Or.inr (Or.inl (nI_le (by omega) hj))
theorem pk_le {x y : Int32} {A B : Prop} (a b : Nat) (f : a ≤ b → A) (g : b < a → B) (hx : x = nI a := by rfl) (hy : y = nI b := by rfl) (ha : a < 2 ^ 31 := by omega) (hb : b < 2 ^ 31 := by omega) : (x ≤ y → A) ∧ (¬ x ≤ y → B) := by
  subst hx hy
  rw [nI_leI ha hb]
  exact ⟨f, fun z => g (by omega)⟩
theorem pk_lt {x y : Int32} {A B : Prop} (a b : Nat) (f : a < b → A) (g : b ≤ a → B) (hx : x = nI a := by rfl) (hy : y = nI b := by rfl) (ha : a < 2 ^ 31 := by omega) (hb : b < 2 ^ 31 := by omega) : (x < y → A) ∧ (¬ x < y → B) := by
  subst hx hy
  rw [nI_ltI ha hb]
  exact ⟨f, fun z => g (by omega)⟩
theorem pk_eq {x y : Int32} {A B : Prop} (a b : Nat) (f : a = b → A) (g : a ≠ b → B) (hx : x = nI a := by rfl) (hy : y = nI b := by rfl) (ha : a < 2 ^ 31 := by omega) (hb : b < 2 ^ 31 := by omega) : (x = y → A) ∧ (¬ x = y → B) := by
  subst hx hy
  rw [nI_eq ha hb]
  exact ⟨f, g⟩
theorem pk_in {x : Int32} (n N : Nat) (h : n < N) (hx : x = nI n := by rfl) (hN : N < 2 ^ 31 := by omega) : vp_in x N := by
  subst hx
  exact vp_in_nI h hN
theorem pk_cl {x : Int32} (n : Nat) (hx : x = nI n := by rfl) (h : n < 2 ^ 31 := by omega) : x.toNatClampNeg = n := by
  subst hx
  exact nI_clamp h
end
section
/-! the lattice, in naturals: neighbours, counts, worths, sums, the tree of partial sums -/
/-- neighbour k of site s on the torus of 8 rows and 6 columns -/
def kl_nb (s k : Nat) : Nat :=
  if k = 0 then s / 6 * 6 + (s % 6 + 1) % 6
  else if k = 1 then s / 6 * 6 + (s % 6 + 5) % 6
  else if k = 2 then (s / 6 + 1) % 8 * 6 + s % 6
  else (s / 6 + 7) % 8 * 6 + s % 6
theorem kl_nb_lt {s k : Nat} (hs : s < 48) : kl_nb s k < 48 := by
  unfold kl_nb
  split
  · omega
  · split
    · omega
    · split <;> omega
/-- the neighbour's number seen from the other side -/
theorem kl_nb_back : ∀ j, j < 48 → ∀ k, k < 4 → kl_nb (kl_nb j k) (if k % 2 = 0 then k + 1 else k - 1) = j := by decide +kernel
theorem kl_nb_ne : ∀ j, j < 48 → ∀ k, k < 4 → kl_nb j k ≠ j := by decide +kernel
def kl_is (x c : Int32) : Nat := if x = c then 1 else 0
theorem kl_is_le (x c : Int32) : kl_is x c ≤ 1 := by
  unfold kl_is
  split <;> omega
/-- how many of the first k neighbours of s are in state c -/
def kl_ct (S : Nat → Int32) (c : Int32) (s : Nat) : Nat → Nat
  | 0 => 0
  | k + 1 => kl_ct S c s k + kl_is (S (kl_nb s k)) c
theorem kl_ct_t {S : Nat → Int32} {c : Int32} {s k : Nat} (h : S (kl_nb s k) = c) : kl_ct S c s (k + 1) = kl_ct S c s k + 1 := by
  show kl_ct S c s k + kl_is (S (kl_nb s k)) c = _
  rw [kl_is, if_pos h]
theorem kl_ct_f {S : Nat → Int32} {c : Int32} {s k : Nat} (h : ¬ S (kl_nb s k) = c) : kl_ct S c s (k + 1) = kl_ct S c s k := by
  show kl_ct S c s k + kl_is (S (kl_nb s k)) c = _
  rw [kl_is, if_neg h]
  rfl
theorem kl_ct_le (S : Nat → Int32) (c : Int32) (s k : Nat) : kl_ct S c s k ≤ k := by
  induction k with
  | zero => exact Nat.le_refl 0
  | succ k ih =>
    have h := kl_is_le (S (kl_nb s k)) c
    show kl_ct S c s k + kl_is (S (kl_nb s k)) c ≤ k + 1
    omega
theorem kl_ct_congr {S S' : Nat → Int32} {s : Nat} (c : Int32) : ∀ m, (∀ k, k < m → S' (kl_nb s k) = S (kl_nb s k)) → kl_ct S' c s m = kl_ct S c s m := by
  intro m
  induction m with
  | zero => exact fun _ => rfl
  | succ m ih =>
    intro h
    show kl_ct S' c s m + kl_is (S' (kl_nb s m)) c = kl_ct S c s m + kl_is (S (kl_nb s m)) c
    rw [ih (fun k hk => h k (by omega)), h m (by omega)]
/-- a rate as a natural; the rates are in range -/
def kl_r (R : Nat → Int32) (i : Nat) : Nat := (R i).toNatClampNeg
def kl_RO (R : Nat → Int32) : Prop := ∀ i, i < 7 → kl_r R i ≤ 1000 ∧ R i = nI (kl_r R i)
theorem kl_RO_upd {R : Nat → Int32} (h : kl_RO R) {w m : Nat} (hm : m ≤ 1000) : kl_RO (upd R w (nI m)) := by
  intro i hi
  by_cases e : i = w
  · subst e
    unfold kl_r
    rw [pk_us, nI_clamp (by omega)]
    exact ⟨hm, rfl⟩
  · unfold kl_r
    rw [pk_un e]
    exact h i hi
def kl_SO (S : Nat → Int32) : Prop := ∀ s, s < 48 → S s = 0 ∨ S s = 1 ∨ S s = 2
theorem kl_SO_upd {S : Nat → Int32} (h : kl_SO S) {w : Nat} {x : Int32} (hx : x = 0 ∨ x = 1 ∨ x = 2) : kl_SO (upd S w x) := by
  intro i hi
  by_cases e : i = w
  · subst e
    rw [pk_us]
    exact hx
  · rw [pk_un e]
    exact h i hi
def kl_NO (N : Nat → Int32) : Prop := ∀ s k, s < 48 → k < 4 → N (s * 4 + k) = nI (kl_nb s k)
/-- the sum of the rates of a site's events -/
def kl_wo (R S : Nat → Int32) (s : Nat) : Nat :=
  if S s = 0 then kl_r R 5 else if S s = 1 then kl_r R (kl_ct S 1 s 4) + kl_ct S 0 s 4 * kl_r R 6 else 0
def kl_W (R S : Nat → Int32) (s : Nat) : Nat := if s < 48 then kl_wo R S s else 0
theorem kl_wo_le {R S : Nat → Int32} (hR : kl_RO R) (s : Nat) : kl_wo R S s ≤ 5000 := by
  unfold kl_wo
  split
  · have := (hR 5 (by omega)).1
    omega
  · split
    · have h1 := kl_ct_le S 1 s 4
      have h2 := kl_ct_le S 0 s 4
      have h3 := (hR (kl_ct S 1 s 4) (by omega)).1
      have h4 := Nat.mul_le_mul h2 (hR 6 (by omega)).1
      omega
    · omega
theorem kl_W_le {R S : Nat → Int32} (hR : kl_RO R) (s : Nat) : kl_W R S s ≤ 5000 := by
  unfold kl_W
  split
  · exact kl_wo_le hR s
  · omega
theorem kl_W_in {R S : Nat → Int32} {s : Nat} (hs : s < 48) : kl_W R S s = kl_wo R S s := if_pos hs
theorem kl_W_out {R S : Nat → Int32} {s : Nat} (hs : 48 ≤ s) : kl_W R S s = 0 := if_neg (by omega)
/-- a site that is neither s nor beside s keeps its worth when s changes -/
theorem kl_W_upd {R S : Nat → Int32} {s j : Nat} {x : Int32} (hs : s < 48) (hj : j ≠ s) (hn : ∀ i, i < 4 → j ≠ kl_nb s i) : kl_W R (upd S s x) j = kl_W R S j := by
  by_cases h : j < 48
  · have hk : ∀ k, k < 4 → upd S s x (kl_nb j k) = S (kl_nb j k) := by
      intro k hk
      refine pk_un ?_
      intro e
      have hb := kl_nb_back j h k hk
      rw [e] at hb
      refine hn (if k % 2 = 0 then k + 1 else k - 1) ?_ hb.symm
      split <;> omega
    rw [kl_W_in h, kl_W_in h]
    unfold kl_wo
    rw [pk_un hj, kl_ct_congr 1 4 hk, kl_ct_congr 0 4 hk]
  · rw [kl_W_out (by omega), kl_W_out (by omega)]
/-- sums of naturals -/
def kl_P (g : Nat → Nat) : Nat → Nat
  | 0 => 0
  | n + 1 => kl_P g n + g n
theorem kl_P_s (g : Nat → Nat) (n : Nat) : kl_P g (n + 1) = kl_P g n + g n := rfl
theorem kl_P_mono (g : Nat → Nat) {a b : Nat} (h : a ≤ b) : kl_P g a ≤ kl_P g b := by
  obtain ⟨c, rfl⟩ : ∃ c, b = a + c := ⟨b - a, by omega⟩
  clear h
  induction c with
  | zero => exact Nat.le_refl _
  | succ c ih => exact Nat.le_trans ih (Nat.le_add_right _ _)
theorem kl_P_le {g : Nat → Nat} {c : Nat} (hg : ∀ i, g i ≤ c) (n : Nat) : kl_P g n ≤ n * c := by
  induction n with
  | zero => exact Nat.zero_le _
  | succ n ih =>
    have h := hg n
    rw [kl_P_s, Nat.succ_mul]
    omega
theorem kl_P_tail {g : Nat → Nat} (hg : ∀ j, 48 ≤ j → g j = 0) (c : Nat) : kl_P g (48 + c) = kl_P g 48 := by
  induction c with
  | zero => rfl
  | succ c ih =>
    show kl_P g (48 + c) + g (48 + c) = _
    rw [ih, hg (48 + c) (by omega)]
    rfl
theorem kl_P_congr {g g' : Nat → Nat} (n : Nat) (h : ∀ j, j < n → g' j = g j) : kl_P g' n = kl_P g n := by
  induction n with
  | zero => rfl
  | succ n ih =>
    rw [kl_P_s, kl_P_s, ih (fun j hj => h j (by omega)), h n (by omega)]
theorem kl_P_add (g h : Nat → Nat) (n : Nat) : kl_P (fun j => g j + h j) n = kl_P g n + kl_P h n := by
  induction n with
  | zero => rfl
  | succ n ih =>
    rw [kl_P_s, kl_P_s, kl_P_s, ih]
    omega
/-- the step of a running sum that holds r -/
theorem kl_P_find (g : Nat → Nat) (r : Nat) : ∀ n, r < kl_P g n → ∃ s, s < n ∧ kl_P g s ≤ r ∧ r < kl_P g (s + 1) := by
  intro n
  induction n with
  | zero => exact fun h => absurd h (Nat.not_lt_zero r)
  | succ n ih =>
    intro h
    by_cases hr : r < kl_P g n
    · obtain ⟨s, h1, h2, h3⟩ := ih hr
      exact ⟨s, by omega, h2, h3⟩
    · exact ⟨n, by omega, by omega, h⟩
theorem kl_P_one {g : Nat → Nat} {r a b : Nat} (ha : kl_P g a ≤ r) (ha' : r < kl_P g (a + 1)) (hb : kl_P g b ≤ r) (hb' : r < kl_P g (b + 1)) : a = b := by
  rcases Nat.lt_trichotomy a b with h | h | h
  · have := kl_P_mono g (a := a + 1) (b := b) h
    omega
  · exact h
  · have := kl_P_mono g (a := b + 1) (b := a) h
    omega
theorem kl_P_list (g : Nat → Nat) (n : Nat) : kl_P g n = ((List.range n).map g).sum := by
  induction n with
  | zero => rfl
  | succ n ih =>
    rw [kl_P_s, ih, List.range_succ, List.map_append, List.sum_append]
    simp
/-- sums of ints -/
def kl_S (f : Nat → Int32) : Nat → Int32
  | 0 => 0
  | n + 1 => kl_S f n + f n
theorem kl_S_s (f : Nat → Int32) (n : Nat) : kl_S f (n + 1) = kl_S f n + f n := rfl
theorem kl_S_P {f : Nat → Int32} {g : Nat → Nat} (h : ∀ j, f j = nI (g j)) (n : Nat) : kl_S f n = nI (kl_P g n) := by
  induction n with
  | zero => exact nI_0.symm
  | succ n ih => rw [kl_S_s, kl_P_s, ih, h n, nI_add]
theorem kl_S_0 (n : Nat) : kl_S (fun _ => 0) n = 0 := by
  induction n with
  | zero => rfl
  | succ n ih =>
    rw [kl_S_s, ih]
    rfl
theorem kl_S_upd (f : Nat → Int32) (s : Nat) (x : Int32) (n : Nat) : kl_S (upd f s x) n = if s < n then kl_S f n + (x - f s) else kl_S f n := by
  induction n with
  | zero => exact (if_neg (Nat.not_lt_zero s)).symm
  | succ n ih =>
    rw [kl_S_s, kl_S_s, ih]
    rcases Nat.lt_trichotomy s n with h | h | h
    · rw [if_pos h, if_pos (show s < n + 1 by omega), pk_un (show n ≠ s by omega)]
      grind
    · subst h
      rw [if_neg (Nat.lt_irrefl s), if_pos (Nat.lt_succ_self s), pk_us]
      grind
    · rw [if_neg (show ¬ s < n by omega), if_neg (show ¬ s < n + 1 by omega), pk_un (show n ≠ s by omega)]
/-- the lowest bit of a cell's number -/
def kl_lo (i : Nat) : Nat :=
  if i % 2 = 1 then 1 else if i % 4 = 2 then 2 else if i % 8 = 4 then 4 else if i % 16 = 8 then 8 else if i % 32 = 16 then 16 else if i % 64 = 32 then 32 else 64
theorem kl_lo_I : ∀ i, i < 65 → 0 < i → nI i &&& -nI i = nI (kl_lo i) := by decide +kernel
theorem kl_lo_b : ∀ i, i < 65 → 0 < i → 0 < kl_lo i ∧ kl_lo i ≤ i := by decide +kernel
/-- the tree holds partial sums of M -/
def kl_Fen (T M : Nat → Int32) : Prop := ∀ i, i < 65 → 0 < i → T i = kl_S M i - kl_S M (i - kl_lo i)
theorem kl_Fen_0 : kl_Fen (fun _ => 0) (fun _ => 0) := by
  intro i _ _
  rw [kl_S_0, kl_S_0]
  rfl
/-- the cells that a change at i and upwards reaches, and the change -/
def kl_ch : Nat → Nat → Nat → Bool
  | 0, _, _ => false
  | n + 1, i, j => if 64 < i then false else if i = j then true else kl_ch n (i + kl_lo i) j
def kl_ad (d : Int32) : Nat → Nat → (Nat → Int32) → (Nat → Int32)
  | 0, _, T => T
  | n + 1, i, T => if 64 < i then T else kl_ad d n (i + kl_lo i) (upd T i (T i + d))
theorem kl_ch_s (n i j : Nat) : kl_ch (n + 1) i j = if 64 < i then false else if i = j then true else kl_ch n (i + kl_lo i) j := rfl
theorem kl_ad_s (d : Int32) (n i : Nat) (T : Nat → Int32) : kl_ad d (n + 1) i T = if 64 < i then T else kl_ad d n (i + kl_lo i) (upd T i (T i + d)) := rfl
theorem kl_ch_ge : ∀ n i j, 0 < i → kl_ch n i j = true → i ≤ j := by
  intro n
  induction n with
  | zero => exact fun i j _ h => absurd h Bool.false_ne_true
  | succ n ih =>
    intro i j h0 h
    rw [kl_ch_s] at h
    by_cases h64 : 64 < i
    · rw [if_pos h64] at h
      exact absurd h (by decide)
    · rw [if_neg h64] at h
      by_cases e : i = j
      · omega
      · rw [if_neg e] at h
        have := ih _ _ (by omega) h
        omega
theorem kl_ad_at (d : Int32) : ∀ n i (T : Nat → Int32) j, 0 < i → kl_ad d n i T j = if kl_ch n i j = true then T j + d else T j := by
  intro n
  induction n with
  | zero =>
    intro i T j _
    rw [if_neg (show ¬ kl_ch 0 i j = true from Bool.false_ne_true)]
    rfl
  | succ n ih =>
    intro i T j h0
    rw [kl_ad_s, kl_ch_s]
    by_cases h64 : 64 < i
    · rw [if_pos h64, if_pos h64, if_neg Bool.false_ne_true]
    · have hl := kl_lo_b i (by omega) h0
      rw [if_neg h64, if_neg h64, ih _ _ _ (by omega)]
      by_cases e : i = j
      · subst e
        have hc : ¬ kl_ch n (i + kl_lo i) i = true := by
          intro h
          have := kl_ch_ge _ _ _ (by omega) h
          omega
        rw [if_neg hc, if_pos rfl, if_pos rfl, pk_us]
      · rw [if_neg e, pk_un (fun z => e z.symm)]
theorem kl_ch_iff : ∀ s, s < 64 → ∀ j, j < 65 → 0 < j → kl_ch 64 (s + 1) j = decide (j - kl_lo j ≤ s ∧ s < j) := by decide +kernel
theorem kl_Fen_upd {T M : Nat → Int32} (h : kl_Fen T M) {s : Nat} (hs : s < 64) (x : Int32) : kl_Fen (kl_ad (x - M s) 64 (s + 1) T) (upd M s x) := by
  intro j hj h0
  rw [kl_ad_at _ _ _ _ _ (by omega), kl_ch_iff s hs j hj h0, kl_S_upd, kl_S_upd, h j hj h0]
  generalize kl_S M j = a
  generalize kl_S M (j - kl_lo j) = b
  generalize x - M s = d
  have hl := kl_lo_b j hj h0
  by_cases h1 : s < j
  · by_cases h2 : s < j - kl_lo j
    · rw [if_pos h1, if_pos h2, if_neg (by rw [decide_eq_true_eq]; omega)]
      grind
    · rw [if_pos h1, if_neg h2, if_pos (by rw [decide_eq_true_eq]; omega)]
      grind
  · rw [if_neg h1, if_neg (show ¬ s < j - kl_lo j by omega), if_neg (by rw [decide_eq_true_eq]; omega)]
/-- who is occupied -/
def kl_o (S : Nat → Int32) : Nat → Int32 := fun j => if S j = 1 then 1 else 0
theorem kl_o_upd (S : Nat → Int32) (s : Nat) (x : Int32) : kl_o (upd S s x) = upd (kl_o S) s (if x = 1 then 1 else 0) := by
  funext j
  by_cases e : j = s
  · subst e
    unfold kl_o
    rw [pk_us, pk_us]
  · rw [pk_un e]
    unfold kl_o
    rw [pk_un e]
/-- what holds between turns -/
def kl_I (p : Int32) (R S N M T : Nat → Int32) : Prop := kl_RO R ∧ kl_SO S ∧ kl_NO N ∧ kl_Fen T M ∧ (∀ j, M j = nI (kl_W R S j)) ∧ p = kl_S (kl_o S) 48
theorem kl_tot_le {R S : Nat → Int32} (hR : kl_RO R) {n : Nat} (hn : n ≤ 64) : kl_P (kl_W R S) n ≤ 320000 := by
  have h := kl_P_le (kl_W_le (S := S) hR) n
  omega
end
section
/-! the events of a site and their running sums -/
/-- the rate of event e of site s: 0 adsorb, 1 desorb, 2 to 5 the hops -/
def kl_ev (R S : Nat → Int32) (s e : Nat) : Nat :=
  if S s = 0 then (if e = 0 then kl_r R 5 else 0)
  else if S s = 2 then 0
  else if e = 0 then 0
  else if e = 1 then kl_r R (kl_ct S 1 s 4)
  else if S (kl_nb s (e - 2)) = 0 then kl_r R 6 else 0
theorem kl_ev_le {R S : Nat → Int32} (hR : kl_RO R) (s e : Nat) : kl_ev R S s e ≤ 1000 := by
  have h5 := (hR 5 (by omega)).1
  have h6 := (hR 6 (by omega)).1
  have hc := kl_ct_le S 1 s 4
  have hn := (hR (kl_ct S 1 s 4) (by omega)).1
  unfold kl_ev
  split
  · split <;> omega
  · split
    · omega
    · split
      · omega
      · split
        · omega
        · split <;> omega
/-- the rate of the hop to neighbour k -/
def kl_h (R S : Nat → Int32) (s : Nat) : Nat → Nat := fun k => kl_is (S (kl_nb s k)) 0 * kl_r R 6
theorem kl_h_t {R S : Nat → Int32} {s k : Nat} (h : S (kl_nb s k) = 0) : kl_h R S s k = kl_r R 6 := by
  unfold kl_h kl_is
  rw [if_pos h, Nat.one_mul]
theorem kl_h_f {R S : Nat → Int32} {s k : Nat} (h : ¬ S (kl_nb s k) = 0) : kl_h R S s k = 0 := by
  unfold kl_h kl_is
  rw [if_neg h, Nat.zero_mul]
theorem kl_h_le {R S : Nat → Int32} (hR : kl_RO R) (s k : Nat) : kl_h R S s k ≤ 1000 := by
  by_cases h : S (kl_nb s k) = 0
  · rw [kl_h_t h]
    exact (hR 6 (by omega)).1
  · rw [kl_h_f h]
    omega
theorem kl_h_ct (R S : Nat → Int32) (s k : Nat) : kl_P (kl_h R S s) k = kl_ct S 0 s k * kl_r R 6 := by
  induction k with
  | zero => exact (Nat.zero_mul _).symm
  | succ k ih =>
    rw [kl_P_s, ih]
    show _ = (kl_ct S 0 s k + kl_is (S (kl_nb s k)) 0) * kl_r R 6
    rw [Nat.add_mul]
    rfl
section
variable {R S : Nat → Int32} {s : Nat}
theorem kl_ev_00 (h : S s = 0) : kl_ev R S s 0 = kl_r R 5 := by
  unfold kl_ev
  rw [if_pos h, if_pos rfl]
theorem kl_ev_0s (h : S s = 0) (e : Nat) : kl_ev R S s (e + 1) = 0 := by
  unfold kl_ev
  rw [if_pos h, if_neg (Nat.succ_ne_zero e)]
theorem kl_ev_2 (h : S s = 2) (e : Nat) : kl_ev R S s e = 0 := by
  unfold kl_ev
  rw [if_neg (by rw [h]; decide +kernel), if_pos h]
theorem kl_ev_10 (h : S s = 1) : kl_ev R S s 0 = 0 := by
  unfold kl_ev
  rw [if_neg (by rw [h]; decide +kernel), if_neg (by rw [h]; decide +kernel), if_pos rfl]
theorem kl_ev_11 (h : S s = 1) : kl_ev R S s 1 = kl_r R (kl_ct S 1 s 4) := by
  unfold kl_ev
  rw [if_neg (by rw [h]; decide +kernel), if_neg (by rw [h]; decide +kernel), if_neg (by decide), if_pos rfl]
theorem kl_ev_1h (h : S s = 1) (k : Nat) : kl_ev R S s (k + 2) = kl_h R S s k := by
  unfold kl_ev
  rw [if_neg (by rw [h]; decide +kernel), if_neg (by rw [h]; decide +kernel), if_neg (by omega), if_neg (by omega), Nat.add_sub_cancel]
  by_cases hz : S (kl_nb s k) = 0
  · rw [if_pos hz, kl_h_t hz]
  · rw [if_neg hz, kl_h_f hz]
/-- running sums inside a site -/
theorem kl_es_0 (h : S s = 0) (e : Nat) : kl_P (kl_ev R S s) (e + 1) = kl_r R 5 := by
  induction e with
  | zero =>
    show 0 + kl_ev R S s 0 = _
    rw [kl_ev_00 h, Nat.zero_add]
  | succ e ih => rw [kl_P_s, ih, kl_ev_0s h, Nat.add_zero]
theorem kl_es_2 (h : S s = 2) (e : Nat) : kl_P (kl_ev R S s) e = 0 := by
  induction e with
  | zero => rfl
  | succ e ih => rw [kl_P_s, ih, kl_ev_2 h]
theorem kl_es_1 (h : S s = 1) : kl_P (kl_ev R S s) 1 = 0 := by
  show 0 + kl_ev R S s 0 = 0
  rw [kl_ev_10 h]
theorem kl_es_h (h : S s = 1) (k : Nat) : kl_P (kl_ev R S s) (k + 2) = kl_r R (kl_ct S 1 s 4) + kl_P (kl_h R S s) k := by
  induction k with
  | zero =>
    show kl_P (kl_ev R S s) 1 + kl_ev R S s 1 = _
    rw [kl_es_1 h, kl_ev_11 h, Nat.zero_add]
    rfl
  | succ k ih =>
    rw [kl_P_s _ (k + 2), ih, kl_ev_1h h, kl_P_s, Nat.add_assoc]
theorem kl_es_wo (h : S s = 0 ∨ S s = 1 ∨ S s = 2) : kl_P (kl_ev R S s) 6 = kl_wo R S s := by
  unfold kl_wo
  rcases h with h | h | h
  · rw [if_pos h]
    exact kl_es_0 h 5
  · rw [if_neg (by rw [h]; decide +kernel), if_pos h, kl_es_h h 4, kl_h_ct]
  · rw [if_neg (by rw [h]; decide +kernel), if_neg (by rw [h]; decide +kernel)]
    exact kl_es_2 h 6
end
/-- all events in a row -/
def kl_e (R S : Nat → Int32) : Nat → Nat := fun i => kl_ev R S (i / 6) (i % 6)
theorem kl_e_at (R S : Nat → Int32) (s : Nat) : ∀ e, e ≤ 6 → kl_P (kl_e R S) (6 * s + e) = kl_P (kl_e R S) (6 * s) + kl_P (kl_ev R S s) e := by
  intro e
  induction e with
  | zero => exact fun _ => rfl
  | succ e ih =>
    intro he
    show kl_P (kl_e R S) (6 * s + e) + kl_ev R S ((6 * s + e) / 6) ((6 * s + e) % 6) = _
    rw [ih (by omega), show (6 * s + e) / 6 = s by omega, show (6 * s + e) % 6 = e by omega, kl_P_s, Nat.add_assoc]
theorem kl_e_row {R S : Nat → Int32} (hS : kl_SO S) : ∀ s, s ≤ 48 → kl_P (kl_e R S) (6 * s) = kl_P (kl_W R S) s := by
  intro s
  induction s with
  | zero => exact fun _ => rfl
  | succ s ih =>
    intro hs
    rw [show 6 * (s + 1) = 6 * s + 6 by omega, kl_e_at R S s 6 (by omega), ih (by omega), kl_P_s (kl_W R S) s, kl_W_in (s := s) (by omega), kl_es_wo (hS s (by omega))]
theorem kl_e_sum {R S : Nat → Int32} (hS : kl_SO S) {s e : Nat} (hs : s < 48) (he : e ≤ 6) : kl_P (kl_e R S) (6 * s + e) = kl_P (kl_W R S) s + kl_P (kl_ev R S s) e := by
  rw [kl_e_at R S s e he, kl_e_row hS s (by omega)]
theorem kl_e_le {R S : Nat → Int32} (hR : kl_RO R) {n : Nat} (hn : n ≤ 288) : kl_P (kl_e R S) n ≤ 288000 := by
  have h := kl_P_le (g := kl_e R S) (c := 1000) (fun i => kl_ev_le hR _ _) n
  omega
/-- pairs: those to the right and below, and twice all -/
def kl_px (S : Nat → Int32) : Nat → Nat := fun s => if S s = 1 then kl_is (S (kl_nb s 0)) 1 + kl_is (S (kl_nb s 2)) 1 else 0
def kl_py (S : Nat → Int32) : Nat → Nat := fun s => if S s = 1 then kl_ct S 1 s 4 else 0
theorem kl_re0 (g : Nat → Nat) : kl_P (fun t => g (kl_nb t 0)) 48 = kl_P g 48 := by
  have hp : List.Perm ((List.range 48).map (fun t => kl_nb t 0)) (List.range 48) := by decide +kernel
  have h := (hp.map g).sum_nat
  rw [List.map_map] at h
  rw [kl_P_list, kl_P_list]
  exact h
theorem kl_re2 (g : Nat → Nat) : kl_P (fun t => g (kl_nb t 2)) 48 = kl_P g 48 := by
  have hp : List.Perm ((List.range 48).map (fun t => kl_nb t 2)) (List.range 48) := by decide +kernel
  have h := (hp.map g).sum_nat
  rw [List.map_map] at h
  rw [kl_P_list, kl_P_list]
  exact h
def kl_pr (S : Nat → Int32) (k : Nat) : Nat → Nat := fun s => kl_is (S s) 1 * kl_is (S (kl_nb s k)) 1
theorem kl_pr1 (S : Nat → Int32) : kl_P (kl_pr S 1) 48 = kl_P (kl_pr S 0) 48 := by
  rw [← kl_re0 (kl_pr S 1)]
  refine kl_P_congr 48 (fun t ht => ?_)
  have hb : kl_nb (kl_nb t 0) 1 = t := kl_nb_back t ht 0 (by omega)
  show kl_is (S (kl_nb t 0)) 1 * kl_is (S (kl_nb (kl_nb t 0) 1)) 1 = kl_is (S t) 1 * kl_is (S (kl_nb t 0)) 1
  rw [hb, Nat.mul_comm]
theorem kl_pr3 (S : Nat → Int32) : kl_P (kl_pr S 3) 48 = kl_P (kl_pr S 2) 48 := by
  rw [← kl_re2 (kl_pr S 3)]
  refine kl_P_congr 48 (fun t ht => ?_)
  have hb : kl_nb (kl_nb t 2) 3 = t := kl_nb_back t ht 2 (by omega)
  show kl_is (S (kl_nb t 2)) 1 * kl_is (S (kl_nb (kl_nb t 2) 3)) 1 = kl_is (S t) 1 * kl_is (S (kl_nb t 2)) 1
  rw [hb, Nat.mul_comm]
theorem kl_px_pr (S : Nat → Int32) (s : Nat) : kl_px S s = kl_pr S 0 s + kl_pr S 2 s := by
  unfold kl_px kl_pr
  by_cases h : S s = 1
  · rw [if_pos h, show kl_is (S s) 1 = 1 from if_pos h]
    omega
  · rw [if_neg h, show kl_is (S s) 1 = 0 from if_neg h]
    omega
theorem kl_py_pr (S : Nat → Int32) (s : Nat) : kl_py S s = (kl_pr S 0 s + kl_pr S 1 s) + (kl_pr S 2 s + kl_pr S 3 s) := by
  unfold kl_py kl_pr
  have hc : kl_ct S 1 s 4 = 0 + kl_is (S (kl_nb s 0)) 1 + kl_is (S (kl_nb s 1)) 1 + kl_is (S (kl_nb s 2)) 1 + kl_is (S (kl_nb s 3)) 1 := rfl
  by_cases h : S s = 1
  · rw [if_pos h, hc, show kl_is (S s) 1 = 1 from if_pos h]
    omega
  · rw [if_neg h, show kl_is (S s) 1 = 0 from if_neg h]
    omega
theorem kl_pairs (S : Nat → Int32) : kl_P (kl_py S) 48 = kl_P (kl_px S) 48 * 2 := by
  rw [kl_P_congr 48 (fun s _ => kl_py_pr S s), kl_P_congr 48 (fun s _ => kl_px_pr S s), kl_P_add (fun s => kl_pr S 0 s + kl_pr S 1 s) (fun s => kl_pr S 2 s + kl_pr S 3 s), kl_P_add (kl_pr S 0) (kl_pr S 1), kl_P_add (kl_pr S 2) (kl_pr S 3), kl_P_add (kl_pr S 0) (kl_pr S 2), kl_pr1, kl_pr3]
  omega
theorem kl_px_le (S : Nat → Int32) (n : Nat) (hn : n ≤ 48) : kl_P (kl_px S) n ≤ 96 := by
  have h := kl_P_le (g := kl_px S) (c := 2) (fun s => by
    unfold kl_px
    have h1 := kl_is_le (S (kl_nb s 0)) 1
    have h2 := kl_is_le (S (kl_nb s 2)) 1
    split <;> omega) n
  omega
end
section
/-! the component's walks that only read -/
section
variable {p : Int32} {R S N M T E : Nat → Int32}
theorem kl_ix {s k : Nat} : nI s * 4 + nI k = nI (s * 4 + k) := by
  rw [show (4 : Int32) = nI 4 from rfl, pk_mul, nI_add]
theorem kl_occ_l {post : Int32 → Prop} (hN : kl_NO N) {s : Nat} (hs : s < 48) (hp : post (nI (kl_ct S 1 s 4))) : ∀ d k, k + d = 4 → wX_occupiedAround_4 post (nI s) p R S N M T E (d + 1) (nI (kl_ct S 1 s k)) (nI k) := by
  intro d
  induction d with
  | zero =>
    intro k hk
    have hk4 : k = 4 := by omega
    subst hk4
    exact br_t (by decide +kernel) hp
  | succ d ih =>
    intro k hk
    have hn := hN s k hs (by omega)
    have hl := kl_nb_lt (k := k) hs
    refine br_f (nI_ge (b := 4) (by omega) (by decide)) ?_
    rw [kl_ix, nI_clamp (n := s * 4 + k) (by omega), hn, nI_clamp (n := kl_nb s k) (by omega)]
    refine ⟨vp_in_nI (by omega) (by decide), vp_in_nI hl (by decide), ?_⟩
    have h := ih (k + 1) (by omega)
    by_cases hz : S (kl_nb s k) = 1
    · rw [kl_ct_t hz] at h
      exact br_t hz (nm_r (nI_1 _) (nm_r (nI_1 _) h))
    · rw [kl_ct_f hz] at h
      exact br_f hz (nm_r (nI_1 _) h)
theorem kl_occ {post : Int32 → Prop} (hN : kl_NO N) {s : Nat} (hs : s < 48) (hp : post (nI (kl_ct S 1 s 4))) : wpX_occupiedAround post (p, R, S, N, M, T, E) (nI s) :=
  ⟨5, kl_occ_l hN hs hp 4 0 rfl⟩
theorem kl_emp_l {post : Int32 → Prop} (hN : kl_NO N) {s : Nat} (hs : s < 48) (hp : post (nI (kl_ct S 0 s 4))) : ∀ d k, k + d = 4 → wX_emptyAround_4 post (nI s) p R S N M T E (d + 1) (nI (kl_ct S 0 s k)) (nI k) := by
  intro d
  induction d with
  | zero =>
    intro k hk
    have hk4 : k = 4 := by omega
    subst hk4
    exact br_t (by decide +kernel) hp
  | succ d ih =>
    intro k hk
    have hn := hN s k hs (by omega)
    have hl := kl_nb_lt (k := k) hs
    refine br_f (nI_ge (b := 4) (by omega) (by decide)) ?_
    rw [kl_ix, nI_clamp (n := s * 4 + k) (by omega), hn, nI_clamp (n := kl_nb s k) (by omega)]
    refine ⟨vp_in_nI (by omega) (by decide), vp_in_nI hl (by decide), ?_⟩
    have h := ih (k + 1) (by omega)
    by_cases hz : S (kl_nb s k) = 0
    · rw [kl_ct_t hz] at h
      exact br_t hz (nm_r (nI_1 _) (nm_r (nI_1 _) h))
    · rw [kl_ct_f hz] at h
      exact br_f hz (nm_r (nI_1 _) h)
theorem kl_emp {post : Int32 → Prop} (hN : kl_NO N) {s : Nat} (hs : s < 48) (hp : post (nI (kl_ct S 0 s 4))) : wpX_emptyAround post (p, R, S, N, M, T, E) (nI s) :=
  ⟨5, kl_emp_l hN hs hp 4 0 rfl⟩
theorem kl_worth {post : Int32 → Prop} (hR : kl_RO R) (hN : kl_NO N) {s : Nat} (hs : s < 48) (hp : post (nI (kl_wo R S s))) : wpX_worth post (p, R, S, N, M, T, E) (nI s) := by
  unfold wpX_worth
  dsimp only
  rw [nI_clamp (n := s) (by omega)]
  refine ⟨vp_in_nI hs (by decide), ?_⟩
  unfold kl_wo at hp
  by_cases h0 : S s = 0
  · rw [if_pos h0, ← (hR 5 (by omega)).2] at hp
    exact br_t h0 hp
  · rw [if_neg h0] at hp
    refine br_f h0 ⟨vp_in_nI hs (by decide), ?_⟩
    by_cases h1 : S s = 1
    · rw [if_pos h1] at hp
      refine br_t h1 ?_
      refine kl_occ hN hs ?_
      refine kl_emp hN hs ?_
      have hc := kl_ct_le S 1 s 4
      rw [nI_clamp (n := kl_ct S 1 s 4) (by omega), (hR (kl_ct S 1 s 4) (by omega)).2, (hR 6 (by omega)).2, pk_mul, nI_add]
      exact ⟨vp_in_nI (by omega) (by decide), hp⟩
    · rw [if_neg h1] at hp
      exact br_f h1 hp
theorem kl_pre_l {post : Int32 → Prop} (hF : kl_Fen T M) {t : Int32} (hp : post t) : ∀ n i x, i ≤ n → i < 65 → x + kl_S M i = t → wX_prefix_4 post p R S N M T E (n + 1) x (nI i) := by
  intro n
  induction n with
  | zero =>
    intro i x hi _ hx
    have hi0 : i = 0 := by omega
    subst hi0
    have e : x = t := by rw [← hx]; exact (Int32.add_zero x).symm
    subst e
    exact br_t (by decide +kernel) hp
  | succ n ih =>
    intro i x hi h65 hx
    by_cases h0 : i = 0
    · subst h0
      have e : x = t := by rw [← hx]; exact (Int32.add_zero x).symm
      subst e
      exact br_t (by decide +kernel) hp
    · have hl := kl_lo_b i h65 (by omega)
      refine br_f (nI_nle (by omega) (by omega)) ⟨vp_in_nI h65 (by decide), ?_⟩
      rw [kl_lo_I i h65 (by omega), pk_sub hl.2, nI_clamp (n := i) (by omega), hF i h65 (by omega)]
      refine nm_e (nm_e (ih _ _ (by omega) (by omega) ?_))
      rw [← hx]
      grind
theorem kl_pre {post : Int32 → Prop} (hF : kl_Fen T M) {n : Nat} (hn : n < 65) (hp : post (kl_S M n)) : wpX_prefix post (p, R, S, N, M, T, E) (nI n) :=
  ⟨n + 1, kl_pre_l hF hp n n 0 (Nat.le_refl n) hn (Int32.zero_add _)⟩
/-- one halving of the descent -/
theorem kl_so_st {post : Int32 → Prop} (hF : kl_Fen T M) {g : Nat → Nat} (hM : ∀ j, M j = nI (g j)) (hb : kl_P g 64 < 2 ^ 30) {r n a c c' : Nat} (hr : r < 2 ^ 30) (hc : 0 < c) (hac : a + c < 65) (hlo : kl_lo (a + c) = c) (hcc : nI c / 2 = nI c') (h0 : kl_P g a ≤ r)
    (hA : r < kl_P g (a + c) → wX_siteOf_8 post p R S N M T E n (nI a) (nI (r - kl_P g a)) (nI c'))
    (hB : kl_P g (a + c) ≤ r → wX_siteOf_8 post p R S N M T E n (nI (a + c)) (nI (r - kl_P g (a + c))) (nI c')) :
    wX_siteOf_8 post p R S N M T E (n + 1) (nI a) (nI (r - kl_P g a)) (nI c) := by
  have hm1 := kl_P_mono g (a := a) (b := a + c) (by omega)
  have hm2 := kl_P_mono g (a := a + c) (b := 64) (by omega)
  have hT : T (a + c) = nI (kl_P g (a + c) - kl_P g a) := by
    rw [hF (a + c) hac (by omega), hlo, Nat.add_sub_cancel, kl_S_P hM, kl_S_P hM, pk_sub hm1]
  refine br_f (nI_nle hc (by omega)) ?_
  rw [nI_add, nI_clamp (n := a + c) (by omega), hT]
  refine ⟨vp_in_nI hac (by decide), ?_⟩
  by_cases h : r < kl_P g (a + c)
  · exact br_t (nI_lt (by omega) (by omega)) ⟨by decide +kernel, nm_r hcc (hA h)⟩
  · refine br_f (nI_nlt (by omega) (by omega)) ?_
    intro x hx
    subst hx
    rw [nI_clamp (n := a + c) (by omega), hT]
    have e : nI (r - kl_P g a) - nI (kl_P g (a + c) - kl_P g a) = nI (r - kl_P g (a + c)) := by
      rw [pk_sub (by omega)]
      exact congrArg nI (by omega)
    exact ⟨vp_in_nI hac (by decide), nm_r e ⟨by decide +kernel, nm_r hcc (hB (by omega))⟩⟩
theorem kl_so_0 {post : Int32 → Prop} {g : Nat → Nat} {r : Nat} (ht : r < kl_P g 48) (hp : ∀ a, a < 48 → kl_P g a ≤ r → r < kl_P g (a + 1) → post (nI a)) {a : Nat} {x : Int32} (h1 : kl_P g a ≤ r) (h2 : r < kl_P g (a + 1)) : wX_siteOf_8 post p R S N M T E 1 (nI a) x (nI 0) := by
  have ha : a < 48 := by
    rcases Nat.lt_or_ge a 48 with h | h
    · exact h
    · have := kl_P_mono g h
      omega
  exact br_t (by decide +kernel) (br_f (nI_ge (b := 48) ha (by decide)) (hp a ha h1 h2))
theorem kl_lo_c1 : ∀ a, a < 64 → a % 2 = 0 → kl_lo (a + 1) = 1 := by decide +kernel
theorem kl_so_1 {post : Int32 → Prop} (hF : kl_Fen T M) {g : Nat → Nat} (hM : ∀ j, M j = nI (g j)) (hb : kl_P g 64 < 2 ^ 30) {r : Nat} (hr : r < 2 ^ 30) (ht : r < kl_P g 48) (hp : ∀ a, a < 48 → kl_P g a ≤ r → r < kl_P g (a + 1) → post (nI a)) {a : Nat} (ha : a % 2 = 0) (ha' : a + 2 ≤ 64) (h1 : kl_P g a ≤ r) (h2 : r < kl_P g (a + 2)) : wX_siteOf_8 post p R S N M T E 2 (nI a) (nI (r - kl_P g a)) (nI 1) := by
  refine kl_so_st hF hM hb hr (c := 1) (c' := 0) (by decide) (by omega) (kl_lo_c1 a (by omega) ha) (by decide +kernel) h1 (fun h => ?_) (fun h => ?_)
  · exact kl_so_0 ht hp h1 h
  · exact kl_so_0 ht hp h h2
theorem kl_lo_c2 : ∀ a, a < 64 → a % 4 = 0 → kl_lo (a + 2) = 2 := by decide +kernel
theorem kl_so_2 {post : Int32 → Prop} (hF : kl_Fen T M) {g : Nat → Nat} (hM : ∀ j, M j = nI (g j)) (hb : kl_P g 64 < 2 ^ 30) {r : Nat} (hr : r < 2 ^ 30) (ht : r < kl_P g 48) (hp : ∀ a, a < 48 → kl_P g a ≤ r → r < kl_P g (a + 1) → post (nI a)) {a : Nat} (ha : a % 4 = 0) (ha' : a + 4 ≤ 64) (h1 : kl_P g a ≤ r) (h2 : r < kl_P g (a + 4)) : wX_siteOf_8 post p R S N M T E 3 (nI a) (nI (r - kl_P g a)) (nI 2) := by
  refine kl_so_st hF hM hb hr (c := 2) (c' := 1) (by decide) (by omega) (kl_lo_c2 a (by omega) ha) (by decide +kernel) h1 (fun h => ?_) (fun h => ?_)
  · exact kl_so_1 hF hM hb hr ht hp (by omega) (by omega) h1 h
  · exact kl_so_1 hF hM hb hr ht hp (by omega) (by omega) h h2
theorem kl_lo_c4 : ∀ a, a < 64 → a % 8 = 0 → kl_lo (a + 4) = 4 := by decide +kernel
theorem kl_so_4 {post : Int32 → Prop} (hF : kl_Fen T M) {g : Nat → Nat} (hM : ∀ j, M j = nI (g j)) (hb : kl_P g 64 < 2 ^ 30) {r : Nat} (hr : r < 2 ^ 30) (ht : r < kl_P g 48) (hp : ∀ a, a < 48 → kl_P g a ≤ r → r < kl_P g (a + 1) → post (nI a)) {a : Nat} (ha : a % 8 = 0) (ha' : a + 8 ≤ 64) (h1 : kl_P g a ≤ r) (h2 : r < kl_P g (a + 8)) : wX_siteOf_8 post p R S N M T E 4 (nI a) (nI (r - kl_P g a)) (nI 4) := by
  refine kl_so_st hF hM hb hr (c := 4) (c' := 2) (by decide) (by omega) (kl_lo_c4 a (by omega) ha) (by decide +kernel) h1 (fun h => ?_) (fun h => ?_)
  · exact kl_so_2 hF hM hb hr ht hp (by omega) (by omega) h1 h
  · exact kl_so_2 hF hM hb hr ht hp (by omega) (by omega) h h2
theorem kl_lo_c8 : ∀ a, a < 64 → a % 16 = 0 → kl_lo (a + 8) = 8 := by decide +kernel
theorem kl_so_8 {post : Int32 → Prop} (hF : kl_Fen T M) {g : Nat → Nat} (hM : ∀ j, M j = nI (g j)) (hb : kl_P g 64 < 2 ^ 30) {r : Nat} (hr : r < 2 ^ 30) (ht : r < kl_P g 48) (hp : ∀ a, a < 48 → kl_P g a ≤ r → r < kl_P g (a + 1) → post (nI a)) {a : Nat} (ha : a % 16 = 0) (ha' : a + 16 ≤ 64) (h1 : kl_P g a ≤ r) (h2 : r < kl_P g (a + 16)) : wX_siteOf_8 post p R S N M T E 5 (nI a) (nI (r - kl_P g a)) (nI 8) := by
  refine kl_so_st hF hM hb hr (c := 8) (c' := 4) (by decide) (by omega) (kl_lo_c8 a (by omega) ha) (by decide +kernel) h1 (fun h => ?_) (fun h => ?_)
  · exact kl_so_4 hF hM hb hr ht hp (by omega) (by omega) h1 h
  · exact kl_so_4 hF hM hb hr ht hp (by omega) (by omega) h h2
theorem kl_lo_c16 : ∀ a, a < 64 → a % 32 = 0 → kl_lo (a + 16) = 16 := by decide +kernel
theorem kl_so_16 {post : Int32 → Prop} (hF : kl_Fen T M) {g : Nat → Nat} (hM : ∀ j, M j = nI (g j)) (hb : kl_P g 64 < 2 ^ 30) {r : Nat} (hr : r < 2 ^ 30) (ht : r < kl_P g 48) (hp : ∀ a, a < 48 → kl_P g a ≤ r → r < kl_P g (a + 1) → post (nI a)) {a : Nat} (ha : a % 32 = 0) (ha' : a + 32 ≤ 64) (h1 : kl_P g a ≤ r) (h2 : r < kl_P g (a + 32)) : wX_siteOf_8 post p R S N M T E 6 (nI a) (nI (r - kl_P g a)) (nI 16) := by
  refine kl_so_st hF hM hb hr (c := 16) (c' := 8) (by decide) (by omega) (kl_lo_c16 a (by omega) ha) (by decide +kernel) h1 (fun h => ?_) (fun h => ?_)
  · exact kl_so_8 hF hM hb hr ht hp (by omega) (by omega) h1 h
  · exact kl_so_8 hF hM hb hr ht hp (by omega) (by omega) h h2
theorem kl_lo_c32 : ∀ a, a < 64 → a % 64 = 0 → kl_lo (a + 32) = 32 := by decide +kernel
theorem kl_so_32 {post : Int32 → Prop} (hF : kl_Fen T M) {g : Nat → Nat} (hM : ∀ j, M j = nI (g j)) (hb : kl_P g 64 < 2 ^ 30) {r : Nat} (hr : r < 2 ^ 30) (ht : r < kl_P g 48) (hp : ∀ a, a < 48 → kl_P g a ≤ r → r < kl_P g (a + 1) → post (nI a)) {a : Nat} (ha : a % 64 = 0) (ha' : a + 64 ≤ 64) (h1 : kl_P g a ≤ r) (h2 : r < kl_P g (a + 64)) : wX_siteOf_8 post p R S N M T E 7 (nI a) (nI (r - kl_P g a)) (nI 32) := by
  refine kl_so_st hF hM hb hr (c := 32) (c' := 16) (by decide) (by omega) (kl_lo_c32 a (by omega) ha) (by decide +kernel) h1 (fun h => ?_) (fun h => ?_)
  · exact kl_so_16 hF hM hb hr ht hp (by omega) (by omega) h1 h
  · exact kl_so_16 hF hM hb hr ht hp (by omega) (by omega) h h2
theorem kl_so {post : Int32 → Prop} (hF : kl_Fen T M) {g : Nat → Nat} (hM : ∀ j, M j = nI (g j)) (hb : kl_P g 64 < 2 ^ 30) {r : Nat} (hr : r < 2 ^ 30) (ht : r < kl_P g 48) {s : Nat} (h1 : kl_P g s ≤ r) (h2 : r < kl_P g (s + 1)) (hp : post (nI s)) : wpX_siteOf post (p, R, S, N, M, T, E) (nI r) := by
  have ht64 := kl_P_mono g (a := 48) (b := 64) (by decide)
  exact ⟨7, kl_so_32 hF hM hb hr ht (fun a _ ha hb => by rw [kl_P_one ha hb h1 h2]; exact hp) (a := 0) rfl (by decide) (Nat.zero_le r) (Nat.lt_of_lt_of_le ht ht64)⟩
theorem kl_hop_l {post : Int32 → Prop} (hR : kl_RO R) (hN : kl_NO N) {s u k : Nat} (hs : s < 48) (hu : u < 2 ^ 29) (hk : k < 4) (h1 : kl_P (kl_h R S s) k ≤ u) (h2 : u < kl_P (kl_h R S s) (k + 1)) (hp : post (nI k)) : ∀ d i (y : Int32), i + d = 4 → (k < i → y = nI k) → wX_hopOf_8 post (nI s) p R S N M T E (d + 1) (nI u - nI (kl_P (kl_h R S s) i)) y (nI i) := by
  intro d
  induction d with
  | zero =>
    intro i y hi hy
    have hi4 : i = 4 := by omega
    subst hi4
    have e := hy hk
    subst e
    exact br_t (by decide +kernel) hp
  | succ d ih =>
    intro i y hi hy
    have hn := hN s i hs (by omega)
    have hl := kl_nb_lt (k := i) hs
    have hle := kl_P_le (g := kl_h R S s) (c := 1000) (kl_h_le hR s) i
    refine br_f (nI_ge (b := 4) (by omega) (by decide)) ?_
    rw [kl_ix, nI_clamp (n := s * 4 + i) (by omega), hn, nI_clamp (n := kl_nb s i) (by omega)]
    refine ⟨vp_in_nI (by omega) (by decide), vp_in_nI hl (by decide), ?_⟩
    by_cases hz : S (kl_nb s i) = 0
    · refine br_t hz ?_
      have e : nI u - nI (kl_P (kl_h R S s) i) - R 6 = nI u - nI (kl_P (kl_h R S s) (i + 1)) := by
        rw [kl_P_s, kl_h_t hz, (hR 6 (by omega)).2, ← nI_add]
        grind
      by_cases hlt : u < kl_P (kl_h R S s) i
      · refine br_t (pk_sneg (by omega) hlt) ?_
        refine nm_r e (nm_r (nI_1 i) (ih (i + 1) y (by omega) ?_))
        intro hki
        rcases Nat.lt_or_ge k i with h | h
        · exact hy h
        · have hik : i = k := by omega
          subst hik
          omega
      · have hnl : ¬ nI u - nI (kl_P (kl_h R S s) i) < 0 := by
          rw [Int32.lt_iff_toInt_lt, pk_sub_toInt (by omega) (by omega), Int32.toInt_zero]
          omega
        refine br_f hnl ?_
        refine nm_r e (nm_r (nI_1 i) (ih (i + 1) (nI i) (by omega) ?_))
        intro hki
        rcases Nat.lt_or_ge k i with h | h
        · have := kl_P_mono (kl_h R S s) (a := k + 1) (b := i) h
          omega
        · have hik : i = k := by omega
          rw [hik]
    · have e : kl_P (kl_h R S s) (i + 1) = kl_P (kl_h R S s) i := by
        rw [kl_P_s, kl_h_f hz]
        rfl
      have h := ih (i + 1) y (by omega) (by
        intro hki
        rcases Nat.lt_or_ge k i with h | h
        · exact hy h
        · have hik : i = k := by omega
          subst hik
          omega)
      rw [e] at h
      exact br_f hz (nm_r (nI_1 i) h)
theorem kl_hop {post : Int32 → Prop} (hR : kl_RO R) (hN : kl_NO N) {s u k : Nat} (hs : s < 48) (hu : u < 2 ^ 29) (hk : k < 4) (h1 : kl_P (kl_h R S s) k ≤ u) (h2 : u < kl_P (kl_h R S s) (k + 1)) (hp : post (nI k)) : wpX_hopOf post (p, R, S, N, M, T, E) (nI s) (nI u) := by
  have h := kl_hop_l (p := p) (M := M) (T := T) (E := E) hR hN hs hu hk h1 h2 hp 4 0 0 rfl (fun z => absurd z (Nat.not_lt_zero k))
  rw [show nI u - nI (kl_P (kl_h R S s) 0) = nI u by rw [show kl_P (kl_h R S s) 0 = 0 from rfl, nI_0]; grind] at h
  exact ⟨5, h⟩
theorem kl_xp_40 {post : Int32 → Prop} {J : Int32 → Int32 → Prop} (hN : kl_NO N) {s c : Nat} (hs : s < 48) (h : J (nI (c + kl_is (S (kl_nb s 2)) 1)) (nI (s + 1))) : wX_pairs_40 post J (nI c) (nI s) p R S N M T E := by
  have hn := hN s 2 hs (by omega)
  have hl := kl_nb_lt (k := 2) hs
  have hx : nI s * 4 + 2 = nI (s * 4 + 2) := kl_ix
  unfold wX_pairs_40
  rw [hx, nI_clamp (n := s * 4 + 2) (by omega), hn, nI_clamp (n := kl_nb s 2) (by omega)]
  refine ⟨vp_in_nI (by omega) (by decide), vp_in_nI hl (by decide), ?_⟩
  unfold kl_is at h
  by_cases hz : S (kl_nb s 2) = 1
  · rw [if_pos hz] at h
    exact br_t hz (nm_r (nI_1 _) (nm_r (nI_1 _) h))
  · rw [if_neg hz] at h
    exact br_f hz (nm_r (nI_1 _) h)
theorem kl_xp_l {post : Int32 → Prop} (hN : kl_NO N) (hp : post (nI (kl_P (kl_px S) 48))) : ∀ d s, s + d = 48 → wX_pairs_4 post p R S N M T E (d + 1) (nI (kl_P (kl_px S) s)) (nI s) := by
  intro d
  induction d with
  | zero =>
    intro s hs
    have hs4 : s = 48 := by omega
    subst hs4
    exact br_t (by decide +kernel) hp
  | succ d ih =>
    intro s hs
    have hn := hN s 0 (by omega) (by omega)
    have hl := kl_nb_lt (k := 0) (show s < 48 by omega)
    have hx : nI s * 4 = nI (s * 4 + 0) := pk_mul s 4
    have h := ih (s + 1) (by omega)
    rw [kl_P_s] at h
    refine br_f (nI_ge (b := 48) (by omega) (by decide)) ⟨vp_in_nI (by omega) (by decide), ?_⟩
    rw [nI_clamp (n := s) (by omega), hx, nI_clamp (n := s * 4 + 0) (by omega), hn, nI_clamp (n := kl_nb s 0) (by omega)]
    by_cases h1 : S s = 1
    · rw [show kl_px S s = kl_is (S (kl_nb s 0)) 1 + kl_is (S (kl_nb s 2)) 1 from if_pos h1] at h
      refine br_t h1 ⟨vp_in_nI (by omega) (by decide), vp_in_nI hl (by decide), ?_⟩
      by_cases hz : S (kl_nb s 0) = 1
      · rw [show kl_is (S (kl_nb s 0)) 1 = 1 from if_pos hz, ← Nat.add_assoc] at h
        exact br_t hz (nm_r (nI_1 _) (kl_xp_40 hN (by omega) h))
      · rw [show kl_is (S (kl_nb s 0)) 1 = 0 from if_neg hz, ← Nat.add_assoc] at h
        exact br_f hz (kl_xp_40 hN (by omega) h)
    · rw [show kl_px S s = 0 from if_neg h1] at h
      exact br_f h1 (nm_r (nI_1 _) h)
theorem kl_xp {post : Int32 → Prop} (hN : kl_NO N) (hp : post (nI (kl_P (kl_px S) 48))) : wpX_pairs post (p, R, S, N, M, T, E) :=
  ⟨49, kl_xp_l hN hp 48 0 rfl⟩
end
end
section
/-! the component's walks that write: each gives the arrays that it ends in -/
section
variable {p : Int32} {R S N M T E : Nat → Int32}
theorem kl_add_l {post : SX → Prop} {d : Int32} : ∀ n i (T : Nat → Int32), 0 < i → i ≤ 128 → 65 ≤ i + n → post (p, R, S, N, M, kl_ad d n i T, E) → wX_addTo_4 post d p (n + 1) (nI i) R S N M T E := by
  intro n
  induction n with
  | zero =>
    intro i T _ hi h65 hp
    exact br_t (nI_lt (a := 64) (by omega) (by omega)) hp
  | succ n ih =>
    intro i T h0 hi h65 hp
    rw [kl_ad_s] at hp
    by_cases h : 64 < i
    · rw [if_pos h] at hp
      exact br_t (nI_lt (a := 64) h (by omega)) hp
    · rw [if_neg h] at hp
      have hl := kl_lo_b i (by omega) h0
      refine br_f (nI_nlt (a := 64) (by omega) (by omega)) ⟨vp_in_nI (by omega) (by decide), vp_in_nI (by omega) (by decide), ?_⟩
      rw [nI_clamp (n := i) (by omega), kl_lo_I i (by omega) h0, nI_add]
      exact nm_e (nm_e (ih _ _ (by omega) (by omega) (by omega) hp))
theorem kl_add {post : SX → Prop} {d : Int32} {s : Nat} (hs : s < 64) (hp : post (p, R, S, N, M, kl_ad d 64 (s + 1) T, E)) : wpX_addTo post (p, R, S, N, M, T, E) (nI s) d := by
  unfold wpX_addTo
  dsimp only
  exact nm_r (nI_1 s) ⟨65, kl_add_l 64 (s + 1) T (by omega) (by omega) (by omega) hp⟩
theorem kl_refresh (hR : kl_RO R) (hN : kl_NO N) (hF : kl_Fen T M) {s : Nat} (hs : s < 48) : ∃ M' T', kl_Fen T' M' ∧ M' s = nI (kl_W R S s) ∧ (∀ j, M j = nI (kl_W R S j) → M' j = nI (kl_W R S j)) ∧ ∀ post : SX → Prop, post (p, R, S, N, M', T', E) → wpX_refresh post (p, R, S, N, M, T, E) (nI s) := by
  by_cases h : nI (kl_wo R S s) = M s
  · refine ⟨M, T, hF, by rw [kl_W_in hs, h], fun j hj => hj, fun post hp => ?_⟩
    unfold wpX_refresh
    dsimp only
    refine kl_worth hR hN hs ?_
    rw [nI_clamp (n := s) (by omega)]
    exact ⟨vp_in_nI hs (by decide), br_t h hp⟩
  · refine ⟨upd M s (nI (kl_wo R S s)), kl_ad (nI (kl_wo R S s) - M s) 64 (s + 1) T, kl_Fen_upd hF (by omega) _, by rw [pk_us, kl_W_in hs], fun j hj => ?_, fun post hp => ?_⟩
    · by_cases e : j = s
      · subst e
        rw [pk_us, kl_W_in hs]
      · rw [pk_un e]
        exact hj
    · unfold wpX_refresh
      dsimp only
      refine kl_worth hR hN hs ?_
      rw [nI_clamp (n := s) (by omega)]
      refine ⟨vp_in_nI hs (by decide), br_f h ⟨vp_in_nI hs (by decide), ?_⟩⟩
      refine kl_add (by omega) ?_
      exact ⟨vp_in_nI hs (by decide), nm_e hp⟩
theorem kl_all_l (hR : kl_RO R) (hN : kl_NO N) : ∀ d i (M T : Nat → Int32), i + d = 48 → kl_Fen T M → (∀ j, j < i → M j = nI (kl_W R S j)) → (∀ j, 48 ≤ j → M j = nI (kl_W R S j)) → ∃ M' T', kl_Fen T' M' ∧ (∀ j, M' j = nI (kl_W R S j)) ∧ ∀ post : SX → Prop, post (p, R, S, N, M', T', E) → wX_refreshAll_2 post (d + 1) (nI i) p R S N M T E := by
  intro d
  induction d with
  | zero =>
    intro i M T hi hF h1 h2
    have hi48 : i = 48 := by omega
    subst hi48
    refine ⟨M, T, hF, fun j => ?_, fun post hp => br_t (by decide +kernel) hp⟩
    rcases Nat.lt_or_ge j 48 with h | h
    · exact h1 j h
    · exact h2 j h
  | succ d ih =>
    intro i M T hi hF h1 h2
    obtain ⟨M1, T1, hF1, hs1, hk1, w1⟩ := kl_refresh (p := p) (S := S) (E := E) hR hN hF (s := i) (by omega)
    obtain ⟨M2, T2, hF2, hk2, w2⟩ := ih (i + 1) M1 T1 (by omega) hF1 (fun j hj => by
      rcases Nat.lt_or_ge j i with h | h
      · exact hk1 j (h1 j h)
      · have e : j = i := by omega
        rw [e]
        exact hs1) (fun j hj => hk1 j (h2 j hj))
    refine ⟨M2, T2, hF2, hk2, fun post hp => br_f (nI_ge (b := 48) (by omega) (by decide)) (w1 _ ?_)⟩
    exact nm_r (nI_1 i) (w2 post hp)
theorem kl_all (hR : kl_RO R) (hN : kl_NO N) (hF : kl_Fen T M) (hM : ∀ j, 48 ≤ j → M j = nI (kl_W R S j)) : ∃ M' T', kl_Fen T' M' ∧ (∀ j, M' j = nI (kl_W R S j)) ∧ ∀ post : SX → Prop, post (p, R, S, N, M', T', E) → wpX_refreshAll post (p, R, S, N, M, T, E) := by
  obtain ⟨M', T', h1, h2, h3⟩ := kl_all_l (p := p) (E := E) hR hN 48 0 M T rfl hF (fun j hj => absurd hj (Nat.not_lt_zero j)) hM
  exact ⟨M', T', h1, h2, fun post hp => ⟨49, h3 post hp⟩⟩
theorem kl_aro_l (hR : kl_RO R) (hN : kl_NO N) {s : Nat} (hs : s < 48) : ∀ d k (M T : Nat → Int32), k + d = 4 → kl_Fen T M → ∃ M' T', kl_Fen T' M' ∧ (∀ i, k ≤ i → i < 4 → M' (kl_nb s i) = nI (kl_W R S (kl_nb s i))) ∧ (∀ j, M j = nI (kl_W R S j) → M' j = nI (kl_W R S j)) ∧ ∀ post : SX → Prop, post (p, R, S, N, M', T', E) → wX_refreshAround_7 post (nI s) (d + 1) (nI k) p R S N M T E := by
  intro d
  induction d with
  | zero =>
    intro k M T hk hF
    have hk4 : k = 4 := by omega
    subst hk4
    exact ⟨M, T, hF, fun i h1 h2 => absurd h1 (by omega), fun j hj => hj, fun post hp => br_t (by decide +kernel) hp⟩
  | succ d ih =>
    intro k M T hk hF
    obtain ⟨M1, T1, hF1, hs1, hk1, w1⟩ := kl_refresh (p := p) (S := S) (E := E) hR hN hF (kl_nb_lt (k := k) hs)
    obtain ⟨M2, T2, hF2, hs2, hk2, w2⟩ := ih (k + 1) M1 T1 (by omega) hF1
    refine ⟨M2, T2, hF2, fun i h1 h2 => ?_, fun j hj => hk2 j (hk1 j hj), fun post hp => ?_⟩
    · rcases Nat.lt_or_ge k i with h | h
      · exact hs2 i h h2
      · have e : i = k := by omega
        rw [e]
        exact hk2 _ hs1
    · have hn := hN s k hs (by omega)
      refine br_f (nI_ge (b := 4) (by omega) (by decide)) ?_
      rw [kl_ix, nI_clamp (n := s * 4 + k) (by omega), hn]
      refine ⟨vp_in_nI (by omega) (by decide), w1 _ ?_⟩
      exact nm_r (nI_1 k) (w2 post hp)
theorem kl_aro (hR : kl_RO R) (hN : kl_NO N) (hF : kl_Fen T M) {s : Nat} (hs : s < 48) : ∃ M' T', kl_Fen T' M' ∧ M' s = nI (kl_W R S s) ∧ (∀ i, i < 4 → M' (kl_nb s i) = nI (kl_W R S (kl_nb s i))) ∧ (∀ j, M j = nI (kl_W R S j) → M' j = nI (kl_W R S j)) ∧ ∀ post : SX → Prop, post (p, R, S, N, M', T', E) → wpX_refreshAround post (p, R, S, N, M, T, E) (nI s) := by
  obtain ⟨M1, T1, hF1, hs1, hk1, w1⟩ := kl_refresh (p := p) (S := S) (E := E) hR hN hF hs
  obtain ⟨M2, T2, hF2, hs2, hk2, w2⟩ := kl_aro_l (p := p) (S := S) (E := E) hR hN hs 4 0 M1 T1 rfl hF1
  refine ⟨M2, T2, hF2, hk2 _ hs1, fun i hi => hs2 i (Nat.zero_le i) hi, fun j hj => hk2 j (hk1 j hj), fun post hp => ?_⟩
  unfold wpX_refreshAround
  dsimp only
  refine w1 _ ?_
  exact ⟨5, w2 post hp⟩
theorem kl_become (I : kl_I p R S N M T) {s : Nat} (hs : s < 48) {x : Int32} (hx : x = 0 ∨ x = 1 ∨ x = 2) : ∃ p' M' T', kl_I p' R (upd S s x) N M' T' ∧ ∀ post : SX → Prop, post (p', R, upd S s x, N, M', T', E) → wpX_become post (p, R, S, N, M, T, E) (nI s) x := by
  obtain ⟨hR, hS, hN, hF, hM, hp⟩ := I
  obtain ⟨M', T', hF', hs', hn', hk', w⟩ := kl_aro (p := (p - kl_o S s) + (if x = 1 then 1 else 0)) (S := upd S s x) (E := E) hR hN hF hs
  refine ⟨(p - kl_o S s) + (if x = 1 then 1 else 0), M', T', ⟨hR, kl_SO_upd hS hx, hN, hF', fun j => ?_, ?_⟩, fun post hpost => ?_⟩
  · by_cases e : j = s
    · rw [e]
      exact hs'
    · by_cases h : ∀ i, i < 4 → j ≠ kl_nb s i
      · refine hk' j ?_
        rw [kl_W_upd hs e h]
        exact hM j
      · have h' : ∃ i, i < 4 ∧ j = kl_nb s i := Classical.byContradiction (fun z => h (fun i hi hj => z ⟨i, hi, hj⟩))
        obtain ⟨i, hi, ei⟩ := h'
        rw [ei]
        exact hn' i hi
  · rw [kl_o_upd, kl_S_upd, if_pos hs, hp]
    grind
  · have K : wX_become_35 post (nI s) x ((p - kl_o S s) + (if x = 1 then 1 else 0)) R S N M T E := by
      unfold wX_become_35
      rw [nI_clamp (n := s) (by omega)]
      refine ⟨vp_in_nI hs (by decide), nm_e (w _ ?_)⟩
      exact hpost
    have K2 : wX_become_20 post (nI s) x (p - kl_o S s) R S N M T E := by
      unfold wX_become_20
      by_cases h1 : x = 1
      · rw [if_pos h1] at K
        exact br_t h1 (nm_e K)
      · rw [if_neg h1, Int32.add_zero] at K
        exact br_f h1 K
    unfold wpX_become
    dsimp only
    rw [nI_clamp (n := s) (by omega)]
    refine ⟨vp_in_nI hs (by decide), ?_⟩
    by_cases h1 : S s = 1
    · rw [show kl_o S s = 1 from if_pos h1] at K2
      exact br_t h1 (nm_e K2)
    · rw [show kl_o S s = 0 from if_neg h1, show p - 0 = p by grind] at K2
      exact br_f h1 K2
/-- clearing -/
def kl_z (S : Nat → Int32) (n : Nat) : Nat → Int32 := fun j => if j < n then 0 else S j
theorem kl_z_s (S : Nat → Int32) (n : Nat) : upd (kl_z S n) n 0 = kl_z S (n + 1) := by
  funext j
  by_cases e : j = n
  · subst e
    rw [pk_us]
    exact (if_pos (Nat.lt_succ_self j)).symm
  · rw [pk_un e]
    unfold kl_z
    rcases Nat.lt_or_ge j n with h | h
    · rw [if_pos h, if_pos (show j < n + 1 by omega)]
    · rw [if_neg (show ¬ j < n by omega), if_neg (show ¬ j < n + 1 by omega)]
theorem kl_z_0 (S : Nat → Int32) : kl_z S 0 = S := by
  funext j
  exact if_neg (Nat.not_lt_zero j)
theorem kl_clr_l {post : SX → Prop} (h : wpX_refreshAll post (0, R, kl_z S 48, N, M, T, E)) : ∀ d i, i + d = 48 → wX_clear_2 post p (d + 1) (nI i) R (kl_z S i) N M T E := by
  intro d
  induction d with
  | zero =>
    intro i hi
    have hi48 : i = 48 := by omega
    subst hi48
    exact br_t (by decide +kernel) h
  | succ d ih =>
    intro i hi
    refine br_f (nI_ge (b := 48) (by omega) (by decide)) ⟨vp_in_nI (by omega) (by decide), ?_⟩
    rw [nI_clamp (n := i) (by omega), kl_z_s]
    exact nm_e (nm_r (nI_1 i) (ih (i + 1) (by omega)))
theorem kl_clr {post : SX → Prop} (h : wpX_refreshAll post (0, R, kl_z S 48, N, M, T, E)) : wpX_clear post (p, R, S, N, M, T, E) := by
  have k := kl_clr_l (p := p) h 48 0 rfl
  rw [kl_z_0] at k
  exact ⟨49, k⟩
theorem kl_z_cnt (S : Nat → Int32) : ∀ n, n ≤ 48 → kl_S (kl_o (kl_z S 48)) n = 0 := by
  intro n
  induction n with
  | zero => exact fun _ => rfl
  | succ n ih =>
    intro hn
    rw [kl_S_s, ih (by omega)]
    have e : kl_z S 48 n = 0 := if_pos (by omega)
    unfold kl_o
    rw [e]
    decide +kernel
/-- making -/
def kl_r1 (n : Nat) : Nat → Int32 := fun j => if j < n then 1 else 0
theorem kl_r1_s (n : Nat) : upd (kl_r1 n) n 1 = kl_r1 (n + 1) := by
  funext j
  by_cases e : j = n
  · subst e
    rw [pk_us]
    exact (if_pos (Nat.lt_succ_self j)).symm
  · rw [pk_un e]
    unfold kl_r1
    rcases Nat.lt_or_ge j n with h | h
    · rw [if_pos h, if_pos (show j < n + 1 by omega)]
    · rw [if_neg (show ¬ j < n by omega), if_neg (show ¬ j < n + 1 by omega)]
theorem kl_r1_0 : kl_r1 0 = fun _ => 0 := by
  funext j
  exact if_neg (Nat.not_lt_zero j)
theorem kl_r1_RO : kl_RO (kl_r1 7) := by
  intro i hi
  have e : kl_r1 7 i = nI 1 := if_pos hi
  unfold kl_r
  rw [e, nI_clamp (by decide)]
  exact ⟨by decide, rfl⟩
theorem kl_i54_l {post : SX → Prop} (h : ∃ n75 : Nat, wX_init_75 post p n75 0 (kl_r1 7) S N M T E) : ∀ d i, i + d = 7 → wX_init_54 post p (d + 1) (nI i) (kl_r1 i) S N M T E := by
  intro d
  induction d with
  | zero =>
    intro i hi
    have hi7 : i = 7 := by omega
    subst hi7
    exact br_t (by decide +kernel) h
  | succ d ih =>
    intro i hi
    refine br_f (nI_ge (b := 7) (by omega) (by decide)) ⟨vp_in_nI (by omega) (by decide), ?_⟩
    rw [nI_clamp (n := i) (by omega), kl_r1_s]
    exact nm_e (nm_r (nI_1 i) (ih (i + 1) (by omega)))
theorem kl_rem6 {c t : Nat} (hc : c < 1000) (ht : t < 1000) : (nI c + nI t) - (nI c + nI t) / 6 * 6 = nI ((c + t) % 6) := by
  rw [nI_add]
  exact pk_rem (d := 6) (by omega) (by decide) (by decide)
theorem kl_rem8 {c t : Nat} (hc : c < 1000) (ht : t < 1000) : (nI c + nI t) - (nI c + nI t) / 8 * 8 = nI ((c + t) % 8) := by
  rw [nI_add]
  exact pk_rem (d := 8) (by omega) (by decide) (by decide)
theorem kl_cell (r c : Nat) : nI r * 6 + nI c = nI (r * 6 + c) := by
  rw [show (6 : Int32) = nI 6 from rfl, pk_mul, nI_add]
theorem kl_n4 {N : Nat → Int32} {i : Nat} (h : ∀ s k, s < i → k < 4 → N (s * 4 + k) = nI (kl_nb s k)) : ∀ s k, s < i + 1 → k < 4 → upd (upd (upd (upd N (i * 4) (nI (kl_nb i 0))) (i * 4 + 1) (nI (kl_nb i 1))) (i * 4 + 2) (nI (kl_nb i 2))) (i * 4 + 3) (nI (kl_nb i 3)) (s * 4 + k) = nI (kl_nb s k) := by
  intro s k hs hk
  rcases Nat.lt_or_ge s i with hi | hi
  · rw [pk_un (by omega), pk_un (by omega), pk_un (by omega), pk_un (by omega)]
    exact h s k hi hk
  · have e : s = i := by omega
    subst e
    have hk' : k = 0 ∨ k = 1 ∨ k = 2 ∨ k = 3 := by omega
    rcases hk' with hk' | hk' | hk' | hk'
    · subst hk'
      rw [pk_un (by omega), pk_un (by omega), pk_un (by omega)]
      exact pk_us
    · subst hk'
      rw [pk_un (by omega), pk_un (by omega), pk_us]
    · subst hk'
      rw [pk_un (by omega), pk_us]
    · subst hk'
      rw [pk_us]
theorem kl_i75_l {post : SX → Prop} (h : ∀ N', kl_NO N' → wpX_refreshAll post (p, R, S, N', M, T, E)) : ∀ d i (N : Nat → Int32), i + d = 48 → (∀ s k, s < i → k < 4 → N (s * 4 + k) = nI (kl_nb s k)) → wX_init_75 post p (d + 1) (nI i) R S N M T E := by
  intro d
  induction d with
  | zero =>
    intro i N hi hN
    have hi48 : i = 48 := by omega
    subst hi48
    exact br_t (by decide +kernel) (h N hN)
  | succ d ih =>
    intro i N hi hN
    have hx0 : nI i * 4 = nI (i * 4) := pk_mul i 4
    have hx1 : nI (i * 4) + 1 = nI (i * 4 + 1) := nI_add _ 1
    have hx2 : nI (i * 4) + 2 = nI (i * 4 + 2) := nI_add _ 2
    have hx3 : nI (i * 4) + 3 = nI (i * 4 + 3) := nI_add _ 3
    have e6 : nI i - nI i / 6 * 6 = nI (i % 6) := pk_rem (d := 6) (by omega) (by decide) (by decide)
    have d6 : nI i / 6 = nI (i / 6) := pk_div (d := 6) (by omega) (by decide) (by decide)
    have v0 : nI (i / 6) * 6 + (nI (i % 6) + 1 - (nI (i % 6) + 1) / 6 * 6) = nI (kl_nb i 0) := by
      rw [show (nI (i % 6) + 1 - (nI (i % 6) + 1) / 6 * 6) = nI ((i % 6 + 1) % 6) from kl_rem6 (t := 1) (by omega) (by decide), kl_cell]
      rfl
    have v1 : nI (i / 6) * 6 + (nI (i % 6) + 5 - (nI (i % 6) + 5) / 6 * 6) = nI (kl_nb i 1) := by
      rw [show (nI (i % 6) + 5 - (nI (i % 6) + 5) / 6 * 6) = nI ((i % 6 + 5) % 6) from kl_rem6 (t := 5) (by omega) (by decide), kl_cell]
      rfl
    have v2 : (nI (i / 6) + 1 - (nI (i / 6) + 1) / 8 * 8) * 6 + nI (i % 6) = nI (kl_nb i 2) := by
      rw [show (nI (i / 6) + 1 - (nI (i / 6) + 1) / 8 * 8) = nI ((i / 6 + 1) % 8) from kl_rem8 (t := 1) (by omega) (by decide), kl_cell]
      rfl
    have v3 : (nI (i / 6) + 7 - (nI (i / 6) + 7) / 8 * 8) * 6 + nI (i % 6) = nI (kl_nb i 3) := by
      rw [show (nI (i / 6) + 7 - (nI (i / 6) + 7) / 8 * 8) = nI ((i / 6 + 7) % 8) from kl_rem8 (t := 7) (by omega) (by decide), kl_cell]
      rfl
    have n6 : ¬ (6 : Int32) = 0 := by decide +kernel
    have n8 : ¬ (8 : Int32) = 0 := by decide +kernel
    have c0 : (nI (i * 4)).toNatClampNeg = i * 4 := nI_clamp (by omega)
    have c1 : (nI (i * 4 + 1)).toNatClampNeg = i * 4 + 1 := nI_clamp (by omega)
    have c2 : (nI (i * 4 + 2)).toNatClampNeg = i * 4 + 2 := nI_clamp (by omega)
    have c3 : (nI (i * 4 + 3)).toNatClampNeg = i * 4 + 3 := nI_clamp (by omega)
    have K := ih (i + 1) _ (by omega) (kl_n4 hN)
    refine br_f (nI_ge (b := 48) (by omega) (by decide)) ⟨n6, nm_r e6 ⟨n6, nm_r d6 ⟨n6, ?_⟩⟩⟩
    rw [v0, v1, v2, v3, hx0, hx1, hx2, hx3, c0, c1, c2, c3]
    exact ⟨vp_in_nI (by omega) (by decide), nm_e ⟨n6, vp_in_nI (by omega) (by decide), nm_e ⟨n8, vp_in_nI (by omega) (by decide), nm_e ⟨n8, vp_in_nI (by omega) (by decide), nm_e (nm_r (nI_1 i) K)⟩⟩⟩⟩
end
end
section
/-! the reference's walks -/
section
variable {R S E : Nat → Int32}
theorem kl_yn {post : Int32 → Prop} {s k : Nat} (hs : s < 48) (hk : k < 4) (hp : post (nI (kl_nb s k))) : wpY_neighbour post (R, S, E) (nI s) (nI k) := by
  have e6 : nI s - nI s / 6 * 6 = nI (s % 6) := pk_rem (d := 6) (by omega) (by decide) (by decide)
  have d6 : nI s / 6 = nI (s / 6) := pk_div (d := 6) (by omega) (by decide) (by decide)
  have n6 : ¬ (6 : Int32) = 0 := by decide +kernel
  have n8 : ¬ (8 : Int32) = 0 := by decide +kernel
  unfold wpY_neighbour
  dsimp only
  refine ⟨n6, nm_r e6 ⟨n6, nm_r d6 ?_⟩⟩
  have hk' : k = 0 ∨ k = 1 ∨ k = 2 ∨ k = 3 := by omega
  rcases hk' with h | h | h | h
  · subst h
    have v : nI (s % 6) + 1 - (nI (s % 6) + 1) / 6 * 6 = nI ((s % 6 + 1) % 6) := kl_rem6 (t := 1) (by omega) (by decide)
    have q : post (nI (s / 6) * 6 + nI ((s % 6 + 1) % 6)) := by
      rw [kl_cell]
      exact hp
    refine br_t (by decide +kernel) ⟨n6, nm_r v ?_⟩
    unfold wY_neighbour_22 wY_neighbour_34 wY_neighbour_48
    exact br_f (by decide +kernel) (br_f (by decide +kernel) (br_f (by decide +kernel) q))
  · subst h
    have v : nI (s % 6) + 5 - (nI (s % 6) + 5) / 6 * 6 = nI ((s % 6 + 5) % 6) := kl_rem6 (t := 5) (by omega) (by decide)
    have q : post (nI (s / 6) * 6 + nI ((s % 6 + 5) % 6)) := by
      rw [kl_cell]
      exact hp
    refine br_f (by decide +kernel) ?_
    unfold wY_neighbour_22 wY_neighbour_34 wY_neighbour_48
    exact br_t (by decide +kernel) ⟨n6, nm_r v (br_f (by decide +kernel) (br_f (by decide +kernel) q))⟩
  · subst h
    have v : nI (s / 6) + 1 - (nI (s / 6) + 1) / 8 * 8 = nI ((s / 6 + 1) % 8) := kl_rem8 (t := 1) (by omega) (by decide)
    have q : post (nI ((s / 6 + 1) % 8) * 6 + nI (s % 6)) := by
      rw [kl_cell]
      exact hp
    refine br_f (by decide +kernel) ?_
    unfold wY_neighbour_22 wY_neighbour_34 wY_neighbour_48
    exact br_f (by decide +kernel) (br_t (by decide +kernel) ⟨n8, nm_r v (br_f (by decide +kernel) q)⟩)
  · subst h
    have v : nI (s / 6) + 7 - (nI (s / 6) + 7) / 8 * 8 = nI ((s / 6 + 7) % 8) := kl_rem8 (t := 7) (by omega) (by decide)
    have q : post (nI ((s / 6 + 7) % 8) * 6 + nI (s % 6)) := by
      rw [kl_cell]
      exact hp
    refine br_f (by decide +kernel) ?_
    unfold wY_neighbour_22 wY_neighbour_34 wY_neighbour_48
    exact br_f (by decide +kernel) (br_f (by decide +kernel) (br_t (by decide +kernel) ⟨n8, nm_r v q⟩))
theorem kl_yo_l {post : Int32 → Prop} {s : Nat} (hs : s < 48) (hp : post (nI (kl_ct S 1 s 4))) : ∀ d k, k + d = 4 → wY_occupiedBeside_4 post (nI s) R S E (d + 1) (nI (kl_ct S 1 s k)) (nI k) := by
  intro d
  induction d with
  | zero =>
    intro k hk
    have hk4 : k = 4 := by omega
    subst hk4
    exact br_t (by decide +kernel) hp
  | succ d ih =>
    intro k hk
    have hl := kl_nb_lt (k := k) hs
    refine br_f (nI_ge (b := 4) (by omega) (by decide)) ?_
    refine kl_yn hs (by omega) ?_
    rw [nI_clamp (n := kl_nb s k) (by omega)]
    refine ⟨vp_in_nI hl (by decide), ?_⟩
    have h := ih (k + 1) (by omega)
    by_cases hz : S (kl_nb s k) = 1
    · rw [kl_ct_t hz] at h
      exact br_t hz (nm_r (nI_1 _) (nm_r (nI_1 _) h))
    · rw [kl_ct_f hz] at h
      exact br_f hz (nm_r (nI_1 _) h)
theorem kl_yo {post : Int32 → Prop} {s : Nat} (hs : s < 48) (hp : post (nI (kl_ct S 1 s 4))) : wpY_occupiedBeside post (R, S, E) (nI s) :=
  ⟨5, kl_yo_l hs hp 4 0 rfl⟩
theorem kl_ye {post : Int32 → Prop} (hR : kl_RO R) (hS : kl_SO S) {s e : Nat} (hs : s < 48) (he : e < 6) (hp : post (nI (kl_ev R S s e))) : wpY_eventRate post (R, S, E) (nI s) (nI e) := by
  unfold wpY_eventRate
  dsimp only
  rw [nI_clamp (n := s) (by omega)]
  refine ⟨vp_in_nI hs (by decide), ?_⟩
  rcases hS s hs with h | h | h
  · refine br_t h ?_
    by_cases e0 : e = 0
    · subst e0
      rw [kl_ev_00 h, ← (hR 5 (by omega)).2] at hp
      exact br_t (by decide +kernel) hp
    · obtain ⟨f, rfl⟩ : ∃ f, e = f + 1 := ⟨e - 1, by omega⟩
      rw [kl_ev_0s h, nI_0] at hp
      exact br_f (nI_ne0 (by omega) (by omega)) hp
  · refine br_f (by rw [h]; decide +kernel) ⟨vp_in_nI hs (by decide), br_f (by rw [h]; decide +kernel) ?_⟩
    by_cases e0 : e = 0
    · subst e0
      rw [kl_ev_10 h, nI_0] at hp
      exact br_t (by decide +kernel) hp
    · refine br_f (nI_ne0 (by omega) (by omega)) ?_
      by_cases e1 : e = 1
      · subst e1
        have hc := kl_ct_le S 1 s 4
        rw [kl_ev_11 h] at hp
        refine br_t (by decide +kernel) ?_
        refine kl_yo hs ?_
        rw [nI_clamp (n := kl_ct S 1 s 4) (by omega), (hR (kl_ct S 1 s 4) (by omega)).2]
        exact ⟨vp_in_nI (by omega) (by decide), hp⟩
      · obtain ⟨k, rfl⟩ : ∃ k, e = k + 2 := ⟨e - 2, by omega⟩
        have hl := kl_nb_lt (k := k) hs
        rw [kl_ev_1h h] at hp
        have e2 : nI (k + 2) - 2 = nI k := by
          rw [← nI_add]
          exact Int32.add_sub_cancel _ _
        refine br_f (fun z => e1 ((nI_eq (b := 1) (by omega) (by decide)).mp z)) ?_
        rw [e2]
        refine kl_yn hs (by omega) ?_
        rw [nI_clamp (n := kl_nb s k) (by omega)]
        refine ⟨vp_in_nI hl (by decide), ?_⟩
        by_cases hz : S (kl_nb s k) = 0
        · rw [kl_h_t hz, ← (hR 6 (by omega)).2] at hp
          exact br_t hz hp
        · rw [kl_h_f hz, nI_0] at hp
          exact br_f hz hp
  · rw [kl_ev_2 h, nI_0] at hp
    exact br_f (by rw [h]; decide +kernel) ⟨vp_in_nI hs (by decide), br_t h hp⟩
theorem kl_ys_l {post : Int32 → Prop} (hR : kl_RO R) (hS : kl_SO S) {s : Nat} (hs : s < 48) (hp : post (nI (kl_P (kl_ev R S s) 6))) : ∀ d e, e + d = 6 → wY_siteRate_16 post (nI s) R S E (d + 1) (nI (kl_P (kl_ev R S s) e)) (nI e) := by
  intro d
  induction d with
  | zero =>
    intro e he
    have he6 : e = 6 := by omega
    subst he6
    exact br_t (by decide +kernel) hp
  | succ d ih =>
    intro e he
    refine br_f (nI_ge (b := 6) (by omega) (by decide)) ?_
    refine kl_ye hR hS hs (by omega) ?_
    exact nm_r (nI_add _ _) (nm_r (nI_1 e) (ih (e + 1) (by omega)))
theorem kl_ys {post : Int32 → Prop} (hR : kl_RO R) (hS : kl_SO S) {s : Nat} (hs : s < 48) (hp : post (nI (kl_W R S s))) : wpY_siteRate post (R, S, E) (nI s) := by
  rw [kl_W_in hs, ← kl_es_wo (hS s hs)] at hp
  unfold wpY_siteRate
  dsimp only
  exact br_f (nI_pos (by omega)) (br_t (nI_le (b := 47) (by omega) (by decide)) ⟨7, kl_ys_l hR hS hs hp 6 0 rfl⟩)
theorem kl_yb_l {post : Int32 → Prop} (hR : kl_RO R) (hS : kl_SO S) {x : Int32} {q : Nat} (hq : q ≤ 48) (h1 : ∀ i, i < q → ¬ x ≤ nI i) (h2 : x ≤ nI q ∨ q = 48) (hp : post (nI (kl_P (kl_W R S) q))) : ∀ d i, i + d = q → wY_before_4 post x R S E (d + 1) (nI (kl_P (kl_W R S) i)) (nI i) := by
  intro d
  induction d with
  | zero =>
    intro i hi
    have hiq : i = q := by omega
    subst hiq
    by_cases h : x ≤ nI i
    · exact br_t h hp
    · have h48 : i = 48 := h2.resolve_left h
      subst h48
      exact br_f h (br_t (by decide +kernel) hp)
  | succ d ih =>
    intro i hi
    refine br_f (h1 i (by omega)) (br_f (nI_ge (b := 48) (by omega) (by decide)) ?_)
    refine kl_ys hR hS (by omega) ?_
    exact nm_r (nI_add _ _) (nm_r (nI_1 i) (ih (i + 1) (by omega)))
theorem kl_yb {post : Int32 → Prop} (hR : kl_RO R) (hS : kl_SO S) {x : Int32} {q : Nat} (hq : q ≤ 48) (h1 : ∀ i, i < q → ¬ x ≤ nI i) (h2 : x ≤ nI q ∨ q = 48) (hp : post (nI (kl_P (kl_W R S) q))) : wpY_before post (R, S, E) x :=
  ⟨q + 1, kl_yb_l hR hS hq h1 h2 hp q 0 (Nat.zero_add q)⟩
theorem kl_yt {post : Int32 → Prop} (hR : kl_RO R) (hS : kl_SO S) (hp : post (nI (kl_P (kl_W R S) 48))) : wpY_total post (R, S, E) := by
  unfold wpY_total
  dsimp only
  exact kl_yb hR hS (q := 48) (by decide) (fun i hi => nI_ge (b := 48) hi (by decide)) (Or.inr rfl) hp
theorem kl_yc_l {post : Int32 → Prop} (hp : post (kl_S (kl_o S) 48)) : ∀ d i, i + d = 48 → wY_occupied_4 post R S E (d + 1) (kl_S (kl_o S) i) (nI i) := by
  intro d
  induction d with
  | zero =>
    intro i hi
    have hi48 : i = 48 := by omega
    subst hi48
    exact br_t (by decide +kernel) hp
  | succ d ih =>
    intro i hi
    have h := ih (i + 1) (by omega)
    rw [kl_S_s] at h
    refine br_f (nI_ge (b := 48) (by omega) (by decide)) ⟨vp_in_nI (by omega) (by decide), ?_⟩
    rw [nI_clamp (n := i) (by omega)]
    by_cases hz : S i = 1
    · rw [show kl_o S i = 1 from if_pos hz] at h
      exact br_t hz (nm_e (nm_r (nI_1 i) h))
    · rw [show kl_o S i = 0 from if_neg hz, Int32.add_zero] at h
      exact br_f hz (nm_r (nI_1 i) h)
theorem kl_yc {post : Int32 → Prop} (hp : post (kl_S (kl_o S) 48)) : wpY_occupied post (R, S, E) :=
  ⟨49, kl_yc_l hp 48 0 rfl⟩
theorem kl_yp_l {post : Int32 → Prop} (hp : post (nI (kl_P (kl_py S) 48) / 2)) : ∀ d i, i + d = 48 → wY_pairs_4 post R S E (d + 1) (nI (kl_P (kl_py S) i)) (nI i) := by
  intro d
  induction d with
  | zero =>
    intro i hi
    have hi48 : i = 48 := by omega
    subst hi48
    exact br_t (by decide +kernel) ⟨by decide +kernel, hp⟩
  | succ d ih =>
    intro i hi
    have h := ih (i + 1) (by omega)
    rw [kl_P_s] at h
    refine br_f (nI_ge (b := 48) (by omega) (by decide)) ⟨vp_in_nI (by omega) (by decide), ?_⟩
    rw [nI_clamp (n := i) (by omega)]
    by_cases hz : S i = 1
    · rw [show kl_py S i = kl_ct S 1 i 4 from if_pos hz] at h
      refine br_t hz ?_
      refine kl_yo (by omega) ?_
      exact nm_r (nI_add _ _) (nm_r (nI_1 i) h)
    · rw [show kl_py S i = 0 from if_neg hz, Nat.add_zero] at h
      exact br_f hz (nm_r (nI_1 i) h)
theorem kl_yp {post : Int32 → Prop} (hp : post (nI (kl_P (kl_px S) 48))) : wpY_pairs post (R, S, E) := by
  have hle := kl_px_le S 48 (by omega)
  have e : nI (kl_P (kl_py S) 48) / 2 = nI (kl_P (kl_px S) 48) := by
    rw [kl_pairs, show (2 : Int32) = nI 2 from rfl, pk_div (by omega) (by decide) (by decide), Nat.mul_div_cancel _ (by decide)]
  rw [← e] at hp
  exact ⟨49, kl_yp_l hp 48 0 rfl⟩
theorem kl_yclr_l {post : SY → Prop} (h : post (R, kl_z S 48, E)) : ∀ d i, i + d = 48 → wY_clear_2 post (d + 1) (nI i) R (kl_z S i) E := by
  intro d
  induction d with
  | zero =>
    intro i hi
    have hi48 : i = 48 := by omega
    subst hi48
    exact br_t (by decide +kernel) h
  | succ d ih =>
    intro i hi
    refine br_f (nI_ge (b := 48) (by omega) (by decide)) ⟨vp_in_nI (by omega) (by decide), ?_⟩
    rw [nI_clamp (n := i) (by omega), kl_z_s]
    exact nm_e (nm_r (nI_1 i) (ih (i + 1) (by omega)))
theorem kl_yclr {post : SY → Prop} (h : post (R, kl_z S 48, E)) : wpY_clear post (R, S, E) := by
  have k := kl_yclr_l h 48 0 rfl
  rw [kl_z_0] at k
  exact ⟨49, k⟩
theorem kl_yi_l {post : SY → Prop} (h : post (kl_r1 7, S, E)) : ∀ d i, i + d = 7 → wY_init_29 post (d + 1) (nI i) (kl_r1 i) S E := by
  intro d
  induction d with
  | zero =>
    intro i hi
    have hi7 : i = 7 := by omega
    subst hi7
    exact br_t (by decide +kernel) h
  | succ d ih =>
    intro i hi
    refine br_f (nI_ge (b := 7) (by omega) (by decide)) ⟨vp_in_nI (by omega) (by decide), ?_⟩
    rw [nI_clamp (n := i) (by omega), kl_r1_s]
    exact nm_e (nm_r (nI_1 i) (ih (i + 1) (by omega)))
theorem kl_yi {post : SY → Prop} (h : post (kl_r1 7, (fun _ => 0), (fun _ => 0))) : wpY_init post := by
  have k := kl_yi_l h 7 0 rfl
  rw [kl_r1_0] at k
  exact ⟨8, k⟩
/-- what happens at an event -/
theorem kl_yh0 {post : Int32 → SY → Prop} {s : Nat} (hs : s < 48) (hp : post (nI s) (R, upd S s 1, upd E 0 (E 0 + 1))) : wpY_happen post (R, S, E) (nI s) (nI 0) := by
  have z0 : (nI 0).toNatClampNeg = 0 := nI_clamp (by decide)
  have r0 : nI s + 64 * nI 0 + 0 = nI s := by
    rw [nI_0]
    grind
  unfold wpY_happen
  dsimp only
  refine br_t (by decide +kernel) ?_
  unfold wY_happen_14
  rw [nI_clamp (n := s) (by omega)]
  refine ⟨vp_in_nI hs (by decide), nm_e (br_t (by decide +kernel) ?_)⟩
  unfold wY_happen_34
  refine br_f (by decide +kernel) ?_
  unfold wY_happen_44
  rw [z0, r0]
  exact ⟨vp_in_nI (by decide) (by decide), vp_in_nI (by decide) (by decide), nm_e (br_f (by decide +kernel) hp)⟩
theorem kl_yh1 {post : Int32 → SY → Prop} {s : Nat} (hs : s < 48) (hp : post (nI s + 64) (R, upd S s 0, upd E 1 (E 1 + 1))) : wpY_happen post (R, S, E) (nI s) (nI 1) := by
  have z0 : (nI 1).toNatClampNeg = 1 := nI_clamp (by decide)
  have r0 : nI s + 64 * nI 1 + 0 = nI s + 64 := by
    rw [show nI 1 = 1 from rfl]
    grind
  unfold wpY_happen
  dsimp only
  refine br_f (by decide +kernel) ?_
  unfold wY_happen_14
  rw [nI_clamp (n := s) (by omega)]
  refine ⟨vp_in_nI hs (by decide), nm_e (br_t (by decide +kernel) ?_)⟩
  unfold wY_happen_34
  refine br_f (by decide +kernel) ?_
  unfold wY_happen_44
  rw [z0, r0]
  exact ⟨vp_in_nI (by decide) (by decide), vp_in_nI (by decide) (by decide), nm_e (br_f (by decide +kernel) hp)⟩
theorem kl_yh2 {post : Int32 → SY → Prop} {s k : Nat} (hs : s < 48) (hk : k < 4) (hp : post (nI s + 128 + 256 * nI k) (R, upd (upd S s 0) (kl_nb s k) 1, upd E 2 (E 2 + 1))) : wpY_happen post (R, S, E) (nI s) (nI (k + 2)) := by
  have hl := kl_nb_lt (k := k) hs
  have z2 : (2 : Int32).toNatClampNeg = 2 := nI_clamp (n := 2) (by decide)
  have e2 : nI (k + 2) - 2 = nI k := by
    rw [← nI_add]
    exact Int32.add_sub_cancel _ _
  have r0 : nI s + 64 * 2 + 256 * nI k = nI s + 128 + 256 * nI k := by
    rw [show (64 : Int32) * 2 = 128 by decide +kernel]
  unfold wpY_happen
  dsimp only
  refine br_f (nI_ne0 (by omega) (by omega)) ?_
  unfold wY_happen_14
  rw [nI_clamp (n := s) (by omega), e2]
  refine ⟨vp_in_nI hs (by decide), nm_e (br_f (nI_nlt (b := 2) (by omega) (by omega)) ?_)⟩
  refine kl_yn hs hk ?_
  rw [nI_clamp (n := kl_nb s k) (by omega)]
  refine ⟨vp_in_nI hl (by decide), nm_e ?_⟩
  unfold wY_happen_34
  refine br_t (nI_le (a := 2) (by omega) (by omega)) ?_
  unfold wY_happen_44
  rw [z2, e2, r0]
  exact ⟨vp_in_nI (n := 2) (by decide) (by decide), vp_in_nI (n := 2) (by decide) (by decide), nm_e (br_t (nI_le (a := 2) (by omega) (by omega)) hp)⟩
/-- the search for the event that holds unit r -/
theorem kl_yst_l {post : Int32 → SY → Prop} (hR : kl_RO R) (hS : kl_SO S) {r t : Nat} (ht : t < 288) (hr : r < 2 ^ 30) (h1 : kl_P (kl_e R S) t ≤ r) (h2 : r < kl_P (kl_e R S) (t + 1)) (hp : wpY_happen post (R, S, E) (nI (t / 6)) (nI (t % 6))) : ∀ d i, i + d = t → wY_step_19 post (nI r) R S E (d + 1) (nI (kl_P (kl_e R S) i)) (nI i) := by
  have n6 : ¬ (6 : Int32) = 0 := by decide +kernel
  intro d
  induction d with
  | zero =>
    intro i hi
    have hit : i = t := by omega
    subst hit
    have e6 : nI i - nI i / 6 * 6 = nI (i % 6) := pk_rem (d := 6) (by omega) (by decide) (by decide)
    have d6 : nI i / 6 = nI (i / 6) := pk_div (d := 6) (by omega) (by decide) (by decide)
    have hb := kl_e_le (S := S) hR (n := i + 1) (by omega)
    have hs : kl_P (kl_e R S) i + kl_ev R S (i / 6) (i % 6) = kl_P (kl_e R S) (i + 1) := rfl
    refine br_f (nI_ge (b := 288) (by omega) (by decide)) ⟨n6, n6, ?_⟩
    rw [e6, d6]
    refine kl_ye hR hS (by omega) (by omega) ?_
    refine br_f (nI_nlt (by omega) (by omega)) ?_
    rw [nI_add, hs]
    exact br_f (nI_ge h2 (by omega)) ⟨n6, n6, hp⟩
  | succ d ih =>
    intro i hi
    have e6 : nI i - nI i / 6 * 6 = nI (i % 6) := pk_rem (d := 6) (by omega) (by decide) (by decide)
    have d6 : nI i / 6 = nI (i / 6) := pk_div (d := 6) (by omega) (by decide) (by decide)
    have hm := kl_P_mono (kl_e R S) (a := i + 1) (b := t) (by omega)
    have hm' := kl_P_mono (kl_e R S) (a := i) (b := i + 1) (by omega)
    have hs : kl_P (kl_e R S) i + kl_ev R S (i / 6) (i % 6) = kl_P (kl_e R S) (i + 1) := rfl
    refine br_f (nI_ge (b := 288) (by omega) (by decide)) ⟨n6, n6, ?_⟩
    rw [e6, d6]
    refine kl_ye hR hS (by omega) (by omega) ?_
    refine br_f (nI_nlt (by omega) (by omega)) ?_
    rw [nI_add, hs]
    exact br_t (nI_le (by omega) (by omega)) (nm_e (nm_r (nI_1 i) (ih (i + 1) (by omega))))
theorem kl_yst {post : Int32 → SY → Prop} (hR : kl_RO R) (hS : kl_SO S) {r s e : Nat} (hs : s < 48) (he : e < 6) (hr : r < kl_P (kl_W R S) 48) (h1 : kl_P (kl_W R S) s + kl_P (kl_ev R S s) e ≤ r) (h2 : r < kl_P (kl_W R S) s + kl_P (kl_ev R S s) (e + 1)) (hp : wpY_happen post (R, S, E) (nI s) (nI e)) : wpY_step post (R, S, E) (nI r) := by
  have hb := kl_tot_le (S := S) hR (n := 48) (by decide)
  rw [← kl_e_sum hS hs (by omega)] at h1
  rw [← kl_e_sum hS hs (by omega)] at h2
  unfold wpY_step
  dsimp only
  refine br_f (nI_pos (by omega)) ?_
  refine kl_yt hR hS ?_
  refine br_t (nI_lt hr (by omega)) ⟨6 * s + e + 1, ?_⟩
  refine kl_yst_l hR hS (t := 6 * s + e) (by omega) (by omega) h1 h2 ?_ (6 * s + e) 0 (Nat.zero_add _)
  rw [show (6 * s + e) / 6 = s by omega, show (6 * s + e) % 6 = e by omega]
  exact hp
end
end
section
/-! one step and many: both sides end in one answer and in states that fit -/
section
variable {p : Int32} {R S N M T E : Nat → Int32}
theorem kl_xtot (I : kl_I p R S N M T) {post : Int32 → Prop} (hp : post (nI (kl_P (kl_W R S) 48))) : wpX_prefix post (p, R, S, N, M, T, E) 48 := by
  obtain ⟨_, _, _, hF, hM, _⟩ := I
  refine kl_pre (n := 48) hF (by decide) ?_
  rw [kl_S_P hM]
  exact hp
/-- the component's walk up to the picked site -/
theorem kl_xpick (I : kl_I p R S N M T) {r s : Nat} (hr : r < kl_P (kl_W R S) 48) (hs : s < 48) (h1 : kl_P (kl_W R S) s ≤ r) (h2 : r < kl_P (kl_W R S) (s + 1)) {post : Int32 → SX → Prop}
    (h0 : S s = 0 → wpX_become (fun u => match u with | (f_particles_79, a_rates_80, a_states_81, a_next_82, a_sum_83, a_tree_84, a_events_85) => (∀ a_events_87, a_events_87 = upd a_events_85 0 ((a_events_85 0) + 1) → (post (nI s) (f_particles_79, a_rates_80, a_states_81, a_next_82, a_sum_83, a_tree_84, a_events_87)))) (p, R, S, N, M, T, E) (nI s) 1)
    (hd : S s = 1 → r - kl_P (kl_W R S) s < kl_r R (kl_ct S 1 s 4) → wpX_become (fun u => match u with | (f_particles_69, a_rates_70, a_states_71, a_next_72, a_sum_73, a_tree_74, a_events_75) => (∀ a_events_77, a_events_77 = upd a_events_75 1 ((a_events_75 1) + 1) → (post (nI s + 64) (f_particles_69, a_rates_70, a_states_71, a_next_72, a_sum_73, a_tree_74, a_events_77)))) (p, R, S, N, M, T, E) (nI s) 0)
    (hh : S s = 1 → kl_r R (kl_ct S 1 s 4) ≤ r - kl_P (kl_W R S) s → wpX_hopOf (fun r_41 => (wpX_become (fun u => match u with | (f_particles_50, a_rates_51, a_states_52, a_next_53, a_sum_54, a_tree_55, a_events_56) => (vp_in ((nI s * 4) + r_41) 192 ∧ (wpX_become (fun u => match u with | (f_particles_59, a_rates_60, a_states_61, a_next_62, a_sum_63, a_tree_64, a_events_65) => (∀ a_events_67, a_events_67 = upd a_events_65 2 ((a_events_65 2) + 1) → (post ((nI s + 128) + (256 * r_41)) (f_particles_59, a_rates_60, a_states_61, a_next_62, a_sum_63, a_tree_64, a_events_67)))) (f_particles_50, a_rates_51, a_states_52, a_next_53, a_sum_54, a_tree_55, a_events_56) (a_next_53 ((nI s * 4) + r_41).toNatClampNeg) 1))) (p, R, S, N, M, T, E) (nI s) 0)) (p, R, S, N, M, T, E) (nI s) (nI (r - kl_P (kl_W R S) s - kl_r R (kl_ct S 1 s 4)))) :
    wpX_step post (p, R, S, N, M, T, E) (nI r) := by
  have I' := I
  obtain ⟨hR, hS, hN, hF, hM, _⟩ := I'
  have hb := kl_tot_le (S := S) hR (n := 48) (by decide)
  have hb64 := kl_tot_le (S := S) hR (n := 64) (by decide)
  unfold wpX_step
  dsimp only
  refine kl_xtot I ?_
  refine br_f (nI_pos (by omega)) (br_t (nI_lt hr (by omega)) ?_)
  refine kl_so hF hM (by omega) (by omega) hr h1 h2 ?_
  refine kl_pre hF (by omega) ?_
  rw [kl_S_P hM, pk_sub h1]
  refine nm_e ?_
  rw [nI_clamp (n := s) (by omega)]
  refine ⟨vp_in_nI hs (by decide), ?_⟩
  rcases hS s hs with h | h | h
  · exact br_t h (h0 h)
  · refine br_f (by rw [h]; decide +kernel) ?_
    refine kl_occ hN hs ?_
    have hc := kl_ct_le S 1 s 4
    have hn := hR (kl_ct S 1 s 4) (by omega)
    rw [nI_clamp (n := kl_ct S 1 s 4) (by omega), hn.2]
    refine ⟨vp_in_nI (by omega) (by decide), ?_⟩
    by_cases hlt : r - kl_P (kl_W R S) s < kl_r R (kl_ct S 1 s 4)
    · exact br_f (nI_ge hlt (by omega)) (hd h hlt)
    · rw [pk_sub (by omega)]
      exact br_t (nI_le (by omega) (by omega)) ⟨vp_in_nI (by omega) (by decide), hh h (by omega)⟩
  · have e : kl_W R S s = 0 := by
      rw [kl_W_in hs, ← kl_es_wo (hS s hs), kl_es_2 h]
    rw [kl_P_s, e] at h2
    omega
theorem kl_step (I : kl_I p R S N M T) (x : Int32) : ∃ a p' S' M' T' E', kl_I p' R S' N M' T' ∧ (∀ post : Int32 → SX → Prop, post a (p', R, S', N, M', T', E') → wpX_step post (p, R, S, N, M, T, E) x) ∧ (∀ post : Int32 → SY → Prop, post a (R, S', E') → wpY_step post (R, S, E) x) := by
  have I' := I
  obtain ⟨hR, hS, hN, hF, hM, _⟩ := I'
  have hb := kl_tot_le (S := S) hR (n := 48) (by decide)
  by_cases hx : x < 0
  · refine ⟨-3, p, S, M, T, E, I, fun post hp => ?_, fun post hp => ?_⟩
    · unfold wpX_step
      dsimp only
      refine kl_xtot I ?_
      exact br_t hx hp
    · unfold wpY_step
      dsimp only
      exact br_t hx hp
  · obtain ⟨r, hr, rfl⟩ := nI_of hx
    by_cases ht : r < kl_P (kl_W R S) 48
    · obtain ⟨s, hs, h1, h2⟩ := kl_P_find (kl_W R S) r 48 ht
      have h2' := h2
      rw [kl_P_s, kl_W_in hs, ← kl_es_wo (hS s hs)] at h2'
      rcases hS s hs with h | h | h
      · rw [kl_es_0 h 5] at h2'
        obtain ⟨p1, M1, T1, I1, w1⟩ := kl_become (E := E) I hs (x := 1) (Or.inr (Or.inl rfl))
        refine ⟨nI s, p1, upd S s 1, M1, T1, upd E 0 (E 0 + 1), I1, fun post hp => ?_, fun post hp => ?_⟩
        · refine kl_xpick I ht hs h1 h2 (fun _ => w1 _ ?_) (fun z => absurd (h.symm.trans z) (by decide +kernel)) (fun z => absurd (h.symm.trans z) (by decide +kernel))
          exact nm_e hp
        · refine kl_yst hR hS hs (e := 0) (by decide) ht h1 ?_ (kl_yh0 hs hp)
          rw [kl_es_0 h 0]
          exact h2'
      · rw [kl_es_h h 4] at h2'
        by_cases hlt : r - kl_P (kl_W R S) s < kl_r R (kl_ct S 1 s 4)
        · obtain ⟨p1, M1, T1, I1, w1⟩ := kl_become (E := E) I hs (x := 0) (Or.inl rfl)
          refine ⟨nI s + 64, p1, upd S s 0, M1, T1, upd E 1 (E 1 + 1), I1, fun post hp => ?_, fun post hp => ?_⟩
          · refine kl_xpick I ht hs h1 h2 (fun z => absurd (h.symm.trans z) (by decide +kernel)) (fun _ _ => w1 _ ?_) (fun _ z => absurd hlt (by omega))
            exact nm_e hp
          · refine kl_yst hR hS hs (e := 1) (by decide) ht ?_ ?_ (kl_yh1 hs hp)
            · rw [kl_es_1 h]
              exact h1
            · rw [kl_es_h h 0, show kl_P (kl_h R S s) 0 = 0 from rfl]
              omega
        · obtain ⟨k, hk, k1, k2⟩ := kl_P_find (kl_h R S s) (r - kl_P (kl_W R S) s - kl_r R (kl_ct S 1 s 4)) 4 (by omega)
          have hl := kl_nb_lt (k := k) hs
          obtain ⟨p1, M1, T1, I1, w1⟩ := kl_become (E := E) I hs (x := 0) (Or.inl rfl)
          obtain ⟨p2, M2, T2, I2, w2⟩ := kl_become (E := E) I1 hl (x := 1) (Or.inr (Or.inl rfl))
          refine ⟨nI s + 128 + 256 * nI k, p2, upd (upd S s 0) (kl_nb s k) 1, M2, T2, upd E 2 (E 2 + 1), I2, fun post hp => ?_, fun post hp => ?_⟩
          · refine kl_xpick I ht hs h1 h2 (fun z => absurd (h.symm.trans z) (by decide +kernel)) (fun _ z => absurd z hlt) (fun _ _ => ?_)
            refine kl_hop hR hN hs (by omega) hk k1 k2 ?_
            refine w1 _ ?_
            dsimp only
            rw [kl_ix, nI_clamp (n := s * 4 + k) (by omega), hN s k hs hk]
            refine ⟨vp_in_nI (by omega) (by decide), w2 _ ?_⟩
            exact nm_e hp
          · refine kl_yst hR hS hs (e := k + 2) (by omega) ht ?_ ?_ (kl_yh2 hs hk hp)
            · rw [kl_es_h h k]
              omega
            · rw [show k + 2 + 1 = (k + 1) + 2 from rfl, kl_es_h h (k + 1)]
              omega
      · rw [kl_es_2 h] at h2'
        omega
    · refine ⟨-3, p, S, M, T, E, I, fun post hp => ?_, fun post hp => ?_⟩
      · unfold wpX_step
        dsimp only
        refine kl_xtot I ?_
        exact br_f hx (br_f (nI_nlt (by omega) hr) hp)
      · unfold wpY_step
        dsimp only
        refine br_f hx ?_
        refine kl_yt hR hS ?_
        exact br_f (nI_nlt (by omega) hr) hp
end
/-- the two runs in lockstep: m turns -/
theorem kl_run {R N : Nat → Int32} {x1 x3 : Int32} {m : Nat} (hm : m ≤ 200) (hX1 : ∀ i, i < m → ¬ x3 ≤ nI i) (hX2 : x3 ≤ nI m) (hY1 : ∀ i, i < m → ¬ x1 ≤ nI i) (hY2 : x1 ≤ nI m ∨ m = 200) :
    ∀ d i (y z p : Int32) (S M T E : Nat → Int32), i + d = m → kl_I p R S N M T → ∃ a p' S' M' T' E', kl_I p' R S' N M' T' ∧ (∀ post : Int32 → SX → Prop, post a (p', R, S', N, M', T', E') → wX_run_24 post x3 (d + 1) y z (nI i) p R S N M T E) ∧ (∀ post : Int32 → SY → Prop, post a (R, S', E') → wY_run_8 post x1 (d + 1) y z (nI i) R S E) := by
  intro d
  induction d with
  | zero =>
    intro i y z p S M T E hi I
    have him : i = m := by omega
    subst him
    refine ⟨z, p, S, M, T, E, I, fun post hp => br_t hX2 hp, fun post hp => ?_⟩
    by_cases h : x1 ≤ nI i
    · exact br_t h hp
    · have h200 : i = 200 := hY2.resolve_left h
      subst h200
      exact br_f h (br_t (by decide +kernel) hp)
  | succ d ih =>
    intro i y z p S M T E hi I
    have I' := I
    obtain ⟨hR, hS, hN, hF, hM, _⟩ := I'
    have hb := kl_tot_le (S := S) hR (n := 48) (by decide)
    have hx := hX1 i (by omega)
    have hy := hY1 i (by omega)
    have h200 : ¬ (200 : Int32) ≤ nI i := nI_ge (b := 200) (by omega) (by decide)
    by_cases h0 : kl_P (kl_W R S) 48 = 0
    · obtain ⟨a, p', S', M', T', E', I2, wx, wy⟩ := ih (i + 1) y z p S M T E (by omega) I
      refine ⟨a, p', S', M', T', E', I2, fun post hp => br_f hx ?_, fun post hp => br_f hy (br_f h200 ?_)⟩
      · refine kl_xtot I ?_
        rw [h0]
        exact br_t (by decide +kernel) (nm_r (nI_1 i) (wx post hp))
      · refine kl_yt hR hS ?_
        rw [h0]
        exact br_t (by decide +kernel) (nm_r (nI_1 i) (wy post hp))
    · have hpos : ¬ nI (kl_P (kl_W R S) 48) ≤ 0 := nI_nle (by omega) (by omega)
      have hne : ¬ nI (kl_P (kl_W R S) 48) = 0 := nI_ne0 (by omega) (by omega)
      obtain ⟨a1, p1, S1, M1, T1, E1, I1, wx1, wy1⟩ := kl_step (E := E) I (((((y * 1103515245) + 12345).toUInt32 >>> ((8 : Int32).toUInt32 &&& Int32.toUInt32 31)).toInt32 &&& 1048575) - ((((y * 1103515245) + 12345).toUInt32 >>> ((8 : Int32).toUInt32 &&& Int32.toUInt32 31)).toInt32 &&& 1048575) / nI (kl_P (kl_W R S) 48) * nI (kl_P (kl_W R S) 48))
      obtain ⟨a, p', S', M', T', E', I2, wx, wy⟩ := ih (i + 1) ((y * 1103515245) + 12345) (z + 1) p1 S1 M1 T1 E1 (by omega) I1
      refine ⟨a, p', S', M', T', E', I2, fun post hp => br_f hx ?_, fun post hp => br_f hy (br_f h200 ?_)⟩
      · refine kl_xtot I ?_
        refine br_f hpos (nm_e ⟨hne, wx1 _ ?_⟩)
        exact nm_e (nm_r (nI_1 i) (wx post hp))
      · refine kl_yt hR hS ?_
        refine br_f hpos (nm_e ⟨hne, wy1 _ ?_⟩)
        exact nm_e (nm_r (nI_1 i) (wy post hp))
end
section
/-- rates, states and events are the same; the component's own tables fit them -/
def i_Rel (_ : Nat) (u : SX) (v : SY) : Prop := ∃ (p : Int32) (R S N M T E : Nat → Int32), u = (p, R, S, N, M, T, E) ∧ v = (R, S, E) ∧ kl_I p R S N M T
theorem i_up {k : Nat} {u : SX} {v : SY} (h : i_Rel k u v) : i_Rel (k + 3) u v := h
theorem i_vc0 : wpX_init (fun u => wpY_init (fun v => i_Rel 0 u v)) := by
  have hW : ∀ R j, 48 ≤ j → (fun _ => 0 : Nat → Int32) j = nI (kl_W R (fun _ => 0) j) := by
    intro R j hj
    rw [kl_W_out hj]
    exact nI_0.symm
  have k := kl_i54_l (p := 0) (S := fun _ => 0) (N := fun _ => 0) (M := fun _ => 0) (T := fun _ => 0) (E := fun _ => 0) (post := fun u => wpY_init (fun v => i_Rel 0 u v)) ⟨49, kl_i75_l (fun N' hN' => by
    obtain ⟨M', T', h1, h2, h3⟩ := kl_all (p := 0) (E := fun _ => 0) (S := fun _ => 0) kl_r1_RO hN' kl_Fen_0 (hW _)
    refine h3 _ ?_
    refine kl_yi ?_
    refine ⟨0, kl_r1 7, _, N', M', T', _, rfl, rfl, kl_r1_RO, fun s _ => Or.inl rfl, hN', h1, h2, ?_⟩
    have e : kl_o (fun _ => 0) = fun _ => 0 := by
      funext j
      exact if_neg (show ¬ (0 : Int32) = 1 by decide +kernel)
    rw [e, kl_S_0]) 48 0 _ rfl (fun s k hs => absurd hs (Nat.not_lt_zero s))⟩ 7 0 rfl
  rw [kl_r1_0] at k
  exact ⟨8, k⟩
theorem i_vc_rate {k : Nat} {u : SX} {v : SY} (I : i_Rel k u v) (hk : k + 3 ≤ 1536) (v1 : Int32) (v2 : Int32) : wpX_rate (fun r u' => wpY_rate (fun r' v' => r' = r ∧ i_Rel (k + 3) u' v') v v1 v2) u v1 v2 := by
  have I0 := I
  obtain ⟨p, R, S, N, M, T, E, rfl, rfl, hR, hS, hN, hF, hM, hp⟩ := I
  unfold wpX_rate wpY_rate
  dsimp only
  by_cases h1 : v1 < 0
  · exact br_t h1 (br_t h1 ⟨rfl, I0⟩)
  · refine br_f h1 ?_
    by_cases h2 : v1 ≤ 6
    · refine br_t h2 ?_
      by_cases h3 : v2 < 0
      · exact br_t h3 (br_f h1 (br_t h2 (br_t h3 ⟨rfl, I0⟩)))
      · refine br_f h3 ?_
        by_cases h4 : v2 ≤ 1000
        · refine br_t h4 ?_
          obtain ⟨w, hw, rfl⟩ := nI_of2 (M := 6) (n := 6) (by decide +kernel) h1 h2
          obtain ⟨m, hm, rfl⟩ := nI_of2 (M := 1000) (n := 1000) (by decide +kernel) h3 h4
          have hi : vp_in (nI w) 7 := vp_in_nI (by omega) (by decide)
          rw [nI_clamp (n := w) (by omega)]
          obtain ⟨M', T', hF', hM', h⟩ := kl_all (p := p) (E := E) (S := S) (kl_RO_upd hR (w := w) hm) hN hF (fun j hj => by rw [hM j, kl_W_out hj, kl_W_out hj])
          refine ⟨hi, nm_e ⟨hi, nm_e (h _ ?_)⟩⟩
          dsimp only
          exact br_f h1 (br_t h2 (br_f h3 (br_t h4 ⟨hi, nm_e ⟨hi, nm_e ⟨rfl, p, _, S, N, M', T', E, rfl, rfl, kl_RO_upd hR (w := w) hm, hS, hN, hF', hM', hp⟩⟩⟩)))
        · exact br_f h4 (br_f h1 (br_t h2 (br_f h3 (br_f h4 ⟨rfl, I0⟩))))
    · exact br_f h2 (br_f h1 (br_f h2 ⟨rfl, I0⟩))
theorem kl_47 {x : Int32} : x ≤ 47 ↔ x < 48 := by
  rw [Int32.le_iff_toInt_le, Int32.lt_iff_toInt_lt, show (47 : Int32).toInt = 47 by decide +kernel, show (48 : Int32).toInt = 48 by decide +kernel]
  omega
theorem i_vc_set {k : Nat} {u : SX} {v : SY} (I : i_Rel k u v) (hk : k + 3 ≤ 1536) (v1 : Int32) (v2 : Int32) : wpX_set (fun r u' => wpY_set (fun r' v' => r' = r ∧ i_Rel (k + 3) u' v') v v1 v2) u v1 v2 := by
  have I0 := I
  obtain ⟨p, R, S, N, M, T, E, rfl, rfl, J⟩ := I
  unfold wpX_set wpY_set
  dsimp only
  by_cases h1 : v1 < 0
  · exact br_t h1 (br_t h1 ⟨rfl, I0⟩)
  · refine br_f h1 ?_
    by_cases h2 : v1 < 48
    · have h2' : v1 ≤ 47 := kl_47.mpr h2
      refine br_t h2 ?_
      by_cases h3 : v2 < 0
      · exact br_t h3 (br_f h1 (br_t h2' (br_t h3 ⟨rfl, I0⟩)))
      · refine br_f h3 ?_
        by_cases h4 : v2 ≤ 2
        · refine br_t h4 ?_
          obtain ⟨s, hs, rfl⟩ := nI_of2 (M := 47) (n := 47) (by decide +kernel) h1 h2'
          obtain ⟨m, hm, rfl⟩ := nI_of2 (M := 2) (n := 2) (by decide +kernel) h3 h4
          have hi : vp_in (nI s) 48 := vp_in_nI (by omega) (by decide)
          have hx : nI m = 0 ∨ nI m = 1 ∨ nI m = 2 := by
            have hm' : m = 0 ∨ m = 1 ∨ m = 2 := by omega
            rcases hm' with e | e | e
            · exact Or.inl (by rw [e]; rfl)
            · exact Or.inr (Or.inl (by rw [e]; rfl))
            · exact Or.inr (Or.inr (by rw [e]; rfl))
          obtain ⟨p', M', T', J', h⟩ := kl_become (E := E) J (s := s) (by omega) hx
          rw [nI_clamp (n := s) (by omega)]
          refine ⟨hi, nm_e (h _ ?_)⟩
          dsimp only
          exact br_f h1 (br_t h2' (br_f h3 (br_t h4 ⟨hi, nm_e ⟨hi, nm_e ⟨rfl, p', R, _, N, M', T', E, rfl, rfl, J'⟩⟩⟩)))
        · exact br_f h4 (br_f h1 (br_t h2' (br_f h3 (br_f h4 ⟨rfl, I0⟩))))
    · exact br_f h2 (br_f h1 (br_f (fun z => h2 (kl_47.mp z)) ⟨rfl, I0⟩))
theorem i_vc_step {k : Nat} {u : SX} {v : SY} (I : i_Rel k u v) (hk : k + 3 ≤ 1536) (v1 : Int32) : wpX_step (fun r u' => wpY_step (fun r' v' => r' = r ∧ i_Rel (k + 3) u' v') v v1) u v1 := by
  obtain ⟨p, R, S, N, M, T, E, rfl, rfl, J⟩ := I
  obtain ⟨a, p', S', M', T', E', J', hx, hy⟩ := kl_step (E := E) J v1
  refine hx _ ?_
  refine hy _ ?_
  exact ⟨rfl, p', R, S', N, M', T', E', rfl, rfl, J'⟩
theorem i_vc_run {k : Nat} {u : SX} {v : SY} (I : i_Rel k u v) (hk : k + 3 ≤ 1536) (v1 : Int32) (v2 : Int32) : wpX_run (fun r u' => wpY_run (fun r' v' => r' = r ∧ i_Rel (k + 3) u' v') v v1 v2) u v1 v2 := by
  obtain ⟨p, R, S, N, M, T, E, rfl, rfl, J⟩ := I
  unfold wpX_run
  dsimp only
  by_cases h : v1 ≤ 200
  · refine br_t h ?_
    by_cases h0 : v1 < 0
    · obtain ⟨a, p', S', M', T', E', J', hx, hy⟩ := kl_run (R := R) (N := N) (x1 := v1) (x3 := v1) (m := 0) (by decide) (fun i hi => absurd hi (Nat.not_lt_zero i)) (by rw [nI_0]; exact Int32.le_of_lt h0) (fun i hi => absurd hi (Nat.not_lt_zero i)) (Or.inl (by rw [nI_0]; exact Int32.le_of_lt h0)) 0 0 v2 0 p S M T E rfl J
      refine ⟨1, hx _ ?_⟩
      exact ⟨1, hy _ ⟨rfl, p', R, S', N, M', T', E', rfl, rfl, J'⟩⟩
    · obtain ⟨m, hm, rfl⟩ := nI_of2 (M := 200) (n := 200) (by decide +kernel) h0 h
      obtain ⟨a, p', S', M', T', E', J', hx, hy⟩ := kl_run (R := R) (N := N) (x1 := nI m) (x3 := nI m) (m := m) hm (fun i hi => nI_ge hi (by omega)) (Int32.le_refl _) (fun i hi => nI_ge hi (by omega)) (Or.inl (Int32.le_refl _)) m 0 v2 0 p S M T E (Nat.zero_add m) J
      refine ⟨m + 1, hx _ ?_⟩
      exact ⟨m + 1, hy _ ⟨rfl, p', R, S', N, M', T', E', rfl, rfl, J'⟩⟩
  · have h' : ∀ i, i < 200 → ¬ v1 ≤ nI i := fun i hi z => h (Int32.le_trans z (nI_le (b := 200) (by omega) (by decide)))
    obtain ⟨a, p', S', M', T', E', J', hx, hy⟩ := kl_run (R := R) (N := N) (x1 := v1) (x3 := 200) (m := 200) (by decide) (fun i hi => nI_ge (b := 200) hi (by decide)) (by decide +kernel) h' (Or.inr rfl) 200 0 v2 0 p S M T E rfl J
    refine br_f h ⟨201, hx _ ?_⟩
    exact ⟨201, hy _ ⟨rfl, p', R, S', N, M', T', E', rfl, rfl, J'⟩⟩
theorem i_vc_clear {k : Nat} {u : SX} {v : SY} (I : i_Rel k u v) (hk : k + 3 ≤ 1536) : wpX_clear (fun u' => wpY_clear (fun v' => i_Rel (k + 3) u' v') v) u := by
  obtain ⟨p, R, S, N, M, T, E, rfl, rfl, hR, hS, hN, hF, hM, hp⟩ := I
  obtain ⟨M', T', hF', hM', h⟩ := kl_all (p := 0) (E := E) (S := kl_z S 48) hR hN hF (fun j hj => by rw [hM j, kl_W_out hj, kl_W_out hj])
  refine kl_clr (h _ ?_)
  refine kl_yclr ?_
  exact ⟨0, R, kl_z S 48, N, M', T', E, rfl, rfl, hR, fun s hs => Or.inl (if_pos hs), hN, hF', hM', (kl_z_cnt S 48 (by decide)).symm⟩
theorem i_vc_state {k : Nat} {u : SX} {v : SY} (I : i_Rel k u v) (hk : k + 3 ≤ 1536) (v1 : Int32) : wpX_state (fun r => wpY_state (fun r' => r' = r ∧ i_Rel (k + 3) u v) v v1) u v1 := by
  have I0 := I
  obtain ⟨p, R, S, N, M, T, E, rfl, rfl, J⟩ := I
  unfold wpX_state wpY_state
  dsimp only
  by_cases h1 : v1 < 0
  · exact br_t h1 (br_t h1 ⟨rfl, I0⟩)
  · by_cases h2 : v1 < 48
    · have h2' : v1 ≤ 47 := kl_47.mpr h2
      obtain ⟨s, hs, rfl⟩ := nI_of2 (M := 47) (n := 47) (by decide +kernel) h1 h2'
      have hi : vp_in (nI s) 48 := vp_in_nI (by omega) (by decide)
      exact br_f h1 (br_t h2 ⟨hi, br_f h1 (br_t h2' ⟨hi, rfl, I0⟩)⟩)
    · exact br_f h1 (br_f h2 (br_f h1 (br_f (fun z => h2 (kl_47.mp z)) ⟨rfl, I0⟩)))
theorem i_vc_total {k : Nat} {u : SX} {v : SY} (I : i_Rel k u v) (hk : k + 3 ≤ 1536) : wpX_total (fun r => wpY_total (fun r' => r' = r ∧ i_Rel (k + 3) u v) v) u := by
  have I0 := I
  obtain ⟨p, R, S, N, M, T, E, rfl, rfl, J⟩ := I
  unfold wpX_total
  dsimp only
  refine kl_xtot J ?_
  refine kl_yt J.1 J.2.1 ?_
  exact ⟨rfl, I0⟩
theorem i_vc_siteRate {k : Nat} {u : SX} {v : SY} (I : i_Rel k u v) (hk : k + 3 ≤ 1536) (v1 : Int32) : wpX_siteRate (fun r => wpY_siteRate (fun r' => r' = r ∧ i_Rel (k + 3) u v) v v1) u v1 := by
  have I0 := I
  obtain ⟨p, R, S, N, M, T, E, rfl, rfl, J⟩ := I
  unfold wpX_siteRate
  dsimp only
  by_cases h1 : v1 < 0
  · refine br_t h1 ?_
    unfold wpY_siteRate
    dsimp only
    exact br_t h1 ⟨rfl, I0⟩
  · by_cases h2 : v1 < 48
    · have h2' : v1 ≤ 47 := kl_47.mpr h2
      obtain ⟨s, hs, rfl⟩ := nI_of2 (M := 47) (n := 47) (by decide +kernel) h1 h2'
      have hi : vp_in (nI s) 48 := vp_in_nI (by omega) (by decide)
      rw [nI_clamp (n := s) (by omega)]
      refine br_f h1 (br_t h2 ⟨hi, ?_⟩)
      refine kl_ys J.1 J.2.1 (by omega) ?_
      exact ⟨(J.2.2.2.2.1 s).symm, I0⟩
    · refine br_f h1 (br_f h2 ?_)
      unfold wpY_siteRate
      dsimp only
      exact br_f h1 (br_f (fun z => h2 (kl_47.mp z)) ⟨rfl, I0⟩)
theorem i_vc_occupied {k : Nat} {u : SX} {v : SY} (I : i_Rel k u v) (hk : k + 3 ≤ 1536) : wpX_occupied (fun r => wpY_occupied (fun r' => r' = r ∧ i_Rel (k + 3) u v) v) u := by
  have I0 := I
  obtain ⟨p, R, S, N, M, T, E, rfl, rfl, J⟩ := I
  unfold wpX_occupied
  dsimp only
  refine kl_yc ?_
  exact ⟨J.2.2.2.2.2.symm, I0⟩
theorem i_vc_pairs {k : Nat} {u : SX} {v : SY} (I : i_Rel k u v) (hk : k + 3 ≤ 1536) : wpX_pairs (fun r => wpY_pairs (fun r' => r' = r ∧ i_Rel (k + 3) u v) v) u := by
  have I0 := I
  obtain ⟨p, R, S, N, M, T, E, rfl, rfl, J⟩ := I
  refine kl_xp J.2.2.1 ?_
  refine kl_yp ?_
  exact ⟨rfl, I0⟩
theorem i_vc_happened {k : Nat} {u : SX} {v : SY} (I : i_Rel k u v) (hk : k + 3 ≤ 1536) (v1 : Int32) : wpX_happened (fun r => wpY_happened (fun r' => r' = r ∧ i_Rel (k + 3) u v) v v1) u v1 := by
  have I0 := I
  obtain ⟨p, R, S, N, M, T, E, rfl, rfl, J⟩ := I
  unfold wpX_happened wpY_happened
  dsimp only
  by_cases h1 : v1 < 0
  · exact br_t h1 (br_t h1 ⟨rfl, I0⟩)
  · by_cases h2 : v1 ≤ 2
    · obtain ⟨s, hs, rfl⟩ := nI_of2 (M := 2) (n := 2) (by decide +kernel) h1 h2
      have hi : vp_in (nI s) 3 := vp_in_nI (by omega) (by decide)
      exact br_f h1 (br_t h2 ⟨hi, br_f h1 (br_t h2 ⟨hi, rfl, I0⟩)⟩)
    · exact br_f h1 (br_f h2 (br_f h1 (br_f h2 ⟨rfl, I0⟩)))
theorem kl_bef {p : Int32} {R S N M T E : Nat → Int32} (J : kl_I p R S N M T) {post : Int32 → Prop} {x : Int32} {q : Nat} (hq : q ≤ 48) (hx : (x = nI q) ∨ (¬ x ≤ 48 ∧ q = 48)) (hp : post (nI (kl_P (kl_W R S) q))) : wX_before_8 post x p R S N M T E := by
  obtain ⟨hR, hS, hN, hF, hM, _⟩ := J
  have K : wX_before_17 post (nI q) p R S N M T E := by
    unfold wX_before_17
    refine kl_pre hF (by omega) ?_
    rw [kl_S_P hM]
    exact hp
  unfold wX_before_8
  rcases hx with h | ⟨h, e⟩
  · subst h
    exact br_t (nI_le (b := 48) hq (by decide)) K
  · subst e
    exact br_f h K
theorem i_vc_before {k : Nat} {u : SX} {v : SY} (I : i_Rel k u v) (hk : k + 3 ≤ 1536) (v1 : Int32) : wpX_before (fun r => wpY_before (fun r' => r' = r ∧ i_Rel (k + 3) u v) v v1) u v1 := by
  have I0 := I
  obtain ⟨p, R, S, N, M, T, E, rfl, rfl, J⟩ := I
  unfold wpX_before
  dsimp only
  by_cases h1 : v1 < 0
  · have h1' : ¬ 0 ≤ v1 := fun z => Int32.not_lt.mpr z h1
    refine br_f h1' (kl_bef J (q := 0) (by decide) (Or.inl nI_0.symm) ?_)
    refine kl_yb J.1 J.2.1 (q := 0) (by decide) (fun i hi => absurd hi (Nat.not_lt_zero i)) (Or.inl (by rw [nI_0]; exact Int32.le_of_lt h1)) ?_
    exact ⟨rfl, I0⟩
  · have h1' : 0 ≤ v1 := Int32.not_lt.mp h1
    refine br_t h1' ?_
    by_cases h2 : v1 ≤ 48
    · obtain ⟨s, hs, rfl⟩ := nI_of2 (M := 48) (n := 48) (by decide +kernel) h1 h2
      refine kl_bef J (q := s) hs (Or.inl rfl) ?_
      refine kl_yb J.1 J.2.1 (q := s) hs (fun i hi => nI_ge hi (by omega)) (Or.inl (Int32.le_refl _)) ?_
      exact ⟨rfl, I0⟩
    · refine kl_bef J (q := 48) (by decide) (Or.inr ⟨h2, rfl⟩) ?_
      refine kl_yb J.1 J.2.1 (q := 48) (by decide) (fun i hi z => h2 (Int32.le_trans z (nI_le (b := 48) (by omega) (by decide)))) (Or.inr rfl) ?_
      exact ⟨rfl, I0⟩
end
