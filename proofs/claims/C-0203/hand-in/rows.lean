section
theorem pk_us {f : Nat → Int32} {k : Nat} {x : Int32} : upd f k x k = x := if_pos rfl
theorem pk_un {f : Nat → Int32} {k j : Nat} {x : Int32} (h : j ≠ k) : upd f k x j = f j := if_neg h
theorem pk_sub {a b : Nat} (h : b ≤ a) : nI a - nI b = nI (a - b) := by
  obtain ⟨c, rfl⟩ : ∃ c, a = c + b := ⟨a - b, by omega⟩
  rw [← nI_add, Int32.add_sub_cancel, Nat.add_sub_cancel]
theorem pk_m1 (n : Nat) : nI (n + 1) + (-1) = nI n := by
  rw [← nI_1, Int32.add_assoc, show (1 : Int32) + (-1) = 0 from rfl, Int32.add_zero]
theorem pk_mul (a b : Nat) : nI a * nI b = nI (a * b) := (Int32.ofNat_mul a b).symm
theorem pk_ix (x : Int32) {n : Nat} (hn : n < 2 ^ 31) : x < 0 ∨ nI n ≤ x ∨ ∃ j : Nat, j < n ∧ x = nI j := by
  by_cases h : x < 0
  · exact Or.inl h
  · obtain ⟨j, hj, rfl⟩ := nI_of h
    by_cases h2 : j < n
    · exact Or.inr (Or.inr ⟨j, h2, rfl⟩)
    · exact Or.inr (Or.inl (nI_le (by omega) hj))
theorem pk_le {x y : Int32} {A B : Prop} (a b : Nat) (f : a ≤ b → A) (g : b < a → B) (hx : x = nI a := by rfl) (hy : y = nI b := by rfl) (ha : a < 2 ^ 31 := by omega) (hb : b < 2 ^ 31 := by omega) : (x ≤ y → A) ∧ (¬ x ≤ y → B) := by
  subst hx hy
  rw [nI_leI ha hb]
  exact ⟨f, fun z => g (by omega)⟩
theorem pk_lt {x y : Int32} {A B : Prop} (a b : Nat) (f : a < b → A) (g : b ≤ a → B) (hx : x = nI a := by rfl) (hy : y = nI b := by rfl) (ha : a < 2 ^ 31 := by omega) (hb : b < 2 ^ 31 := by omega) : (x < y → A) ∧ (¬ x < y → B) := by
  subst hx hy
  rw [nI_ltI ha hb]
  exact ⟨f, fun z => g (by omega)⟩
theorem pk_eq {x y : Int32} {A B : Prop} (a b : Nat) (f : a = b → A) (g : a ≠ b → B) (hx : x = nI a := by rfl) (hy : y = nI b := by rfl) (ha : a < 2 ^ 31 := by omega) (hb : b < 2 ^ 31 := by omega) : (x = y → A) ∧ (¬ x = y → B) := by
  subst hx hy
  rw [nI_eq ha hb]
  exact ⟨f, g⟩
theorem pk_in {x : Int32} (n N : Nat) (h : n < N) (hx : x = nI n := by rfl) (hN : N < 2 ^ 31 := by omega) : vp_in x N := by
  subst hx
  exact vp_in_nI h hN
theorem pk_cl {x : Int32} (n : Nat) (hx : x = nI n := by rfl) (h : n < 2 ^ 31 := by omega) : x.toNatClampNeg = n := by
  subst hx
  exact nI_clamp h
theorem pk_tn {n : Nat} (h : n < 2 ^ 32) : (nI n).toBitVec.toNat = n := Nat.mod_eq_of_lt h
theorem pk_and (x : Int32) {m : Int32} (k : Nat) (hm : m.toBitVec.toNat = 2 ^ k - 1) : x &&& m = nI (x.toBitVec.toNat % 2 ^ k) := by
  apply Int32.toBitVec_inj.mp
  apply BitVec.eq_of_toNat_eq
  rw [Int32.toBitVec_and, BitVec.toNat_and, hm, Nat.and_two_pow_sub_one_eq_mod]
  show _ = (BitVec.ofNat 32 _).toNat
  rw [BitVec.toNat_ofNat]
  exact (Nat.mod_eq_of_lt (Nat.lt_of_le_of_lt (Nat.mod_le _ _) x.toBitVec.isLt)).symm
theorem pk_andN {n : Nat} (h : n < 2 ^ 32) {m : Int32} (k : Nat) (hm : m.toBitVec.toNat = 2 ^ k - 1) : nI n &&& m = nI (n % 2 ^ k) := by
  rw [pk_and _ k hm, pk_tn h]
theorem pk_andE (x : Int32) {m : Int32} (k : Nat) (hm : m.toBitVec.toNat = 2 ^ k - 1) : ∃ j : Nat, j < 2 ^ k ∧ x &&& m = nI j := ⟨_, Nat.mod_lt _ (Nat.two_pow_pos k), pk_and x k hm⟩
theorem pk_andIn (x : Int32) {m : Int32} (k : Nat) (hm : m.toBitVec.toNat = 2 ^ k - 1) (hk : k ≤ 30) : vp_in (x &&& m) (2 ^ k) := by
  obtain ⟨j, hj, e⟩ := pk_andE x k hm
  rw [e]
  exact vp_in_nI hj (Nat.lt_of_le_of_lt (Nat.pow_le_pow_right (by decide) hk) (by decide))
theorem pk_shl (a s : Int32) (k : Nat) (hs : (s.toBitVec.smod 32).toNat = k) : (a <<< s).toBitVec.toNat = a.toBitVec.toNat * 2 ^ k % 2 ^ 32 := by
  show (a.toBitVec <<< (s.toBitVec.smod 32).toNat).toNat = _
  rw [hs, BitVec.toNat_shiftLeft, Nat.shiftLeft_eq]
theorem pk_shlN {n : Nat} (s : Int32) (k : Nat) (hs : (s.toBitVec.smod 32).toNat = k) (h : n * 2 ^ k < 2 ^ 32) : nI n <<< s = nI (n * 2 ^ k) := by
  apply Int32.toBitVec_inj.mp
  apply BitVec.eq_of_toNat_eq
  have hn : n < 2 ^ 32 := Nat.lt_of_le_of_lt (Nat.le_mul_of_pos_right n (Nat.two_pow_pos k)) h
  rw [pk_shl _ _ k hs, pk_tn hn, pk_tn h, Nat.mod_eq_of_lt h]
theorem pk_shr (a s : Int32) (k : Nat) (hs : (s.toBitVec.smod 32).toNat = k) : (a >>> s).toInt = a.toInt >>> k := by
  show (a.toBitVec.sshiftRight (s.toBitVec.smod 32).toNat).toInt = _
  rw [hs, BitVec.toInt_sshiftRight]
  rfl
theorem pk_shrN {n : Nat} (h : n < 2 ^ 31) (s : Int32) (k : Nat) (hs : (s.toBitVec.smod 32).toNat = k) : nI n >>> s = nI (n / 2 ^ k) := by
  apply Int32.toInt_inj.mp
  have h2 : n / 2 ^ k ≤ n := Nat.div_le_self _ _
  rw [pk_shr _ _ k hs, nI_toInt h, nI_toInt (by omega), Int.shiftRight_eq_div_pow]
  rfl
theorem s_l : ∀ n, n < 32 → ((nI n &&& 31).toBitVec.smod 32).toNat = n := by decide +kernel
end
section
/-! Int32 as a quotient of the integers: iI is a ring map, a mask is a remainder -/
def iI (z : Int) : Int32 := Int32.ofInt z
theorem ii_n (n : Nat) : nI n = iI (n : Int) := (Int32.ofInt_eq_ofNat).symm
theorem ii_add (a b : Int) : iI a + iI b = iI (a + b) := (Int32.ofInt_add a b).symm
theorem ii_sub (a b : Int) : iI a - iI b = iI (a - b) := (Int32.ofInt_sub a b).symm
theorem ii_mul (a b : Int) : iI a * iI b = iI (a * b) := (Int32.ofInt_mul a b).symm
theorem ii_t (x : Int32) : iI x.toInt = x := Int32.ofInt_toInt x
theorem ii_toInt {a : Int} (h0 : 0 ≤ a) (h : a < 2147483648) : (iI a).toInt = a :=
  Int32.toInt_ofInt_of_le (by omega) (by omega)
theorem ii_N {a : Int} (h0 : 0 ≤ a) : iI a = nI a.toNat := by
  rw [ii_n, Int.toNat_of_nonneg h0]
theorem ii_eq {a b : Int} (ha : 0 ≤ a) (ha' : a < 2147483648) (hb : 0 ≤ b) (hb' : b < 2147483648) : iI a = iI b ↔ a = b :=
  ⟨fun h => by
    have e := congrArg Int32.toInt h
    rwa [ii_toInt ha ha', ii_toInt hb hb'] at e, fun h => by rw [h]⟩
theorem ii_p (b : Nat) : ((2 ^ b : Nat) : Int) = (2 : Int) ^ b := Int.natCast_pow 2 b
theorem ii_pd {a c : Nat} (h : a ≤ c) : (2 : Int) ^ a ∣ 2 ^ c := ⟨2 ^ (c - a), by rw [← Int.pow_add, Nat.add_sub_of_le h]⟩
theorem ii_and (a : Int) {b : Nat} (hb : b ≤ 30) : iI a &&& (nI (2 ^ b) - 1) = iI (a % 2 ^ b) := by
  have e : nI (2 ^ b) - 1 = nI (2 ^ b - 1) := pk_sub (a := 2 ^ b) (b := 1) Nat.one_le_two_pow
  have hl : 2 ^ b ≤ 2 ^ 30 := Nat.pow_le_pow_right (by decide) hb
  rw [e, pk_and (iI a) b (pk_tn (by omega))]
  have h1 : (iI a).toBitVec.toNat = (a % ((2 ^ 32 : Nat) : Int)).toNat := BitVec.toNat_ofInt a
  rw [h1, ii_n]
  have h2 : (((a % ((2 ^ 32 : Nat) : Int)).toNat % 2 ^ b : Nat) : Int) = (a % ((2 ^ 32 : Nat) : Int)) % 2 ^ b := by
    rw [Int.natCast_emod, Int.toNat_of_nonneg (Int.emod_nonneg _ (by decide)), ii_p b]
  rw [h2, ii_p 32, Int.emod_emod_of_dvd a (ii_pd (by omega : b ≤ 32))]
theorem ii_shr {a : Int} (h0 : 0 ≤ a) (h : a < 2147483648) {k : Nat} (hk : k < 32) : iI a >>> (nI k &&& 31) = iI (a / 2 ^ k) := by
  have e : iI a >>> (nI k &&& 31) = nI (a.toNat / 2 ^ k) := by
    rw [ii_N h0]
    exact pk_shrN (by omega) _ k (s_l k hk)
  rw [e, ii_n, Int.natCast_ediv, ii_p, Int.toNat_of_nonneg h0]
theorem ii_and1 (a : Int) : iI a &&& 1 = iI (a % 2) := by
  have h := ii_and a (b := 1) (by decide)
  rw [show nI (2 ^ 1) - 1 = 1 from by decide, show (2 : Int) ^ 1 = 2 from rfl] at h
  exact h
theorem ii_shl1 {k : Nat} (hk : k < 31) : (1 : Int32) <<< (nI k &&& 31) = nI (2 ^ k) := by
  have h2 : 2 ^ k < 2 ^ 32 := Nat.pow_lt_pow_right (by decide) (by omega)
  have h := pk_shlN (n := 1) (nI k &&& 31) k (s_l k (by omega)) (by omega)
  rw [Nat.one_mul] at h
  exact h
theorem ii_shl {m k : Nat} (hk : k < 31) (h : m * 2 ^ k < 2 ^ 32) : nI m <<< (nI k &&& 31) = nI (m * 2 ^ k) :=
  pk_shlN (nI k &&& 31) k (s_l k (by omega)) h
theorem ii_nand {a b : Nat} (hb : b ≤ 30) (ha : a < 2 ^ 31) : nI a &&& (nI (2 ^ b) - 1) = nI (a % 2 ^ b) := by
  rw [ii_n a, ii_and _ hb, ii_n, Int.natCast_emod, ii_p]
theorem ii_in {a : Int} {N : Nat} (h0 : 0 ≤ a) (h : a < N) (hN : N < 2 ^ 31) : vp_in (iI a) N := by
  rw [ii_N h0]
  exact vp_in_nI (by omega) hN
/-- b and P are at most 4: cases -/
theorem cs_5 {p : Nat → Prop} (h0 : p 0) (h1 : p 1) (h2 : p 2) (h3 : p 3) (h4 : p 4) : ∀ k, k ≤ 4 → p k
  | 0, _ => h0
  | 1, _ => h1
  | 2, _ => h2
  | 3, _ => h3
  | 4, _ => h4
  | k + 5, h => absurd h (by omega)
end
section
/-! lines: sums, values, divisibility -/
theorem dv_mod (m x : Int) : m ∣ x % m - x := ⟨-(x / m), by rw [Int.emod_def, Int.mul_neg]; omega⟩
theorem dv_tr {m a c : Int} (h : m ∣ a - c) : m ∣ a ↔ m ∣ c := by
  constructor
  · intro ha
    have e := Int.dvd_sub ha h
    rwa [show a - (a - c) = c from by omega] at e
  · intro hc
    have e := Int.dvd_add h hc
    rwa [show a - c + c = a from by omega] at e
theorem dv_sm {m x : Int} (h0 : 0 ≤ x) (h : x < m) (hd : m ∣ x) : x = 0 := by
  obtain ⟨q, rfl⟩ := hd
  have hm : 0 < m := by omega
  have hq : q = 0 := by
    rcases Int.lt_trichotomy q 0 with h1 | h1 | h1
    · have := Int.mul_neg_of_pos_of_neg hm h1
      omega
    · exact h1
    · have : m * 1 ≤ m * q := Int.mul_le_mul_of_nonneg_left (by omega) (by omega)
      omega
  rw [hq, Int.mul_zero]
def lc_sm (f x : Nat → Int) : Nat → Int
  | 0 => 0
  | n + 1 => lc_sm f x n + f n * x n
def lc_ev (n : Nat) (f x : Nat → Int) : Int := lc_sm f x n - f 4
theorem lc_sm_p {f g x y : Nat → Int} : ∀ {n : Nat}, (∀ v, v < n → f v * x v = g v * y v) → lc_sm f x n = lc_sm g y n
  | 0, _ => rfl
  | n + 1, h => by
    rw [lc_sm, lc_sm, lc_sm_p (fun v hv => h v (by omega)), h n (by omega)]
theorem lc_sm_0 {f x : Nat → Int} : ∀ {n : Nat}, (∀ v, v < n → f v = 0) → lc_sm f x n = 0
  | 0, _ => rfl
  | n + 1, h => by
    rw [lc_sm, lc_sm_0 (fun v hv => h v (by omega)), h n (by omega), Int.zero_mul]
    rfl
theorem lc_sm_f {m c : Int} {f g h x : Nat → Int} : ∀ {n : Nat}, (∀ v, v < n → m ∣ g v - (f v - c * h v)) → m ∣ lc_sm g x n - (lc_sm f x n - c * lc_sm h x n)
  | 0, _ => ⟨0, by simp [lc_sm]⟩
  | n + 1, hh => by
    obtain ⟨p, hp⟩ := lc_sm_f (x := x) (fun v hv => hh v (by omega) : ∀ v, v < n → m ∣ g v - (f v - c * h v))
    obtain ⟨q, hq⟩ := hh n (by omega)
    refine ⟨p + q * x n, ?_⟩
    rw [lc_sm, lc_sm, lc_sm]
    grind
theorem lc_sm_k {m c : Int} {f g x : Nat → Int} : ∀ {n : Nat}, (∀ v, v < n → m ∣ g v - c * f v) → m ∣ lc_sm g x n - c * lc_sm f x n
  | 0, _ => ⟨0, by simp [lc_sm]⟩
  | n + 1, hh => by
    obtain ⟨p, hp⟩ := lc_sm_k (x := x) (fun v hv => hh v (by omega) : ∀ v, v < n → m ∣ g v - c * f v)
    obtain ⟨q, hq⟩ := hh n (by omega)
    refine ⟨p + q * x n, ?_⟩
    rw [lc_sm, lc_sm]
    grind
theorem lc_sm_x {m t : Int} {f w x y z : Nat → Int} : ∀ {n : Nat}, (∀ v, v < n → m ∣ w v - (x v + t * (y v - z v))) → m ∣ lc_sm f w n - (lc_sm f x n + t * (lc_sm f y n - lc_sm f z n))
  | 0, _ => ⟨0, by simp [lc_sm]⟩
  | n + 1, hh => by
    obtain ⟨p, hp⟩ := lc_sm_x (f := f) (fun v hv => hh v (by omega) : ∀ v, v < n → m ∣ w v - (x v + t * (y v - z v)))
    obtain ⟨q, hq⟩ := hh n (by omega)
    refine ⟨p + q * f n, ?_⟩
    rw [lc_sm, lc_sm, lc_sm, lc_sm]
    grind
theorem lc_ev_f {n : Nat} (hn : n ≤ 4) {m c : Int} {f g h x : Nat → Int} (H : ∀ v, v < 5 → m ∣ g v - (f v - c * h v)) : m ∣ lc_ev n g x - (lc_ev n f x - c * lc_ev n h x) := by
  obtain ⟨p, hp⟩ := lc_sm_f (x := x) (fun v hv => H v (by omega) : ∀ v, v < n → m ∣ g v - (f v - c * h v))
  obtain ⟨q, hq⟩ := H 4 (by omega)
  refine ⟨p - q, ?_⟩
  unfold lc_ev
  grind
theorem lc_ev_k {n : Nat} (hn : n ≤ 4) {m c : Int} {f g x : Nat → Int} (H : ∀ v, v < 5 → m ∣ g v - c * f v) : m ∣ lc_ev n g x - c * lc_ev n f x := by
  obtain ⟨p, hp⟩ := lc_sm_k (x := x) (fun v hv => H v (by omega) : ∀ v, v < n → m ∣ g v - c * f v)
  obtain ⟨q, hq⟩ := H 4 (by omega)
  refine ⟨p - q, ?_⟩
  unfold lc_ev
  grind
theorem lc_ev_x {n : Nat} {m t : Int} {f w x y z : Nat → Int} (H : ∀ v, v < n → m ∣ w v - (x v + t * (y v - z v))) : m ∣ lc_ev n f w - (lc_ev n f x + t * (lc_ev n f y - lc_ev n f z)) := by
  obtain ⟨p, hp⟩ := lc_sm_x (f := f) H
  refine ⟨p, ?_⟩
  unfold lc_ev
  grind
theorem lc_ev_c {n : Nat} {f x y : Nat → Int} (h : ∀ v, v < n → x v = y v) : lc_ev n f x = lc_ev n f y := by
  unfold lc_ev
  rw [lc_sm_p (fun v hv => by rw [h v hv])]
theorem lc_ev_g {n : Nat} {f g x : Nat → Int} (h : ∀ v, v < n → f v = g v) (h4 : f 4 = g 4) : lc_ev n f x = lc_ev n g x := by
  unfold lc_ev
  rw [lc_sm_p (fun v hv => by rw [h v hv]), h4]
/-- only the digits from i on count, where the entries before i are 0 -/
theorem lc_ev_t {n i : Nat} {f x y : Nat → Int} (h0 : ∀ k, k < i → f k = 0) (h : ∀ v, i ≤ v → v < n → x v = y v) : lc_ev n f x = lc_ev n f y := by
  unfold lc_ev
  rw [lc_sm_p (g := f) (y := y)]
  intro v hv
  by_cases e : v < i
  · rw [h0 v e, Int.zero_mul, Int.zero_mul]
  · rw [h v (by omega) hv]
/-- the tail behind j -/
theorem lc_tl {f x y : Nat → Int} {j : Nat} : ∀ {n : Nat}, j + 1 ≤ n → (∀ v, j < v → v < n → x v = y v) → lc_sm f x n - lc_sm f x (j + 1) = lc_sm f y n - lc_sm f y (j + 1)
  | 0, h, _ => absurd h (by omega)
  | n + 1, h, hh => by
    by_cases e : j = n
    · subst e
      omega
    · have ih := lc_tl (f := f) (x := x) (y := y) (n := n) (by omega) (fun v h1 h2 => hh v h1 (by omega))
      rw [lc_sm, lc_sm.eq_def f y (n + 1)]
      dsimp only
      rw [hh n (by omega) (by omega)]
      omega
/-! digits -/
def dg (M a v : Nat) : Int := ((a / M ^ v % M : Nat) : Int)
theorem dg_blk {M j a a' : Nat} (h : a / M ^ j = a' / M ^ j) {v : Nat} (hv : j ≤ v) : dg M a v = dg M a' v := by
  obtain ⟨t, rfl⟩ : ∃ t, v = j + t := ⟨v - j, by omega⟩
  unfold dg
  rw [Nat.pow_add, ← Nat.div_div_eq_div_mul, ← Nat.div_div_eq_div_mul, h]
theorem dg_in {M : Nat} (hM : 0 < M) (a v : Nat) : 0 ≤ dg M a v ∧ dg M a v < M := by
  unfold dg
  have := Nat.mod_lt (a / M ^ v) hM
  omega
theorem dg_at {M : Nat} (hM : 0 < M) {h d j : Nat} (hd : d < M) : dg M ((h * M + d) * M ^ j) j = d := by
  unfold dg
  rw [Nat.mul_div_cancel _ (Nat.pow_pos hM), Nat.mul_comm h M, Nat.mul_add_mod, Nat.mod_eq_of_lt hd]
theorem dg_up {M : Nat} (hM : 0 < M) {h d j : Nat} (hd : d < M) : (h * M + d) * M ^ j / M ^ (j + 1) = h := by
  rw [Nat.pow_succ, ← Nat.div_div_eq_div_mul, Nat.mul_div_cancel _ (Nat.pow_pos hM), Nat.mul_comm h M, Nat.mul_add_div hM, Nat.div_eq_of_lt hd, Nat.add_zero]
theorem dg_enc {M : Nat} (hM : 0 < M) (y : Nat → Nat) (hy : ∀ v, y v < M) : ∀ n, ∃ a, a < M ^ n ∧ ∀ v, v < n → dg M a v = y v
  | 0 => ⟨0, by rw [Nat.pow_zero]; omega, fun v hv => absurd hv (by omega)⟩
  | n + 1 => by
    obtain ⟨a, ha, h⟩ := dg_enc hM y hy n
    refine ⟨a + M ^ n * y n, ?_, ?_⟩
    · have h1 : M ^ n * (y n + 1) ≤ M ^ n * M := Nat.mul_le_mul_left _ (hy n)
      rw [Nat.pow_succ]
      rw [Nat.mul_add, Nat.mul_one] at h1
      omega
    · intro v hv
      by_cases e : v = n
      · subst e
        unfold dg
        rw [Nat.add_mul_div_left _ _ (Nat.pow_pos hM), Nat.div_eq_of_lt ha, Nat.zero_add, Nat.mod_eq_of_lt (hy v)]
      · rw [← h v (by omega)]
        unfold dg
        obtain ⟨t, rfl⟩ : ∃ t, n = v + (t + 1) := ⟨n - v - 1, by omega⟩
        rw [Nat.pow_add M v (t + 1), Nat.mul_assoc, Nat.add_mul_div_left _ _ (Nat.pow_pos hM), Nat.pow_succ, Nat.mul_comm (M ^ t) M, Nat.mul_assoc, Nat.add_mul_mod_self_left]
end
section
/-! counting: kt_n p k is the number of a < k with p a -/
noncomputable def kt_b (p : Prop) : Nat := @ite Nat p (Classical.propDecidable p) 1 0
theorem kt_bt {p : Prop} (h : p) : kt_b p = 1 := by unfold kt_b; rw [if_pos h]
theorem kt_bf {p : Prop} (h : ¬ p) : kt_b p = 0 := by unfold kt_b; rw [if_neg h]
theorem kt_bc {p q : Prop} (h : p ↔ q) : kt_b p = kt_b q := by rw [propext h]
noncomputable def kt_n (p : Nat → Prop) : Nat → Nat
  | 0 => 0
  | k + 1 => kt_n p k + kt_b (p k)
theorem kt_t {p : Nat → Prop} {k : Nat} (h : p k) : kt_n p (k + 1) = kt_n p k + 1 := by rw [kt_n, kt_bt h]
theorem kt_f {p : Nat → Prop} {k : Nat} (h : ¬ p k) : kt_n p (k + 1) = kt_n p k := by rw [kt_n, kt_bf h]; rfl
theorem kt_c {p q : Nat → Prop} : ∀ {k : Nat}, (∀ a, a < k → (p a ↔ q a)) → kt_n p k = kt_n q k
  | 0, _ => rfl
  | k + 1, h => by rw [kt_n, kt_n, kt_c (fun a ha => h a (by omega)), kt_bc (h k (by omega))]
theorem kt_0 {p : Nat → Prop} : ∀ {k : Nat}, (∀ a, a < k → ¬ p a) → kt_n p k = 0
  | 0, _ => rfl
  | k + 1, h => by rw [kt_f (h k (by omega)), kt_0 (fun a ha => h a (by omega))]
theorem kt_mono {p : Nat → Prop} {a : Nat} : ∀ {c : Nat}, a ≤ c → kt_n p a ≤ kt_n p c
  | 0, h => by
    have : a = 0 := by omega
    subst this
    exact Nat.le_refl _
  | c + 1, h => by
    by_cases e : a = c + 1
    · subst e; exact Nat.le_refl _
    · have := kt_mono (p := p) (a := a) (c := c) (by omega)
      rw [kt_n]
      omega
theorem kt_le {p : Nat → Prop} : ∀ k, kt_n p k ≤ k
  | 0 => Nat.le_refl _
  | k + 1 => by
    have := kt_le (p := p) k
    by_cases h : p k
    · rw [kt_t h]; omega
    · rw [kt_f h]; omega
/-- a growth between a and c shows a member there -/
theorem kt_ex {p : Nat → Prop} {a : Nat} : ∀ {c : Nat}, kt_n p a < kt_n p c → ∃ t, a ≤ t ∧ t < c ∧ p t
  | 0, h => absurd h (by rw [kt_n]; omega)
  | c + 1, h => by
    by_cases e : p c
    · by_cases l : a ≤ c
      · exact ⟨c, l, by omega, e⟩
      · have := kt_mono (p := p) (a := c + 1) (c := a) (by omega)
        omega
    · rw [kt_f e] at h
      obtain ⟨t, h1, h2, h3⟩ := kt_ex h
      exact ⟨t, h1, by omega, h3⟩
/-- no member between a and c: no growth -/
theorem kt_no {p : Nat → Prop} {a : Nat} : ∀ {c : Nat}, a ≤ c → (∀ t, a ≤ t → t < c → ¬ p t) → kt_n p c = kt_n p a
  | 0, h, _ => by
    have : a = 0 := by omega
    subst this
    rfl
  | c + 1, h, hn => by
    by_cases e : a = c + 1
    · subst e; rfl
    · rw [kt_f (hn c (by omega) (by omega))]
      exact kt_no (by omega) (fun t h1 h2 => hn t h1 (by omega))
theorem kt_q1 {m l : Nat} (hl : l < m) (hm : m = 1 ∨ m = 2 ∨ m = 4 ∨ m = 8 ∨ m = 16) : ∀ d, kt_n (fun t => t % m = l) d = if l < d then (d - l - 1) / m + 1 else 0
  | 0 => by rw [kt_n, if_neg (by omega)]
  | d + 1 => by
    have ih := kt_q1 hl hm d
    by_cases e : d % m = l
    · rw [kt_t (p := fun t => t % m = l) e, ih]
      rcases hm with rfl | rfl | rfl | rfl | rfl <;> split <;> split <;> omega
    · rw [kt_f (p := fun t => t % m = l) e, ih]
      rcases hm with rfl | rfl | rfl | rfl | rfl <;> split <;> split <;> omega
theorem kt_m {g : Nat} (hg : g ≤ 4) : 2 ^ g = 1 ∨ 2 ^ g = 2 ∨ 2 ^ g = 4 ∨ 2 ^ g = 8 ∨ 2 ^ g = 16 :=
  cs_5 (p := fun g => 2 ^ g = 1 ∨ 2 ^ g = 2 ∨ 2 ^ g = 4 ∨ 2 ^ g = 8 ∨ 2 ^ g = 16) (by decide) (by decide) (by decide) (by decide) (by decide) g hg
theorem kt_q {g l : Nat} (hg : g ≤ 4) (hl : l < 2 ^ g) (d : Nat) : kt_n (fun t => t % 2 ^ g = l) d = if l < d then (d - l - 1) / 2 ^ g + 1 else 0 :=
  kt_q1 hl (kt_m hg) d
/-- below 2^b: as many as 2^P -/
theorem kt_qM {b P l : Nat} (hb : b ≤ 4) (hP : P ≤ b) (hl : l < 2 ^ (b - P)) : (if l < 2 ^ b then (2 ^ b - l - 1) / 2 ^ (b - P) + 1 else 0) = 2 ^ P := by
  revert l P
  refine cs_5 (p := fun b => ∀ {P l : Nat}, P ≤ b → l < 2 ^ (b - P) → (if l < 2 ^ b then (2 ^ b - l - 1) / 2 ^ (b - P) + 1 else 0) = 2 ^ P) ?_ ?_ ?_ ?_ ?_ b hb <;>
  · intro P l hP
    have h4 : P = 0 ∨ P = 1 ∨ P = 2 ∨ P = 3 ∨ P = 4 := by omega
    rcases h4 with rfl | rfl | rfl | rfl | rfl <;> simp only [Nat.reduceSub, Nat.reducePow] <;> first | (exfalso; omega) | (intro hl; rw [if_pos (by omega)]; omega)
/-! sums -/
def sg (f : Nat → Nat) : Nat → Nat
  | 0 => 0
  | k + 1 => sg f k + f k
theorem sg_n (p : Nat → Prop) : ∀ k, kt_n p k = sg (fun a => kt_b (p a)) k
  | 0 => rfl
  | k + 1 => by rw [kt_n, sg, sg_n p k]
theorem sg_c {f g : Nat → Nat} : ∀ {k : Nat}, (∀ a, a < k → f a = g a) → sg f k = sg g k
  | 0, _ => rfl
  | k + 1, h => by rw [sg, sg, sg_c (fun a ha => h a (by omega)), h k (by omega)]
theorem sg_add (f : Nat → Nat) (k : Nat) : ∀ m, sg f (k + m) = sg f k + sg (fun t => f (k + t)) m
  | 0 => rfl
  | m + 1 => by rw [← Nat.add_assoc, sg, sg, sg_add f k m]; omega
theorem sg_mul (f : Nat → Nat) (K : Nat) : ∀ A, sg f (A * K) = sg (fun h => sg (fun t => f (h * K + t)) K) A
  | 0 => by rw [Nat.zero_mul]; rfl
  | A + 1 => by rw [Nat.add_mul, Nat.one_mul, sg_add, sg_mul f K A, sg]
theorem sg_plus (f g : Nat → Nat) : ∀ k, sg (fun t => f t + g t) k = sg f k + sg g k
  | 0 => rfl
  | k + 1 => by rw [sg, sg, sg, sg_plus f g k]; omega
theorem sg_zero : ∀ k, sg (fun _ => 0) k = 0
  | 0 => rfl
  | k + 1 => by rw [sg, sg_zero k]
theorem sg_swap (f : Nat → Nat → Nat) (A : Nat) : ∀ K, sg (fun h => sg (fun t => f h t) K) A = sg (fun t => sg (fun h => f h t) A) K
  | 0 => by
    show sg (fun _ => 0) A = 0
    exact sg_zero A
  | K + 1 => by
    rw [sg, ← sg_swap f A K, ← sg_plus]
    rfl
theorem sg_k (m : Nat) (f : Nat → Nat) : ∀ k, sg (fun t => m * f t) k = m * sg f k
  | 0 => rfl
  | k + 1 => by rw [sg, sg, sg_k m f k, Nat.mul_add]
theorem sg_one (f : Nat → Nat) : ∀ k, (∀ t, 0 < t → t < k → f t = 0) → 0 < k → sg f k = f 0
  | 0, _, h0 => absurd h0 (by omega)
  | 1, _, _ => by rw [sg, sg, Nat.zero_add]
  | k + 2, h, _ => by rw [sg, sg_one f (k + 1) (fun t h1 h2 => h t h1 (by omega)) (by omega), h (k + 1) (by omega) (by omega), Nat.add_zero]
end
section
/-! the triangular basis: what it says, and how many numbers it lets through -/
def tr_tg (n b : Nat) (B : Nat → Nat → Int) (P : Nat → Nat) : Prop :=
  ∀ j, j < n → P j ≤ b ∧ (∀ k, k < 5 → 0 ≤ B j k ∧ B j k < 2 ^ b) ∧ (∀ k, k < j → B j k = 0) ∧ B j j = 2 ^ P j % 2 ^ b
def tr_st (n b : Nat) (B : Nat → Nat → Int) (x : Nat → Int) : Prop := ∀ i, i < n → (2 : Int) ^ b ∣ lc_ev n (B i) x
def tr_cl (n b : Nat) (B : Nat → Nat → Int) (P : Nat → Nat) : Prop :=
  ∀ j, j < n → ∀ x : Nat → Int, (∀ i, j < i → i < n → (2 : Int) ^ b ∣ lc_ev n (B i) x) → (2 : Int) ^ b ∣ 2 ^ (b - P j) * lc_ev n (B j) x
def tr_re (n : Nat) (f x : Nat → Int) (j : Nat) : Int := f 4 - (lc_sm f x n - lc_sm f x (j + 1))
theorem tr_ev {n j : Nat} {f x : Nat → Int} (h0 : ∀ k, k < j → f k = 0) : lc_ev n f x = f j * x j - tr_re n f x j := by
  have e : lc_sm f x (j + 1) = f j * x j := by rw [lc_sm, lc_sm_0 h0, Int.zero_add]
  unfold lc_ev tr_re
  omega
theorem tr_re_c {n j : Nat} {f x y : Nat → Int} (hj : j < n) (h : ∀ v, j < v → v < n → x v = y v) : tr_re n f x j = tr_re n f y j := by
  unfold tr_re
  rw [lc_tl (f := f) (x := x) (y := y) (n := n) hj h]
def tr_le (n b : Nat) (B : Nat → Nat → Int) (P : Nat → Nat) (x : Nat → Int) (j : Nat) : Int := tr_re n (B j) x j % 2 ^ b / 2 ^ P j
theorem ar_row {b : Nat} (hb : b ≤ 4) : ∀ {P : Nat}, P ≤ b → ∀ {e d r : Int}, e = 2 ^ P % 2 ^ b * d - r → (2 : Int) ^ b ∣ 2 ^ (b - P) * e →
    ((2 : Int) ^ b ∣ e ↔ d % 2 ^ (b - P) = r % 2 ^ b / 2 ^ P) ∧ 0 ≤ r % 2 ^ b / 2 ^ P ∧ r % 2 ^ b / 2 ^ P < 2 ^ (b - P) := by
  refine cs_5 (p := fun b => ∀ {P : Nat}, P ≤ b → ∀ {e d r : Int}, e = 2 ^ P % 2 ^ b * d - r → (2 : Int) ^ b ∣ 2 ^ (b - P) * e →
    ((2 : Int) ^ b ∣ e ↔ d % 2 ^ (b - P) = r % 2 ^ b / 2 ^ P) ∧ 0 ≤ r % 2 ^ b / 2 ^ P ∧ r % 2 ^ b / 2 ^ P < 2 ^ (b - P)) ?_ ?_ ?_ ?_ ?_ b hb <;>
  · intro P hP e d r
    have h4 : P = 0 ∨ P = 1 ∨ P = 2 ∨ P = 3 ∨ P = 4 := by omega
    rcases h4 with rfl | rfl | rfl | rfl | rfl <;> first | (exfalso; omega) | (simp only [Nat.reduceSub, Int.reducePow, Int.reduceMod]; intro h1 h2; omega)
section
variable {n b : Nat} {B : Nat → Nat → Int} {P : Nat → Nat}
theorem tr_row (hb : b ≤ 4) (hT : tr_tg n b B P) (hC : tr_cl n b B P) {j : Nat} (hj : j < n) {x : Nat → Int} (hx : ∀ i, j < i → i < n → (2 : Int) ^ b ∣ lc_ev n (B i) x) :
    ((2 : Int) ^ b ∣ lc_ev n (B j) x ↔ x j % 2 ^ (b - P j) = tr_le n b B P x j) ∧ 0 ≤ tr_le n b B P x j ∧ tr_le n b B P x j < 2 ^ (b - P j) := by
  obtain ⟨h1, h2, h3, h4⟩ := hT j hj
  have e := tr_ev (n := n) (x := x) h3
  rw [h4] at e
  exact ar_row hb h1 e (hC j hj x hx)
/-- the rows from j on hold at the number a -/
def tr_hs (n b : Nat) (B : Nat → Nat → Int) (j a : Nat) : Prop := ∀ i, j ≤ i → i < n → (2 : Int) ^ b ∣ lc_ev n (B i) (dg (2 ^ b) a)
theorem tr_hs_blk (hT : tr_tg n b B P) {j a a' : Nat} (h : a / (2 ^ b) ^ j = a' / (2 ^ b) ^ j) (H : tr_hs n b B j a) : tr_hs n b B j a' := by
  intro i h1 h2
  rw [← lc_ev_t (hT i h2).2.2.1 (fun v h3 h4 => dg_blk h (by omega))]
  exact H i h1 h2
def tr_c (P : Nat → Nat) : Nat → Nat
  | 0 => 0
  | j + 1 => tr_c P j + P j
/-- the least value of unknown j behind the digits of h from j + 1 on -/
def tr_l (n b : Nat) (B : Nat → Nat → Int) (P : Nat → Nat) (j h : Nat) : Nat := (tr_le n b B P (dg (2 ^ b) (h * (2 ^ b) ^ (j + 1))) j).toNat
theorem tr_l_lt (hb : b ≤ 4) (hT : tr_tg n b B P) (hC : tr_cl n b B P) {j h : Nat} (hj : j < n) (H : tr_hs n b B (j + 1) (h * (2 ^ b) ^ (j + 1))) :
    tr_l n b B P j h < 2 ^ (b - P j) ∧ tr_le n b B P (dg (2 ^ b) (h * (2 ^ b) ^ (j + 1))) j = (tr_l n b B P j h : Int) := by
  obtain ⟨_, h1, h2⟩ := tr_row hb hT hC hj (x := dg (2 ^ b) (h * (2 ^ b) ^ (j + 1))) (fun i h3 h4 => H i h3 h4)
  have e := ii_p (b - P j)
  unfold tr_l
  omega
theorem tr_hs_d (hb : b ≤ 4) (hT : tr_tg n b B P) (hC : tr_cl n b B P) {j h t : Nat} (hj : j < n) (ht : t < 2 ^ b) (H : tr_hs n b B (j + 1) (h * (2 ^ b) ^ (j + 1))) :
    tr_hs n b B j ((h * 2 ^ b + t) * (2 ^ b) ^ j) ↔ t % 2 ^ (b - P j) = tr_l n b B P j h := by
  have hM : 0 < 2 ^ b := Nat.two_pow_pos b
  have hu : h * (2 ^ b) ^ (j + 1) / (2 ^ b) ^ (j + 1) = (h * 2 ^ b + t) * (2 ^ b) ^ j / (2 ^ b) ^ (j + 1) := by
    rw [dg_up hM ht, Nat.mul_div_cancel _ (Nat.pow_pos hM)]
  have H2 := tr_hs_blk hT hu H
  obtain ⟨h1, h2, h3⟩ := tr_row hb hT hC hj (x := dg (2 ^ b) ((h * 2 ^ b + t) * (2 ^ b) ^ j)) (fun i h3 h4 => H2 i h3 h4)
  rw [dg_at hM ht] at h1
  have e1 : tr_le n b B P (dg (2 ^ b) ((h * 2 ^ b + t) * (2 ^ b) ^ j)) j = tr_le n b B P (dg (2 ^ b) (h * (2 ^ b) ^ (j + 1))) j := by
    unfold tr_le
    rw [tr_re_c hj (fun v h5 h6 => (dg_blk hu h5).symm)]
  obtain ⟨h7, h8⟩ := tr_l_lt hb hT hC hj H
  rw [e1, h8] at h1
  have e2 : ((t : Int) % 2 ^ (b - P j) = (tr_l n b B P j h : Int)) ↔ t % 2 ^ (b - P j) = tr_l n b B P j h := by
    rw [← ii_p, ← Int.natCast_emod]
    omega
  rw [← e2, ← h1]
  constructor
  · intro G
    exact G j (Nat.le_refl j) hj
  · intro G i h9 h10
    by_cases e : i = j
    · subst e; exact G
    · exact H2 i (by omega) h10
theorem tr_cnt (hb : b ≤ 4) (hT : tr_tg n b B P) (hC : tr_cl n b B P) : ∀ j, j ≤ n → ∀ h,
    (tr_hs n b B j (h * (2 ^ b) ^ j) → kt_n (fun a => tr_st n b B (dg (2 ^ b) a)) ((h + 1) * (2 ^ b) ^ j) = kt_n (fun a => tr_st n b B (dg (2 ^ b) a)) (h * (2 ^ b) ^ j) + 2 ^ tr_c P j) ∧
    (¬ tr_hs n b B j (h * (2 ^ b) ^ j) → kt_n (fun a => tr_st n b B (dg (2 ^ b) a)) ((h + 1) * (2 ^ b) ^ j) = kt_n (fun a => tr_st n b B (dg (2 ^ b) a)) (h * (2 ^ b) ^ j))
  | 0, _, h => by
    rw [Nat.pow_zero, Nat.mul_one, Nat.mul_one]
    constructor
    · intro H
      rw [kt_t (p := fun a => tr_st n b B (dg (2 ^ b) a)) (fun i hi => H i (Nat.zero_le i) hi), tr_c]
    · intro H
      exact kt_f (p := fun a => tr_st n b B (dg (2 ^ b) a)) (fun G => H (fun i _ hi => G i hi))
  | j + 1, hj, h => by
    have ih := tr_cnt hb hT hC j (by omega)
    have hM : 0 < 2 ^ b := Nat.two_pow_pos b
    have hd : ∀ d, d ≤ 2 ^ b → kt_n (fun a => tr_st n b B (dg (2 ^ b) a)) ((h * 2 ^ b + d) * (2 ^ b) ^ j) = kt_n (fun a => tr_st n b B (dg (2 ^ b) a)) (h * 2 ^ b * (2 ^ b) ^ j) + 2 ^ tr_c P j * kt_n (fun t => tr_hs n b B j ((h * 2 ^ b + t) * (2 ^ b) ^ j)) d := by
      intro d
      induction d with
      | zero => intro _; rw [kt_n, Nat.mul_zero]; rfl
      | succ d ihd =>
        intro hd
        have i1 := ihd (by omega)
        obtain ⟨i2, i3⟩ := ih (h * 2 ^ b + d)
        by_cases e : tr_hs n b B j ((h * 2 ^ b + d) * (2 ^ b) ^ j)
        · rw [kt_t (p := fun t => tr_hs n b B j ((h * 2 ^ b + t) * (2 ^ b) ^ j)) e, ← Nat.add_assoc, i2 e, i1, Nat.mul_add, Nat.mul_one, Nat.add_assoc]
        · rw [kt_f (p := fun t => tr_hs n b B j ((h * 2 ^ b + t) * (2 ^ b) ^ j)) e, ← Nat.add_assoc, i3 e, i1]
    have e0 : h * (2 ^ b) ^ (j + 1) = h * 2 ^ b * (2 ^ b) ^ j := by rw [Nat.pow_succ, Nat.mul_comm ((2 ^ b) ^ j), Nat.mul_assoc]
    have e1 : (h + 1) * (2 ^ b) ^ (j + 1) = (h * 2 ^ b + 2 ^ b) * (2 ^ b) ^ j := by rw [Nat.pow_succ, Nat.mul_comm ((2 ^ b) ^ j), ← Nat.mul_assoc, Nat.add_mul, Nat.one_mul]
    have hD := hd (2 ^ b) (Nat.le_refl _)
    rw [← e1, ← e0] at hD
    constructor
    · intro H
      obtain ⟨h7, _⟩ := tr_l_lt hb hT hC (by omega) H
      rw [hD, kt_c (q := fun t => t % 2 ^ (b - P j) = tr_l n b B P j h) (fun t ht => tr_hs_d hb hT hC (by omega) ht H), kt_q (by omega) h7, kt_qM hb (hT j (by omega)).1 h7, tr_c, Nat.pow_add 2 (tr_c P j) (P j)]
    · intro H
      rw [hD, kt_0 (p := fun t => tr_hs n b B j ((h * 2 ^ b + t) * (2 ^ b) ^ j)), Nat.mul_zero, Nat.add_zero]
      intro t ht G
      refine H (tr_hs_blk hT (a := (h * 2 ^ b + t) * (2 ^ b) ^ j) ?_ (fun i h1 h2 => G i (by omega) h2))
      rw [dg_up hM ht, Nat.mul_div_cancel _ (Nat.pow_pos hM)]
theorem tr_pw (b h j : Nat) : h * (2 ^ b) ^ (j + 1) = h * 2 ^ b * (2 ^ b) ^ j := by
  rw [Nat.pow_succ, Nat.mul_comm ((2 ^ b) ^ j), Nat.mul_assoc]
/-- the solutions up to digit d of unknown j -/
theorem tr_dig (hb : b ≤ 4) (hT : tr_tg n b B P) (hC : tr_cl n b B P) {j h : Nat} (hj : j < n) (H : tr_hs n b B (j + 1) (h * (2 ^ b) ^ (j + 1))) : ∀ d, d ≤ 2 ^ b →
    kt_n (fun a => tr_st n b B (dg (2 ^ b) a)) ((h * 2 ^ b + d) * (2 ^ b) ^ j) = kt_n (fun a => tr_st n b B (dg (2 ^ b) a)) (h * (2 ^ b) ^ (j + 1)) + 2 ^ tr_c P j * (if tr_l n b B P j h < d then (d - tr_l n b B P j h - 1) / 2 ^ (b - P j) + 1 else 0) := by
  intro d hd
  obtain ⟨h7, _⟩ := tr_l_lt hb hT hC hj H
  rw [← kt_q (Nat.le_trans (Nat.sub_le b (P j)) hb) h7 d, tr_pw]
  induction d with
  | zero => rw [kt_n, Nat.mul_zero]; rfl
  | succ d ih =>
    have i1 := ih (by omega)
    obtain ⟨i2, i3⟩ := tr_cnt hb hT hC j (by omega) (h * 2 ^ b + d)
    have hh := tr_hs_d hb hT hC hj (show d < 2 ^ b by omega) H
    by_cases e : d % 2 ^ (b - P j) = tr_l n b B P j h
    · rw [kt_t (p := fun t => t % 2 ^ (b - P j) = tr_l n b B P j h) e, ← Nat.add_assoc, i2 (hh.mpr e), i1, Nat.mul_add, Nat.mul_one, Nat.add_assoc]
    · rw [kt_f (p := fun t => t % 2 ^ (b - P j) = tr_l n b B P j h) e, ← Nat.add_assoc, i3 (fun G => e (hh.mp G)), i1]
theorem tr_total (hb : b ≤ 4) (hT : tr_tg n b B P) (hC : tr_cl n b B P) : kt_n (fun a => tr_st n b B (dg (2 ^ b) a)) ((2 ^ b) ^ n) = 2 ^ tr_c P n := by
  have h := (tr_cnt hb hT hC n (Nat.le_refl n) 0).1 (fun i h1 h2 => absurd h1 (by omega))
  rw [Nat.zero_mul, Nat.zero_add, Nat.one_mul, kt_n, Nat.zero_add] at h
  exact h
end
end
section
/-! a line is taken into the basis: the invariant of the join's loop -/
theorem dv_em {m a c : Int} (h : m ∣ a - c) : a % m = c % m :=
  Int.emod_eq_emod_iff_emod_sub_eq_zero.mpr (Int.emod_eq_zero_of_dvd h)
theorem ar_odd {u : Int} (h : u % 2 = 1) : ∃ m, u * u * u * u = 1 + 16 * m := by
  obtain ⟨t, rfl⟩ : ∃ t, u = 2 * t + 1 := ⟨u / 2, by omega⟩
  have ht : t * (t + 1) % 2 = 0 := by
    rcases Int.emod_two_eq t with e | e
    · rw [Int.mul_emod, e, Int.zero_mul]; rfl
    · rw [Int.mul_emod, show (t + 1) % 2 = 0 from by omega, Int.mul_zero]; rfl
  obtain ⟨m, hm⟩ : ∃ m, t * (t + 1) = 2 * m := ⟨t * (t + 1) / 2, by omega⟩
  refine ⟨m * (4 * m + 1), ?_⟩
  grind
theorem ar_q (q : Int) : q * (q * q * q) = q * q * q * q := by grind
theorem ar_z {b : Nat} (hb : b ≤ 4) {P : Nat} (hP : P ≤ b) {w : Int} (h : w % 2 ^ P = 0) : (w - w / 2 ^ P * (2 ^ P % 2 ^ b)) % 2 ^ b = 0 := by
  revert P w
  refine cs_5 (p := fun b => ∀ {P : Nat}, P ≤ b → ∀ {w : Int}, w % 2 ^ P = 0 → (w - w / 2 ^ P * (2 ^ P % 2 ^ b)) % 2 ^ b = 0) ?_ ?_ ?_ ?_ ?_ b hb <;>
  · intro P hP w
    have h4 : P = 0 ∨ P = 1 ∨ P = 2 ∨ P = 3 ∨ P = 4 := by omega
    rcases h4 with rfl | rfl | rfl | rfl | rfl <;> first | (exfalso; omega) | (simp only [Int.reducePow, Int.reduceMod]; intro h1; omega)
theorem ar_dv (b : Nat) (hb : b ≤ 4) : ∃ r, (16 : Int) = 2 ^ b * r := ii_pd (c := 4) hb
theorem ar_u {b z : Nat} (hb : b ≤ 4) {w : Int} (h0 : w % 2 ^ z = 0) (h1 : w / 2 ^ z % 2 = 1) :
    (w * (w / 2 ^ z * (w / 2 ^ z) * (w / 2 ^ z))) % 2 ^ b = 2 ^ z % 2 ^ b := by
  obtain ⟨m, hm⟩ := ar_odd h1
  obtain ⟨r, hr⟩ := ar_dv b hb
  have hw : w = 2 ^ z * (w / 2 ^ z) := by
    have := Int.mul_ediv_add_emod w (2 ^ z)
    omega
  generalize w / 2 ^ z = u at *
  apply dv_em
  refine ⟨2 ^ z * r * m, ?_⟩
  generalize (2 : Int) ^ z = Z at *
  generalize (2 : Int) ^ b = D at *
  subst hw
  grind
theorem ar_w3 {b P z : Nat} (hz : z ≤ P) : (2 ^ P % 2 ^ b - 2 ^ (P - z) * (2 ^ z % 2 ^ b)) % (2 : Int) ^ b = 0 := by
  have e : (2 : Int) ^ P = 2 ^ (P - z) * 2 ^ z := by rw [← Int.pow_add, Nat.sub_add_cancel hz]
  apply Int.emod_eq_zero_of_dvd
  obtain ⟨p, hp⟩ := dv_mod (2 ^ b) ((2 : Int) ^ P)
  obtain ⟨q, hq⟩ := dv_mod (2 ^ b) ((2 : Int) ^ z)
  refine ⟨p - 2 ^ (P - z) * q, ?_⟩
  generalize (2 : Int) ^ P % 2 ^ b = A at *
  generalize (2 : Int) ^ z % 2 ^ b = C at *
  rw [e] at hp
  generalize (2 : Int) ^ (P - z) = F at *
  generalize (2 : Int) ^ z = Z at *
  generalize (2 : Int) ^ b = D at *
  grind
/-- the exchanged pair of lines says the same -/
theorem ar_pair {D E0 E1 Ej E3 c f u m r : Int} (h1 : D ∣ E1 - c * E0) (h3 : D ∣ E3 - (Ej - f * E1)) (hr : 16 = D * r) (hu : u * c = 1 + 16 * m) :
    (D ∣ E1 ∧ D ∣ E3) ↔ (D ∣ E0 ∧ D ∣ Ej) := by
  obtain ⟨q, hq⟩ := h1
  obtain ⟨s, hs⟩ := h3
  constructor
  · rintro ⟨⟨p, hp⟩, ⟨t, ht⟩⟩
    exact ⟨⟨u * p - u * q - r * m * E0, by grind⟩, ⟨t + f * p - s, by grind⟩⟩
  · rintro ⟨⟨p, hp⟩, ⟨t, ht⟩⟩
    exact ⟨⟨c * p + q, by grind⟩, ⟨s + t - f * (c * p + q), by grind⟩⟩
theorem ar_clo {D E1 Ej E3 f g : Int} (h3 : D ∣ E3 - (Ej - f * E1)) (hE : D ∣ E3) (hj : D ∣ g * Ej) : D ∣ g * f * E1 := by
  obtain ⟨s, hs⟩ := h3
  obtain ⟨p, hp⟩ := hE
  obtain ⟨t, ht⟩ := hj
  exact ⟨g * s - g * p + t, by grind⟩
def tr_rp (n b : Nat) (bd : Int32) (B : Nat → Nat → Int) (P : Nat → Nat) (S : (Nat → Int) → Prop) : Prop :=
  tr_tg n b B P ∧ (¬ bd = 0 → ∀ x, ¬ S x) ∧ (bd = 0 → (∀ x, S x ↔ tr_st n b B x) ∧ tr_cl n b B P)
def jn_w (b : Nat) (w : Nat → Int) : Prop := ∀ k, k < 5 → 0 ≤ w k ∧ w k < 2 ^ b
def jn_I (n b : Nat) (bd : Int32) (S : (Nat → Int) → Prop) (j : Nat) (B : Nat → Nat → Int) (P : Nat → Nat) (w : Nat → Int) : Prop :=
  tr_tg n b B P ∧ jn_w b w ∧ (∀ k, k < j → w k = 0) ∧ (¬ bd = 0 → ∀ x, ¬ S x) ∧
  (bd = 0 → (∀ x, S x ↔ (tr_st n b B x ∧ (2 : Int) ^ b ∣ lc_ev n w x)) ∧
    (∀ i, i < n → ∀ x, (∀ i', i < i' → i' < n → (2 : Int) ^ b ∣ lc_ev n (B i') x) → (i < j → (2 : Int) ^ b ∣ lc_ev n w x) → (2 : Int) ^ b ∣ 2 ^ (b - P i) * lc_ev n (B i) x))
theorem jn_m (b : Nat) (x : Int) : 0 ≤ x % 2 ^ b ∧ x % 2 ^ b < 2 ^ b :=
  ⟨Int.emod_nonneg _ (Int.ne_of_gt (Int.pow_pos (by decide))), Int.emod_lt_of_pos _ (Int.pow_pos (by decide))⟩
theorem jn_wm (b : Nat) (f : Nat → Int) : jn_w b (fun k => f k % 2 ^ b) := fun k _ => jn_m b (f k)
section
variable {n b : Nat} {bd : Int32} {B : Nat → Nat → Int} {P : Nat → Nat} {S : (Nat → Int) → Prop} {w : Nat → Int} {j : Nat}
theorem jn_0 (h : tr_rp n b bd B P S) (hw : jn_w b w) : jn_I n b bd (fun x => S x ∧ (2 : Int) ^ b ∣ lc_ev n w x) 0 B P w := by
  obtain ⟨hT, hb, hg⟩ := h
  refine ⟨hT, hw, fun k hk => absurd hk (by omega), fun h x hx => hb h x hx.1, fun h => ⟨fun x => ?_, fun i hi x h1 _ => (hg h).2 i hi x h1⟩⟩
  show S x ∧ _ ↔ _
  rw [(hg h).1 x]
theorem jn_s0 (h : jn_I n b bd S j B P w) (h0 : w j = 0) : jn_I n b bd S (j + 1) B P w := by
  obtain ⟨hT, hw, hz, hb, hg⟩ := h
  refine ⟨hT, hw, fun k hk => ?_, hb, fun h => ⟨(hg h).1, fun i hi x h1 h2 => (hg h).2 i hi x h1 (fun h3 => h2 (by omega))⟩⟩
  by_cases e : k = j
  · rw [e]; exact h0
  · exact hz k (by omega)
theorem jn_s1 (hn : n ≤ 4) (hb4 : b ≤ 4) (hj : j < n) (h : jn_I n b bd S j B P w) (h0 : w j % 2 ^ P j = 0) : jn_I n b bd S (j + 1) B P (fun k => (w k - w j / 2 ^ P j * B j k) % 2 ^ b) := by
  obtain ⟨hT, hw, hz, hb, hg⟩ := h
  obtain ⟨t1, t2, t3, t4⟩ := hT j hj
  have hd : ∀ x, (2 : Int) ^ b ∣ lc_ev n (fun k => (w k - w j / 2 ^ P j * B j k) % 2 ^ b) x - (lc_ev n w x - w j / 2 ^ P j * lc_ev n (B j) x) :=
    fun x => lc_ev_f hn (fun v _ => dv_mod _ _)
  have hq : ∀ x, (2 : Int) ^ b ∣ lc_ev n (B j) x → ((2 : Int) ^ b ∣ lc_ev n (fun k => (w k - w j / 2 ^ P j * B j k) % 2 ^ b) x ↔ (2 : Int) ^ b ∣ lc_ev n w x) := by
    intro x hx
    rw [dv_tr (hd x)]
    exact dv_tr (by rw [show lc_ev n w x - w j / 2 ^ P j * lc_ev n (B j) x - lc_ev n w x = -(w j / 2 ^ P j * lc_ev n (B j) x) from by omega]; exact Int.dvd_neg.mpr (Int.dvd_mul_of_dvd_right hx))
  refine ⟨hT, jn_wm b _, fun k hk => ?_, hb, fun h => ⟨fun x => ?_, fun i hi x h1 h2 => (hg h).2 i hi x h1 (fun h3 => (hq x (h1 j h3 hj)).mp (h2 (by omega)))⟩⟩
  · show (w k - w j / 2 ^ P j * B j k) % 2 ^ b = 0
    by_cases e : k = j
    · rw [e, t4]
      exact ar_z hb4 t1 h0
    · rw [hz k (by omega), t3 k (by omega), Int.mul_zero]
      exact Int.zero_emod _
  · rw [(hg h).1 x]
    constructor
    · intro hx
      exact ⟨hx.1, (hq x (hx.1 j hj)).mpr hx.2⟩
    · intro hx
      exact ⟨hx.1, (hq x (hx.1 j hj)).mp hx.2⟩
def jn_B (B : Nat → Nat → Int) (j : Nat) (w : Nat → Int) : Nat → Nat → Int := fun i k => if i = j then w k else B i k
def jn_P (P : Nat → Nat) (j z : Nat) : Nat → Nat := fun i => if i = j then z else P i
theorem jn_Bj (B : Nat → Nat → Int) (j : Nat) (w : Nat → Int) : jn_B B j w j = w := by
  funext k
  exact if_pos rfl
theorem jn_Bi (B : Nat → Nat → Int) {j i : Nat} (w : Nat → Int) (h : i ≠ j) : jn_B B j w i = B i := by
  funext k
  exact if_neg h
theorem jn_s2 (hn : n ≤ 4) (hb4 : b ≤ 4) (hj : j < n) (h : jn_I n b bd S j B P w) {z : Nat} (hzP : z < P j) (h0 : w j % 2 ^ z = 0) (h1 : w j / 2 ^ z % 2 = 1) {w1 : Nat → Int}
    (e1 : w1 = fun k => (w k * (w j / 2 ^ z * (w j / 2 ^ z) * (w j / 2 ^ z))) % 2 ^ b) :
    jn_I n b bd S (j + 1) (jn_B B j w1) (jn_P P j z) (fun k => (B j k - 2 ^ (P j - z) * w1 k) % 2 ^ b) := by
  obtain ⟨hT, hw, hz, hb, hg⟩ := h
  obtain ⟨t1, t2, t3, t4⟩ := hT j hj
  obtain ⟨m, hm⟩ := ar_odd h1
  obtain ⟨r, hr⟩ := ar_dv b hb4
  have w1j : w1 j = 2 ^ z % 2 ^ b := by rw [e1]; exact ar_u hb4 h0 h1
  have w1z : ∀ k, k < j → w1 k = 0 := by
    intro k hk
    rw [e1]
    show (w k * (w j / 2 ^ z * (w j / 2 ^ z) * (w j / 2 ^ z))) % 2 ^ b = 0
    rw [hz k hk, Int.zero_mul]
    exact Int.zero_emod _
  have H1 : ∀ x, (2 : Int) ^ b ∣ lc_ev n w1 x - (w j / 2 ^ z * (w j / 2 ^ z) * (w j / 2 ^ z)) * lc_ev n w x := by
    intro x
    refine lc_ev_k hn (fun v _ => ?_)
    rw [e1, Int.mul_comm (w j / 2 ^ z * (w j / 2 ^ z) * (w j / 2 ^ z)) (w v)]
    exact dv_mod _ _
  have H3 : ∀ x, (2 : Int) ^ b ∣ lc_ev n (fun k => (B j k - 2 ^ (P j - z) * w1 k) % 2 ^ b) x - (lc_ev n (B j) x - 2 ^ (P j - z) * lc_ev n w1 x) :=
    fun x => lc_ev_f hn (fun v _ => dv_mod _ _)
  have HP : ∀ x, ((2 : Int) ^ b ∣ lc_ev n w1 x ∧ (2 : Int) ^ b ∣ lc_ev n (fun k => (B j k - 2 ^ (P j - z) * w1 k) % 2 ^ b) x) ↔ ((2 : Int) ^ b ∣ lc_ev n w x ∧ (2 : Int) ^ b ∣ lc_ev n (B j) x) :=
    fun x => ar_pair (u := w j / 2 ^ z) (H1 x) (H3 x) hr (by rw [← hm]; exact ar_q _)
  refine ⟨?_, jn_wm b _, fun k hk => ?_, hb, fun h => ⟨fun x => ?_, fun i hi x h2 h3 => ?_⟩⟩
  · intro i hi
    by_cases e : i = j
    · subst e
      rw [jn_Bj, show jn_P P i z i = z from if_pos rfl]
      refine ⟨by omega, ?_, w1z, w1j⟩
      rw [e1]
      exact jn_wm b _
    · rw [jn_Bi B w1 e, show jn_P P j z i = P i from if_neg e]
      exact hT i hi
  · show (B j k - 2 ^ (P j - z) * w1 k) % 2 ^ b = 0
    by_cases e : k = j
    · rw [e, t4, w1j]
      exact ar_w3 (by omega)
    · rw [t3 k (by omega), w1z k (by omega), Int.mul_zero]
      exact Int.zero_emod _
  · rw [(hg h).1 x]
    constructor
    · rintro ⟨h2, h3⟩
      have h4 := (HP x).mpr ⟨h3, h2 j hj⟩
      refine ⟨fun i hi => ?_, h4.2⟩
      by_cases e : i = j
      · subst e; rw [jn_Bj]; exact h4.1
      · rw [jn_Bi B w1 e]; exact h2 i hi
    · rintro ⟨h2, h3⟩
      have h5 := h2 j hj
      rw [jn_Bj] at h5
      have h4 := (HP x).mp ⟨h5, h3⟩
      refine ⟨fun i hi => ?_, h4.1⟩
      by_cases e : i = j
      · subst e; exact h4.2
      · have h6 := h2 i hi
        rw [jn_Bi B w1 e] at h6
        exact h6
  · by_cases e : i = j
    · subst e
      have h5 : ∀ i', i < i' → i' < n → (2 : Int) ^ b ∣ lc_ev n (B i') x := by
        intro i' h6 h7
        have h8 := h2 i' h6 h7
        rw [jn_Bi B w1 (by omega)] at h8
        exact h8
      have h6 := (hg h).2 i hi x h5 (fun h => absurd h (by omega))
      have h7 := ar_clo (H3 x) (h3 (by omega)) h6
      rw [jn_Bj, show jn_P P i z i = z from if_pos rfl]
      rw [← Int.pow_add, show b - P i + (P i - z) = b - z from by omega] at h7
      exact h7
    · rw [jn_Bi B w1 e, show jn_P P j z i = P i from if_neg e]
      by_cases l : i < j
      · have h5 := h2 j l hj
        rw [jn_Bj] at h5
        have h4 := (HP x).mp ⟨h5, h3 (by omega)⟩
        refine (hg h).2 i hi x (fun i' h6 h7 => ?_) (fun _ => h4.1)
        by_cases e' : i' = j
        · subst e'; exact h4.2
        · have h8 := h2 i' h6 h7
          rw [jn_Bi B w1 e'] at h8
          exact h8
      · refine (hg h).2 i hi x (fun i' h6 h7 => ?_) (fun h => absurd h l)
        have h8 := h2 i' h6 h7
        rw [jn_Bi B w1 (by omega)] at h8
        exact h8
theorem jn_e (h : jn_I n b bd S n B P w) : (w 4 = 0 → tr_rp n b bd B P S) ∧ (¬ w 4 = 0 → tr_rp n b 1 B P S) := by
  obtain ⟨hT, hw, hz, hb, hg⟩ := h
  have e : ∀ x, lc_ev n w x = 0 - w 4 := fun x => by unfold lc_ev; rw [lc_sm_0 hz]
  constructor
  · intro h4
    have d : ∀ x, (2 : Int) ^ b ∣ lc_ev n w x := fun x => by rw [e, h4]; exact Int.dvd_zero _
    exact ⟨hT, hb, fun h => ⟨fun x => by rw [(hg h).1 x]; exact ⟨fun q => q.1, fun q => ⟨q, d x⟩⟩, fun j hj x hx => (hg h).2 j hj x hx (fun _ => d x)⟩⟩
  · intro h4
    refine ⟨hT, fun _ x hx => ?_, fun h => absurd h (by decide)⟩
    by_cases h : bd = 0
    · have q := (((hg h).1 x).mp hx).2
      rw [e] at q
      have q2 : (2 : Int) ^ b ∣ w 4 := by
        have := Int.dvd_neg.mpr q
        rwa [show -(0 - w 4) = w 4 from by omega] at this
      exact h4 (dv_sm (hw 4 (by omega)).1 (hw 4 (by omega)).2 q2)
    · exact hb h x hx
theorem jn_st : tr_rp n b 0 (fun _ _ => 0) (fun _ => b) (fun _ => True) := by
  have e : ∀ x, lc_ev n (fun _ => 0) x = 0 := fun x => by unfold lc_ev; rw [lc_sm_0 (fun _ _ => rfl)]; rfl
  refine ⟨fun j hj => ⟨Nat.le_refl _, fun k _ => ⟨Int.le_refl 0, Int.pow_pos (by decide)⟩, fun _ _ => rfl, Int.emod_self.symm⟩, fun h => absurd rfl h, fun _ => ⟨fun x => ⟨fun _ i hi => ?_, fun _ => trivial⟩, fun j hj x _ => ?_⟩⟩
  · rw [e]; exact Int.dvd_zero _
  · rw [e, Int.mul_zero]; exact Int.dvd_zero _
end
end
section
/-! is a line a combination of the basis: yes: its value is one number at all solutions; no: two solutions tell -/
def vn_I (n b : Nat) (B : Nat → Nat → Int) (w0 : Nat → Int) (j : Nat) (w : Nat → Int) : Prop :=
  jn_w b w ∧ (∀ k, k < j → w k = 0) ∧ ∀ x, tr_st n b B x → (2 : Int) ^ b ∣ lc_ev n w x - lc_ev n w0 x
theorem ar_ndv {b : Nat} (hb : b ≤ 4) {P z : Nat} (hP : P ≤ b) (hz : z < P) {w : Int} (h0 : w % 2 ^ z = 0) (h1 : w / 2 ^ z % 2 = 1) : ¬ (2 : Int) ^ b ∣ w * 2 ^ (b - P) := by
  revert P z w
  refine cs_5 (p := fun b => ∀ {P z : Nat}, P ≤ b → z < P → ∀ {w : Int}, w % 2 ^ z = 0 → w / 2 ^ z % 2 = 1 → ¬ (2 : Int) ^ b ∣ w * 2 ^ (b - P)) ?_ ?_ ?_ ?_ ?_ b hb <;>
  · intro P z hP hz w
    have h4 : P = 0 ∨ P = 1 ∨ P = 2 ∨ P = 3 ∨ P = 4 := by omega
    have h5 : z = 0 ∨ z = 1 ∨ z = 2 ∨ z = 3 ∨ z = 4 := by omega
    rcases h4 with rfl | rfl | rfl | rfl | rfl <;> first | (exfalso; omega) | (rcases h5 with rfl | rfl | rfl | rfl | rfl <;> first | (exfalso; omega) | (simp only [Nat.reduceSub, Int.reducePow]; intro h1 h2; omega))
/-- a number of n digits with the same digits -/
theorem tr_red {M : Nat} (hM : 0 < M) (n a : Nat) : ∃ a', a' < M ^ n ∧ ∀ v, v < n → dg M a' v = dg M a v := by
  obtain ⟨a', h1, h2⟩ := dg_enc hM (fun v => a / M ^ v % M) (fun v => Nat.mod_lt _ hM) n
  exact ⟨a', h1, h2⟩
section
variable {n b : Nat} {B : Nat → Nat → Int} {P : Nat → Nat} {w w0 : Nat → Int} {j : Nat}
theorem tr_st_c {x y : Nat → Int} (h : ∀ v, v < n → x v = y v) : tr_st n b B x → tr_st n b B y := by
  intro H i hi
  rw [← lc_ev_c h]
  exact H i hi
theorem tr_ex (hb : b ≤ 4) (hT : tr_tg n b B P) (hC : tr_cl n b B P) (hj : j ≤ n) {h : Nat} (H : tr_hs n b B j (h * (2 ^ b) ^ j)) : ∃ a, a / (2 ^ b) ^ j = h ∧ tr_st n b B (dg (2 ^ b) a) := by
  have h1 := (tr_cnt hb hT hC j hj h).1 H
  have h2 : 0 < 2 ^ tr_c P j := Nat.two_pow_pos _
  obtain ⟨a, h3, h4, h5⟩ := kt_ex (p := fun a => tr_st n b B (dg (2 ^ b) a)) (a := h * (2 ^ b) ^ j) (c := (h + 1) * (2 ^ b) ^ j) (by omega)
  exact ⟨a, Nat.div_eq_of_lt_le h3 h4, h5⟩
theorem tr_ex0 (hb : b ≤ 4) (hT : tr_tg n b B P) (hC : tr_cl n b B P) : ∃ a, a < (2 ^ b) ^ n ∧ tr_st n b B (dg (2 ^ b) a) := by
  have h1 := tr_total hb hT hC
  have h2 : 0 < 2 ^ tr_c P n := Nat.two_pow_pos _
  obtain ⟨a, _, h4, h5⟩ := kt_ex (p := fun a => tr_st n b B (dg (2 ^ b) a)) (a := 0) (c := (2 ^ b) ^ n) (by rw [kt_n]; omega)
  exact ⟨a, h4, h5⟩
theorem vn_0 (hw : jn_w b w) : vn_I n b B w 0 w :=
  ⟨hw, fun k hk => absurd hk (by omega), fun x _ => by rw [Int.sub_self]; exact Int.dvd_zero _⟩
theorem vn_s (hn : n ≤ 4) (hb4 : b ≤ 4) (hT : tr_tg n b B P) (hj : j < n) (h : vn_I n b B w0 j w) (h0 : w j % 2 ^ P j = 0) : vn_I n b B w0 (j + 1) (fun k => (w k - w j / 2 ^ P j * B j k) % 2 ^ b) := by
  obtain ⟨hw, hz, hg⟩ := h
  obtain ⟨t1, t2, t3, t4⟩ := hT j hj
  refine ⟨jn_wm b _, fun k hk => ?_, fun x hx => ?_⟩
  · show (w k - w j / 2 ^ P j * B j k) % 2 ^ b = 0
    by_cases e : k = j
    · rw [e, t4]
      exact ar_z hb4 t1 h0
    · rw [hz k (by omega), t3 k (by omega), Int.mul_zero]
      exact Int.zero_emod _
  · obtain ⟨p, hp⟩ := lc_ev_f hn (m := 2 ^ b) (g := fun k => (w k - w j / 2 ^ P j * B j k) % 2 ^ b) (f := w) (c := w j / 2 ^ P j) (h := B j) (x := x) (fun v _ => dv_mod _ _)
    obtain ⟨q, hq⟩ := hg x hx
    obtain ⟨r, hr⟩ := hx j hj
    refine ⟨p + q - w j / 2 ^ P j * r, ?_⟩
    generalize lc_ev n (fun k => (w k - w j / 2 ^ P j * B j k) % 2 ^ b) x = E at *
    generalize w j / 2 ^ P j = c at *
    generalize (2 : Int) ^ b = D at *
    grind
theorem vn_t (h : vn_I n b B w0 n w) {x : Nat → Int} (hx : tr_st n b B x) : (2 : Int) ^ b ∣ lc_ev n w0 x + w 4 := by
  obtain ⟨hw, hz, hg⟩ := h
  have e : lc_ev n w x = 0 - w 4 := by unfold lc_ev; rw [lc_sm_0 hz]
  have h1 := hg x hx
  rw [e] at h1
  have h2 := Int.dvd_neg.mpr h1
  rwa [show -(0 - w 4 - lc_ev n w0 x) = lc_ev n w0 x + w 4 from by omega] at h2
theorem vn_f (hb4 : b ≤ 4) (hT : tr_tg n b B P) (hC : tr_cl n b B P) (hj : j < n) (h : vn_I n b B w0 j w) {z : Nat} (hzP : z < P j) (h0 : w j % 2 ^ z = 0) (h1 : w j / 2 ^ z % 2 = 1) :
    ∃ a a', a < (2 ^ b) ^ n ∧ a' < (2 ^ b) ^ n ∧ tr_st n b B (dg (2 ^ b) a) ∧ tr_st n b B (dg (2 ^ b) a') ∧ ¬ (2 : Int) ^ b ∣ lc_ev n w0 (dg (2 ^ b) a) - lc_ev n w0 (dg (2 ^ b) a') := by
  obtain ⟨hw, hz, hg⟩ := h
  have hM : 0 < 2 ^ b := Nat.two_pow_pos b
  obtain ⟨t1, t2, t3, t4⟩ := hT j hj
  obtain ⟨a0, ha0, hs0⟩ := tr_ex0 hb4 hT hC
  have H : tr_hs n b B (j + 1) (a0 / (2 ^ b) ^ (j + 1) * (2 ^ b) ^ (j + 1)) :=
    tr_hs_blk hT (a := a0) (by rw [Nat.mul_div_cancel _ (Nat.pow_pos hM)]) (fun i _ hi => hs0 i hi)
  generalize a0 / (2 ^ b) ^ (j + 1) = h' at H
  obtain ⟨l1, l2⟩ := tr_l_lt hb4 hT hC hj H
  have l3 : 2 ^ (b - P j) + 2 ^ (b - P j) ≤ 2 ^ b := by
    have e : 2 ^ (b - P j) + 2 ^ (b - P j) = 2 ^ (b - P j + 1) := by rw [Nat.pow_succ]; omega
    rw [e]
    exact Nat.pow_le_pow_right (by decide) (by omega)
  have q1 := (tr_hs_d hb4 hT hC hj (t := tr_l n b B P j h') (by omega) H).mpr (Nat.mod_eq_of_lt l1)
  have q2 := (tr_hs_d hb4 hT hC hj (t := tr_l n b B P j h' + 2 ^ (b - P j)) (by omega) H).mpr (by rw [Nat.add_mod_right]; exact Nat.mod_eq_of_lt l1)
  obtain ⟨a1, d1, s1⟩ := tr_ex hb4 hT hC (Nat.le_of_lt hj) q1
  obtain ⟨a2, d2, s2⟩ := tr_ex hb4 hT hC (Nat.le_of_lt hj) q2
  generalize hl : tr_l n b B P j h' = l at *
  have j1 : dg (2 ^ b) a1 j = l := by
    have e := dg_at hM (h := h') (d := l) (j := j) (by omega)
    rw [← e]
    exact dg_blk (j := j) (by rw [d1, Nat.mul_div_cancel _ (Nat.pow_pos hM)]) (Nat.le_refl j)
  have j2 : dg (2 ^ b) a2 j = ((l + 2 ^ (b - P j) : Nat) : Int) := by
    have e := dg_at hM (h := h') (d := l + 2 ^ (b - P j)) (j := j) (by omega)
    rw [← e]
    exact dg_blk (j := j) (by rw [d2, Nat.mul_div_cancel _ (Nat.pow_pos hM)]) (Nat.le_refl j)
  have u1 : a1 / (2 ^ b) ^ (j + 1) = h' := by
    rw [Nat.pow_succ, ← Nat.div_div_eq_div_mul, d1, Nat.mul_comm h', Nat.mul_add_div hM, Nat.div_eq_of_lt (by omega), Nat.add_zero]
  have u2 : a2 / (2 ^ b) ^ (j + 1) = h' := by
    rw [Nat.pow_succ, ← Nat.div_div_eq_div_mul, d2, Nat.mul_comm h', Nat.mul_add_div hM, Nat.div_eq_of_lt (by omega), Nat.add_zero]
  have hre : tr_re n w (dg (2 ^ b) a1) j = tr_re n w (dg (2 ^ b) a2) j :=
    tr_re_c hj (fun v h3 h4 => dg_blk (j := j + 1) (by rw [u1, u2]) h3)
  have v1 := tr_ev (n := n) (f := w) (x := dg (2 ^ b) a1) hz
  have v2 := tr_ev (n := n) (f := w) (x := dg (2 ^ b) a2) hz
  rw [j1, hre] at v1
  rw [j2, Int.natCast_add, ii_p] at v2
  obtain ⟨a1', k1, k2⟩ := tr_red hM n a1
  obtain ⟨a2', k3, k4⟩ := tr_red hM n a2
  refine ⟨a1', a2', k1, k3, tr_st_c (fun v hv => (k2 v hv).symm) s1, tr_st_c (fun v hv => (k4 v hv).symm) s2, ?_⟩
  rw [lc_ev_c k2, lc_ev_c k4]
  intro hd
  refine ar_ndv hb4 t1 hzP h0 h1 ?_
  obtain ⟨p, hp⟩ := hd
  obtain ⟨q, hq⟩ := hg _ s1
  obtain ⟨r, hr⟩ := hg _ s2
  refine ⟨r - p - q, ?_⟩
  generalize (2 : Int) ^ (b - P j) = G at *
  generalize (2 : Int) ^ b = D at *
  rw [v1] at hq
  rw [v2] at hr
  generalize tr_re n w (dg (2 ^ b) a2) j = R at *
  grind
end
end
section
/-! the values of a line at the solutions are one residue class -/
theorem ar_A {b : Nat} (hb : b ≤ 4) {k : Nat} (hk : k ≤ b) {e : Int} (h : (2 : Int) ^ b ∣ 2 ^ k * e) : (2 : Int) ^ (b - k) ∣ e := by
  obtain ⟨q, hq⟩ := h
  have e1 : (2 : Int) ^ b = 2 ^ k * 2 ^ (b - k) := by rw [← Int.pow_add, Nat.add_sub_of_le hk]
  have h0 : (0 : Int) < 2 ^ k := Int.pow_pos (by decide)
  refine ⟨q, ?_⟩
  rw [e1, Int.mul_assoc] at hq
  exact Int.eq_of_mul_eq_mul_left (Int.ne_of_gt h0) hq
theorem ar_oddq {b : Nat} {k : Nat} (hk : k < b) {d u : Int} (hd : d = 2 ^ (b - (k + 1)) * u) (h : ¬ (2 : Int) ^ b ∣ 2 ^ k * d) : u % 2 = 1 := by
  rcases Int.emod_two_eq u with e | e
  · refine absurd ⟨u / 2, ?_⟩ h
    have e1 : (2 : Int) ^ b = 2 ^ k * (2 ^ (b - (k + 1)) * 2) := by rw [← Int.pow_succ, ← Int.pow_add]; congr 1; omega
    have e2 : u = 2 * (u / 2) := by omega
    rw [hd, e1]
    generalize u / 2 = t at *
    generalize (2 : Int) ^ k = K at *
    generalize (2 : Int) ^ (b - (k + 1)) = G at *
    subst e2
    grind
  · exact e
theorem vl_aff {n b : Nat} {B : Nat → Nat → Int} {w x y z : Nat → Int} {t : Int} (h : ∀ v, v < n → (2 : Int) ^ b ∣ w v - (x v + t * (y v - z v))) (hx : tr_st n b B x) (hy : tr_st n b B y) (hz : tr_st n b B z) : tr_st n b B w := by
  intro i hi
  rw [dv_tr (lc_ev_x (f := B i) h)]
  exact Int.dvd_add (hx i hi) (Int.dvd_mul_of_dvd_right (Int.dvd_sub (hy i hi) (hz i hi)))
section
variable {n b : Nat} {B : Nat → Nat → Int} {D : Nat → Int} {k : Nat}
theorem vl_on (hb : b ≤ 4) (hk : k ≤ b)
    (hA : ∀ a a', a < (2 ^ b) ^ n → a' < (2 ^ b) ^ n → tr_st n b B (dg (2 ^ b) a) → tr_st n b B (dg (2 ^ b) a') → (2 : Int) ^ b ∣ 2 ^ k * (lc_sm D (dg (2 ^ b) a) n - lc_sm D (dg (2 ^ b) a') n))
    (hB : ∀ k', k' < k → ∃ a a', a < (2 ^ b) ^ n ∧ a' < (2 ^ b) ^ n ∧ tr_st n b B (dg (2 ^ b) a) ∧ tr_st n b B (dg (2 ^ b) a') ∧ ¬ (2 : Int) ^ b ∣ 2 ^ k' * (lc_sm D (dg (2 ^ b) a) n - lc_sm D (dg (2 ^ b) a') n))
    {a0 : Nat} (ha0 : a0 < (2 ^ b) ^ n) (hs0 : tr_st n b B (dg (2 ^ b) a0)) {c : Int} (hc : (2 : Int) ^ (b - k) ∣ c - lc_sm D (dg (2 ^ b) a0) n) :
    ∃ a, a < (2 ^ b) ^ n ∧ tr_st n b B (dg (2 ^ b) a) ∧ (2 : Int) ^ b ∣ c - lc_sm D (dg (2 ^ b) a) n := by
  have hM : 0 < 2 ^ b := Nat.two_pow_pos b
  cases k with
  | zero => exact ⟨a0, ha0, hs0, hc⟩
  | succ k =>
    obtain ⟨a1, a2, l1, l2, s1, s2, hn⟩ := hB k (by omega)
    obtain ⟨u, hu⟩ := ar_A hb hk (hA a1 a2 l1 l2 s1 s2)
    have ho := ar_oddq (by omega) hu hn
    obtain ⟨m, hm⟩ := ar_odd ho
    obtain ⟨r, hr⟩ := ar_dv b hb
    obtain ⟨s, hs⟩ := hc
    obtain ⟨a, q1, q2⟩ := dg_enc hM (fun v => ((dg (2 ^ b) a0 v + s * (u * u * u) * (dg (2 ^ b) a1 v - dg (2 ^ b) a2 v)) % 2 ^ b).toNat) (fun v => by
      have h := jn_m b (dg (2 ^ b) a0 v + s * (u * u * u) * (dg (2 ^ b) a1 v - dg (2 ^ b) a2 v))
      have e := ii_p b
      omega) n
    have q3 : ∀ v, v < n → (2 : Int) ^ b ∣ dg (2 ^ b) a v - (dg (2 ^ b) a0 v + s * (u * u * u) * (dg (2 ^ b) a1 v - dg (2 ^ b) a2 v)) := by
      intro v hv
      rw [q2 v hv, Int.toNat_of_nonneg (jn_m b _).1]
      exact dv_mod _ _
    refine ⟨a, q1, vl_aff q3 hs0 s1 s2, ?_⟩
    obtain ⟨p, hp⟩ := lc_sm_x (f := D) q3
    rw [hu] at hp
    refine ⟨-p - 2 ^ (b - (k + 1)) * s * m * r, ?_⟩
    generalize lc_sm D (dg (2 ^ b) a) n = V at *
    generalize lc_sm D (dg (2 ^ b) a0) n = V0 at *
    generalize (2 : Int) ^ (b - (k + 1)) = G at *
    generalize (2 : Int) ^ b = Q at *
    have h5 : u * u * u * (G * u) = G * (1 + 16 * m) := by rw [← hm]; grind
    grind
/-- which values are seen -/
theorem vl_cos (hb : b ≤ 4) (hk : k ≤ b)
    (hA : ∀ a a', a < (2 ^ b) ^ n → a' < (2 ^ b) ^ n → tr_st n b B (dg (2 ^ b) a) → tr_st n b B (dg (2 ^ b) a') → (2 : Int) ^ b ∣ 2 ^ k * (lc_sm D (dg (2 ^ b) a) n - lc_sm D (dg (2 ^ b) a') n))
    (hB : ∀ k', k' < k → ∃ a a', a < (2 ^ b) ^ n ∧ a' < (2 ^ b) ^ n ∧ tr_st n b B (dg (2 ^ b) a) ∧ tr_st n b B (dg (2 ^ b) a') ∧ ¬ (2 : Int) ^ b ∣ 2 ^ k' * (lc_sm D (dg (2 ^ b) a) n - lc_sm D (dg (2 ^ b) a') n))
    {a0 : Nat} (ha0 : a0 < (2 ^ b) ^ n) (hs0 : tr_st n b B (dg (2 ^ b) a0)) (c : Nat) :
    (∃ a, a < (2 ^ b) ^ n ∧ tr_st n b B (dg (2 ^ b) a) ∧ lc_sm D (dg (2 ^ b) a) n % 2 ^ b = (c : Int)) ↔ (c < 2 ^ b ∧ c % 2 ^ (b - k) = (lc_sm D (dg (2 ^ b) a0) n % 2 ^ (b - k)).toNat) := by
  have e1 := ii_p b
  have e3 : (((lc_sm D (dg (2 ^ b) a0) n % 2 ^ (b - k)).toNat : Nat) : Int) = lc_sm D (dg (2 ^ b) a0) n % 2 ^ (b - k) := Int.toNat_of_nonneg (jn_m (b - k) _).1
  have e4 : (c % 2 ^ (b - k) = (lc_sm D (dg (2 ^ b) a0) n % 2 ^ (b - k)).toNat) ↔ (c : Int) % 2 ^ (b - k) = lc_sm D (dg (2 ^ b) a0) n % 2 ^ (b - k) := by
    rw [← e3, ← ii_p, ← Int.natCast_emod]
    omega
  rw [e4]
  constructor
  · rintro ⟨a, h1, h2, h3⟩
    have h4 := jn_m b (lc_sm D (dg (2 ^ b) a) n)
    refine ⟨by omega, ?_⟩
    rw [← h3, Int.emod_emod_of_dvd _ (ii_pd (Nat.sub_le b k))]
    exact dv_em (ar_A hb hk (hA a a0 h1 ha0 h2 hs0))
  · rintro ⟨h1, h2⟩
    obtain ⟨a, h3, h4, h5⟩ := vl_on hb hk hA hB ha0 hs0 (c := c) (Int.dvd_of_emod_eq_zero (Int.emod_eq_emod_iff_emod_sub_eq_zero.mp h2))
    refine ⟨a, h3, h4, ?_⟩
    rw [← dv_em h5]
    exact Int.emod_eq_of_lt (by omega) (by omega)
end
/-! one unknown left out: each fibre has 0 or 2^fr members -/
theorem wu_sm {f x y : Nat → Int} {v : Nat} : ∀ {n : Nat}, v < n → (∀ u, u < n → u ≠ v → x u = y u) → lc_sm f x n - lc_sm f y n = f v * (x v - y v)
  | 0, h, _ => absurd h (by omega)
  | n + 1, h, hh => by
    rw [lc_sm, lc_sm.eq_def f y (n + 1)]
    dsimp only
    by_cases e : v = n
    · subst e
      rw [lc_sm_p (g := f) (y := y) (n := v) (fun u hu => by rw [hh u (by omega) (by omega)]), Int.mul_sub]
      omega
    · have ih := wu_sm (f := f) (x := x) (y := y) (n := n) (by omega) (fun u hu hv => hh u (by omega) hv)
      rw [hh n (by omega) (by omega)]
      omega
theorem wu_ev {n : Nat} {f x y : Nat → Int} {v : Nat} (h : v < n) (hh : ∀ u, u < n → u ≠ v → x u = y u) : lc_ev n f x - lc_ev n f y = f v * (x v - y v) := by
  rw [← wu_sm h hh]
  unfold lc_ev
  omega
/-- the digits of h M C + (x C + t), where C = M^v and t < C -/
theorem wu_dv {M h x t v : Nat} (hx : x < M) (ht : t < M ^ v) : dg M (h * (M * M ^ v) + (x * M ^ v + t)) v = x := by
  unfold dg
  have e : h * (M * M ^ v) + (x * M ^ v + t) = t + M ^ v * (M * h + x) := by grind
  rw [e, Nat.add_mul_div_left _ _ (by omega), Nat.div_eq_of_lt ht, Nat.zero_add, Nat.mul_add_mod, Nat.mod_eq_of_lt hx]
theorem wu_du {M h x y t v : Nat} (hx : x < M) (hy : y < M) (ht : t < M ^ v) {u : Nat} (hu : u ≠ v) : dg M (h * (M * M ^ v) + (x * M ^ v + t)) u = dg M (h * (M * M ^ v) + (y * M ^ v + t)) u := by
  have hM : 0 < M := by omega
  by_cases l : u < v
  · obtain ⟨d, rfl⟩ : ∃ d, v = u + (d + 1) := ⟨v - u - 1, by omega⟩
    have e : ∀ x, h * (M * M ^ (u + (d + 1))) + (x * M ^ (u + (d + 1)) + t) = t + M ^ u * (M * (h * M * M ^ d + x * M ^ d)) := by
      intro x
      rw [Nat.pow_add, Nat.pow_succ]
      grind
    unfold dg
    rw [e x, e y, Nat.add_mul_div_left _ _ (Nat.pow_pos hM), Nat.add_mul_mod_self_left, Nat.add_mul_div_left _ _ (Nat.pow_pos hM), Nat.add_mul_mod_self_left]
  · refine dg_blk (j := v + 1) ?_ (by omega)
    have e : ∀ x, x < M → (h * (M * M ^ v) + (x * M ^ v + t)) / M ^ (v + 1) = h := by
      intro x hx
      have h1 : (x + 1) * M ^ v ≤ M * M ^ v := Nat.mul_le_mul_right _ hx
      rw [Nat.add_mul, Nat.one_mul] at h1
      rw [Nat.pow_succ, Nat.mul_comm (M ^ v) M, Nat.mul_comm h, Nat.mul_add_div (by omega), Nat.div_eq_of_lt (by omega), Nat.add_zero]
    rw [e x hx, e y hy]
section
variable {n b z : Nat} {L : Nat → Nat → Int} {v fr : Nat}
/-- all lines of the system hold at x -/
def sy_S (n b z : Nat) (L : Nat → Nat → Int) (x : Nat → Int) : Prop := ∀ i, i < z → (2 : Int) ^ b ∣ lc_ev n (L i) x
theorem wu_p (hb : b ≤ 4) (hv : v < n) (hfr : fr ≤ b) (hd : ∀ i, i < z → L i v % 2 ^ fr = 0) (ho : fr < b → ∃ i, i < z ∧ L i v / 2 ^ fr % 2 = 1)
    {h t x0 : Nat} (ht : t < (2 ^ b) ^ v) (hx0 : x0 < 2 ^ b) (H : sy_S n b z L (dg (2 ^ b) (h * (2 ^ b * (2 ^ b) ^ v) + (x0 * (2 ^ b) ^ v + t)))) :
    ∀ x, x < 2 ^ b → (sy_S n b z L (dg (2 ^ b) (h * (2 ^ b * (2 ^ b) ^ v) + (x * (2 ^ b) ^ v + t))) ↔ x % 2 ^ (b - fr) = x0 % 2 ^ (b - fr)) := by
  intro x hx
  have hev : ∀ i, lc_ev n (L i) (dg (2 ^ b) (h * (2 ^ b * (2 ^ b) ^ v) + (x * (2 ^ b) ^ v + t))) - lc_ev n (L i) (dg (2 ^ b) (h * (2 ^ b * (2 ^ b) ^ v) + (x0 * (2 ^ b) ^ v + t))) = L i v * ((x : Int) - x0) := by
    intro i
    rw [wu_ev hv (fun u _ hu => wu_du hx hx0 ht hu), wu_dv hx ht, wu_dv hx0 ht]
  have e4 : (x % 2 ^ (b - fr) = x0 % 2 ^ (b - fr)) ↔ (2 : Int) ^ (b - fr) ∣ (x : Int) - x0 := by
    have e5 : ((x : Int) % 2 ^ (b - fr) = (x0 : Int) % 2 ^ (b - fr)) ↔ (x % 2 ^ (b - fr) = x0 % 2 ^ (b - fr)) := by
      rw [← ii_p, ← Int.natCast_emod, ← Int.natCast_emod]
      omega
    rw [← e5]
    constructor
    · intro q
      exact Int.dvd_of_emod_eq_zero (Int.emod_eq_emod_iff_emod_sub_eq_zero.mp q)
    · exact dv_em
  have e6 : (2 : Int) ^ b = 2 ^ fr * 2 ^ (b - fr) := by rw [← Int.pow_add, Nat.add_sub_of_le hfr]
  rw [e4]
  constructor
  · intro G
    by_cases l : fr < b
    · obtain ⟨i, hi, h1⟩ := ho l
      have h2 := Int.dvd_sub (G i hi) (H i hi)
      rw [hev i] at h2
      have h3 : L i v = 2 ^ fr * (L i v / 2 ^ fr) := by
        have := Int.mul_ediv_add_emod (L i v) (2 ^ fr)
        have := hd i hi
        omega
      obtain ⟨m, hm⟩ := ar_odd h1
      rw [h3, Int.mul_assoc] at h2
      obtain ⟨q, hq⟩ := ar_A hb hfr h2
      obtain ⟨r, hr⟩ := ar_dv (b - fr) (by omega)
      generalize L i v / 2 ^ fr = u at *
      generalize (x : Int) - x0 = d at *
      generalize (2 : Int) ^ (b - fr) = Q at *
      exact ⟨u * u * u * q - m * r * d, by grind⟩
    · rw [show b - fr = 0 from by omega]
      exact ⟨(x : Int) - x0, by rw [Int.pow_zero, Int.one_mul]⟩
  · intro G i hi
    have h2 : (2 : Int) ^ b ∣ L i v * ((x : Int) - x0) := by
      rw [e6]
      exact Int.mul_dvd_mul (Int.dvd_of_emod_eq_zero (hd i hi)) G
    rw [← hev i] at h2
    exact (dv_tr h2).mpr (H i hi)
theorem wu_f (hb : b ≤ 4) (hv : v < n) (hfr : fr ≤ b) (hd : ∀ i, i < z → L i v % 2 ^ fr = 0) (ho : fr < b → ∃ i, i < z ∧ L i v / 2 ^ fr % 2 = 1)
    {h t : Nat} (ht : t < (2 ^ b) ^ v) :
    sg (fun x => kt_b (sy_S n b z L (dg (2 ^ b) (h * (2 ^ b * (2 ^ b) ^ v) + (x * (2 ^ b) ^ v + t))))) (2 ^ b) =
    2 ^ fr * kt_b (∃ x, x < 2 ^ b ∧ sy_S n b z L (dg (2 ^ b) (h * (2 ^ b * (2 ^ b) ^ v) + (x * (2 ^ b) ^ v + t)))) := by
  rw [← sg_n (fun x => sy_S n b z L (dg (2 ^ b) (h * (2 ^ b * (2 ^ b) ^ v) + (x * (2 ^ b) ^ v + t))))]
  by_cases e : ∃ x, x < 2 ^ b ∧ sy_S n b z L (dg (2 ^ b) (h * (2 ^ b * (2 ^ b) ^ v) + (x * (2 ^ b) ^ v + t)))
  · rw [kt_bt e, Nat.mul_one]
    obtain ⟨x0, hx0, H⟩ := e
    have hl : x0 % 2 ^ (b - fr) < 2 ^ (b - fr) := Nat.mod_lt _ (Nat.two_pow_pos _)
    rw [kt_c (wu_p hb hv hfr hd ho ht hx0 H), kt_q (by omega) hl, kt_qM hb hfr hl]
  · rw [kt_bf e, Nat.mul_zero]
    exact kt_0 (fun x hx G => e ⟨x, hx, G⟩)
theorem wu_all (hb : b ≤ 4) (hv : v < n) (hfr : fr ≤ b) (hd : ∀ i, i < z → L i v % 2 ^ fr = 0) (ho : fr < b → ∃ i, i < z ∧ L i v / 2 ^ fr % 2 = 1) :
    kt_n (fun a => sy_S n b z L (dg (2 ^ b) a)) ((2 ^ b) ^ n) =
    2 ^ fr * kt_n (fun a => dg (2 ^ b) a v = 0 ∧ ∃ x, x < 2 ^ b ∧ sy_S n b z L (dg (2 ^ b) (a + x * (2 ^ b) ^ v))) ((2 ^ b) ^ n) := by
  have hM : 0 < 2 ^ b := Nat.two_pow_pos b
  have hC : 0 < (2 ^ b) ^ v := Nat.pow_pos hM
  obtain ⟨d, rfl⟩ : ∃ d, n = d + (1 + v) := ⟨n - v - 1, by omega⟩
  have eN : (2 ^ b) ^ (d + (1 + v)) = (2 ^ b) ^ d * (2 ^ b * (2 ^ b) ^ v) := by rw [Nat.pow_add _ d, Nat.pow_add _ 1 v, Nat.pow_one]
  rw [eN, sg_n, sg_n, sg_mul, sg_mul, ← sg_k]
  refine sg_c (fun h _ => ?_)
  rw [sg_mul, sg_mul, sg_swap, sg_swap (fun x t => kt_b (dg (2 ^ b) (h * (2 ^ b * (2 ^ b) ^ v) + (x * (2 ^ b) ^ v + t)) v = 0 ∧ ∃ x', x' < 2 ^ b ∧ sy_S (d + (1 + v)) b z L (dg (2 ^ b) (h * (2 ^ b * (2 ^ b) ^ v) + (x * (2 ^ b) ^ v + t) + x' * (2 ^ b) ^ v)))), ← sg_k]
  refine sg_c (fun t ht => ?_)
  rw [wu_f hb hv hfr hd ho ht, sg_one _ _ _ hM]
  · congr 1
    refine kt_bc ?_
    have e : ∀ x, h * (2 ^ b * (2 ^ b) ^ v) + (0 * (2 ^ b) ^ v + t) + x * (2 ^ b) ^ v = h * (2 ^ b * (2 ^ b) ^ v) + (x * (2 ^ b) ^ v + t) := by intro x; omega
    constructor
    · rintro ⟨x, hx, H⟩
      refine ⟨wu_dv hM ht, x, hx, ?_⟩
      rw [e x]
      exact H
    · rintro ⟨_, x, hx, H⟩
      refine ⟨x, hx, ?_⟩
      rw [e x] at H
      exact H
  · intro x h0 hx
    refine kt_bf (fun H => ?_)
    have := H.1
    rw [wu_dv hx ht] at this
    omega
end
end
section
/-! the component's small methods, each once, over any post -/
def xw_W (wo : Nat → Int32) (w : Nat → Int) : Prop := ∀ k, k < 5 → wo k = iI (w k)
def xw_B (ba : Nat → Int32) (B : Nat → Nat → Int) : Prop := ∀ j k, j < 4 → k < 5 → ba (j * 5 + k) = iI (B j k)
def xw_P (po : Nat → Int32) (P : Nat → Nat) : Prop := ∀ j, j < 4 → po j = nI (P j)
/-- an array that is written from 0 on -/
def ai_I (o w : Nat → Int32) (k : Nat) (s : Nat → Int32) : Prop := (∀ i, i < k → s i = w i) ∧ ∀ i, k ≤ i → s i = o i
theorem ai_0 {o w : Nat → Int32} : ai_I o w 0 o := ⟨fun i hi => absurd hi (by omega), fun _ _ => rfl⟩
theorem ai_s {o w s : Nat → Int32} {k : Nat} {x : Int32} (h : ai_I o w k s) (hx : x = w k) : ai_I o w (k + 1) (upd s k x) := by
  refine ⟨fun i hi => ?_, fun i hi => ?_⟩
  · by_cases e : i = k
    · subst e; rw [pk_us, hx]
    · rw [pk_un e]; exact h.1 i (by omega)
  · rw [pk_un (by omega)]; exact h.2 i (by omega)
theorem xi_5 (j i : Nat) : nI j * 5 + nI i = nI (j * 5 + i) := by
  show nI j * nI 5 + nI i = _
  rw [pk_mul, nI_add]
theorem xi_line (s i : Nat) : (nI s * 10 + nI i) * 5 = nI ((s * 10 + i) * 5) := by
  show (nI s * nI 10 + nI i) * nI 5 = _
  rw [pk_mul, nI_add, pk_mul]
section
variable {n b : Nat} {bd : Int32} {li sz dr ba po wo xs : Nat → Int32} {B : Nat → Nat → Int} {P : Nat → Nat} {w : Nat → Int} {j : Nat}
theorem xw_sub {post : SX → Prop} (hb : b ≤ 4) (hB : xw_B ba B) (hj : j < 4) (hW : xw_W wo w) (f : Int)
    (K : ∀ wo', xw_W wo' (fun k => (w k - f * B j k) % 2 ^ b) → post (nI n, nI b, nI (2 ^ b), bd, li, sz, dr, ba, po, wo', xs)) : wpX_subtract post (nI n, nI b, nI (2 ^ b), bd, li, sz, dr, ba, po, wo, xs) (nI j) (iI f) := by
  refine loop_0 (fun m i s => wX_subtract_2 post (nI j) (iI f) (nI n) (nI b) (nI (2 ^ b)) bd m (nI i) li sz dr ba po s xs) (ai_I wo (fun k => iI ((w k - f * B j k) % 2 ^ b))) 5 wo ai_0 ?_ ?_
  · intro m s h
    exact br_t (show (5 : Int32) ≤ nI 5 by decide) (K s (fun k hk => h.1 k hk))
  · intro m i s hi h ih
    have e : s i = iI (w i) := (h.2 i (Nat.le_refl i)).trans (hW i hi)
    refine br_f (lt5' i hi) ⟨vp_in_nI hi (by decide), ?_, ?_⟩
    · rw [xi_5]; exact vp_in_nI (by omega) (by decide)
    · refine And.intro (vp_in_nI hi (by decide)) ?_
      intro a ea y ey
      have ea' : a = upd s i (iI ((w i - f * B j i) % 2 ^ b)) := by
        rw [ea, nI_clamp (by omega), xi_5, nI_clamp (by omega), e, hB j i hj hi, ii_mul, ii_sub, ii_and _ (by omega)]
      rw [ey, nI_1, ea']
      exact ih _ (ai_s h rfl)
theorem xw_scale {post : SX → Prop} (hb : b ≤ 4) (hW : xw_W wo w) (f : Int)
    (K : ∀ wo', xw_W wo' (fun k => (w k * f) % 2 ^ b) → post (nI n, nI b, nI (2 ^ b), bd, li, sz, dr, ba, po, wo', xs)) : wpX_scaleWork post (nI n, nI b, nI (2 ^ b), bd, li, sz, dr, ba, po, wo, xs) (iI f) := by
  refine loop_0 (fun m i s => wX_scaleWork_2 post (iI f) (nI n) (nI b) (nI (2 ^ b)) bd m (nI i) li sz dr ba po s xs) (ai_I wo (fun k => iI ((w k * f) % 2 ^ b))) 5 wo ai_0 ?_ ?_
  · intro m s h
    exact br_t (show (5 : Int32) ≤ nI 5 by decide) (K s (fun k hk => h.1 k hk))
  · intro m i s hi h ih
    have e : s i = iI (w i) := (h.2 i (Nat.le_refl i)).trans (hW i hi)
    refine br_f (lt5' i hi) ⟨vp_in_nI hi (by decide), ?_⟩
    refine And.intro (vp_in_nI hi (by decide)) ?_
    intro a ea y ey
    have ea' : a = upd s i (iI ((w i * f) % 2 ^ b)) := by
      rw [ea, nI_clamp (by omega), e, ii_mul, ii_and _ (by omega)]
    rw [ey, nI_1, ea']
    exact ih _ (ai_s h rfl)
theorem xw_clear {post : SX → Prop} (K : ∀ wo', xw_W wo' (fun _ => 0) → post (nI n, nI b, nI (2 ^ b), bd, li, sz, dr, ba, po, wo', xs)) : wpX_clearWork post (nI n, nI b, nI (2 ^ b), bd, li, sz, dr, ba, po, wo, xs) := by
  refine loop_0 (fun m i s => wX_clearWork_2 post (nI n) (nI b) (nI (2 ^ b)) bd m (nI i) li sz dr ba po s xs) (ai_I wo (fun _ => 0)) 5 wo ai_0 ?_ ?_
  · intro m s h
    exact br_t (show (5 : Int32) ≤ nI 5 by decide) (K s (fun k hk => h.1 k hk))
  · intro m i s hi h ih
    refine br_f (lt5' i hi) ⟨vp_in_nI hi (by decide), ?_⟩
    intro a ea y ey
    rw [ey, nI_1, ea, nI_clamp (by omega)]
    exact ih _ (ai_s h rfl)
theorem xw_loadLine {post : SX → Prop} {s i : Nat} (hs : s < 2) (hi : i < 10)
    (K : ∀ wo', (∀ k, k < 5 → wo' k = li ((s * 10 + i) * 5 + k)) → post (nI n, nI b, nI (2 ^ b), bd, li, sz, dr, ba, po, wo', xs)) : wpX_loadLine post (nI n, nI b, nI (2 ^ b), bd, li, sz, dr, ba, po, wo, xs) (nI s) (nI i) := by
  refine nm_r (xi_line s i) ?_
  refine loop_0 (fun m k t => wX_loadLine_12 post (nI ((s * 10 + i) * 5)) (nI n) (nI b) (nI (2 ^ b)) bd m (nI k) li sz dr ba po t xs) (ai_I wo (fun k => li ((s * 10 + i) * 5 + k))) 5 wo ai_0 ?_ ?_
  · intro m t h
    exact br_t (show (5 : Int32) ≤ nI 5 by decide) (K t (fun k hk => h.1 k hk))
  · intro m k t hk h ih
    refine br_f (lt5' k hk) ⟨?_, vp_in_nI hk (by decide), ?_⟩
    · rw [nI_add]; exact vp_in_nI (by omega) (by decide)
    intro a ea y ey
    rw [ey, nI_1, ea, nI_clamp (by omega), nI_add, nI_clamp (by omega)]
    exact ih _ (ai_s h rfl)
theorem xw_loadDraft {post : SX → Prop} (hb : b ≤ 4) (f : Int)
    (K : ∀ wo', (∀ k, k < 4 → wo' k = iI (((dr k).toInt * f) % 2 ^ b)) → wo' 4 = 0 → post (nI n, nI b, nI (2 ^ b), bd, li, sz, dr, ba, po, wo', xs)) : wpX_loadDraft post (nI n, nI b, nI (2 ^ b), bd, li, sz, dr, ba, po, wo, xs) (iI f) := by
  refine loop_0 (fun m i s => wX_loadDraft_2 post (iI f) (nI n) (nI b) (nI (2 ^ b)) bd m (nI i) li sz dr ba po s xs) (ai_I wo (fun k => iI (((dr k).toInt * f) % 2 ^ b))) 5 wo ai_0 ?_ ?_
  · intro m s h
    refine br_t (show (5 : Int32) ≤ nI 5 by decide) ?_
    intro a ea
    rw [ea]
    exact K _ (fun k hk => by rw [pk_un (by omega)]; exact h.1 k (by omega)) pk_us
  · intro m i s hi h ih
    refine br_f (lt5' i hi) ⟨vp_in_nI hi (by decide), ?_⟩
    refine And.intro (vp_in_nI hi (by decide)) ?_
    intro a ea y ey
    have ea' : a = upd s i (iI (((dr i).toInt * f) % 2 ^ b)) := by
      rw [ea, nI_clamp (by omega), ← ii_and _ (by omega), ← ii_mul, ii_t]
    rw [ey, nI_1, ea']
    exact ih _ (ai_s h rfl)
theorem xw_start {post : SX → Prop} (K : ∀ ba' po', xw_B ba' (fun _ _ => 0) → xw_P po' (fun _ => b) → post (nI n, nI b, nI (2 ^ b), 0, li, sz, dr, ba', po', wo, xs)) : wpX_startBasis post (nI n, nI b, nI (2 ^ b), bd, li, sz, dr, ba, po, wo, xs) := by
  refine loop_0 (fun m i s => wX_startBasis_7 post (nI n) (nI b) (nI (2 ^ b)) 0 m (nI i) li sz dr s po wo xs) (ai_I ba (fun _ => 0)) 20 ba ai_0 ?_ ?_
  · intro m s h
    refine br_t (show (20 : Int32) ≤ nI 20 by decide) ?_
    refine loop_0 (fun m i t => wX_startBasis_28 post (nI n) (nI b) (nI (2 ^ b)) 0 m (nI i) li sz dr s t wo xs) (ai_I po (fun _ => nI b)) 4 po ai_0 ?_ ?_
    · intro m t h'
      exact br_t (show (4 : Int32) ≤ nI 4 by decide) (K s t (fun j k hj hk => h.1 _ (by omega)) (fun j hj => h'.1 j hj))
    · intro m i t hi h' ih
      refine br_f (nI_ge (b := 4) hi (by decide)) ⟨vp_in_nI hi (by decide), ?_⟩
      intro a ea y ey
      rw [ey, nI_1, ea, nI_clamp (by omega)]
      exact ih _ (ai_s h' rfl)
  · intro m i s hi h ih
    refine br_f (nI_ge (b := 20) hi (by decide)) ⟨vp_in_nI hi (by decide), ?_⟩
    intro a ea y ey
    rw [ey, nI_1, ea, nI_clamp (by omega)]
    exact ih _ (ai_s h rfl)
theorem xw_exc {post : SX → Prop} (hj : j < 4) (hB : xw_B ba B) (hW : xw_W wo w)
    (K : ∀ ba' wo', xw_B ba' (jn_B B j w) → xw_W wo' (B j) → post (nI n, nI b, nI (2 ^ b), bd, li, sz, dr, ba', po, wo', xs)) : wpX_exchange post (nI n, nI b, nI (2 ^ b), bd, li, sz, dr, ba, po, wo, xs) (nI j) := by
  refine loop_0 (fun m i (s : (Nat → Int32) × (Nat → Int32)) => wX_exchange_2 post (nI j) (nI n) (nI b) (nI (2 ^ b)) bd m (nI i) li sz dr s.1 po s.2 xs)
    (fun i s => ai_I wo (fun k => ba (j * 5 + k)) i s.2 ∧ (∀ k, k < i → s.1 (j * 5 + k) = wo k) ∧ ∀ q, (q < j * 5 ∨ j * 5 + i ≤ q) → s.1 q = ba q) 5 (ba, wo) ⟨ai_0, fun k hk => absurd hk (by omega), fun _ _ => rfl⟩ ?_ ?_
  · rintro m ⟨s, t⟩ ⟨h1, h2, h3⟩
    refine br_t (show (5 : Int32) ≤ nI 5 by decide) (K s t (fun i k hi hk => ?_) (fun k hk => ?_))
    · by_cases e : i = j
      · subst e
        rw [jn_Bj]
        exact (h2 k hk).trans (hW k hk)
      · rw [jn_Bi B w e]
        exact (h3 _ (by omega)).trans (hB i k hi hk)
    · exact (h1.1 k hk).trans (hB j k hj hk)
  · rintro m i ⟨s, t⟩ hi ⟨h1, h2, h3⟩ ih
    dsimp only at h1 h2 h3
    refine br_f (lt5' i hi) ⟨?_, ?_⟩
    · rw [xi_5]; exact vp_in_nI (by omega) (by decide)
    intro o eo
    refine ⟨vp_in_nI hi (by decide), ?_, ?_⟩
    · rw [xi_5]; exact vp_in_nI (by omega) (by decide)
    intro c ec
    refine ⟨vp_in_nI hi (by decide), ?_⟩
    intro a ea y ey
    rw [xi_5, nI_clamp (by omega)] at eo ec
    rw [nI_clamp (by omega)] at ec ea
    rw [ey, nI_1]
    refine ih (c, a) ⟨?_, ?_, ?_⟩
    · dsimp only
      rw [ea]
      exact ai_s h1 (by rw [eo]; exact h3 _ (by omega))
    · intro k hk
      dsimp only
      rw [ec]
      by_cases e : k = i
      · subst e; rw [pk_us]; exact h1.2 k (Nat.le_refl k)
      · rw [pk_un (by omega)]; exact h2 k (by omega)
    · intro q hq
      dsimp only
      rw [ec, pk_un (by omega)]
      exact h3 q (by omega)
theorem xw_zer_l {post : Int32 → Prop} (hb : b ≤ 4) {c : Int} (h0 : 0 ≤ c) (hc : c < 2 ^ b) (K : ∀ z, z ≤ b → c % 2 ^ z = 0 → (z < b → c / 2 ^ z % 2 = 1) → post (nI z)) :
    ∀ d k, k + d = b → c % 2 ^ k = 0 → wX_zeros_2 post (iI c) (nI n) (nI b) (nI (2 ^ b)) bd li sz dr ba po wo xs (d + 1) (nI k) := by
  have hc2 : c < 16 := by
    have h := ii_pd (a := b) (c := 4) hb
    have := Int.le_of_dvd (by decide) h
    omega
  intro d
  induction d with
  | zero =>
    intro k hk hm
    have e : k = b := by omega
    subst e
    exact br_t (nI_le (Nat.le_refl k) (by omega)) (K k (Nat.le_refl k) hm (fun h => absurd h (by omega)))
  | succ d ih =>
    intro k hk hm
    have e : (iI c >>> (nI k &&& 31)) &&& 1 = iI (c / 2 ^ k % 2) := by rw [ii_shr h0 (by omega) (by omega), ii_and1]
    refine br_f (nI_ge (by omega) (by omega)) ?_
    have hr := Int.emod_two_eq (c / 2 ^ k)
    by_cases h1 : c / 2 ^ k % 2 = 1
    · refine br_t ?_ (K k (by omega) hm (fun _ => h1))
      rw [e, h1]
      rfl
    · have h2 : c / 2 ^ k % 2 = 0 := by omega
      refine br_f ?_ ?_
      · rw [e, h2]
        decide
      · intro y ey
        rw [ey, nI_1]
        refine ih (k + 1) (by omega) ?_
        have h4 : k = 0 ∨ k = 1 ∨ k = 2 ∨ k = 3 := by omega
        clear e ih K hk hr
        rcases h4 with rfl | rfl | rfl | rfl <;> simp only [Nat.reduceAdd, Int.reducePow] at * <;> omega
theorem xw_zer {post : Int32 → Prop} (hb : b ≤ 4) {c : Int} (h0 : 0 ≤ c) (hc : c < 2 ^ b) (K : ∀ z, z ≤ b → c % 2 ^ z = 0 → (z < b → c / 2 ^ z % 2 = 1) → post (nI z)) :
    wpX_zeros post (nI n, nI b, nI (2 ^ b), bd, li, sz, dr, ba, po, wo, xs) (iI c) :=
  ⟨b + 1, xw_zer_l hb h0 hc K b 0 (by omega) (by rw [Int.pow_zero]; exact Int.emod_one c)⟩
theorem xw_cb {post : Int32 → Prop} (hP : xw_P po P) {j : Nat} (hj : j ≤ 4) (K : post (nI (tr_c P j))) : wpX_choiceBits post (nI n, nI b, nI (2 ^ b), bd, li, sz, dr, ba, po, wo, xs) (nI j) := by
  have L : ∀ d i, i + d = j → wX_choiceBits_4 post (nI j) (nI n) (nI b) (nI (2 ^ b)) bd li sz dr ba po wo xs (d + 1) (nI (tr_c P i)) (nI i) := by
    intro d
    induction d with
    | zero =>
      intro i hi
      have e : i = j := by omega
      subst e
      exact br_t (nI_le (Nat.le_refl i) (by omega)) K
    | succ d ih =>
      intro i hi
      refine br_f (nI_ge (by omega) (by omega)) ⟨vp_in_nI (by omega) (by decide), ?_⟩
      intro s es y ey
      have es' : s = nI (tr_c P (i + 1)) := by rw [es, nI_clamp (by omega), hP i (by omega), nI_add]; rfl
      rw [ey, nI_1, es']
      exact ih (i + 1) (by omega)
  exact ⟨j + 1, L j 0 (by omega)⟩
end
end
section
/-! the component's join, build, total, least, vanishes, follows, spread -/
def ls_L (li : Nat → Int32) (s i : Nat) : Nat → Int := fun k => (li ((s * 10 + i) * 5 + k)).toInt
def xw_R (b : Nat) (li : Nat → Int32) : Prop := ∀ q, q < 100 → 0 ≤ (li q).toInt ∧ (li q).toInt < 2 ^ b
theorem ls_w {b : Nat} {li : Nat → Int32} (h : xw_R b li) {s i : Nat} (hs : s < 2) (hi : i < 10) : jn_w b (ls_L li s i) :=
  fun k hk => h _ (by omega)
theorem p2_16 {b : Nat} (hb : b ≤ 4) : (2 : Int) ^ b ≤ 16 := Int.le_of_dvd (by decide) (ii_pd (a := b) (c := 4) hb)
theorem tr_rp_c {n b : Nat} {bd : Int32} {B : Nat → Nat → Int} {P : Nat → Nat} {S S' : (Nat → Int) → Prop} (h : ∀ x, S x ↔ S' x) (H : tr_rp n b bd B P S) : tr_rp n b bd B P S' := by
  obtain ⟨h1, h2, h3⟩ := H
  exact ⟨h1, fun e x hx => h2 e x ((h x).mpr hx), fun e => ⟨fun x => (h x).symm.trans ((h3 e).1 x), (h3 e).2⟩⟩
section
variable {n b : Nat} {bd : Int32} {li sz dr ba po wo xs : Nat → Int32} {B : Nat → Nat → Int} {P : Nat → Nat} {w : Nat → Int} {S : (Nat → Int) → Prop}
theorem xw_join_l {post : SX → Prop} (hn : n ≤ 4) (hb : b ≤ 4)
    (K : ∀ bd' B' P' ba' po' wo', xw_B ba' B' → xw_P po' P' → tr_rp n b bd' B' P' S → post (nI n, nI b, nI (2 ^ b), bd', li, sz, dr, ba', po', wo', xs)) :
    ∀ d j, j + d = n → ∀ B P w ba po wo, xw_B ba B → xw_P po P → xw_W wo w → jn_I n b bd S j B P w → wX_join_2 post (d + 1) (nI j) (nI n) (nI b) (nI (2 ^ b)) bd li sz dr ba po wo xs := by
  intro d
  induction d with
  | zero =>
    intro j hj B P w ba po wo hB hP hW hI
    have e : j = n := by omega
    subst e
    obtain ⟨k1, k2⟩ := jn_e hI
    have h16 := p2_16 hb
    have hw4 := hI.2.1 4 (by omega)
    have e4 : wo 4 = iI (w 4) := hW 4 (by omega)
    refine br_t (nI_le (Nat.le_refl j) (by omega)) ?_
    by_cases h : w 4 = 0
    · refine br_t ?_ (K bd B P ba po wo hB hP (k1 h))
      rw [e4, h]
      rfl
    · refine br_f ?_ (K 1 B P ba po wo hB hP (k2 h))
      rw [e4]
      intro h5
      exact h ((ii_eq hw4.1 (by omega) (Int.le_refl 0) (by decide)).mp h5)
  | succ d ih =>
    intro j hj B P w ba po wo hB hP hW hI
    have h16 := p2_16 hb
    have hwj := hI.2.1 j (by omega)
    have ej : wo (nI j).toNatClampNeg = iI (w j) := by rw [nI_clamp (by omega)]; exact hW j (by omega)
    have ep : po (nI j).toNatClampNeg = nI (P j) := by rw [nI_clamp (by omega)]; exact hP j (by omega)
    have hPb : P j ≤ b := (hI.1 j (by omega)).1
    refine br_f (nI_ge (by omega) (by omega)) ⟨vp_in_nI (by omega) (by decide), ?_⟩
    by_cases h : w j = 0
    · refine br_t ?_ ?_
      · rw [ej, h]; rfl
      · intro y ey
        rw [ey, nI_1]
        exact ih (j + 1) (by omega) B P w ba po wo hB hP hW (jn_s0 hI h)
    · refine br_f ?_ ⟨vp_in_nI (by omega) (by decide), ?_⟩
      · rw [ej]
        intro h5
        exact h ((ii_eq hwj.1 (by omega) (Int.le_refl 0) (by decide)).mp h5)
      rw [ej]
      refine xw_zer hb hwj.1 hwj.2 (fun z hz hz0 hz1 => ?_)
      refine ⟨vp_in_nI (by omega) (by decide), ?_⟩
      intro o eo
      rw [ep] at eo
      subst eo
      by_cases hzP : P j ≤ z
      · refine br_t (nI_le hzP (by omega)) ⟨vp_in_nI (by omega) (by decide), ?_⟩
        rw [ii_shr hwj.1 (by omega) (by omega)]
        refine xw_sub hb hB (by omega) hW _ (fun wo' hW' => ?_)
        intro y ey
        rw [ey, nI_1]
        refine ih (j + 1) (by omega) B P _ ba po wo' hB hP hW' (jn_s1 hn hb (by omega) hI ?_)
        exact Int.emod_eq_zero_of_dvd (Int.dvd_trans (ii_pd hzP) (Int.dvd_of_emod_eq_zero hz0))
      · refine br_f (nI_ge (by omega) (by omega)) ⟨vp_in_nI (by omega) (by decide), ?_⟩
        intro u eu
        rw [ii_shr hwj.1 (by omega) (by omega)] at eu
        subst eu
        rw [ii_mul, ii_mul]
        refine xw_scale hb hW _ (fun wo1 hW1 => ?_)
        refine xw_exc (by omega) hB hW1 (fun ba2 wo2 hB2 hW2 => ?_)
        refine ⟨vp_in_nI (by omega) (by decide), ?_⟩
        intro p ep2
        rw [nI_clamp (by omega)] at ep2
        have hP2 : xw_P p (jn_P P j z) := by
          intro i hi
          rw [ep2]
          by_cases e : i = j
          · subst e
            rw [pk_us, show jn_P P i z i = z from if_pos rfl]
          · rw [pk_un e, show jn_P P j z i = P i from if_neg e]
            exact hP i hi
        rw [pk_sub (by omega), ii_shl1 (by omega), ii_n (2 ^ (P j - z)), ii_p]
        refine xw_sub hb hB2 (by omega) hW2 _ (fun wo' hW' => ?_)
        intro y ey
        rw [ey, nI_1]
        rw [jn_Bj] at hW'
        exact ih (j + 1) (by omega) _ _ _ ba2 p wo' hB2 hP2 hW' (jn_s2 hn hb (by omega) hI (by omega) hz0 (hz1 (by omega)) rfl)
theorem xw_join {post : SX → Prop} (hn : n ≤ 4) (hb : b ≤ 4) (hB : xw_B ba B) (hP : xw_P po P) (hW : xw_W wo w) (hw : jn_w b w) (H : tr_rp n b bd B P S)
    (K : ∀ bd' B' P' ba' po' wo', xw_B ba' B' → xw_P po' P' → tr_rp n b bd' B' P' (fun x => S x ∧ (2 : Int) ^ b ∣ lc_ev n w x) → post (nI n, nI b, nI (2 ^ b), bd', li, sz, dr, ba', po', wo', xs)) :
    wpX_join post (nI n, nI b, nI (2 ^ b), bd, li, sz, dr, ba, po, wo, xs) :=
  ⟨n + 1, xw_join_l hn hb K n 0 (by omega) B P w ba po wo hB hP hW (jn_0 H hw)⟩
theorem xw_joinAll {post : SX → Prop} (hn : n ≤ 4) (hb : b ≤ 4) (hR : xw_R b li) {s z : Nat} (hs : s < 2) (hz : sz s = nI z) (hz10 : z ≤ 10) (hB : xw_B ba B) (hP : xw_P po P) (H : tr_rp n b bd B P S)
    (K : ∀ bd' B' P' ba' po' wo', xw_B ba' B' → xw_P po' P' → tr_rp n b bd' B' P' (fun x => S x ∧ sy_S n b z (ls_L li s) x) → post (nI n, nI b, nI (2 ^ b), bd', li, sz, dr, ba', po', wo', xs)) :
    wpX_joinAll post (nI n, nI b, nI (2 ^ b), bd, li, sz, dr, ba, po, wo, xs) (nI s) := by
  have es : sz (nI s).toNatClampNeg = nI z := by rw [nI_clamp (by omega)]; exact hz
  have L : ∀ d i, i + d = z → ∀ bd B P ba po wo, xw_B ba B → xw_P po P → tr_rp n b bd B P (fun x => S x ∧ sy_S n b i (ls_L li s) x) → wX_joinAll_2 post (nI s) (d + 1) (nI i) (nI n) (nI b) (nI (2 ^ b)) bd li sz dr ba po wo xs := by
    intro d
    induction d with
    | zero =>
      intro i hi bd B P ba po wo hB hP H
      have e : i = z := by omega
      subst e
      refine ⟨vp_in_nI hs (by decide), br_t ?_ (K bd B P ba po wo hB hP H)⟩
      rw [es]
      exact nI_le (Nat.le_refl i) (by omega)
    | succ d ih =>
      intro i hi bd B P ba po wo hB hP H
      refine ⟨vp_in_nI hs (by decide), br_f ?_ ?_⟩
      · rw [es]
        exact nI_ge (by omega) (by omega)
      refine xw_loadLine hs (by omega) (fun wo1 h1 => ?_)
      refine xw_join (w := ls_L li s i) hn hb hB hP (fun k hk => by rw [h1 k hk]; exact (ii_t _).symm) (ls_w hR hs (by omega)) H (fun bd' B' P' ba' po' wo' hB' hP' H' => ?_)
      intro y ey
      rw [ey, nI_1]
      refine ih (i + 1) (by omega) bd' B' P' ba' po' wo' hB' hP' (tr_rp_c (fun x => ?_) H')
      constructor
      · rintro ⟨⟨h2, h3⟩, h4⟩
        refine ⟨h2, fun i' hi' => ?_⟩
        by_cases e : i' = i
        · rw [e]; exact h4
        · exact h3 i' (by omega)
      · rintro ⟨h2, h3⟩
        exact ⟨⟨h2, fun i' hi' => h3 i' (by omega)⟩, h3 i (by omega)⟩
  refine ⟨z + 1, L z 0 (by omega) bd B P ba po wo hB hP (tr_rp_c (fun x => ?_) H)⟩
  exact ⟨fun h => ⟨h, fun i hi => absurd hi (by omega)⟩, fun h => h.1⟩
theorem xw_build {post : SX → Prop} (hn : n ≤ 4) (hb : b ≤ 4) (hR : xw_R b li) {s z : Nat} (hs : s < 2) (hz : sz s = nI z) (hz10 : z ≤ 10)
    (K : ∀ bd' B' P' ba' po' wo', xw_B ba' B' → xw_P po' P' → tr_rp n b bd' B' P' (sy_S n b z (ls_L li s)) → post (nI n, nI b, nI (2 ^ b), bd', li, sz, dr, ba', po', wo', xs)) :
    wpX_build post (nI n, nI b, nI (2 ^ b), bd, li, sz, dr, ba, po, wo, xs) (nI s) := by
  refine xw_start (bd := bd) (fun ba1 po1 hB1 hP1 => ?_)
  refine xw_joinAll hn hb hR hs hz hz10 hB1 hP1 jn_st (fun bd' B' P' ba' po' wo' hB' hP' H' => ?_)
  exact K bd' B' P' ba' po' wo' hB' hP' (tr_rp_c (fun x => ⟨fun h => h.2, fun h => ⟨trivial, h⟩⟩) H')
theorem tr_c_le (hT : tr_tg n b B P) : ∀ j, j ≤ n → tr_c P j ≤ j * b
  | 0, _ => Nat.zero_le _
  | j + 1, h => by
    have h1 := tr_c_le hT j (by omega)
    have h2 := (hT j (by omega)).1
    rw [tr_c, Nat.add_mul, Nat.one_mul]
    omega
theorem tr_c_16 (hn : n ≤ 4) (hb : b ≤ 4) (hT : tr_tg n b B P) {j : Nat} (hj : j ≤ n) : tr_c P j ≤ 16 := by
  have h1 := tr_c_le hT j hj
  have h2 : j * b ≤ 4 * 4 := Nat.mul_le_mul (by omega) hb
  omega
theorem xw_total {post : Int32 → Prop} (hn : n ≤ 4) (hb : b ≤ 4) (hP : xw_P po P) (H : tr_rp n b bd B P S)
    (K : post (nI (kt_n (fun a => S (dg (2 ^ b) a)) ((2 ^ b) ^ n)))) : wpX_total post (nI n, nI b, nI (2 ^ b), bd, li, sz, dr, ba, po, wo, xs) := by
  obtain ⟨hT, h2, h3⟩ := H
  by_cases e : bd = 0
  · refine br_t e (xw_cb hP hn ?_)
    rw [ii_shl1 (by have := tr_c_16 hn hb hT (Nat.le_refl n); omega), ← tr_total hb hT (h3 e).2, ← kt_c (fun a _ => (h3 e).1 (dg (2 ^ b) a))]
    exact K
  · refine br_f e ?_
    rw [kt_0 (fun a _ => h2 e (dg (2 ^ b) a))] at K
    exact K
theorem xw_least {post : Int32 → Prop} (hn : n ≤ 4) (hb : b ≤ 4) (hB : xw_B ba B) (hP : xw_P po P) {j : Nat} (hj : j < n) (hPb : P j ≤ b) {x : Nat → Int} (hx : ∀ v, j < v → v < n → xs v = iI (x v))
    (K : post (iI (tr_le n b B P x j))) : wpX_least post (nI n, nI b, nI (2 ^ b), bd, li, sz, dr, ba, po, wo, xs) (nI j) := by
  have h16 := p2_16 hb
  have L : ∀ d v, v + d = n → j < v → wX_least_15 post (nI j) (nI n) (nI b) (nI (2 ^ b)) bd li sz dr ba po wo xs (d + 1) (iI (B j 4 - (lc_sm (B j) x v - lc_sm (B j) x (j + 1)))) (nI v) := by
    intro d
    induction d with
    | zero =>
      intro v hv hjv
      have e : v = n := by omega
      subst e
      refine br_t (nI_le (Nat.le_refl v) (by omega)) ?_
      refine And.intro (vp_in_nI (by omega) (by decide)) ?_
      have hm := jn_m b (tr_re v (B j) x j)
      have e1 : iI (B j 4 - (lc_sm (B j) x v - lc_sm (B j) x (j + 1))) &&& (nI (2 ^ b) - 1) = iI (tr_re v (B j) x j % 2 ^ b) := ii_and _ (by omega)
      rw [e1, nI_clamp (by omega), hP j (by omega), ii_shr hm.1 (by omega) (by omega)]
      exact K
    | succ d ih =>
      intro v hv hjv
      refine br_f (nI_ge (by omega) (by omega)) ⟨?_, vp_in_nI (by omega) (by decide), ?_⟩
      · rw [xi_5]; exact vp_in_nI (by omega) (by decide)
      intro s es y ey
      have es' : s = iI (B j 4 - (lc_sm (B j) x (v + 1) - lc_sm (B j) x (j + 1))) := by
        rw [es, xi_5, nI_clamp (by omega), nI_clamp (by omega), hB j v (by omega) (by omega), hx v hjv (by omega), ii_mul, ii_sub, show lc_sm (B j) x (v + 1) = lc_sm (B j) x v + B j v * x v from rfl]
        congr 1
        omega
      rw [ey, nI_1, es']
      exact ih (v + 1) (by omega) (by omega)
  have e4 : nI j * 5 + 4 = nI (j * 5 + 4) := xi_5 j 4
  refine And.intro ?_ ?_
  · rw [e4]; exact vp_in_nI (by omega) (by decide)
  intro a ea y ey
  have ea' : a = iI (B j 4 - (lc_sm (B j) x (j + 1) - lc_sm (B j) x (j + 1))) := by
    rw [ea, e4, nI_clamp (by omega), hB j 4 (by omega) (by omega)]
    congr 1
    omega
  rw [ey, nI_1, ea']
  exact ⟨n - (j + 1) + 1, L (n - (j + 1)) (j + 1) (by omega) (by omega)⟩
theorem xw_van {post : Int32 → SX → Prop} (hn : n ≤ 4) (hb : b ≤ 4) (hB : xw_B ba B) (hP : xw_P po P) (hT : tr_tg n b B P) (hC : tr_cl n b B P) (hW : xw_W wo w) (hw : jn_w b w)
    (K1 : ∀ wo' (c : Int), (∀ x, tr_st n b B x → (2 : Int) ^ b ∣ lc_ev n w x + c) → 0 ≤ c → c < 2 ^ b → wo' 4 = iI c → post 1 (nI n, nI b, nI (2 ^ b), bd, li, sz, dr, ba, po, wo', xs))
    (K0 : ∀ wo', (∃ a a', a < (2 ^ b) ^ n ∧ a' < (2 ^ b) ^ n ∧ tr_st n b B (dg (2 ^ b) a) ∧ tr_st n b B (dg (2 ^ b) a') ∧ ¬ (2 : Int) ^ b ∣ lc_ev n w (dg (2 ^ b) a) - lc_ev n w (dg (2 ^ b) a')) → post 0 (nI n, nI b, nI (2 ^ b), bd, li, sz, dr, ba, po, wo', xs)) :
    wpX_vanishes post (nI n, nI b, nI (2 ^ b), bd, li, sz, dr, ba, po, wo, xs) := by
  have h16 := p2_16 hb
  have L : ∀ d j, j + d = n → ∀ w' wo', xw_W wo' w' → vn_I n b B w j w' → wX_vanishes_2 post (d + 1) (nI j) (nI n) (nI b) (nI (2 ^ b)) bd li sz dr ba po wo' xs := by
    intro d
    induction d with
    | zero =>
      intro j hj w' wo' hW' hI
      have e : j = n := by omega
      subst e
      exact br_t (nI_le (Nat.le_refl j) (by omega)) (K1 wo' (w' 4) (fun x hx => vn_t hI hx) (hI.1 4 (by omega)).1 (hI.1 4 (by omega)).2 (hW' 4 (by omega)))
    | succ d ih =>
      intro j hj w' wo' hW' hI
      have hwj := hI.1 j (by omega)
      have ej : wo' (nI j).toNatClampNeg = iI (w' j) := by rw [nI_clamp (by omega)]; exact hW' j (by omega)
      have ep : po (nI j).toNatClampNeg = nI (P j) := by rw [nI_clamp (by omega)]; exact hP j (by omega)
      have hPb : P j ≤ b := (hT j (by omega)).1
      refine br_f (nI_ge (by omega) (by omega)) ⟨vp_in_nI (by omega) (by decide), ?_⟩
      rw [ej]
      refine xw_zer hb hwj.1 hwj.2 (fun z hz hz0 hz1 => ?_)
      refine ⟨vp_in_nI (by omega) (by decide), ?_⟩
      rw [ep]
      by_cases hzP : P j ≤ z
      · refine br_t (nI_le hzP (by omega)) ⟨vp_in_nI (by omega) (by decide), vp_in_nI (by omega) (by decide), ?_⟩
        rw [ii_shr hwj.1 (by omega) (by omega)]
        refine xw_sub hb hB (by omega) hW' _ (fun wo2 hW2 => ?_)
        intro y ey
        rw [ey, nI_1]
        refine ih (j + 1) (by omega) _ wo2 hW2 (vn_s hn hb hT (by omega) hI ?_)
        exact Int.emod_eq_zero_of_dvd (Int.dvd_trans (ii_pd hzP) (Int.dvd_of_emod_eq_zero hz0))
      · exact br_f (nI_ge (by omega) (by omega)) (K0 wo' (vn_f hb hT hC (by omega) hI (by omega) hz0 (hz1 (by omega))))
  exact ⟨n + 1, L n 0 (by omega) w wo hW (vn_0 hw)⟩
/-- all solutions meet the line w -/
def xw_all (n b : Nat) (S : (Nat → Int) → Prop) (w : Nat → Int) : Prop := ∀ a, a < (2 ^ b) ^ n → S (dg (2 ^ b) a) → (2 : Int) ^ b ∣ lc_ev n w (dg (2 ^ b) a)
theorem xw_fol {post : Int32 → SX → Prop} (hn : n ≤ 4) (hb : b ≤ 4) (hB : xw_B ba B) (hP : xw_P po P) (H : tr_rp n b bd B P S) (hW : xw_W wo w) (hw : jn_w b w)
    (K1 : xw_all n b S w → ∀ wo', post 1 (nI n, nI b, nI (2 ^ b), bd, li, sz, dr, ba, po, wo', xs)) (K0 : ¬ xw_all n b S w → ∀ wo', post 0 (nI n, nI b, nI (2 ^ b), bd, li, sz, dr, ba, po, wo', xs)) : wpX_follows post (nI n, nI b, nI (2 ^ b), bd, li, sz, dr, ba, po, wo, xs) := by
  have h16 := p2_16 hb
  obtain ⟨hT, h2, h3⟩ := H
  by_cases e : bd = 0
  · obtain ⟨h4, hC⟩ := h3 e
    refine br_t e (xw_van hn hb hB hP hT hC hW hw (fun wo' c hc c0 c1 e4 => ?_) (fun wo' hx => ?_))
    · refine br_f (by decide) ?_
      by_cases hc0 : c = 0
      · refine br_t ?_ (K1 (fun a _ ha => ?_) wo')
        · rw [e4, hc0]; rfl
        · have := hc _ ((h4 _).mp ha)
          rw [hc0, Int.add_zero] at this
          exact this
      · refine br_f ?_ (K0 (fun hA => ?_) wo')
        · rw [e4]
          intro h5
          exact hc0 ((ii_eq c0 (by omega) (Int.le_refl 0) (by decide)).mp h5)
        · obtain ⟨a, ha, hs⟩ := tr_ex0 hb hT hC
          have q1 := hc _ hs
          have q2 := hA a ha ((h4 _).mpr hs)
          have q3 := Int.dvd_sub q1 q2
          rw [show lc_ev n w (dg (2 ^ b) a) + c - lc_ev n w (dg (2 ^ b) a) = c from by omega] at q3
          exact hc0 (dv_sm c0 c1 q3)
    · refine br_t rfl (K0 (fun hA => ?_) wo')
      obtain ⟨a, a', l1, l2, s1, s2, hd⟩ := hx
      exact hd (Int.dvd_sub (hA a l1 ((h4 _).mpr s1)) (hA a' l2 ((h4 _).mpr s2)))
  · exact br_f e (K1 (fun a _ ha => absurd ha (h2 e _)) wo)
end
end
section
/-! the component's loops over the unknowns: nth, below, leastValue -/
theorem nt_k {l k m : Nat} (hm : 0 < m) : (if l < l + k * m then (l + k * m - l - 1) / m + 1 else 0) = k := by
  cases k with
  | zero => rw [Nat.zero_mul, if_neg (by omega)]
  | succ k =>
    have h1 : (k + 1) * m = k * m + m := by rw [Nat.add_mul, Nat.one_mul]
    rw [if_pos (by omega), show l + (k + 1) * m - l - 1 = k * m + (m - 1) from by omega, Nat.mul_comm k m, Nat.mul_add_div hm, Nat.div_eq_of_lt (by omega)]
theorem nt_m1 : nI 0 - 1 < 0 := by decide
theorem nt_p (j : Nat) : nI j + (-1) = nI j - 1 := (Int32.sub_eq_add_neg (nI j) 1).symm
theorem p2_16n {b : Nat} (hb : b ≤ 4) : 2 ^ b ≤ 16 := Nat.pow_le_pow_right (by decide) hb
theorem nt_N {b : Nat} (hb : b ≤ 4) {j : Nat} (hj : j ≤ 4) : (2 ^ b) ^ j ≤ 65536 := by
  have h1 : (2 ^ b) ^ j ≤ 16 ^ j := Nat.pow_le_pow_left (p2_16n hb) j
  have h2 : 16 ^ j ≤ 16 ^ 4 := Nat.pow_le_pow_right (by decide) hj
  omega
section
variable {n b : Nat} {bd : Int32} {li sz dr ba po wo xs : Nat → Int32} {B : Nat → Nat → Int} {P : Nat → Nat}
/-- the digits from j on, once digit j is d -/
theorem nt_x {j h : Nat} (hxs : ∀ v, j + 1 ≤ v → v < n → xs v = iI (dg (2 ^ b) (h * (2 ^ b) ^ (j + 1)) v)) {d : Nat} (hd : d < 2 ^ b) : ∀ v, j ≤ v → v < n → upd xs j (nI d) v = iI (dg (2 ^ b) ((h * 2 ^ b + d) * (2 ^ b) ^ j) v) := by
  have hM : 0 < 2 ^ b := Nat.two_pow_pos b
  intro v h1 h2
  by_cases e : v = j
  · subst e
    rw [pk_us, dg_at hM hd, ii_n]
  · rw [pk_un e, hxs v (by omega) h2]
    congr 1
    exact dg_blk (j := j + 1) (by rw [dg_up hM hd, Nat.mul_div_cancel _ (Nat.pow_pos hM)]) (by omega)
theorem nt_h {j h d : Nat} (hj : j < n) (hd : d < 2 ^ b) (hh : h < (2 ^ b) ^ (n - (j + 1))) : h * 2 ^ b + d < (2 ^ b) ^ (n - j) := by
  have e : (2 ^ b) ^ (n - j) = (2 ^ b) ^ (n - (j + 1)) * 2 ^ b := by rw [← Nat.pow_succ]; congr 1; omega
  have h1 : (h + 1) * 2 ^ b ≤ (2 ^ b) ^ (n - (j + 1)) * 2 ^ b := Nat.mul_le_mul_right _ hh
  rw [Nat.add_mul, Nat.one_mul] at h1
  omega
theorem xw_nth_l {post : Int32 → SX → Prop} {i : Nat} (hn : n ≤ 4) (hb : b ≤ 4) (hB : xw_B ba B) (hP : xw_P po P) (hT : tr_tg n b B P) (hC : tr_cl n b B P)
    (K : ∀ a xs', a < (2 ^ b) ^ n → tr_st n b B (dg (2 ^ b) a) → kt_n (fun a => tr_st n b B (dg (2 ^ b) a)) a = i → post (nI a) (nI n, nI b, nI (2 ^ b), bd, li, sz, dr, ba, po, wo, xs')) :
    ∀ j, j ≤ n → ∀ h left xs, (∀ v, j ≤ v → v < n → xs v = iI (dg (2 ^ b) (h * (2 ^ b) ^ j) v)) → tr_hs n b B j (h * (2 ^ b) ^ j) → left < 2 ^ tr_c P j →
      kt_n (fun a => tr_st n b B (dg (2 ^ b) a)) (h * (2 ^ b) ^ j) + left = i → h < (2 ^ b) ^ (n - j) → wX_nth_42 post (nI n) (nI b) (nI (2 ^ b)) bd (j + 1) (nI left) (nI h) (nI j - 1) li sz dr ba po wo xs
  | 0, _, h, left, xs, hxs, hs, hl, hi, hh => by
    rw [Nat.pow_zero, Nat.mul_one] at hs hi
    rw [tr_c, Nat.pow_zero] at hl
    exact br_t nt_m1 (K h xs hh (fun i hi => hs i (Nat.zero_le i) hi) (by omega))
  | j + 1, hj, h, left, xs, hxs, hs, hl, hi, hh => by
    have hM : 0 < 2 ^ b := Nat.two_pow_pos b
    have h16 := p2_16n hb
    have hPb := (hT j hj).1
    have hc := tr_c_16 hn hb hT (show j ≤ n by omega)
    have hc2 := tr_c_16 hn hb hT hj
    have hN := nt_N hb (show n - j ≤ 4 by omega)
    have hN1 := nt_N hb (show n - (j + 1) ≤ 4 by omega)
    obtain ⟨l1, l2⟩ := tr_l_lt hb hT hC hj hs
    have hl16 : left < 2 ^ 16 := Nat.lt_of_lt_of_le hl (Nat.pow_le_pow_right (by decide) hc2)
    have hk : left / 2 ^ tr_c P j < 2 ^ P j := Nat.div_lt_of_lt_mul (by rw [← Nat.pow_add]; exact hl)
    have hkm : left / 2 ^ tr_c P j * 2 ^ tr_c P j ≤ left := Nat.div_mul_le_self _ _
    have hg : 2 ^ P j * 2 ^ (b - P j) = 2 ^ b := by rw [← Nat.pow_add, Nat.add_sub_of_le hPb]
    have hd1 : (left / 2 ^ tr_c P j + 1) * 2 ^ (b - P j) ≤ 2 ^ P j * 2 ^ (b - P j) := Nat.mul_le_mul_right _ hk
    rw [Nat.add_mul, Nat.one_mul] at hd1
    have hd : tr_l n b B P j h + left / 2 ^ tr_c P j * 2 ^ (b - P j) < 2 ^ b := by omega
    rw [nI_pred]
    refine br_f (nI_pos (by omega)) (xw_cb hP (by omega) ?_)
    refine nm_r (pk_shrN (by omega) _ _ (s_l _ (by omega))) ?_
    refine nm_r (e' := nI (left - left / 2 ^ tr_c P j * 2 ^ tr_c P j)) (by rw [ii_shl (by omega) (by omega), pk_sub hkm]) ?_
    refine xw_least hn hb hB hP hj hPb hxs ?_
    rw [l2, ← ii_n]
    refine ⟨vp_in_nI (by omega) (by decide), vp_in_nI (by omega) (by decide), ?_⟩
    refine nm_r (e' := upd xs j (nI (tr_l n b B P j h + left / 2 ^ tr_c P j * 2 ^ (b - P j)))) (by rw [nI_clamp (by omega), hP j (by omega), pk_sub hPb, ii_shl (by omega) (by omega), nI_add]) ?_
    refine ⟨vp_in_nI (by omega) (by decide), ?_⟩
    refine nm_r (e' := nI (h * 2 ^ b + (tr_l n b B P j h + left / 2 ^ tr_c P j * 2 ^ (b - P j)))) (by rw [nI_clamp (by omega), pk_us, pk_mul, nI_add]) ?_
    refine nm_r (nt_p j) ?_
    refine xw_nth_l hn hb hB hP hT hC K j (by omega) _ _ _ (nt_x hxs hd) ((tr_hs_d hb hT hC hj hd hs).mpr ?_) ?_ ?_ (nt_h hj hd hh)
    · rw [Nat.add_mul_mod_self_right]
      exact Nat.mod_eq_of_lt l1
    · have h1 := Nat.div_add_mod' left (2 ^ tr_c P j)
      have h2 := Nat.mod_lt left (Nat.two_pow_pos (tr_c P j))
      omega
    · rw [tr_dig hb hT hC hj hs _ (by omega), nt_k (Nat.two_pow_pos _), Nat.mul_comm (2 ^ tr_c P j)]
      omega
/-- no solution in the block of bound: the count is as at its head -/
theorem bl_no (hb : b ≤ 4) (hT : tr_tg n b B P) (hC : tr_cl n b B P) {j bound : Nat} (hj : j ≤ n) (H : ¬ tr_hs n b B j (bound / (2 ^ b) ^ j * (2 ^ b) ^ j)) :
    kt_n (fun a => tr_st n b B (dg (2 ^ b) a)) (bound / (2 ^ b) ^ j * (2 ^ b) ^ j) = kt_n (fun a => tr_st n b B (dg (2 ^ b) a)) bound := by
  have h1 := (tr_cnt hb hT hC j hj (bound / (2 ^ b) ^ j)).2 H
  have h2 : bound / (2 ^ b) ^ j * (2 ^ b) ^ j ≤ bound := Nat.div_mul_le_self _ _
  have h3 : bound < (bound / (2 ^ b) ^ j + 1) * (2 ^ b) ^ j := by
    rw [Nat.mul_comm]
    exact Nat.lt_mul_div_succ bound (Nat.pow_pos (Nat.two_pow_pos b))
  have h4 := kt_mono (p := fun a => tr_st n b B (dg (2 ^ b) a)) h2
  have h5 := kt_mono (p := fun a => tr_st n b B (dg (2 ^ b) a)) (Nat.le_of_lt h3)
  omega
theorem bl_res {g l d : Nat} (hg : g ≤ 4) (hl : l < 2 ^ g) (h : l ≤ d) : d % 2 ^ g = l ↔ (d - l) % 2 ^ g = 0 := by
  have hm := kt_m hg
  generalize 2 ^ g = m at *
  rcases hm with rfl | rfl | rfl | rfl | rfl <;> omega
theorem bl_res2 {g l d : Nat} (hl : l < 2 ^ g) (h : d < l) : ¬ d % 2 ^ g = l := by
  rw [Nat.mod_eq_of_lt (by omega)]
  omega
theorem xw_below_l {post : Int32 → SX → Prop} {bound : Nat} (hn : n ≤ 4) (hb : b ≤ 4) (hbd : bound < 2 ^ 30) (hB : xw_B ba B) (hP : xw_P po P) (hT : tr_tg n b B P) (hC : tr_cl n b B P)
    (K : ∀ xs', post (nI (kt_n (fun a => tr_st n b B (dg (2 ^ b) a)) bound)) (nI n, nI b, nI (2 ^ b), bd, li, sz, dr, ba, po, wo, xs')) :
    ∀ j, j ≤ n → ∀ xs, (∀ v, j ≤ v → v < n → xs v = iI (dg (2 ^ b) (bound / (2 ^ b) ^ j * (2 ^ b) ^ j) v)) → tr_hs n b B j (bound / (2 ^ b) ^ j * (2 ^ b) ^ j) →
      wX_below_57 post (nI bound) (nI n) (nI b) (nI (2 ^ b)) bd (j + 1) (nI (kt_n (fun a => tr_st n b B (dg (2 ^ b) a)) (bound / (2 ^ b) ^ j * (2 ^ b) ^ j))) (nI j - 1) li sz dr ba po wo xs
  | 0, _, xs, hxs, hs => by
    rw [Nat.pow_zero, Nat.mul_one, Nat.div_one]
    exact br_t nt_m1 (K xs)
  | j + 1, hj, xs, hxs, hs => by
    have hM : 0 < 2 ^ b := Nat.two_pow_pos b
    have h16 := p2_16n hb
    have hPb := (hT j hj).1
    have hc := tr_c_16 hn hb hT (show j ≤ n by omega)
    obtain ⟨l1, l2⟩ := tr_l_lt hb hT hC hj hs
    have hd : bound / (2 ^ b) ^ j % 2 ^ b < 2 ^ b := Nat.mod_lt _ hM
    have eh : bound / (2 ^ b) ^ (j + 1) * 2 ^ b + bound / (2 ^ b) ^ j % 2 ^ b = bound / (2 ^ b) ^ j := by
      rw [Nat.pow_succ, ← Nat.div_div_eq_div_mul]
      exact Nat.div_add_mod' _ _
    have hdig := tr_dig hb hT hC hj hs (bound / (2 ^ b) ^ j % 2 ^ b) (by omega)
    have hhs := tr_hs_d hb hT hC hj hd hs
    have hx' := nt_x hxs hd
    rw [eh] at hdig hhs hx'
    have hgb : 2 ^ (b - P j) ≤ 2 ^ b := Nat.pow_le_pow_right (by decide) (by omega)
    have hjb : j * b ≤ 3 * 4 := Nat.mul_le_mul (by omega) hb
    have e5 : (nI bound >>> ((nI j * nI b) &&& 31)) &&& (nI (2 ^ b) - 1) = nI (bound / (2 ^ b) ^ j % 2 ^ b) := by
      have e6 : bound / 2 ^ (j * b) ≤ bound := Nat.div_le_self _ _
      rw [pk_mul, pk_shrN (by omega) _ _ (s_l _ (by omega)), ii_nand (by omega) (by omega), Nat.mul_comm j b, Nat.pow_mul]
    generalize hl : tr_l n b B P j (bound / (2 ^ b) ^ (j + 1)) = l at *
    generalize bound / (2 ^ b) ^ j % 2 ^ b = d at *
    have h139 : wX_below_139 post (wX_below_57 post (nI bound) (nI n) (nI b) (nI (2 ^ b)) bd (j + 1)) (nI bound) (nI (kt_n (fun a => tr_st n b B (dg (2 ^ b) a)) (bound / (2 ^ b) ^ j * (2 ^ b) ^ j))) (nI j) (nI d) (nI l) (nI (b - P j)) (nI n) (nI b) (nI (2 ^ b)) bd li sz dr ba po wo xs := by
      by_cases hdl : d < l
      · refine br_t (nI_lt hdl (by omega)) ?_
        rw [bl_no hb hT hC (by omega) (fun G => bl_res2 l1 hdl (hhs.mp G))]
        exact K xs
      · refine br_f (nI_nlt (by omega) (by omega)) ?_
        have e7 : (nI d - nI l) &&& ((1 : Int32) <<< (nI (b - P j) &&& 31) - 1) = nI ((d - l) % 2 ^ (b - P j)) := by
          rw [pk_sub (by omega), ii_shl1 (by omega), ii_nand (by omega) (by omega)]
        have hr := bl_res (by omega) l1 (show l ≤ d by omega)
        rw [e7]
        by_cases hz : (d - l) % 2 ^ (b - P j) = 0
        · refine br_t (by rw [hz]; rfl) ⟨vp_in_nI (by omega) (by decide), ?_⟩
          intro x1 e1 y ey
          rw [nI_clamp (by omega)] at e1
          rw [ey, e1, nt_p]
          exact xw_below_l hn hb hbd hB hP hT hC K j (by omega) _ hx' (hhs.mpr (hr.mpr hz))
        · have h8 : (d - l) % 2 ^ (b - P j) ≤ d - l := Nat.mod_le _ _
          refine br_f (nI_ne0 (by omega) (by omega)) ?_
          rw [bl_no hb hT hC (by omega) (fun G => hz (hr.mp (hhs.mp G)))]
          exact K xs
    rw [nI_pred]
    refine br_f (nI_pos (by omega)) ?_
    refine nm_r e5 ?_
    refine xw_least hn hb hB hP hj hPb hxs ?_
    rw [l2, ← ii_n]
    refine ⟨vp_in_nI (by omega) (by decide), ?_⟩
    refine nm_r (e' := nI (b - P j)) (by rw [nI_clamp (by omega), hP j (by omega), pk_sub hPb]) ?_
    by_cases hdl : d ≤ l
    · refine br_t (nI_le hdl (by omega)) ?_
      rw [if_neg (by omega), Nat.mul_zero, Nat.add_zero] at hdig
      rw [← hdig]
      exact h139
    · refine br_f (nI_ge (by omega) (by omega)) ?_
      have hq : (d - l - 1) / 2 ^ (b - P j) ≤ d - l - 1 := Nat.div_le_self _ _
      have h1l : nI d - nI l - 1 = nI (d - l - 1) := by
        rw [pk_sub (by omega)]
        exact pk_sub (a := d - l) (b := 1) (by omega)
      refine nm_r (e' := nI ((d - l - 1) / 2 ^ (b - P j) + 1)) (by rw [h1l, pk_shrN (by omega) _ _ (s_l _ (by omega)), nI_1]) ?_
      refine xw_cb hP (by omega) ?_
      have hc16 : 2 ^ tr_c P j ≤ 2 ^ 16 := Nat.pow_le_pow_right (by decide) hc
      have hm : ((d - l - 1) / 2 ^ (b - P j) + 1) * 2 ^ tr_c P j ≤ 16 * 2 ^ 16 := Nat.mul_le_mul (by omega) hc16
      rw [if_pos (by omega)] at hdig
      refine nm_r (e' := nI (kt_n (fun a => tr_st n b B (dg (2 ^ b) a)) (bound / (2 ^ b) ^ j * (2 ^ b) ^ j))) (by rw [hdig, ii_shl (by omega) (by omega), nI_add, Nat.mul_comm (2 ^ tr_c P j)]) ?_
      exact h139
/-- the least solution, digit by digit, with the sum of the draft line -/
theorem xw_lv_l {post : Int32 → SX → Prop} (hn : n ≤ 4) (hb : b ≤ 4) (hB : xw_B ba B) (hP : xw_P po P) (hT : tr_tg n b B P) (hC : tr_cl n b B P)
    (K : ∀ a xs', a < (2 ^ b) ^ n → tr_st n b B (dg (2 ^ b) a) →
      wpX_spread (fun r u => match u with | (f_n, f_bits, f_modulus, f_bad, a_lines, a_sizes, a_draftLine, a_basis, a_power, a_work, a_x) => (∀ g : Int32, g = nI b - r → post (iI (lc_sm (fun k => (dr k).toInt) (dg (2 ^ b) a) n) &&& ((1 : Int32) <<< (g &&& 31) - 1)) (f_n, f_bits, f_modulus, f_bad, a_lines, a_sizes, a_draftLine, a_basis, a_power, a_work, a_x))) (nI n, nI b, nI (2 ^ b), bd, li, sz, dr, ba, po, wo, xs')) :
    ∀ j, j ≤ n → ∀ h xs, (∀ v, j ≤ v → v < n → xs v = iI (dg (2 ^ b) (h * (2 ^ b) ^ j) v)) → tr_hs n b B j (h * (2 ^ b) ^ j) → h < (2 ^ b) ^ (n - j) →
      wX_leastValue_33 post (nI n) (nI b) (nI (2 ^ b)) bd (j + 1) (iI (lc_sm (fun k => (dr k).toInt) (dg (2 ^ b) (h * (2 ^ b) ^ j)) n - lc_sm (fun k => (dr k).toInt) (dg (2 ^ b) (h * (2 ^ b) ^ j)) j)) (nI j - 1) li sz dr ba po wo xs
  | 0, _, h, xs, hxs, hs, hh => by
    rw [Nat.pow_zero, Nat.mul_one] at hs
    rw [Nat.pow_zero, Nat.mul_one, show lc_sm (fun k => (dr k).toInt) (dg (2 ^ b) h) 0 = 0 from rfl, Int.sub_zero]
    exact br_t nt_m1 (K h xs hh (fun i hi => hs i (Nat.zero_le i) hi))
  | j + 1, hj, h, xs, hxs, hs, hh => by
    have hM : 0 < 2 ^ b := Nat.two_pow_pos b
    have h16 := p2_16n hb
    have hPb := (hT j hj).1
    obtain ⟨l1, l2⟩ := tr_l_lt hb hT hC hj hs
    have hgb : 2 ^ (b - P j) ≤ 2 ^ b := Nat.pow_le_pow_right (by decide) (by omega)
    have hd : tr_l n b B P j h < 2 ^ b := by omega
    rw [nI_pred]
    refine br_f (nI_pos (by omega)) ?_
    refine xw_least hn hb hB hP hj hPb hxs ?_
    rw [l2, ← ii_n]
    refine ⟨vp_in_nI (by omega) (by decide), ?_⟩
    refine nm_r (e' := upd xs j (nI (tr_l n b B P j h))) (by rw [nI_clamp (by omega)]) ?_
    refine ⟨vp_in_nI (by omega) (by decide), vp_in_nI (by omega) (by decide), ?_⟩
    have et := lc_tl (f := fun k => (dr k).toInt) (x := dg (2 ^ b) (h * (2 ^ b) ^ (j + 1))) (y := dg (2 ^ b) ((h * 2 ^ b + tr_l n b B P j h) * (2 ^ b) ^ j)) (n := n) hj
      (fun v h1 h2 => dg_blk (j := j + 1) (by rw [dg_up hM hd, Nat.mul_div_cancel _ (Nat.pow_pos hM)]) (by omega))
    have es : lc_sm (fun k => (dr k).toInt) (dg (2 ^ b) ((h * 2 ^ b + tr_l n b B P j h) * (2 ^ b) ^ j)) (j + 1) = lc_sm (fun k => (dr k).toInt) (dg (2 ^ b) ((h * 2 ^ b + tr_l n b B P j h) * (2 ^ b) ^ j)) j + (dr j).toInt * (tr_l n b B P j h : Int) := by
      rw [lc_sm, dg_at hM hd]
    refine nm_r (e' := iI (lc_sm (fun k => (dr k).toInt) (dg (2 ^ b) ((h * 2 ^ b + tr_l n b B P j h) * (2 ^ b) ^ j)) n - lc_sm (fun k => (dr k).toInt) (dg (2 ^ b) ((h * 2 ^ b + tr_l n b B P j h) * (2 ^ b) ^ j)) j)) ?_ ?_
    · rw [nI_clamp (by omega), pk_us, ← ii_t (dr j), ii_n, ii_mul, ii_add, et, es]
      congr 1
      omega
    · refine nm_r (nt_p j) ?_
      exact xw_lv_l hn hb hB hP hT hC K j (by omega) _ _ (nt_x hxs hd) ((tr_hs_d hb hT hC hj hd hs).mpr (Nat.mod_eq_of_lt l1)) (nt_h hj hd hh)
end
end
section
/-! the component's questions -/
theorem xi_1m {s : Nat} (hs : s < 2) : (1 : Int32) - nI s = nI (1 - s) := pk_sub (a := 1) (b := s) (by omega)
theorem xw_sys {post : Int32 → Prop} {s : Nat} (hs : s < 2) (K : post 1) : wpX_isSystem post (nI s) := by
  have h : s = 0 ∨ s = 1 := by omega
  rcases h with rfl | rfl
  · exact br_t rfl K
  · exact br_f (by decide) (br_t rfl K)
theorem xw_nsys {post : Int32 → Prop} {v : Int32} (h0 : ¬ v = 0) (h1 : ¬ v = 1) (K : post 0) : wpX_isSystem post v := br_f h0 (br_f h1 K)
theorem dv_2 {m a a' q q' : Int} (h : m ∣ a - q) (h' : m ∣ a' - q') : (m ∣ a - a') ↔ m ∣ q - q' := by
  apply dv_tr
  have h2 := Int.dvd_sub h h'
  rwa [show a - q - (a' - q') = a - a' - (q - q') from by omega] at h2
theorem lc_one {f x : Nat → Int} {v n : Nat} (hv : v < n) (h : ∀ u, u < n → u ≠ v → f u = 0) : lc_sm f x n = f v * x v := by
  have h1 := wu_sm (f := f) (x := x) (y := fun u => if u = v then 0 else x u) hv (fun u _ hu => (if_neg hu).symm)
  have h2 : lc_sm f (fun u => if u = v then 0 else x u) n = 0 := by
    rw [lc_sm_p (g := fun _ => 0) (y := x), lc_sm_0 (fun _ _ => rfl)]
    intro u hu
    show f u * (if u = v then 0 else x u) = 0 * x u
    by_cases e : u = v
    · rw [if_pos e, Int.mul_zero, Int.zero_mul]
    · rw [h u hu e, Int.zero_mul, Int.zero_mul]
  rw [h2, if_pos rfl, Int.sub_zero, Int.sub_zero] at h1
  exact h1
section
variable {n b : Nat} {bd : Int32} {li sz dr ba po wo xs : Nat → Int32} {B : Nat → Nat → Int} {P : Nat → Nat} {w : Nat → Int} {S : (Nat → Int) → Prop}
theorem xw_spread {post : Int32 → SX → Prop} (hn : n ≤ 4) (hb : b ≤ 4) (hB : xw_B ba B) (hP : xw_P po P) (hT : tr_tg n b B P) (hC : tr_cl n b B P)
    (K : ∀ k wo', k ≤ b →
      (∀ a a', a < (2 ^ b) ^ n → a' < (2 ^ b) ^ n → tr_st n b B (dg (2 ^ b) a) → tr_st n b B (dg (2 ^ b) a') → (2 : Int) ^ b ∣ 2 ^ k * (lc_sm (fun k => (dr k).toInt) (dg (2 ^ b) a) n - lc_sm (fun k => (dr k).toInt) (dg (2 ^ b) a') n)) →
      (∀ k', k' < k → ∃ a a', a < (2 ^ b) ^ n ∧ a' < (2 ^ b) ^ n ∧ tr_st n b B (dg (2 ^ b) a) ∧ tr_st n b B (dg (2 ^ b) a') ∧ ¬ (2 : Int) ^ b ∣ 2 ^ k' * (lc_sm (fun k => (dr k).toInt) (dg (2 ^ b) a) n - lc_sm (fun k => (dr k).toInt) (dg (2 ^ b) a') n)) →
      post (nI k) (nI n, nI b, nI (2 ^ b), bd, li, sz, dr, ba, po, wo', xs)) : wpX_spread post (nI n, nI b, nI (2 ^ b), bd, li, sz, dr, ba, po, wo, xs) := by
  have L : ∀ d k, k + d = b → (∀ k', k' < k → ∃ a a', a < (2 ^ b) ^ n ∧ a' < (2 ^ b) ^ n ∧ tr_st n b B (dg (2 ^ b) a) ∧ tr_st n b B (dg (2 ^ b) a') ∧ ¬ (2 : Int) ^ b ∣ 2 ^ k' * (lc_sm (fun k => (dr k).toInt) (dg (2 ^ b) a) n - lc_sm (fun k => (dr k).toInt) (dg (2 ^ b) a') n)) →
      ∀ wo, wX_spread_2 post (d + 1) (nI k) (nI n) (nI b) (nI (2 ^ b)) bd li sz dr ba po wo xs := by
    intro d
    induction d with
    | zero =>
      intro k hk hh wo
      have e : k = b := by omega
      subst e
      exact br_t (nI_le (Nat.le_refl k) (by omega)) (K k wo (Nat.le_refl k) (fun a a' _ _ _ _ => Int.dvd_mul_right _ _) hh)
    | succ d ih =>
      intro k hk hh wo
      refine br_f (nI_ge (by omega) (by omega)) ?_
      rw [ii_shl1 (by omega), ii_n (2 ^ k), ii_p]
      refine xw_loadDraft hb (2 ^ k) (fun wo1 h1 h2 => ?_)
      have hW : xw_W wo1 (fun v => if v = 4 then 0 else ((dr v).toInt * 2 ^ k) % 2 ^ b) := by
        intro v hv
        show wo1 v = iI (if v = 4 then 0 else ((dr v).toInt * 2 ^ k) % 2 ^ b)
        by_cases e : v = 4
        · rw [if_pos e, e, h2]; rfl
        · rw [if_neg e]; exact h1 v (by omega)
      have hw : jn_w b (fun v => if v = 4 then 0 else ((dr v).toInt * 2 ^ k) % 2 ^ b) := by
        intro v hv
        dsimp only
        by_cases e : v = 4
        · rw [if_pos e]; exact ⟨Int.le_refl 0, Int.pow_pos (by decide)⟩
        · rw [if_neg e]; exact jn_m b _
      have hE : ∀ x, (2 : Int) ^ b ∣ lc_ev n (fun v => if v = 4 then 0 else ((dr v).toInt * 2 ^ k) % 2 ^ b) x - 2 ^ k * lc_sm (fun k => (dr k).toInt) x n := by
        intro x
        unfold lc_ev
        dsimp only
        rw [if_pos rfl, Int.sub_zero]
        refine lc_sm_k (fun v hv => ?_)
        show (2 : Int) ^ b ∣ (if v = 4 then 0 else ((dr v).toInt * 2 ^ k) % 2 ^ b) - 2 ^ k * (dr v).toInt
        rw [if_neg (by omega), Int.mul_comm (2 ^ k)]
        exact dv_mod _ _
      refine xw_van hn hb hB hP hT hC hW hw (fun wo2 c hc c0 c1 e4 => ?_) (fun wo2 hx => ?_)
      · refine br_f (by decide) (K k wo2 (by omega) (fun a a' l1 l2 s1 s2 => ?_) hh)
        rw [Int.mul_sub, ← dv_2 (hE _) (hE _)]
        have q := Int.dvd_sub (hc _ s1) (hc _ s2)
        rwa [Int.add_sub_add_right] at q
      · refine br_t rfl ?_
        intro y ey
        rw [ey, nI_1]
        refine ih (k + 1) (by omega) (fun k' hk' => ?_) wo2
        by_cases e : k' = k
        · subst e
          obtain ⟨a, a', l1, l2, s1, s2, hd⟩ := hx
          refine ⟨a, a', l1, l2, s1, s2, ?_⟩
          rw [Int.mul_sub, ← dv_2 (hE _) (hE _)]
          exact hd
        · exact hh k' (by omega)
  exact ⟨b + 1, L b 0 (by omega) (fun k' hk' => absurd hk' (by omega)) wo⟩
/-- unknown v of all solutions agrees in its low bits: 2^k times the difference is 0 -/
def sb_C (n b : Nat) (S : (Nat → Int) → Prop) (v k : Nat) : Prop := ∀ a a', a < (2 ^ b) ^ n → a' < (2 ^ b) ^ n → S (dg (2 ^ b) a) → S (dg (2 ^ b) a') → (2 : Int) ^ b ∣ 2 ^ k * (dg (2 ^ b) a v - dg (2 ^ b) a' v)
theorem xw_settled {post : Int32 → SX → Prop} (hn : n ≤ 4) (hb : b ≤ 4) (hB : xw_B ba B) (hP : xw_P po P) (hT : tr_tg n b B P) (hC : tr_cl n b B P) {v : Nat} (hv : v < n)
    (K : ∀ k wo', k ≤ b → sb_C n b (tr_st n b B) v k → (∀ k', k' < k → ¬ sb_C n b (tr_st n b B) v k') → post (nI (b - k)) (nI n, nI b, nI (2 ^ b), bd, li, sz, dr, ba, po, wo', xs)) :
    ∃ m, wX_settledBits_41 post (nI v) m 0 (nI n) (nI b) (nI (2 ^ b)) bd li sz dr ba po wo xs := by
  have L : ∀ d k, k + d = b → (∀ k', k' < k → ¬ sb_C n b (tr_st n b B) v k') → ∀ wo, wX_settledBits_41 post (nI v) (d + 1) (nI k) (nI n) (nI b) (nI (2 ^ b)) bd li sz dr ba po wo xs := by
    intro d
    induction d with
    | zero =>
      intro k hk hh wo
      have e : k = b := by omega
      subst e
      have h := K k wo (Nat.le_refl k) (fun a a' _ _ _ _ => Int.dvd_mul_right _ _) hh
      rw [Nat.sub_self] at h
      exact br_t (nI_le (Nat.le_refl k) (by omega)) h
    | succ d ih =>
      intro k hk hh wo
      refine br_f (nI_ge (by omega) (by omega)) ?_
      refine xw_clear (fun wo1 h1 => ?_)
      refine ⟨vp_in_nI (by omega) (by decide), ?_⟩
      intro wo2 e2
      rw [nI_clamp (by omega), ii_shl1 (by omega), ii_n, ii_p] at e2
      have hW : xw_W wo2 (fun u => if u = v then 2 ^ k else 0) := by
        intro u hu
        show wo2 u = iI (if u = v then 2 ^ k else 0)
        rw [e2]
        by_cases e : u = v
        · rw [if_pos e, e, pk_us]
        · rw [pk_un e, if_neg e]; exact h1 u hu
      have hw : jn_w b (fun u => if u = v then 2 ^ k else 0) := by
        intro u hu
        have h0 : (0 : Int) < 2 ^ b := Int.pow_pos (by decide)
        have h1 : (0 : Int) < 2 ^ k := Int.pow_pos (by decide)
        have h2 : (2 : Int) ^ k < 2 ^ b := by
          have h3 : 2 ^ k < 2 ^ b := Nat.pow_lt_pow_right (by decide) (by omega)
          have := ii_p k
          have := ii_p b
          omega
        dsimp only
        by_cases e : u = v
        · rw [if_pos e]; omega
        · rw [if_neg e]; omega
      have hE : ∀ x : Nat → Int, lc_ev n (fun u => if u = v then 2 ^ k else 0) x = 2 ^ k * x v := by
        intro x
        unfold lc_ev
        rw [lc_one hv (fun u _ hu => if_neg hu)]
        dsimp only
        rw [if_pos rfl, if_neg (by omega), Int.sub_zero]
      refine xw_van hn hb hB hP hT hC hW hw (fun wo3 c hc c0 c1 e4 => ?_) (fun wo3 hx => ?_)
      · have h := K k wo3 (by omega) (fun a a' l1 l2 s1 s2 => ?_) hh
        · refine br_f (by decide) ?_
          rw [pk_sub (by omega)]
          exact h
        · have q := Int.dvd_sub (hc _ s1) (hc _ s2)
          rw [hE, hE, Int.add_sub_add_right, ← Int.mul_sub] at q
          exact q
      · refine br_t rfl ?_
        intro y ey
        rw [ey, nI_1]
        refine ih (k + 1) (by omega) (fun k' hk' => ?_) wo3
        by_cases e : k' = k
        · subst e
          obtain ⟨a, a', l1, l2, s1, s2, hd⟩ := hx
          rw [hE, hE, ← Int.mul_sub] at hd
          exact fun G => hd (G a a' l1 l2 s1 s2)
        · exact hh k' (by omega)
  exact ⟨b + 1, L b 0 (by omega) (fun k' hk' => absurd hk' (by omega)) wo⟩
theorem xw_within {post : Int32 → SX → Prop} (hn : n ≤ 4) (hb : b ≤ 4) (hR : xw_R b li) {s z : Nat} (hs : s < 2) (hz : sz (1 - s) = nI z) (hz10 : z ≤ 10) (hB : xw_B ba B) (hP : xw_P po P) (H : tr_rp n b bd B P S)
    (K1 : (∀ i, i < z → xw_all n b S (ls_L li (1 - s) i)) → ∀ wo', post 1 (nI n, nI b, nI (2 ^ b), bd, li, sz, dr, ba, po, wo', xs)) (K0 : ¬ (∀ i, i < z → xw_all n b S (ls_L li (1 - s) i)) → ∀ wo', post 0 (nI n, nI b, nI (2 ^ b), bd, li, sz, dr, ba, po, wo', xs)) :
    ∃ m, wX_within_16 post (nI s) m 0 (nI n) (nI b) (nI (2 ^ b)) bd li sz dr ba po wo xs := by
  have es : sz ((1 : Int32) - nI s).toNatClampNeg = nI z := by rw [xi_1m hs, nI_clamp (by omega)]; exact hz
  have L : ∀ d i, i + d = z → (∀ i', i' < i → xw_all n b S (ls_L li (1 - s) i')) → ∀ wo, wX_within_16 post (nI s) (d + 1) (nI i) (nI n) (nI b) (nI (2 ^ b)) bd li sz dr ba po wo xs := by
    intro d
    induction d with
    | zero =>
      intro i hi hh wo
      have e : i = z := by omega
      subst e
      refine ⟨?_, br_t ?_ (K1 hh wo)⟩
      · rw [xi_1m hs]; exact vp_in_nI (by omega) (by decide)
      · rw [es]; exact nI_le (Nat.le_refl i) (by omega)
    | succ d ih =>
      intro i hi hh wo
      refine ⟨?_, br_f ?_ ?_⟩
      · rw [xi_1m hs]; exact vp_in_nI (by omega) (by decide)
      · rw [es]; exact nI_ge (by omega) (by omega)
      rw [xi_1m hs]
      refine xw_loadLine (by omega) (by omega) (fun wo1 h1 => ?_)
      refine xw_fol (w := ls_L li (1 - s) i) hn hb hB hP H (fun k hk => by rw [h1 k hk]; exact (ii_t _).symm) (ls_w hR (by omega) (by omega)) (fun hA wo2 => ?_) (fun hA wo2 => ?_)
      · refine br_f (by decide) ?_
        intro y ey
        rw [ey, nI_1]
        refine ih (i + 1) (by omega) (fun i' hi' => ?_) wo2
        by_cases e : i' = i
        · rw [e]; exact hA
        · exact hh i' (by omega)
      · exact br_t rfl (K0 (fun G => hA (G i (by omega))) wo2)
  exact ⟨z + 1, L z 0 (by omega) (fun i hi => absurd hi (by omega)) wo⟩
/-- all lines but the one at i0 hold at x -/
def sy_W (n b z i0 : Nat) (L : Nat → Nat → Int) (x : Nat → Int) : Prop := ∀ i, i < z → i ≠ i0 → (2 : Int) ^ b ∣ lc_ev n (L i) x
theorem xw_red {post : Int32 → SX → Prop} (hn : n ≤ 4) (hb : b ≤ 4) (hR : xw_R b li) {s z i0 : Nat} (hs : s < 2) (hz : sz s = nI z) (hz10 : z ≤ 10) (hi0 : i0 < z) (hB : xw_B ba B) (hP : xw_P po P) (H : tr_rp n b bd B P (fun _ => True))
    (K1 : xw_all n b (sy_W n b z i0 (ls_L li s)) (ls_L li s i0) → ∀ bd' ba' po' wo', post 1 (nI n, nI b, nI (2 ^ b), bd', li, sz, dr, ba', po', wo', xs))
    (K0 : ¬ xw_all n b (sy_W n b z i0 (ls_L li s)) (ls_L li s i0) → ∀ bd' ba' po' wo', post 0 (nI n, nI b, nI (2 ^ b), bd', li, sz, dr, ba', po', wo', xs)) :
    ∃ m, wX_redundant_32 post (nI s) (nI i0) m 0 (nI n) (nI b) (nI (2 ^ b)) bd li sz dr ba po wo xs := by
  have es : sz (nI s).toNatClampNeg = nI z := by rw [nI_clamp (by omega)]; exact hz
  have L : ∀ d i, i + d = z → ∀ bd B P ba po wo, xw_B ba B → xw_P po P → tr_rp n b bd B P (sy_W n b i i0 (ls_L li s)) → wX_redundant_32 post (nI s) (nI i0) (d + 1) (nI i) (nI n) (nI b) (nI (2 ^ b)) bd li sz dr ba po wo xs := by
    intro d
    induction d with
    | zero =>
      intro i hi bd B P ba po wo hB hP H
      have e : i = z := by omega
      subst e
      refine ⟨vp_in_nI hs (by decide), br_t ?_ ?_⟩
      · rw [es]
        exact nI_le (Nat.le_refl i) (by omega)
      refine xw_loadLine hs (by omega) (fun wo1 h1 => ?_)
      refine xw_fol (w := ls_L li s i0) hn hb hB hP H (fun k hk => by rw [h1 k hk]; exact (ii_t _).symm) (ls_w hR hs (by omega)) (fun hA wo2 => ?_) (fun hA wo2 => ?_)
      · exact br_f (by decide) (K1 hA bd ba po wo2)
      · exact br_t rfl (K0 hA bd ba po wo2)
    | succ d ih =>
      intro i hi bd B P ba po wo hB hP H
      refine ⟨vp_in_nI hs (by decide), br_f ?_ ?_⟩
      · rw [es]
        exact nI_ge (by omega) (by omega)
      by_cases e : i = i0
      · refine br_t (by rw [e]) ?_
        intro y ey
        rw [ey, nI_1]
        refine ih (i + 1) (by omega) bd B P ba po wo hB hP (tr_rp_c (fun x => ?_) H)
        exact ⟨fun h i' h1 h2 => h i' (by omega) h2, fun h i' h1 h2 => h i' (by omega) h2⟩
      · refine br_f (fun h => e ((nI_eq (by omega) (by omega)).mp h)) ?_
        refine xw_loadLine hs (by omega) (fun wo1 h1 => ?_)
        refine xw_join (w := ls_L li s i) hn hb hB hP (fun k hk => by rw [h1 k hk]; exact (ii_t _).symm) (ls_w hR hs (by omega)) H (fun bd' B' P' ba' po' wo' hB' hP' H' => ?_)
        intro y ey
        rw [ey, nI_1]
        refine ih (i + 1) (by omega) bd' B' P' ba' po' wo' hB' hP' (tr_rp_c (fun x => ?_) H')
        constructor
        · rintro ⟨h3, h4⟩ i' hi' h5
          by_cases e : i' = i
          · rw [e]; exact h4
          · exact h3 i' (by omega) h5
        · intro h3
          exact ⟨fun i' hi' h5 => h3 i' (by omega) h5, h3 i (by omega) e⟩
  refine ⟨z + 1, L z 0 (by omega) bd B P ba po wo hB hP (tr_rp_c (fun x => ?_) H)⟩
  exact ⟨fun h i hi => absurd hi (by omega), fun h => trivial⟩
theorem xw_wu {post : Int32 → SX → Prop} (hn : n ≤ 4) (hb : b ≤ 4) (hR : xw_R b li) {s z v : Nat} (hs : s < 2) (hz : sz s = nI z) (hz10 : z ≤ 10) (hv : v < n) (hP : xw_P po P) (H : tr_rp n b bd B P S)
    (K : ∀ fr, fr ≤ b → (∀ i, i < z → ls_L li s i v % 2 ^ fr = 0) → (fr < b → ∃ i, i < z ∧ ls_L li s i v / 2 ^ fr % 2 = 1) → post (nI (kt_n (fun a => S (dg (2 ^ b) a)) ((2 ^ b) ^ n) / 2 ^ fr)) (nI n, nI b, nI (2 ^ b), bd, li, sz, dr, ba, po, wo, xs)) :
    ∃ m, wX_withoutUnknown_37 post (nI s) (nI v) (nI n) (nI b) (nI (2 ^ b)) bd li sz dr ba po wo xs m (nI b) 0 := by
  have es : sz (nI s).toNatClampNeg = nI z := by rw [nI_clamp (by omega)]; exact hz
  have L : ∀ d i, i + d = z → ∀ fr, fr ≤ b → (∀ i', i' < i → ls_L li s i' v % 2 ^ fr = 0) → (fr < b → ∃ i', i' < i ∧ ls_L li s i' v / 2 ^ fr % 2 = 1) → wX_withoutUnknown_37 post (nI s) (nI v) (nI n) (nI b) (nI (2 ^ b)) bd li sz dr ba po wo xs (d + 1) (nI fr) (nI i) := by
    intro d
    induction d with
    | zero =>
      intro i hi fr h1 h2 h3
      have e : i = z := by omega
      subst e
      refine ⟨vp_in_nI hs (by decide), br_t ?_ ?_⟩
      · rw [es]
        exact nI_le (Nat.le_refl i) (by omega)
      refine xw_total hn hb hP H ?_
      have hN := nt_N hb hn
      have hK := kt_le (p := fun a => S (dg (2 ^ b) a)) ((2 ^ b) ^ n)
      rw [pk_shrN (by omega) _ _ (s_l _ (by omega))]
      exact K fr h1 h2 h3
    | succ d ih =>
      intro i hi fr h1 h2 h3
      have ei : ((nI s * 10 + nI i) * 5 + nI v) = nI ((s * 10 + i) * 5 + v) := by rw [xi_line, nI_add]
      have hr := hR ((s * 10 + i) * 5 + v) (by omega)
      refine ⟨vp_in_nI hs (by decide), br_f ?_ ⟨?_, ?_⟩⟩
      · rw [es]
        exact nI_ge (by omega) (by omega)
      · rw [ei]
        exact vp_in_nI (by omega) (by decide)
      rw [ei, nI_clamp (by omega), ← ii_t (li ((s * 10 + i) * 5 + v))]
      refine xw_zer hb hr.1 hr.2 (fun q hq hq0 hq1 => ?_)
      by_cases hc : fr ≤ q
      · refine br_t (nI_le hc (by omega)) ?_
        intro y ey
        rw [ey, nI_1]
        refine ih (i + 1) (by omega) fr h1 (fun i' hi' => ?_) (fun hf => ?_)
        · by_cases e : i' = i
          · rw [e]
            exact Int.emod_eq_zero_of_dvd (Int.dvd_trans (ii_pd hc) (Int.dvd_of_emod_eq_zero hq0))
          · exact h2 i' (by omega)
        · obtain ⟨i', l1, l2⟩ := h3 hf
          exact ⟨i', by omega, l2⟩
      · refine br_f (nI_ge (by omega) (by omega)) ?_
        intro y ey
        rw [ey, nI_1]
        refine ih (i + 1) (by omega) q (by omega) (fun i' hi' => ?_) (fun hf => ⟨i, by omega, hq1 hf⟩)
        by_cases e : i' = i
        · rw [e]; exact hq0
        · exact Int.emod_eq_zero_of_dvd (Int.dvd_trans (ii_pd (by omega)) (Int.dvd_of_emod_eq_zero (h2 i' (by omega))))
  exact ⟨z + 1, L z 0 (by omega) b (Nat.le_refl b) (fun i hi => absurd hi (by omega)) (fun h => absurd h (by omega))⟩
end
end
section
/-! the reference's small methods -/
/-- what the reference's tables hold of system s: the lines of li, z of them -/
def yw_L (n b s z : Nat) (li he co ri : Nat → Int32) : Prop :=
  s < 2 ∧ z ≤ 10 ∧ he s = nI z ∧ xw_R b li ∧ ∀ i, i < z → (∀ v, v < n → co (40 * s + 4 * i + v) = li ((s * 10 + i) * 5 + v)) ∧ ri (10 * s + i) = li ((s * 10 + i) * 5 + 4)
theorem yi_co (s i v : Nat) : (40 : Int32) * nI s + 4 * nI i + nI v = nI (40 * s + 4 * i + v) := by
  show nI 40 * nI s + nI 4 * nI i + nI v = _
  rw [pk_mul, pk_mul, nI_add, nI_add]
theorem yi_ri (s i : Nat) : (10 : Int32) * nI s + nI i = nI (10 * s + i) := by
  show nI 10 * nI s + nI i = _
  rw [pk_mul, nI_add]
theorem yw_ns {v : Int32} (h0 : ¬ v = 0) (h1 : ¬ v = 1) : v < 0 ∨ ¬ v ≤ 1 := by
  have e0 : (0 : Int32).toInt = 0 := by decide
  have e1 : (1 : Int32).toInt = 1 := by decide
  rw [← Int32.toInt_inj, e0] at h0
  rw [← Int32.toInt_inj, e1] at h1
  rw [Int32.lt_iff_toInt_lt, Int32.le_iff_toInt_le, e0, e1]
  omega
section
variable {n b : Nat} {ln he co ri se li dr : Nat → Int32} {s z : Nat}
theorem yw_sys {post : Int32 → Prop} {s : Nat} (hs : s < 2) (K : post 0) : wpY_badSystem post (nI n, nI b, nI (2 ^ b), nI ((2 ^ b) ^ n), ln, he, co, ri, se) (nI s) :=
  br_f (nI_pos (by omega)) (br_t (nI_le (b := 1) (by omega) (by decide)) K)
theorem yw_nsys {post : Int32 → Prop} {v : Int32} (h0 : ¬ v = 0) (h1 : ¬ v = 1) (K : post 1) : wpY_badSystem post (nI n, nI b, nI (2 ^ b), nI ((2 ^ b) ^ n), ln, he, co, ri, se) v := by
  by_cases h : v < 0
  · exact br_t h K
  · refine br_f h (br_f ?_ K)
    rcases yw_ns h0 h1 with q | q
    · exact absurd q h
    · exact q
theorem yw_digit {post : Int32 → Prop} (hb : b ≤ 4) {a v : Nat} (ha : a < 2 ^ 30) (hv : v ≤ 4) (K : post (iI (dg (2 ^ b) a v))) : wpY_digit post (nI n, nI b, nI (2 ^ b), nI ((2 ^ b) ^ n), ln, he, co, ri, se) (nI a) (nI v) := by
  have hle : ∀ k, a / (2 ^ b) ^ k ≤ a := fun k => Nat.div_le_self _ _
  have L : ∀ d k, k + d = v → wY_digit_5 post (nI v) (nI n) (nI b) (nI (2 ^ b)) (nI ((2 ^ b) ^ n)) ln he co ri se (d + 1) (nI (a / (2 ^ b) ^ k)) (nI k) := by
    intro d
    induction d with
    | zero =>
      intro k hk
      have e : k = v := by omega
      subst e
      refine br_t (nI_le (Nat.le_refl k) (by omega)) ?_
      show post (nI (a / (2 ^ b) ^ k) &&& (nI (2 ^ b) - 1))
      have h1 := hle k
      rw [ii_nand (by omega) (by omega), ii_n]
      exact K
    | succ d ih =>
      intro k hk
      have h1 := hle k
      refine br_f (nI_ge (by omega) (by omega)) (br_f (nI_ge (b := 4) (by omega) (by decide)) ?_)
      refine nm_r (e' := nI (a / (2 ^ b) ^ (k + 1))) (by rw [pk_shrN (by omega) _ _ (s_l _ (by omega)), Nat.pow_succ, Nat.div_div_eq_div_mul]) ?_
      refine nm_r (nI_1 k) ?_
      exact ih (k + 1) (by omega)
  have h := L v 0 (by omega)
  rw [Nat.pow_zero, Nat.div_one] at h
  exact ⟨v + 1, h⟩
theorem yw_meets {post : Int32 → Prop} (hn : n ≤ 4) (hb : b ≤ 4) (H : yw_L n b s z li he co ri) {i a : Nat} (hi : i < z) (ha : a < 2 ^ 30)
    (K1 : (2 : Int) ^ b ∣ lc_ev n (ls_L li s i) (dg (2 ^ b) a) → post 1) (K0 : ¬ (2 : Int) ^ b ∣ lc_ev n (ls_L li s i) (dg (2 ^ b) a) → post 0) : wpY_meets post (nI n, nI b, nI (2 ^ b), nI ((2 ^ b) ^ n), ln, he, co, ri, se) (nI s) (nI i) (nI a) := by
  obtain ⟨hs, hz, hh, hR, hL⟩ := H
  obtain ⟨hc, hr⟩ := hL i hi
  have h16 := p2_16 hb
  have L : ∀ d v, v + d = n → wY_meets_6 post (nI s) (nI i) (nI a) (nI n) (nI b) (nI (2 ^ b)) (nI ((2 ^ b) ^ n)) ln he co ri se (d + 1) (iI (lc_sm (ls_L li s i) (dg (2 ^ b) a) v)) (nI v) := by
    intro d
    induction d with
    | zero =>
      intro v hv
      have e : v = n := by omega
      subst e
      refine br_t (nI_le (Nat.le_refl v) (by omega)) ?_
      refine And.intro ?_ ?_
      · rw [yi_ri]; exact vp_in_nI (by omega) (by decide)
      rw [ii_and _ (by omega), yi_ri, nI_clamp (by omega), hr, ← ii_t (li ((s * 10 + i) * 5 + 4))]
      have hm := jn_m b (lc_sm (ls_L li s i) (dg (2 ^ b) a) v)
      have h4 := hR ((s * 10 + i) * 5 + 4) (by omega)
      have e : (lc_sm (ls_L li s i) (dg (2 ^ b) a) v % 2 ^ b = (li ((s * 10 + i) * 5 + 4)).toInt) ↔ (2 : Int) ^ b ∣ lc_ev v (ls_L li s i) (dg (2 ^ b) a) := by
        have e2 : lc_ev v (ls_L li s i) (dg (2 ^ b) a) = lc_sm (ls_L li s i) (dg (2 ^ b) a) v - (li ((s * 10 + i) * 5 + 4)).toInt := rfl
        rw [e2]
        constructor
        · intro q
          rw [← q]
          have := Int.dvd_neg.mpr (dv_mod (2 ^ b) (lc_sm (ls_L li s i) (dg (2 ^ b) a) v))
          rwa [Int.neg_sub] at this
        · intro q
          rw [dv_em q]
          exact Int.emod_eq_of_lt h4.1 h4.2
      by_cases q : (2 : Int) ^ b ∣ lc_ev v (ls_L li s i) (dg (2 ^ b) a)
      · exact br_t (by rw [e.mpr q]) (K1 q)
      · exact br_f (fun h => q (e.mp ((ii_eq hm.1 (by omega) h4.1 (by omega)).mp h))) (K0 q)
    | succ d ih =>
      intro v hv
      refine br_f (nI_ge (by omega) (by omega)) (br_f (nI_ge (b := 4) (by omega) (by decide)) ?_)
      refine yw_digit hb ha (by omega) ?_
      refine ⟨by rw [yi_co]; exact vp_in_nI (by omega) (by decide), ?_⟩
      refine nm_r (e' := iI (lc_sm (ls_L li s i) (dg (2 ^ b) a) (v + 1))) ?_ (nm_r (nI_1 v) (ih (v + 1) (by omega)))
      rw [yi_co, nI_clamp (by omega), hc v (by omega), ← ii_t (li ((s * 10 + i) * 5 + v)), ii_mul, ii_add]
      rfl
  exact ⟨n + 1, L n 0 (by omega)⟩
theorem yw_solves {post : Int32 → Prop} (hn : n ≤ 4) (hb : b ≤ 4) (H : yw_L n b s z li he co ri) {a : Nat} (ha : a < 2 ^ 30) {q : Int32}
    (K1 : (∀ i, i < z → ¬ nI i = q → (2 : Int) ^ b ∣ lc_ev n (ls_L li s i) (dg (2 ^ b) a)) → post 1)
    (K0 : ¬ (∀ i, i < z → ¬ nI i = q → (2 : Int) ^ b ∣ lc_ev n (ls_L li s i) (dg (2 ^ b) a)) → post 0) : wpY_solves post (nI n, nI b, nI (2 ^ b), nI ((2 ^ b) ^ n), ln, he, co, ri, se) (nI s) (nI a) q := by
  obtain ⟨hs, hz, hh, hR, hL⟩ := H
  have es : he (nI s).toNatClampNeg = nI z := by rw [nI_clamp (by omega)]; exact hh
  have L : ∀ d i, i + d = z → (∀ i', i' < i → ¬ nI i' = q → (2 : Int) ^ b ∣ lc_ev n (ls_L li s i') (dg (2 ^ b) a)) → wY_solves_3 post (nI s) (nI a) q (nI n) (nI b) (nI (2 ^ b)) (nI ((2 ^ b) ^ n)) ln he co ri se (d + 1) (nI i) := by
    intro d
    induction d with
    | zero =>
      intro i hi hA
      have e : i = z := by omega
      subst e
      exact ⟨vp_in_nI hs (by decide), br_t (by rw [es]; exact nI_le (Nat.le_refl i) (by omega)) (K1 hA)⟩
    | succ d ih =>
      intro i hi hA
      refine ⟨vp_in_nI hs (by decide), br_f (by rw [es]; exact nI_ge (by omega) (by omega)) (br_f (nI_ge (b := 10) (by omega) (by decide)) ?_)⟩
      by_cases e : nI i = q
      · refine br_t e (nm_r (nI_1 i) (ih (i + 1) (by omega) (fun i' h1 h2 => ?_)))
        by_cases e' : i' = i
        · rw [e'] at h2; exact absurd e h2
        · exact hA i' (by omega) h2
      · refine br_f e (yw_meets hn hb ⟨hs, hz, hh, hR, hL⟩ (by omega) ha (fun G => ?_) (fun G => ?_))
        · refine br_f (by decide) (nm_r (nI_1 i) (ih (i + 1) (by omega) (fun i' h1 h2 => ?_)))
          by_cases e' : i' = i
          · rw [e']; exact G
          · exact hA i' (by omega) h2
        · exact br_t rfl (K0 (fun F => G (F i (by omega) e)))
  exact ⟨z + 1, L z 0 (by omega) (fun i hi => absurd hi (by omega))⟩
theorem yi_m1 {i : Nat} (hi : i < 2 ^ 31) : ¬ nI i = -1 := by
  intro h
  have h1 := nI_pos hi
  rw [h] at h1
  exact h1 (by decide)
theorem yw_sol {post : Int32 → Prop} (hn : n ≤ 4) (hb : b ≤ 4) (H : yw_L n b s z li he co ri) {a : Nat} (ha : a < 2 ^ 30)
    (K1 : sy_S n b z (ls_L li s) (dg (2 ^ b) a) → post 1) (K0 : ¬ sy_S n b z (ls_L li s) (dg (2 ^ b) a) → post 0) : wpY_solution post (nI n, nI b, nI (2 ^ b), nI ((2 ^ b) ^ n), ln, he, co, ri, se) (nI s) (nI a) := by
  have hz := H.2.1
  refine yw_solves hn hb H ha (fun G => ⟨narrow_b1, K1 (fun i hi => G i hi (yi_m1 (by omega)))⟩) (fun G => ⟨narrow_b0, K0 (fun F => G (fun i hi _ => F i hi))⟩)
theorem yw_lv {post : Int32 → Prop} (hn : n ≤ 4) (hb : b ≤ 4) (hD : ∀ v, v < n → ln v = dr v) {a : Nat} (ha : a < 2 ^ 30) (K : post (iI (lc_sm (fun k => (dr k).toInt) (dg (2 ^ b) a) n % 2 ^ b))) : wpY_lineValue post (nI n, nI b, nI (2 ^ b), nI ((2 ^ b) ^ n), ln, he, co, ri, se) (nI a) := by
  have L : ∀ d v, v + d = n → wY_lineValue_4 post (nI a) (nI n) (nI b) (nI (2 ^ b)) (nI ((2 ^ b) ^ n)) ln he co ri se (d + 1) (iI (lc_sm (fun k => (dr k).toInt) (dg (2 ^ b) a) v)) (nI v) := by
    intro d
    induction d with
    | zero =>
      intro v hv
      have e : v = n := by omega
      subst e
      refine br_t (nI_le (Nat.le_refl v) (by omega)) ?_
      show post (iI (lc_sm (fun k => (dr k).toInt) (dg (2 ^ b) a) v) &&& (nI (2 ^ b) - 1))
      rw [ii_and _ (by omega)]
      exact K
    | succ d ih =>
      intro v hv
      refine br_f (nI_ge (by omega) (by omega)) (br_f (nI_ge (b := 4) (by omega) (by decide)) ?_)
      refine yw_digit hb ha (by omega) ?_
      refine ⟨vp_in_nI (by omega) (by decide), ?_⟩
      refine nm_r (e' := iI (lc_sm (fun k => (dr k).toInt) (dg (2 ^ b) a) (v + 1))) ?_ (nm_r (nI_1 v) (ih (v + 1) (by omega)))
      rw [nI_clamp (by omega), hD v (by omega), ← ii_t (dr v), ii_mul, ii_add]
      rfl
  exact ⟨n + 1, L n 0 (by omega)⟩
end
end
section
/-! the reference's questions: each a count or a search over the numbers below (2^b)^n -/
theorem kt_inj {p : Nat → Prop} {a a' : Nat} (h : p a) (h' : p a') (e : kt_n p a = kt_n p a') : a = a' := by
  rcases Nat.lt_trichotomy a a' with l | l | l
  · have := kt_mono (p := p) (a := a + 1) (c := a') l
    rw [kt_t h] at this
    omega
  · exact l
  · have := kt_mono (p := p) (a := a' + 1) (c := a) l
    rw [kt_t h'] at this
    omega
section
variable {n b : Nat} {ln he co ri se li dr : Nat → Int32} {s z : Nat}
theorem yw_solutions {post : Int32 → Prop} (hn : n ≤ 4) (hb : b ≤ 4) (H : yw_L n b s z li he co ri)
    (K : post (nI (kt_n (fun a => sy_S n b z (ls_L li s) (dg (2 ^ b) a)) ((2 ^ b) ^ n)))) : ∃ m, wY_solutions_14 post (nI s) (nI n) (nI b) (nI (2 ^ b)) (nI ((2 ^ b) ^ n)) ln he co ri se m 0 0 := by
  have hN := nt_N hb hn
  have L : ∀ d a, a + d = (2 ^ b) ^ n → wY_solutions_14 post (nI s) (nI n) (nI b) (nI (2 ^ b)) (nI ((2 ^ b) ^ n)) ln he co ri se (d + 1) (nI (kt_n (fun a => sy_S n b z (ls_L li s) (dg (2 ^ b) a)) a)) (nI a) := by
    intro d
    induction d with
    | zero =>
      intro a ha
      have e : a = (2 ^ b) ^ n := by omega
      subst e
      exact br_t (nI_le (Nat.le_refl _) (by omega)) K
    | succ d ih =>
      intro a ha
      refine br_f (nI_ge (by omega) (by omega)) (yw_sol hn hb H (by omega) (fun G => ?_) (fun G => ?_))
      · refine br_f (by decide) (nm_r (nI_1 _) (nm_r (nI_1 a) ?_))
        have h := ih (a + 1) (by omega)
        rw [kt_t (p := fun a => sy_S n b z (ls_L li s) (dg (2 ^ b) a)) G] at h
        exact h
      · refine br_t rfl (nm_r (nI_1 a) ?_)
        have h := ih (a + 1) (by omega)
        rw [kt_f (p := fun a => sy_S n b z (ls_L li s) (dg (2 ^ b) a)) G] at h
        exact h
  exact ⟨_, L ((2 ^ b) ^ n) 0 (by omega)⟩
theorem yw_nth {post : Int32 → Prop} (hn : n ≤ 4) (hb : b ≤ 4) (H : yw_L n b s z li he co ri) {q : Int32}
    (K : ∀ a, a < (2 ^ b) ^ n → sy_S n b z (ls_L li s) (dg (2 ^ b) a) → nI (kt_n (fun a => sy_S n b z (ls_L li s) (dg (2 ^ b) a)) a) = q → post (nI a))
    (K0 : (∀ a, a < (2 ^ b) ^ n → sy_S n b z (ls_L li s) (dg (2 ^ b) a) → ¬ nI (kt_n (fun a => sy_S n b z (ls_L li s) (dg (2 ^ b) a)) a) = q) → post (-2)) : wpY_nth post (nI n, nI b, nI (2 ^ b), nI ((2 ^ b) ^ n), ln, he, co, ri, se) (nI s) q := by
  have hN := nt_N hb hn
  have L : ∀ d a, a + d = (2 ^ b) ^ n → (∀ a', a' < a → sy_S n b z (ls_L li s) (dg (2 ^ b) a') → ¬ nI (kt_n (fun a => sy_S n b z (ls_L li s) (dg (2 ^ b) a)) a') = q) → wY_nth_15 post (nI s) q (nI n) (nI b) (nI (2 ^ b)) (nI ((2 ^ b) ^ n)) ln he co ri se (d + 1) (nI (kt_n (fun a => sy_S n b z (ls_L li s) (dg (2 ^ b) a)) a)) (nI a) := by
    intro d
    induction d with
    | zero =>
      intro a ha hh
      have e : a = (2 ^ b) ^ n := by omega
      subst e
      exact br_t (nI_le (Nat.le_refl _) (by omega)) (K0 hh)
    | succ d ih =>
      intro a ha hh
      refine br_f (nI_ge (by omega) (by omega)) (yw_sol hn hb H (by omega) (fun G => ?_) (fun G => ?_))
      · refine br_f (by decide) ?_
        by_cases e : nI (kt_n (fun a => sy_S n b z (ls_L li s) (dg (2 ^ b) a)) a) = q
        · exact br_t e (K a (by omega) G e)
        · refine br_f e (nm_r (nI_1 _) (nm_r (nI_1 a) ?_))
          have h := ih (a + 1) (by omega) (fun a' h1 h2 => by
            by_cases e' : a' = a
            · rw [e']; exact e
            · exact hh a' (by omega) h2)
          rw [kt_t (p := fun a => sy_S n b z (ls_L li s) (dg (2 ^ b) a)) G] at h
          exact h
      · refine br_t rfl (nm_r (nI_1 a) ?_)
        have h := ih (a + 1) (by omega) (fun a' h1 h2 => by
          by_cases e' : a' = a
          · rw [e'] at h2; exact absurd h2 G
          · exact hh a' (by omega) h2)
        rw [kt_f (p := fun a => sy_S n b z (ls_L li s) (dg (2 ^ b) a)) G] at h
        exact h
  unfold wpY_nth
  dsimp only
  refine yw_sys H.1 ?_
  refine br_t rfl ?_
  exact ⟨_, L ((2 ^ b) ^ n) 0 (by omega) (fun a' h => absurd h (by omega))⟩
theorem yw_below {post : Int32 → Prop} (hn : n ≤ 4) (hb : b ≤ 4) (H : yw_L n b s z li he co ri) {q : Int32}
    (K : post (nI (kt_n (fun a => ¬ q ≤ nI a ∧ sy_S n b z (ls_L li s) (dg (2 ^ b) a)) ((2 ^ b) ^ n)))) : ∃ m, wY_below_15 post (nI s) q (nI n) (nI b) (nI (2 ^ b)) (nI ((2 ^ b) ^ n)) ln he co ri se m 0 0 := by
  have hN := nt_N hb hn
  have L : ∀ d a, a + d = (2 ^ b) ^ n → wY_below_15 post (nI s) q (nI n) (nI b) (nI (2 ^ b)) (nI ((2 ^ b) ^ n)) ln he co ri se (d + 1) (nI (kt_n (fun a => ¬ q ≤ nI a ∧ sy_S n b z (ls_L li s) (dg (2 ^ b) a)) a)) (nI a) := by
    intro d
    induction d with
    | zero =>
      intro a ha
      have e : a = (2 ^ b) ^ n := by omega
      subst e
      exact br_t (nI_le (Nat.le_refl _) (by omega)) K
    | succ d ih =>
      intro a ha
      have h := ih (a + 1) (by omega)
      refine br_f (nI_ge (by omega) (by omega)) ?_
      by_cases e : q ≤ nI a
      · refine br_t e (nm_r (nI_1 a) ?_)
        rw [kt_f (p := fun a => ¬ q ≤ nI a ∧ sy_S n b z (ls_L li s) (dg (2 ^ b) a)) (fun G => G.1 e)] at h
        exact h
      refine br_f e (yw_sol hn hb H (by omega) (fun G => ?_) (fun G => ?_))
      · refine br_f (by decide) (nm_r (nI_1 _) (nm_r (nI_1 a) ?_))
        rw [kt_t (p := fun a => ¬ q ≤ nI a ∧ sy_S n b z (ls_L li s) (dg (2 ^ b) a)) ⟨e, G⟩] at h
        exact h
      · refine br_t rfl (nm_r (nI_1 a) ?_)
        rw [kt_f (p := fun a => ¬ q ≤ nI a ∧ sy_S n b z (ls_L li s) (dg (2 ^ b) a)) (fun F => G F.2)] at h
        exact h
  exact ⟨_, L ((2 ^ b) ^ n) 0 (by omega)⟩
theorem yw_eqm (hb : b ≤ 4) {c : Int} {q : Int32} : iI (c % 2 ^ b) = q &&& (nI (2 ^ b) - 1) ↔ c % 2 ^ b = q.toInt % 2 ^ b := by
  have h16 := p2_16 hb
  have h1 := jn_m b c
  have h2 := jn_m b q.toInt
  have e : q &&& (nI (2 ^ b) - 1) = iI (q.toInt % 2 ^ b) := by
    rw [← ii_and _ (by omega), ii_t]
  rw [e]
  exact ii_eq h1.1 (by omega) h2.1 (by omega)
theorem yw_entails {post : Int32 → Prop} (hn : n ≤ 4) (hb : b ≤ 4) (H : yw_L n b s z li he co ri) (hD : ∀ v, v < n → ln v = dr v) {q : Int32}
    (K1 : (∀ a, a < (2 ^ b) ^ n → sy_S n b z (ls_L li s) (dg (2 ^ b) a) → lc_sm (fun k => (dr k).toInt) (dg (2 ^ b) a) n % 2 ^ b = q.toInt % 2 ^ b) → post 1)
    (K0 : ¬ (∀ a, a < (2 ^ b) ^ n → sy_S n b z (ls_L li s) (dg (2 ^ b) a) → lc_sm (fun k => (dr k).toInt) (dg (2 ^ b) a) n % 2 ^ b = q.toInt % 2 ^ b) → post 0) : ∃ m, wY_entails_12 post (nI s) q (nI n) (nI b) (nI (2 ^ b)) (nI ((2 ^ b) ^ n)) ln he co ri se m 0 := by
  have hN := nt_N hb hn
  have L : ∀ d a, a + d = (2 ^ b) ^ n → (∀ a', a' < a → sy_S n b z (ls_L li s) (dg (2 ^ b) a') → lc_sm (fun k => (dr k).toInt) (dg (2 ^ b) a') n % 2 ^ b = q.toInt % 2 ^ b) → wY_entails_12 post (nI s) q (nI n) (nI b) (nI (2 ^ b)) (nI ((2 ^ b) ^ n)) ln he co ri se (d + 1) (nI a) := by
    intro d
    induction d with
    | zero =>
      intro a ha hh
      have e : a = (2 ^ b) ^ n := by omega
      subst e
      exact br_t (nI_le (Nat.le_refl _) (by omega)) (K1 hh)
    | succ d ih =>
      intro a ha hh
      refine br_f (nI_ge (by omega) (by omega)) (yw_sol hn hb H (by omega) (fun G => ?_) (fun G => ?_))
      · refine br_f (by decide) (yw_lv hn hb hD (by omega) ?_)
        by_cases e : lc_sm (fun k => (dr k).toInt) (dg (2 ^ b) a) n % 2 ^ b = q.toInt % 2 ^ b
        · refine br_t ((yw_eqm hb).mpr e) (nm_r (nI_1 a) (ih (a + 1) (by omega) (fun a' h1 h2 => ?_)))
          by_cases e' : a' = a
          · rw [e']; exact e
          · exact hh a' (by omega) h2
        · exact br_f (fun h => e ((yw_eqm hb).mp h)) (K0 (fun F => e (F a (by omega) G)))
      · refine br_t rfl (nm_r (nI_1 a) (ih (a + 1) (by omega) (fun a' h1 h2 => ?_)))
        by_cases e' : a' = a
        · rw [e'] at h2; exact absurd h2 G
        · exact hh a' (by omega) h2
  exact ⟨_, L ((2 ^ b) ^ n) 0 (by omega) (fun a' h => absurd h (by omega))⟩
theorem yw_countAt {post : Int32 → Prop} (hn : n ≤ 4) (hb : b ≤ 4) (H : yw_L n b s z li he co ri) (hD : ∀ v, v < n → ln v = dr v) {q : Int32}
    (K : post (nI (kt_n (fun a => sy_S n b z (ls_L li s) (dg (2 ^ b) a) ∧ lc_sm (fun k => (dr k).toInt) (dg (2 ^ b) a) n % 2 ^ b = q.toInt % 2 ^ b) ((2 ^ b) ^ n)))) : ∃ m, wY_countAt_15 post (nI s) q (nI n) (nI b) (nI (2 ^ b)) (nI ((2 ^ b) ^ n)) ln he co ri se m 0 0 := by
  have hN := nt_N hb hn
  have L : ∀ d a, a + d = (2 ^ b) ^ n → wY_countAt_15 post (nI s) q (nI n) (nI b) (nI (2 ^ b)) (nI ((2 ^ b) ^ n)) ln he co ri se (d + 1) (nI (kt_n (fun a => sy_S n b z (ls_L li s) (dg (2 ^ b) a) ∧ lc_sm (fun k => (dr k).toInt) (dg (2 ^ b) a) n % 2 ^ b = q.toInt % 2 ^ b) a)) (nI a) := by
    intro d
    induction d with
    | zero =>
      intro a ha
      have e : a = (2 ^ b) ^ n := by omega
      subst e
      exact br_t (nI_le (Nat.le_refl _) (by omega)) K
    | succ d ih =>
      intro a ha
      have h := ih (a + 1) (by omega)
      refine br_f (nI_ge (by omega) (by omega)) (yw_sol hn hb H (by omega) (fun G => ?_) (fun G => ?_))
      · refine br_f (by decide) (yw_lv hn hb hD (by omega) ?_)
        by_cases e : lc_sm (fun k => (dr k).toInt) (dg (2 ^ b) a) n % 2 ^ b = q.toInt % 2 ^ b
        · refine br_t ((yw_eqm hb).mpr e) (nm_r (nI_1 _) (nm_r (nI_1 a) ?_))
          rw [kt_t (p := fun a => sy_S n b z (ls_L li s) (dg (2 ^ b) a) ∧ lc_sm (fun k => (dr k).toInt) (dg (2 ^ b) a) n % 2 ^ b = q.toInt % 2 ^ b) ⟨G, e⟩] at h
          exact h
        · refine br_f (fun h => e ((yw_eqm hb).mp h)) (nm_r (nI_1 a) ?_)
          rw [kt_f (p := fun a => sy_S n b z (ls_L li s) (dg (2 ^ b) a) ∧ lc_sm (fun k => (dr k).toInt) (dg (2 ^ b) a) n % 2 ^ b = q.toInt % 2 ^ b) (fun F => e F.2)] at h
          exact h
      · refine br_t rfl (nm_r (nI_1 a) ?_)
        rw [kt_f (p := fun a => sy_S n b z (ls_L li s) (dg (2 ^ b) a) ∧ lc_sm (fun k => (dr k).toInt) (dg (2 ^ b) a) n % 2 ^ b = q.toInt % 2 ^ b) (fun F => G F.1)] at h
        exact h
  exact ⟨_, L ((2 ^ b) ^ n) 0 (by omega)⟩
/-- the values seen at solutions below a -/
def yw_V (n b z : Nat) (L : Nat → Nat → Int) (D : Nat → Int) (a c : Nat) : Prop := ∃ a', a' < a ∧ sy_S n b z L (dg (2 ^ b) a') ∧ lc_sm D (dg (2 ^ b) a') n % 2 ^ b = (c : Int)
theorem yw_mark {post : SY → Prop} (hn : n ≤ 4) (hb : b ≤ 4) (H : yw_L n b s z li he co ri) (hD : ∀ v, v < n → ln v = dr v)
    (K : ∀ se', (∀ c, c < 16 → (se' c = 0 ↔ ¬ yw_V n b z (ls_L li s) (fun k => (dr k).toInt) ((2 ^ b) ^ n) c)) → post (nI n, nI b, nI (2 ^ b), nI ((2 ^ b) ^ n), ln, he, co, ri, se')) : wpY_mark post (nI n, nI b, nI (2 ^ b), nI ((2 ^ b) ^ n), ln, he, co, ri, se) (nI s) := by
  have hN := nt_N hb hn
  have h16 := p2_16 hb
  have L : ∀ d a, a + d = (2 ^ b) ^ n → ∀ se, (∀ c, c < 16 → (se c = 0 ↔ ¬ yw_V n b z (ls_L li s) (fun k => (dr k).toInt) a c)) → wY_mark_23 post (nI s) (nI n) (nI b) (nI (2 ^ b)) (nI ((2 ^ b) ^ n)) (d + 1) (nI a) ln he co ri se := by
    intro d
    induction d with
    | zero =>
      intro a ha se hh
      have e : a = (2 ^ b) ^ n := by omega
      subst e
      exact br_t (nI_le (Nat.le_refl _) (by omega)) (K se hh)
    | succ d ih =>
      intro a ha se hh
      refine br_f (nI_ge (by omega) (by omega)) (yw_sol hn hb H (by omega) (fun G => ?_) (fun G => ?_))
      · refine br_f (by decide) (yw_lv hn hb hD (by omega) ?_)
        have hm := jn_m b (lc_sm (fun k => (dr k).toInt) (dg (2 ^ b) a) n)
        rw [ii_N hm.1]
        refine br_f (nI_pos (by omega)) (br_f (nI_ge (b := 16) (by omega) (by decide)) ⟨vp_in_nI (by omega) (by decide), ?_⟩)
        intro se' e' y ey
        rw [nI_clamp (by omega), show vp_nar .boolean 1 = 1 from rfl] at e'
        rw [ey, nI_1]
        refine ih (a + 1) (by omega) se' (fun c hc => ?_)
        rw [e']
        by_cases e : c = (lc_sm (fun k => (dr k).toInt) (dg (2 ^ b) a) n % 2 ^ b).toNat
        · rw [← e, pk_us]
          exact ⟨fun h => absurd h (by decide), fun h => absurd ⟨a, by omega, G, by omega⟩ h⟩
        · rw [pk_un e, hh c hc]
          constructor
          · rintro h ⟨a', h1, h2, h3⟩
            by_cases q : a' = a
            · subst q; omega
            · exact h ⟨a', by omega, h2, h3⟩
          · rintro h ⟨a', h1, h2, h3⟩
            exact h ⟨a', by omega, h2, h3⟩
      · refine br_t rfl (nm_r (nI_1 a) (ih (a + 1) (by omega) se (fun c hc => ?_)))
        rw [hh c hc]
        constructor
        · rintro h ⟨a', h1, h2, h3⟩
          by_cases q : a' = a
          · subst q; exact G h2
          · exact h ⟨a', by omega, h2, h3⟩
        · rintro h ⟨a', h1, h2, h3⟩
          exact h ⟨a', by omega, h2, h3⟩
  refine loop_0 (fun m i t => wY_mark_2 post (nI s) (nI n) (nI b) (nI (2 ^ b)) (nI ((2 ^ b) ^ n)) m (nI i) ln he co ri t) (ai_I se (fun _ => 0)) 16 se ai_0 ?_ ?_
  · intro m t h
    refine br_t (show (16 : Int32) ≤ nI 16 by decide) ⟨_, L ((2 ^ b) ^ n) 0 (by omega) t (fun c hc => ⟨fun _ => ?_, fun _ => h.1 c hc⟩)⟩
    rintro ⟨a', h1, _⟩
    omega
  · intro m i t hi h ih
    refine br_f (nI_ge (b := 16) hi (by decide)) ⟨vp_in_nI hi (by decide), ?_⟩
    intro a ea y ey
    rw [ey, nI_1, ea, nI_clamp (by omega)]
    exact ih _ (ai_s h rfl)
theorem yw_values {post : Int32 → SY → Prop} (K : post (nI (kt_n (fun c => ¬ se c = 0) 16)) (nI n, nI b, nI (2 ^ b), nI ((2 ^ b) ^ n), ln, he, co, ri, se)) : ∃ m, wY_values_19 post (nI n) (nI b) (nI (2 ^ b)) (nI ((2 ^ b) ^ n)) ln he co ri se m 0 0 := by
  have L : ∀ d c, c + d = 16 → wY_values_19 post (nI n) (nI b) (nI (2 ^ b)) (nI ((2 ^ b) ^ n)) ln he co ri se (d + 1) (nI (kt_n (fun c => ¬ se c = 0) c)) (nI c) := by
    intro d
    induction d with
    | zero =>
      intro c hc
      have e : c = 16 := by omega
      subst e
      exact br_t (by decide) K
    | succ d ih =>
      intro c hc
      have h := ih (c + 1) (by omega)
      refine br_f (nI_ge (b := 16) (by omega) (by decide)) ⟨vp_in_nI (by omega) (by decide), ?_⟩
      rw [nI_clamp (by omega)]
      by_cases e : se c = 0
      · refine br_t e (nm_r (nI_1 c) ?_)
        rw [kt_f (p := fun c => ¬ se c = 0) (fun G => G e)] at h
        exact h
      · refine br_f e (nm_r (nI_1 _) (nm_r (nI_1 c) ?_))
        rw [kt_t (p := fun c => ¬ se c = 0) e] at h
        exact h
  exact ⟨_, L 16 0 (by omega)⟩
theorem yw_least {post : Int32 → SY → Prop} (K : ∀ c, c < 16 → ¬ se c = 0 → (∀ c', c' < c → se c' = 0) → post (nI c) (nI n, nI b, nI (2 ^ b), nI ((2 ^ b) ^ n), ln, he, co, ri, se)) (K0 : (∀ c, c < 16 → se c = 0) → post (-2) (nI n, nI b, nI (2 ^ b), nI ((2 ^ b) ^ n), ln, he, co, ri, se)) : ∃ m, wY_leastValue_17 post (nI n) (nI b) (nI (2 ^ b)) (nI ((2 ^ b) ^ n)) ln he co ri se m 0 := by
  have L : ∀ d c, c + d = 16 → (∀ c', c' < c → se c' = 0) → wY_leastValue_17 post (nI n) (nI b) (nI (2 ^ b)) (nI ((2 ^ b) ^ n)) ln he co ri se (d + 1) (nI c) := by
    intro d
    induction d with
    | zero =>
      intro c hc hh
      have e : c = 16 := by omega
      subst e
      exact br_t (by decide) (K0 hh)
    | succ d ih =>
      intro c hc hh
      refine br_f (nI_ge (b := 16) (by omega) (by decide)) ⟨vp_in_nI (by omega) (by decide), ?_⟩
      rw [nI_clamp (by omega)]
      by_cases e : se c = 0
      · refine br_t e (nm_r (nI_1 c) (ih (c + 1) (by omega) (fun c' h' => ?_)))
        by_cases q : c' = c
        · rw [q]; exact e
        · exact hh c' (by omega)
      · exact br_f e (K c (by omega) e hh)
  exact ⟨_, L 16 0 (by omega) (fun c h => absurd h (by omega))⟩
theorem yw_within {post : Int32 → Prop} (hn : n ≤ 4) (hb : b ≤ 4) (H : yw_L n b s z li he co ri) {z' : Nat} (H' : yw_L n b (1 - s) z' li he co ri)
    (K1 : (∀ a, a < (2 ^ b) ^ n → sy_S n b z (ls_L li s) (dg (2 ^ b) a) → sy_S n b z' (ls_L li (1 - s)) (dg (2 ^ b) a)) → post 1)
    (K0 : ¬ (∀ a, a < (2 ^ b) ^ n → sy_S n b z (ls_L li s) (dg (2 ^ b) a) → sy_S n b z' (ls_L li (1 - s)) (dg (2 ^ b) a)) → post 0) : ∃ m, wY_within_12 post (nI s) (nI n) (nI b) (nI (2 ^ b)) (nI ((2 ^ b) ^ n)) ln he co ri se m 0 := by
  have hN := nt_N hb hn
  have L : ∀ d a, a + d = (2 ^ b) ^ n → (∀ a', a' < a → sy_S n b z (ls_L li s) (dg (2 ^ b) a') → sy_S n b z' (ls_L li (1 - s)) (dg (2 ^ b) a')) → wY_within_12 post (nI s) (nI n) (nI b) (nI (2 ^ b)) (nI ((2 ^ b) ^ n)) ln he co ri se (d + 1) (nI a) := by
    intro d
    induction d with
    | zero =>
      intro a ha hh
      have e : a = (2 ^ b) ^ n := by omega
      subst e
      exact br_t (nI_le (Nat.le_refl _) (by omega)) (K1 hh)
    | succ d ih =>
      intro a ha hh
      refine br_f (nI_ge (by omega) (by omega)) (yw_sol hn hb H (by omega) (fun G => ?_) (fun G => ?_))
      · refine br_f (by decide) ?_
        rw [xi_1m H.1]
        refine yw_sol hn hb H' (by omega) (fun F => ?_) (fun F => ?_)
        · refine br_f (by decide) (nm_r (nI_1 a) (ih (a + 1) (by omega) (fun a' h1 h2 => ?_)))
          by_cases e' : a' = a
          · rw [e']; exact F
          · exact hh a' (by omega) h2
        · exact br_t rfl (K0 (fun q => F (q a (by omega) G)))
      · refine br_t rfl (nm_r (nI_1 a) (ih (a + 1) (by omega) (fun a' h1 h2 => ?_)))
        by_cases e' : a' = a
        · rw [e'] at h2; exact absurd h2 G
        · exact hh a' (by omega) h2
  exact ⟨_, L ((2 ^ b) ^ n) 0 (by omega) (fun a' h => absurd h (by omega))⟩
theorem yw_common {post : Int32 → Prop} (hn : n ≤ 4) (hb : b ≤ 4) {z0 z1 : Nat} (H0 : yw_L n b 0 z0 li he co ri) (H1 : yw_L n b 1 z1 li he co ri)
    (K : post (nI (kt_n (fun a => sy_S n b z0 (ls_L li 0) (dg (2 ^ b) a) ∧ sy_S n b z1 (ls_L li 1) (dg (2 ^ b) a)) ((2 ^ b) ^ n)))) : wpY_common post (nI n, nI b, nI (2 ^ b), nI ((2 ^ b) ^ n), ln, he, co, ri, se) := by
  have hN := nt_N hb hn
  have L : ∀ d a, a + d = (2 ^ b) ^ n → wY_common_4 post (nI n) (nI b) (nI (2 ^ b)) (nI ((2 ^ b) ^ n)) ln he co ri se (d + 1) (nI (kt_n (fun a => sy_S n b z0 (ls_L li 0) (dg (2 ^ b) a) ∧ sy_S n b z1 (ls_L li 1) (dg (2 ^ b) a)) a)) (nI a) := by
    intro d
    induction d with
    | zero =>
      intro a ha
      have e : a = (2 ^ b) ^ n := by omega
      subst e
      exact br_t (nI_le (Nat.le_refl _) (by omega)) K
    | succ d ih =>
      intro a ha
      have h := ih (a + 1) (by omega)
      refine br_f (nI_ge (by omega) (by omega)) (yw_sol (s := 0) hn hb H0 (by omega) (fun G => ?_) (fun G => ?_))
      · refine br_f (by decide) (yw_sol (s := 1) hn hb H1 (by omega) (fun F => ?_) (fun F => ?_))
        · refine br_f (by decide) (nm_r (nI_1 _) (nm_r (nI_1 a) ?_))
          rw [kt_t (p := fun a => sy_S n b z0 (ls_L li 0) (dg (2 ^ b) a) ∧ sy_S n b z1 (ls_L li 1) (dg (2 ^ b) a)) ⟨G, F⟩] at h
          exact h
        · refine br_t rfl (nm_r (nI_1 a) ?_)
          rw [kt_f (p := fun a => sy_S n b z0 (ls_L li 0) (dg (2 ^ b) a) ∧ sy_S n b z1 (ls_L li 1) (dg (2 ^ b) a)) (fun q => F q.2)] at h
          exact h
      · refine br_t rfl (nm_r (nI_1 a) ?_)
        rw [kt_f (p := fun a => sy_S n b z0 (ls_L li 0) (dg (2 ^ b) a) ∧ sy_S n b z1 (ls_L li 1) (dg (2 ^ b) a)) (fun q => G q.1)] at h
        exact h
  exact ⟨_, L ((2 ^ b) ^ n) 0 (by omega)⟩
theorem yw_completes {post : Int32 → Prop} (hn : n ≤ 4) (hb : b ≤ 4) (H : yw_L n b s z li he co ri) {a v : Nat} (ha : a < 65536) (hv : v < 4)
    (K1 : (∃ x, x < 2 ^ b ∧ sy_S n b z (ls_L li s) (dg (2 ^ b) (a + x * (2 ^ b) ^ v))) → post 1)
    (K0 : ¬ (∃ x, x < 2 ^ b ∧ sy_S n b z (ls_L li s) (dg (2 ^ b) (a + x * (2 ^ b) ^ v))) → post 0) : wpY_completes post (nI n, nI b, nI (2 ^ b), nI ((2 ^ b) ^ n), ln, he, co, ri, se) (nI s) (nI a) (nI v) := by
  have hN := nt_N hb (show v ≤ 4 by omega)
  have h16 := p2_16n hb
  have L2 : ∀ d x, x + d = 2 ^ b → (∀ x', x' < x → ¬ sy_S n b z (ls_L li s) (dg (2 ^ b) (a + x' * (2 ^ b) ^ v))) → wY_completes_36 post (nI s) (nI a) (nI ((2 ^ b) ^ v)) (nI n) (nI b) (nI (2 ^ b)) (nI ((2 ^ b) ^ n)) ln he co ri se (d + 1) (nI x) := by
    intro d
    induction d with
    | zero =>
      intro x hx hh
      have e : x = 2 ^ b := by omega
      subst e
      exact br_t (nI_le (Nat.le_refl _) (by omega)) (K0 (fun ⟨x, h1, h2⟩ => hh x h1 h2))
    | succ d ih =>
      intro x hx hh
      refine br_f (nI_ge (by omega) (by omega)) ?_
      have hm : x * (2 ^ b) ^ v ≤ 16 * 65536 := Nat.mul_le_mul (by omega) hN
      rw [pk_mul, nI_add]
      refine yw_sol hn hb H (by omega) (fun G => ?_) (fun G => ?_)
      · exact br_f (by decide) (K1 ⟨x, by omega, G⟩)
      · refine br_t rfl (nm_r (nI_1 x) (ih (x + 1) (by omega) (fun x' h1 => ?_)))
        by_cases e : x' = x
        · rw [e]; exact G
        · exact hh x' (by omega)
  have L : ∀ d k, k + d = v → wY_completes_6 post (nI s) (nI a) (nI v) (nI n) (nI b) (nI (2 ^ b)) (nI ((2 ^ b) ^ n)) ln he co ri se (d + 1) (nI ((2 ^ b) ^ k)) (nI k) := by
    intro d
    induction d with
    | zero =>
      intro k hk
      have e : k = v := by omega
      subst e
      exact br_t (nI_le (Nat.le_refl _) (by omega)) ⟨_, L2 (2 ^ b) 0 (by omega) (fun x h => absurd h (by omega))⟩
    | succ d ih =>
      intro k hk
      refine br_f (nI_ge (by omega) (by omega)) (br_f (nI_ge (b := 4) (by omega) (by decide)) ?_)
      refine nm_r (e' := nI ((2 ^ b) ^ (k + 1))) (by rw [pk_mul, ← Nat.pow_succ]) (nm_r (nI_1 k) (ih (k + 1) (by omega)))
  exact ⟨_, L v 0 (by omega)⟩
theorem yi_d0 {M a v : Nat} (hM : 0 < M) (hM2 : M ≤ 65536) : iI (dg M a v) = 0 ↔ dg M a v = 0 := by
  have h := dg_in hM a v
  exact ii_eq h.1 (by omega) (Int.le_refl 0) (by decide)
theorem yw_wu {post : Int32 → Prop} (hn : n ≤ 4) (hb : b ≤ 4) (H : yw_L n b s z li he co ri) {v : Nat} (hv : v < n)
    (K : post (nI (kt_n (fun a => dg (2 ^ b) a v = 0 ∧ ∃ x, x < 2 ^ b ∧ sy_S n b z (ls_L li s) (dg (2 ^ b) (a + x * (2 ^ b) ^ v))) ((2 ^ b) ^ n)))) : ∃ m, wY_withoutUnknown_26 post (nI s) (nI v) (nI n) (nI b) (nI (2 ^ b)) (nI ((2 ^ b) ^ n)) ln he co ri se m 0 0 := by
  have hN := nt_N hb hn
  have h16 := p2_16n hb
  have hM : 0 < 2 ^ b := Nat.two_pow_pos b
  have L : ∀ d a, a + d = (2 ^ b) ^ n → wY_withoutUnknown_26 post (nI s) (nI v) (nI n) (nI b) (nI (2 ^ b)) (nI ((2 ^ b) ^ n)) ln he co ri se (d + 1) (nI (kt_n (fun a => dg (2 ^ b) a v = 0 ∧ ∃ x, x < 2 ^ b ∧ sy_S n b z (ls_L li s) (dg (2 ^ b) (a + x * (2 ^ b) ^ v))) a)) (nI a) := by
    intro d
    induction d with
    | zero =>
      intro a ha
      have e : a = (2 ^ b) ^ n := by omega
      subst e
      exact br_t (nI_le (Nat.le_refl _) (by omega)) K
    | succ d ih =>
      intro a ha
      have h := ih (a + 1) (by omega)
      refine br_f (nI_ge (by omega) (by omega)) (yw_digit hb (by omega) (by omega) ?_)
      by_cases e : dg (2 ^ b) a v = 0
      · refine br_t ((yi_d0 hM (by omega)).mpr e) (yw_completes hn hb H (by omega) (by omega) (fun G => ?_) (fun G => ?_))
        · refine br_f (by decide) (nm_r (nI_1 _) (nm_r (nI_1 a) ?_))
          rw [kt_t (p := fun a => dg (2 ^ b) a v = 0 ∧ ∃ x, x < 2 ^ b ∧ sy_S n b z (ls_L li s) (dg (2 ^ b) (a + x * (2 ^ b) ^ v))) ⟨e, G⟩] at h
          exact h
        · refine br_t rfl (nm_r (nI_1 a) ?_)
          rw [kt_f (p := fun a => dg (2 ^ b) a v = 0 ∧ ∃ x, x < 2 ^ b ∧ sy_S n b z (ls_L li s) (dg (2 ^ b) (a + x * (2 ^ b) ^ v))) (fun q => G q.2)] at h
          exact h
      · refine br_f (fun q => e ((yi_d0 hM (by omega)).mp q)) (nm_r (nI_1 a) ?_)
        rw [kt_f (p := fun a => dg (2 ^ b) a v = 0 ∧ ∃ x, x < 2 ^ b ∧ sy_S n b z (ls_L li s) (dg (2 ^ b) (a + x * (2 ^ b) ^ v))) (fun q => e q.1)] at h
        exact h
  exact ⟨_, L ((2 ^ b) ^ n) 0 (by omega)⟩
/-- all solutions give v a value with the same low j bits as c -/
def yw_A (n b z : Nat) (L : Nat → Nat → Int) (v j : Nat) (c : Int) : Prop := ∀ a, a < (2 ^ b) ^ n → sy_S n b z L (dg (2 ^ b) a) → dg (2 ^ b) a v % 2 ^ j = c % 2 ^ j
theorem yw_alike {post : Int32 → Prop} (hn : n ≤ 4) (hb : b ≤ 4) (H : yw_L n b s z li he co ri) {v j : Nat} (hv : v < n) (hj : j ≤ b) {c : Int}
    (K1 : yw_A n b z (ls_L li s) v j c → post 1) (K0 : ¬ yw_A n b z (ls_L li s) v j c → post 0) : wpY_alike post (nI n, nI b, nI (2 ^ b), nI ((2 ^ b) ^ n), ln, he, co, ri, se) (nI s) (nI v) (nI j) (iI c) := by
  have hN := nt_N hb hn
  have h16 := p2_16n hb
  have h16j := p2_16 (show j ≤ 4 by omega)
  have hM : 0 < 2 ^ b := Nat.two_pow_pos b
  refine nm_r (e' := nI (2 ^ j) - 1) (by rw [ii_shl1 (by omega)]) ?_
  have L : ∀ d a, a + d = (2 ^ b) ^ n → (∀ a', a' < a → sy_S n b z (ls_L li s) (dg (2 ^ b) a') → dg (2 ^ b) a' v % 2 ^ j = c % 2 ^ j) → wY_alike_10 post (nI s) (nI v) (iI c) (nI (2 ^ j) - 1) (nI n) (nI b) (nI (2 ^ b)) (nI ((2 ^ b) ^ n)) ln he co ri se (d + 1) (nI a) := by
    intro d
    induction d with
    | zero =>
      intro a ha hh
      have e : a = (2 ^ b) ^ n := by omega
      subst e
      exact br_t (nI_le (Nat.le_refl _) (by omega)) (K1 hh)
    | succ d ih =>
      intro a ha hh
      refine br_f (nI_ge (by omega) (by omega)) (yw_sol hn hb H (by omega) (fun G => ?_) (fun G => ?_))
      · refine br_f (by decide) (yw_digit hb (by omega) (by omega) ?_)
        rw [ii_and _ (by omega), ii_and _ (by omega)]
        have m1 := jn_m j (dg (2 ^ b) a v)
        have m2 := jn_m j c
        by_cases e : dg (2 ^ b) a v % 2 ^ j = c % 2 ^ j
        · refine br_t (by rw [e]) (nm_r (nI_1 a) (ih (a + 1) (by omega) (fun a' h1 h2 => ?_)))
          by_cases e' : a' = a
          · rw [e']; exact e
          · exact hh a' (by omega) h2
        · exact br_f (fun h => e ((ii_eq m1.1 (by omega) m2.1 (by omega)).mp h)) (K0 (fun F => e (F a (by omega) G)))
      · refine br_t rfl (nm_r (nI_1 a) (ih (a + 1) (by omega) (fun a' h1 h2 => ?_)))
        by_cases e' : a' = a
        · rw [e'] at h2; exact absurd h2 G
        · exact hh a' (by omega) h2
  exact ⟨_, L ((2 ^ b) ^ n) 0 (by omega) (fun a' h => absurd h (by omega))⟩
theorem yw_settled {post : Int32 → Prop} (hn : n ≤ 4) (hb : b ≤ 4) (H : yw_L n b s z li he co ri) {v : Nat} (hv : v < n) {c : Int} {j0 : Nat} (hj0 : j0 ≤ b)
    (hA : yw_A n b z (ls_L li s) v j0 c) (hB : ∀ j, j0 < j → j ≤ b → ¬ yw_A n b z (ls_L li s) v j c) (K : post (nI j0)) : ∃ m, wY_settledBits_49 post (nI s) (nI v) (iI c) (nI n) (nI b) (nI (2 ^ b)) (nI ((2 ^ b) ^ n)) ln he co ri se m (nI b) := by
  have L : ∀ j, j ≤ b → j0 ≤ j → wY_settledBits_49 post (nI s) (nI v) (iI c) (nI n) (nI b) (nI (2 ^ b)) (nI ((2 ^ b) ^ n)) ln he co ri se (j + 1) (nI j) := by
    intro j
    induction j with
    | zero =>
      intro _ h0
      have e : j0 = 0 := by omega
      rw [e] at K
      exact br_t (by decide) K
    | succ j ih =>
      intro hj h0
      refine br_f (nI_nle (by omega) (by omega)) (yw_alike hn hb H hv hj (fun G => ?_) (fun G => ?_))
      · have e : j0 = j + 1 := by
          by_cases q : j0 = j + 1
          · exact q
          · exact absurd G (hB (j + 1) (by omega) hj)
        rw [e] at K
        exact br_f (by decide) K
      · refine br_t rfl (nm_r (pk_m1 j) (ih (by omega) ?_))
        by_cases q : j0 = j + 1
        · rw [q] at hA; exact absurd hA G
        · omega
  exact ⟨_, L b (Nat.le_refl b) hj0⟩
theorem yw_red {post : Int32 → Prop} (hn : n ≤ 4) (hb : b ≤ 4) (H : yw_L n b s z li he co ri) {i0 : Nat} (hi0 : i0 < z)
    (K1 : (∀ a, a < (2 ^ b) ^ n → (sy_S n b z (ls_L li s) (dg (2 ^ b) a) ↔ sy_W n b z i0 (ls_L li s) (dg (2 ^ b) a))) → post 1)
    (K0 : ¬ (∀ a, a < (2 ^ b) ^ n → (sy_S n b z (ls_L li s) (dg (2 ^ b) a) ↔ sy_W n b z i0 (ls_L li s) (dg (2 ^ b) a))) → post 0) : ∃ m, wY_redundant_29 post (nI s) (nI i0) (nI n) (nI b) (nI (2 ^ b)) (nI ((2 ^ b) ^ n)) ln he co ri se m 0 := by
  have hN := nt_N hb hn
  have hz := H.2.1
  have e1 : ∀ x, (∀ i, i < z → ¬ nI i = -1 → (2 : Int) ^ b ∣ lc_ev n (ls_L li s i) x) ↔ sy_S n b z (ls_L li s) x := fun x =>
    ⟨fun h i hi => h i hi (yi_m1 (by omega)), fun h i hi _ => h i hi⟩
  have e2 : ∀ x, (∀ i, i < z → ¬ nI i = nI i0 → (2 : Int) ^ b ∣ lc_ev n (ls_L li s i) x) ↔ sy_W n b z i0 (ls_L li s) x := fun x =>
    ⟨fun h i hi q => h i hi (fun r => q ((nI_eq (by omega) (by omega)).mp r)), fun h i hi q => h i hi (fun r => q (by rw [r]))⟩
  have L : ∀ d a, a + d = (2 ^ b) ^ n → (∀ a', a' < a → (sy_S n b z (ls_L li s) (dg (2 ^ b) a') ↔ sy_W n b z i0 (ls_L li s) (dg (2 ^ b) a'))) → wY_redundant_29 post (nI s) (nI i0) (nI n) (nI b) (nI (2 ^ b)) (nI ((2 ^ b) ^ n)) ln he co ri se (d + 1) (nI a) := by
    intro d
    induction d with
    | zero =>
      intro a ha hh
      have e : a = (2 ^ b) ^ n := by omega
      subst e
      exact br_t (nI_le (Nat.le_refl _) (by omega)) (K1 hh)
    | succ d ih =>
      intro a ha hh
      have nx : (sy_S n b z (ls_L li s) (dg (2 ^ b) a) ↔ sy_W n b z i0 (ls_L li s) (dg (2 ^ b) a)) → ∀ y, y = nI a + 1 → wY_redundant_29 post (nI s) (nI i0) (nI n) (nI b) (nI (2 ^ b)) (nI ((2 ^ b) ^ n)) ln he co ri se (d + 1) y := by
        intro G y ey
        rw [ey, nI_1]
        refine ih (a + 1) (by omega) (fun a' h1 => ?_)
        by_cases e' : a' = a
        · rw [e']; exact G
        · exact hh a' (by omega)
      refine br_f (nI_ge (by omega) (by omega)) (yw_solves hn hb H (by omega) (fun G => ?_) (fun G => ?_))
      · rw [e1] at G
        refine yw_solves hn hb H (by omega) (fun F => ?_) (fun F => ?_)
        · rw [e2] at F
          exact br_t rfl (nx ⟨fun _ => F, fun _ => G⟩)
        · rw [e2] at F
          exact br_f (by decide) (K0 (fun q => F ((q a (by omega)).mp G)))
      · rw [e1] at G
        refine yw_solves hn hb H (by omega) (fun F => ?_) (fun F => ?_)
        · rw [e2] at F
          exact br_f (by decide) (K0 (fun q => G ((q a (by omega)).mpr F)))
        · rw [e2] at F
          exact br_t rfl (nx ⟨fun q => absurd q G, fun q => absurd q F⟩)
  exact ⟨_, L ((2 ^ b) ^ n) 0 (by omega) (fun a' h => absurd h (by omega))⟩
end
end
section
/-! the relation's body; constructors; the methods that write -/
def rl_I (n b : Nat) (z : Nat → Nat) (li sz dr ln he co ri : Nat → Int32) : Prop :=
  1 ≤ n ∧ n ≤ 4 ∧ 1 ≤ b ∧ b ≤ 4 ∧ (∀ s, s < 2 → z s ≤ 10 ∧ sz s = nI (z s) ∧ he s = nI (z s)) ∧ xw_R b li ∧ (∀ v, v < n → ln v = dr v) ∧ (∀ v, v < n → 0 ≤ (dr v).toInt ∧ (dr v).toInt < 2 ^ b) ∧
  ∀ s i, s < 2 → i < z s → (∀ v, v < n → co (40 * s + 4 * i + v) = li ((s * 10 + i) * 5 + v)) ∧ ri (10 * s + i) = li ((s * 10 + i) * 5 + 4)
/-- the cells from lo to hi hold g, the others what they held -/
def rg_I (o g : Nat → Int32) (lo hi : Nat) (t : Nat → Int32) : Prop := (∀ r, lo ≤ r → r < hi → t r = g r) ∧ ∀ r, r < lo ∨ hi ≤ r → t r = o r
theorem rg_0 {o g : Nat → Int32} {lo : Nat} : rg_I o g lo lo o := ⟨fun r h1 h2 => absurd h1 (by omega), fun _ _ => rfl⟩
theorem rg_1 {o g t : Nat → Int32} {lo hi : Nat} (h : rg_I o g lo hi t) (r : Nat) (h1 : lo ≤ r) (h2 : r < hi) : t r = g r := h.1 r h1 h2
theorem rg_s {o g t : Nat → Int32} {lo hi : Nat} {x : Int32} (h : rg_I o g lo hi t) (hl : lo ≤ hi) (hx : x = g hi) : rg_I o g lo (hi + 1) (upd t hi x) := by
  refine ⟨fun r h1 h2 => ?_, fun r h1 => ?_⟩
  · by_cases e : r = hi
    · subst e; rw [pk_us, hx]
    · rw [pk_un e]; exact h.1 r h1 (by omega)
  · rw [pk_un (by omega)]; exact h.2 r (by omega)
theorem rd_r (b : Nat) (hb : b ≤ 4) (c : Int32) : c &&& (nI (2 ^ b) - 1) = iI (c.toInt % 2 ^ b) := by
  rw [← ii_and _ (by omega), ii_t]
theorem rd_t (b : Nat) (hb : b ≤ 4) (c : Int32) : 0 ≤ (iI (c.toInt % 2 ^ b)).toInt ∧ (iI (c.toInt % 2 ^ b)).toInt < 2 ^ b := by
  have h := jn_m b c.toInt
  have h16 := p2_16 hb
  rw [ii_toInt h.1 (by omega)]
  exact h
/-! constructors -/
theorem in_1 (p0 p1 : Int32) : ∃ n, 1 ≤ n ∧ n ≤ 4 ∧
    (∀ post : SX → Prop, wX_init_82 post p1 (nI n) 0 0 0 (fun _ => 0) (fun _ => 0) (fun _ => 0) (fun _ => 0) (fun _ => 0) (fun _ => 0) (fun _ => 0) → wpX_init post p0 p1) ∧
    (∀ post : SY → Prop, wY_init_62 post p1 (nI n) 0 0 0 0 (fun _ => 0) (fun _ => 0) (fun _ => 0) (fun _ => 0) (fun _ => 0) → wpY_init post p0 p1) := by
  by_cases h1 : 1 ≤ p0
  · by_cases h4 : p0 ≤ 4
    · have h0 : ¬ p0 < 0 := Int32.not_lt.mpr (Int32.le_trans (by decide) h1)
      obtain ⟨n, hn, rfl⟩ := nI_of h0
      have l1 : 1 ≤ n := (nI_leI (a := 1) (by decide) hn).mp h1
      have l4 : n ≤ 4 := (nI_leI (b := 4) hn (by decide)).mp h4
      exact ⟨n, l1, l4, fun post h => br_t h1 (br_t h4 h), fun post h => br_t h1 (br_t h4 h)⟩
    · exact ⟨4, by decide, by decide, fun post h => br_t h1 (br_f h4 h), fun post h => br_t h1 (br_f h4 h)⟩
  · exact ⟨1, by decide, by decide, fun post h => br_f h1 (br_t (by decide) h), fun post h => br_f h1 h⟩
theorem in_2 (p1 : Int32) {n : Nat} (h1 : 1 ≤ n) (h4 : n ≤ 4) : ∃ m, 2 ≤ m ∧ m ≤ 4 ∧
    (∀ (post : SX → Prop) (a b c d e f g : Nat → Int32), wX_init_101 post p1 (nI m) (nI n) 0 0 0 a b c d e f g → wX_init_82 post p1 (nI n) 0 0 0 a b c d e f g) ∧
    (∀ (post : SY → Prop) (a b c d e : Nat → Int32), wY_init_90 post p1 (nI m) (nI n) 0 0 0 a b c d e → wY_init_62 post p1 (nI n) 0 0 0 0 a b c d e) := by
  have h : n = 1 ∨ n = 2 ∨ n = 3 ∨ n = 4 := by omega
  rcases h with rfl | rfl | rfl | rfl
  · exact ⟨4, by decide, by decide, fun post _ _ _ _ _ _ _ h => br_f (by decide) h, fun post _ _ _ _ _ h => br_f (by decide) h⟩
  · exact ⟨4, by decide, by decide, fun post _ _ _ _ _ _ _ h => br_f (by decide) h, fun post _ _ _ _ _ h => br_f (by decide) h⟩
  · exact ⟨3, by decide, by decide, fun post _ _ _ _ _ _ _ h => br_t (by decide) h, fun post _ _ _ _ _ h => br_t (by decide) (br_t (by decide) h)⟩
  · exact ⟨2, by decide, by decide, fun post _ _ _ _ _ _ _ h => br_t (by decide) h, fun post _ _ _ _ _ h => br_t (by decide) (br_f (by decide) h)⟩
theorem in_3 (p1 : Int32) {m : Nat} (h2 : 2 ≤ m) (h4 : m ≤ 4) (x : Int32) : ∃ b, 1 ≤ b ∧ b ≤ 4 ∧
    (∀ (post : SX → Prop) (a c d e f g h : Nat → Int32), post (x, nI b, nI (2 ^ b), 0, a, c, d, e, f, g, h) → wX_init_101 post p1 (nI m) x 0 0 0 a c d e f g h) ∧
    (∀ (post : SY → Prop) (a c d e f : Nat → Int32), wY_init_111 post (nI b) x 0 0 0 a c d e f → wY_init_90 post p1 (nI m) x 0 0 0 a c d e f) := by
  by_cases h1 : 1 ≤ p1
  · have h0 : ¬ p1 < 0 := Int32.not_lt.mpr (Int32.le_trans (by decide) h1)
    obtain ⟨b, hb, rfl⟩ := nI_of h0
    have l1 : 1 ≤ b := (nI_leI (a := 1) (by decide) hb).mp h1
    by_cases hm : nI b ≤ nI m
    · have l2 : b ≤ m := (nI_leI hb (by omega)).mp hm
      exact ⟨b, l1, by omega, fun post _ _ _ _ _ _ _ h => br_t h1 (br_t hm (nm_r (ii_shl1 (by omega)) h)), fun post _ _ _ _ _ h => br_t h1 (br_t hm h)⟩
    · exact ⟨m, by omega, by omega, fun post _ _ _ _ _ _ _ h => br_t h1 (br_f hm (nm_r (ii_shl1 (by omega)) h)), fun post _ _ _ _ _ h => br_t h1 (br_f hm h)⟩
  · exact ⟨1, by decide, by decide, fun post _ _ _ _ _ _ _ h => br_f h1 (br_t (nI_le (a := 1) (by omega) (by omega)) (nm_r (ii_shl1 (k := 1) (by omega)) h)), fun post _ _ _ _ _ h => br_f h1 h⟩
theorem in_4 {post : SY → Prop} {n b : Nat} (hn : n ≤ 4) (hb : b ≤ 4) {ln he co ri se : Nat → Int32} (K : post (nI n, nI b, nI (2 ^ b), nI ((2 ^ b) ^ n), ln, he, co, ri, se)) : wY_init_111 post (nI b) (nI n) 0 0 0 ln he co ri se := by
  have L : ∀ d k, k + d = n → wY_init_132 post (nI n) (nI b) (nI (2 ^ b)) ln he co ri se (d + 1) (nI k) (nI ((2 ^ b) ^ k)) := by
    intro d
    induction d with
    | zero =>
      intro k hk
      have e : k = n := by omega
      subst e
      exact br_t (nI_le (Nat.le_refl _) (by omega)) K
    | succ d ih =>
      intro k hk
      exact br_f (nI_ge (by omega) (by omega)) (nm_r (by rw [pk_mul, ← Nat.pow_succ]) (nm_r (nI_1 k) (ih (k + 1) (by omega))))
  refine nm_r (ii_shl1 (by omega)) ?_
  exact ⟨n + 1, L n 0 (by omega)⟩
section
variable {n b : Nat} {z : Nat → Nat} {bd : Int32} {li sz dr ba po wo xs ln he co ri se : Nat → Int32} {s : Nat}
theorem rl_L (h : rl_I n b z li sz dr ln he co ri) (hs : s < 2) : yw_L n b s (z s) li he co ri := by
  obtain ⟨h1, h2, h3, h4, h5, h6, h7, h8, h9⟩ := h
  exact ⟨hs, (h5 s hs).1, (h5 s hs).2.2, h6, fun i hi => h9 s i hs hi⟩
theorem rl_0 (h1 : 1 ≤ n) (h2 : n ≤ 4) (h3 : 1 ≤ b) (h4 : b ≤ 4) : rl_I n b (fun _ => 0) (fun _ => 0) (fun _ => 0) (fun _ => 0) (fun _ => 0) (fun _ => 0) (fun _ => 0) (fun _ => 0) := by
  have h0 : (0 : Int32).toInt = 0 := by decide
  have hp : (0 : Int) < 2 ^ b := Int.pow_pos (by decide)
  refine ⟨h1, h2, h3, h4, fun s _ => ⟨Nat.zero_le 10, rfl, rfl⟩, fun q _ => ?_, fun _ _ => rfl, fun v _ => ?_, fun s i _ hi => absurd hi (Nat.not_lt_zero i)⟩
  · show 0 ≤ (0 : Int32).toInt ∧ (0 : Int32).toInt < 2 ^ b
    omega
  · show 0 ≤ (0 : Int32).toInt ∧ (0 : Int32).toInt < 2 ^ b
    omega
theorem yw_unk {post : Int32 → Prop} {v : Nat} (hn : n ≤ 4) (hv : v < n) (K : post 0) : wpY_badUnknown post (nI n, nI b, nI (2 ^ b), nI ((2 ^ b) ^ n), ln, he, co, ri, se) (nI v) :=
  br_f (nI_pos (by omega)) (br_f (nI_ge (by omega) (by omega)) (br_t (nI_lt (b := 4) (by omega) (by decide)) K))
theorem yw_nunk {post : Int32 → Prop} {q : Int32} (h : q < 0 ∨ ¬ q < nI n) (K : post 1) : wpY_badUnknown post (nI n, nI b, nI (2 ^ b), nI ((2 ^ b) ^ n), ln, he, co, ri, se) q := by
  by_cases e : q < 0
  · exact br_t e K
  · refine br_f e (br_t ?_ K)
    rcases h with h | h
    · exact absurd h e
    · exact Int32.not_lt.mp h
theorem dr_I (h : rl_I n b z li sz dr ln he co ri) {v : Nat} (hv : v < n) (c : Int32) : rl_I n b z li sz (upd dr v (iI (c.toInt % 2 ^ b))) (upd ln v (iI (c.toInt % 2 ^ b))) he co ri := by
  obtain ⟨h1, h2, h3, h4, h5, h6, h7, h8, h9⟩ := h
  refine ⟨h1, h2, h3, h4, h5, h6, fun u hu => ?_, fun u hu => ?_, h9⟩
  · by_cases e : u = v
    · subst e; rw [pk_us, pk_us]
    · rw [pk_un e, pk_un e]; exact h7 u hu
  · by_cases e : u = v
    · subst e; rw [pk_us]; exact rd_t b h4 c
    · rw [pk_un e]; exact h8 u hu
/-! add -/
def ad_z (z : Nat → Nat) (s : Nat) : Nat → Nat := fun t => if t = s then z s + 1 else z t
theorem ad_X {post : Int32 → SX → Prop} {c : Int32} {k : Nat} (hn : n ≤ 4) (hb : b ≤ 4) (hs : s < 2) (hk : k < 10) (hz : sz s = nI k)
    (K : ∀ li', (∀ v, v < n → li' ((s * 10 + k) * 5 + v) = dr v) → li' ((s * 10 + k) * 5 + 4) = iI (c.toInt % 2 ^ b) → (∀ q, (q < (s * 10 + k) * 5 ∨ ((s * 10 + k) * 5 + n ≤ q ∧ q ≠ (s * 10 + k) * 5 + 4)) → li' q = li q) →
      post (nI (k + 1)) (nI n, nI b, nI (2 ^ b), bd, li', upd sz s (nI (k + 1)), dr, ba, po, wo, xs)) :
    ∃ m, wX_add_40 post (nI s) c (nI ((s * 10 + k) * 5)) (nI n) (nI b) (nI (2 ^ b)) bd m 0 li sz dr ba po wo xs := by
  refine loop_0 (fun m v t => wX_add_40 post (nI s) c (nI ((s * 10 + k) * 5)) (nI n) (nI b) (nI (2 ^ b)) bd m (nI v) t sz dr ba po wo xs) (fun v => rg_I li (fun r => dr (r - (s * 10 + k) * 5)) ((s * 10 + k) * 5) ((s * 10 + k) * 5 + v)) n li rg_0 ?_ ?_
  · intro m t h
    refine br_t (nI_le (Nat.le_refl n) (by omega)) ?_
    have e4 : nI ((s * 10 + k) * 5) + 4 = nI ((s * 10 + k) * 5 + 4) := nI_add _ 4
    refine And.intro ?_ ?_
    · rw [e4]; exact vp_in_nI (by omega) (by decide)
    intro a ea
    rw [e4, nI_clamp (by omega), rd_r b hb] at ea
    refine ⟨vp_in_nI hs (by decide), vp_in_nI hs (by decide), ?_⟩
    intro d ed
    rw [nI_clamp (by omega), hz, nI_1] at ed
    refine ⟨vp_in_nI hs (by decide), ?_⟩
    rw [nI_clamp (by omega), ed, pk_us]
    refine K a (fun v hv => ?_) ?_ (fun q hq => ?_)
    · rw [ea, pk_un (by omega), rg_1 h _ (by omega) (by omega), Nat.add_sub_cancel_left]
    · rw [ea, pk_us]
    · rw [ea, pk_un (by omega)]; exact h.2 q (by omega)
  · intro m v t hv h ih
    refine br_f (nI_ge (by omega) (by omega)) ⟨vp_in_nI (by omega) (by decide), ?_, ?_⟩
    · rw [nI_add]; exact vp_in_nI (by omega) (by decide)
    intro a ea y ey
    rw [ey, nI_1, ea, nI_add, nI_clamp (by omega), nI_clamp (by omega)]
    exact ih _ (rg_s (hi := (s * 10 + k) * 5 + v) h (by omega) (by rw [Nat.add_sub_cancel_left]))
theorem ad_Y {post : Int32 → SY → Prop} {c : Int32} {k : Nat} (hb : b ≤ 4) (hs : s < 2) (hk : k < 10)
    (K : ∀ co', rg_I co (fun r => ln (r - (40 * s + 4 * k))) (40 * s + 4 * k) (40 * s + 4 * k + 4) co' → post (nI (k + 1)) (nI n, nI b, nI (2 ^ b), nI ((2 ^ b) ^ n), ln, upd he s (nI (k + 1)), co', upd ri (10 * s + k) (iI (c.toInt % 2 ^ b)), se)) :
    ∃ m, wY_add_29 post (nI s) c (nI k) (nI n) (nI b) (nI (2 ^ b)) (nI ((2 ^ b) ^ n)) m 0 ln he co ri se := by
  refine loop_0 (fun m v t => wY_add_29 post (nI s) c (nI k) (nI n) (nI b) (nI (2 ^ b)) (nI ((2 ^ b) ^ n)) m (nI v) ln he t ri se) (fun v => rg_I co (fun r => ln (r - (40 * s + 4 * k))) (40 * s + 4 * k) (40 * s + 4 * k + v)) 4 co rg_0 ?_ ?_
  · intro m t h
    refine br_t (show (4 : Int32) ≤ nI 4 by decide) ?_
    refine And.intro ?_ ?_
    · rw [yi_ri]; exact vp_in_nI (by omega) (by decide)
    intro a ea
    rw [yi_ri, nI_clamp (by omega), rd_r b hb] at ea
    refine ⟨vp_in_nI hs (by decide), ?_⟩
    intro d ed
    rw [nI_clamp (by omega), nI_1] at ed
    rw [nI_1, ea, ed]
    exact K t h
  · intro m v t hv h ih
    refine br_f (nI_ge (b := 4) hv (by decide)) ⟨vp_in_nI (by omega) (by decide), ?_, ?_⟩
    · rw [yi_co]; exact vp_in_nI (by omega) (by decide)
    intro a ea y ey
    rw [ey, nI_1, ea, yi_co, nI_clamp (by omega), nI_clamp (by omega)]
    exact ih _ (rg_s (hi := 40 * s + 4 * k + v) h (by omega) (by rw [Nat.add_sub_cancel_left]))
theorem ad_I (h : rl_I n b z li sz dr ln he co ri) (hs : s < 2) (hk : z s < 10) {c : Int32} {li' co' : Nat → Int32}
    (g1 : ∀ v, v < n → li' ((s * 10 + z s) * 5 + v) = dr v) (g2 : li' ((s * 10 + z s) * 5 + 4) = iI (c.toInt % 2 ^ b)) (g3 : ∀ q, (q < (s * 10 + z s) * 5 ∨ ((s * 10 + z s) * 5 + n ≤ q ∧ q ≠ (s * 10 + z s) * 5 + 4)) → li' q = li q)
    (g4 : rg_I co (fun r => ln (r - (40 * s + 4 * z s))) (40 * s + 4 * z s) (40 * s + 4 * z s + 4) co') :
    rl_I n b (ad_z z s) li' (upd sz s (nI (z s + 1))) dr ln (upd he s (nI (z s + 1))) co' (upd ri (10 * s + z s) (iI (c.toInt % 2 ^ b))) := by
  obtain ⟨h1, h2, h3, h4, h5, h6, h7, h8, h9⟩ := h
  refine ⟨h1, h2, h3, h4, fun t ht => ?_, fun q hq => ?_, h7, h8, fun t i ht hi => ?_⟩
  · by_cases e : t = s
    · subst e
      rw [pk_us, pk_us, show ad_z z t t = z t + 1 from if_pos rfl]
      exact ⟨by omega, rfl, rfl⟩
    · rw [pk_un e, pk_un e, show ad_z z s t = z t from if_neg e]
      exact h5 t ht
  · by_cases e1 : q = (s * 10 + z s) * 5 + 4
    · rw [e1, g2]; exact rd_t b h4 c
    · by_cases e2 : (s * 10 + z s) * 5 ≤ q ∧ q < (s * 10 + z s) * 5 + n
      · obtain ⟨v, rfl⟩ : ∃ v, q = (s * 10 + z s) * 5 + v := ⟨q - (s * 10 + z s) * 5, by omega⟩
        rw [g1 v (by omega)]
        exact h8 v (by omega)
      · rw [g3 q (by omega)]; exact h6 q hq
  · by_cases e : t = s ∧ i = z s
    · obtain ⟨rfl, rfl⟩ := e
      refine ⟨fun v hv => ?_, ?_⟩
      · rw [g1 v hv, rg_1 g4 _ (by omega) (by omega), Nat.add_sub_cancel_left]
        exact h7 v hv
      · rw [pk_us, g2]
    · have hi2 : i < z t := by
        by_cases e2 : t = s
        · subst e2
          rw [show ad_z z t t = z t + 1 from if_pos rfl] at hi
          omega
        · rw [show ad_z z s t = z t from if_neg e2] at hi
          exact hi
      have hz10 := (h5 t ht).1
      obtain ⟨h10, h11⟩ := h9 t i ht hi2
      refine ⟨fun v hv => ?_, ?_⟩
      · rw [g4.2 _ (by omega), h10 v hv, g3 _ (by omega)]
      · rw [pk_un (by omega), h11, g3 _ (by omega)]
/-! drop -/
def dp_z (z : Nat → Nat) (s : Nat) : Nat → Nat := fun t => if t = s then z s - 1 else z t
theorem dp_X {post : Int32 → SX → Prop} {k i : Nat} (hs : s < 2) (hk : k ≤ 10) (hi : i < k) (hz : sz s = nI k)
    (K : ∀ li', rg_I li (fun r => li (r + 5)) ((s * 10 + i) * 5) ((s * 10 + k - 1) * 5) li' → post (nI (k - 1)) (nI n, nI b, nI (2 ^ b), bd, li', upd sz s (nI (k - 1)), dr, ba, po, wo, xs)) :
    ∃ m, wX_drop_52 post (nI s) (nI ((s * 10 + k - 1) * 5)) (nI n) (nI b) (nI (2 ^ b)) bd m (nI ((s * 10 + i) * 5)) li sz dr ba po wo xs := by
  have L : ∀ d q, q + d = (s * 10 + k - 1) * 5 → (s * 10 + i) * 5 ≤ q → ∀ t, rg_I li (fun r => li (r + 5)) ((s * 10 + i) * 5) q t → wX_drop_52 post (nI s) (nI ((s * 10 + k - 1) * 5)) (nI n) (nI b) (nI (2 ^ b)) bd (d + 1) (nI q) t sz dr ba po wo xs := by
    intro d
    induction d with
    | zero =>
      intro q hq hl t h
      have e : q = (s * 10 + k - 1) * 5 := by omega
      subst e
      refine br_t (nI_le (Nat.le_refl _) (by omega)) ⟨vp_in_nI hs (by decide), vp_in_nI hs (by decide), ?_⟩
      intro a ea
      have e1 : nI k - 1 = nI (k - 1) := pk_sub (a := k) (b := 1) (by omega)
      rw [nI_clamp (by omega), hz, e1] at ea
      refine ⟨vp_in_nI hs (by decide), ?_⟩
      rw [nI_clamp (by omega), ea, pk_us]
      exact K t h
    | succ d ih =>
      intro q hq hl t h
      have e5 : nI q + 5 = nI (q + 5) := nI_add q 5
      refine br_f (nI_ge (by omega) (by omega)) ⟨?_, vp_in_nI (by omega) (by decide), ?_⟩
      · rw [e5]; exact vp_in_nI (by omega) (by decide)
      intro a ea y ey
      rw [ey, nI_1, ea, e5, nI_clamp (by omega), nI_clamp (by omega)]
      exact ih (q + 1) (by omega) (by omega) _ (rg_s h hl (h.2 _ (by omega)))
  exact ⟨_, L ((s * 10 + k - 1) * 5 - (s * 10 + i) * 5) _ (by omega) (Nat.le_refl _) li rg_0⟩
theorem dp_Y {post : Int32 → SY → Prop} {k i : Nat} (hs : s < 2) (hk : k ≤ 10) (hi : i < k) (hz : he s = nI k)
    (K : ∀ co' ri', rg_I co (fun r => co (r + 4)) (40 * s + 4 * i) (40 * s + 4 * 9) co' → rg_I ri (fun r => ri (r + 1)) (10 * s + i) (10 * s + 9) ri' → post (nI (k - 1)) (nI n, nI b, nI (2 ^ b), nI ((2 ^ b) ^ n), ln, upd he s (nI (k - 1)), co', ri', se)) :
    ∃ m, wY_drop_35 post (nI s) (nI n) (nI b) (nI (2 ^ b)) (nI ((2 ^ b) ^ n)) m (nI i) ln he co ri se := by
  have L : ∀ d j, j + d = 9 → i ≤ j → ∀ c r, rg_I co (fun r => co (r + 4)) (40 * s + 4 * i) (40 * s + 4 * j) c → rg_I ri (fun r => ri (r + 1)) (10 * s + i) (10 * s + j) r → wY_drop_35 post (nI s) (nI n) (nI b) (nI (2 ^ b)) (nI ((2 ^ b) ^ n)) (d + 1) (nI j) ln he c r se := by
    intro d
    induction d with
    | zero =>
      intro j hj hl c r h1 h2
      have e : j = 9 := by omega
      subst e
      refine br_t (by decide) ⟨vp_in_nI hs (by decide), vp_in_nI hs (by decide), ?_⟩
      intro a ea
      have e1 : nI k - 1 = nI (k - 1) := pk_sub (a := k) (b := 1) (by omega)
      rw [nI_clamp (by omega), hz, e1] at ea
      refine ⟨vp_in_nI hs (by decide), ?_⟩
      rw [nI_clamp (by omega), ea, pk_us]
      exact K c r h1 h2
    | succ d ih =>
      intro j hj hl c r h1 h2
      refine br_f (nI_ge (b := 9) (by omega) (by decide)) ?_
      refine loop_0 (fun m v t => wY_drop_44 post (wY_drop_35 post (nI s) (nI n) (nI b) (nI (2 ^ b)) (nI ((2 ^ b) ^ n)) (d + 1)) (nI s) (nI j) (nI n) (nI b) (nI (2 ^ b)) (nI ((2 ^ b) ^ n)) m (nI v) ln he t r se) (fun v => rg_I co (fun r => co (r + 4)) (40 * s + 4 * i) (40 * s + 4 * j + v)) 4 c h1 ?_ ?_
      · intro m t h
        have e1 : (10 : Int32) * nI s + nI j + 1 = nI (10 * s + j + 1) := by rw [yi_ri, nI_1]
        refine br_t (show (4 : Int32) ≤ nI 4 by decide) ⟨?_, ?_, ?_⟩
        · rw [e1]; exact vp_in_nI (by omega) (by decide)
        · rw [yi_ri]; exact vp_in_nI (by omega) (by decide)
        intro a ea y ey
        rw [e1, yi_ri, nI_clamp (by omega), nI_clamp (by omega)] at ea
        rw [ey, nI_1, ea]
        exact ih (j + 1) (by omega) (by omega) t _ h (rg_s (hi := 10 * s + j) h2 (by omega) (h2.2 _ (by omega)))
      · intro m v t hv h ih2
        have e1 : (40 : Int32) * nI s + 4 * (nI j + 1) + nI v = nI (40 * s + 4 * (j + 1) + v) := by rw [nI_1, yi_co]
        refine br_f (nI_ge (b := 4) hv (by decide)) ⟨?_, ?_, ?_⟩
        · rw [e1]; exact vp_in_nI (by omega) (by decide)
        · rw [yi_co]; exact vp_in_nI (by omega) (by decide)
        intro a ea y ey
        rw [ey, nI_1, ea, e1, yi_co, nI_clamp (by omega), nI_clamp (by omega)]
        refine ih2 _ (rg_s (hi := 40 * s + 4 * j + v) h (by omega) ?_)
        rw [h.2 _ (by omega)]
        exact congrArg co (by omega)
  exact ⟨_, L (9 - i) i (by omega) (Nat.le_refl _) co ri rg_0 rg_0⟩
theorem dp_I (h : rl_I n b z li sz dr ln he co ri) (hs : s < 2) {i : Nat} (hi : i < z s) {li' co' ri' : Nat → Int32}
    (g1 : rg_I li (fun r => li (r + 5)) ((s * 10 + i) * 5) ((s * 10 + z s - 1) * 5) li') (g2 : rg_I co (fun r => co (r + 4)) (40 * s + 4 * i) (40 * s + 4 * 9) co') (g3 : rg_I ri (fun r => ri (r + 1)) (10 * s + i) (10 * s + 9) ri') :
    rl_I n b (dp_z z s) li' (upd sz s (nI (z s - 1))) dr ln (upd he s (nI (z s - 1))) co' ri' := by
  obtain ⟨h1, h2, h3, h4, h5, h6, h7, h8, h9⟩ := h
  have hz10 := (h5 s hs).1
  refine ⟨h1, h2, h3, h4, fun t ht => ?_, fun q hq => ?_, h7, h8, fun t j ht hj => ?_⟩
  · by_cases e : t = s
    · subst e
      rw [pk_us, pk_us, show dp_z z t t = z t - 1 from if_pos rfl]
      exact ⟨by omega, rfl, rfl⟩
    · rw [pk_un e, pk_un e, show dp_z z s t = z t from if_neg e]
      exact h5 t ht
  · by_cases e : (s * 10 + i) * 5 ≤ q ∧ q < (s * 10 + z s - 1) * 5
    · rw [g1.1 q e.1 e.2]; exact h6 (q + 5) (by omega)
    · rw [g1.2 q (by omega)]; exact h6 q hq
  · by_cases e : t = s
    · subst e
      rw [show dp_z z t t = z t - 1 from if_pos rfl] at hj
      by_cases l : j < i
      · obtain ⟨h10, h11⟩ := h9 t j ht (by omega)
        refine ⟨fun v hv => ?_, ?_⟩
        · rw [g2.2 _ (by omega), g1.2 _ (by omega)]; exact h10 v hv
        · rw [g3.2 _ (by omega), g1.2 _ (by omega)]; exact h11
      · obtain ⟨h10, h11⟩ := h9 t (j + 1) ht (by omega)
        refine ⟨fun v hv => ?_, ?_⟩
        · rw [rg_1 g2 _ (by omega) (by omega), rg_1 g1 _ (by omega) (by omega), show 40 * t + 4 * j + v + 4 = 40 * t + 4 * (j + 1) + v from by omega, show (t * 10 + j) * 5 + v + 5 = (t * 10 + (j + 1)) * 5 + v from by omega]
          exact h10 v hv
        · rw [rg_1 g3 _ (by omega) (by omega), rg_1 g1 _ (by omega) (by omega), show (t * 10 + j) * 5 + 4 + 5 = (t * 10 + (j + 1)) * 5 + 4 from by omega]
          exact h11
    · rw [show dp_z z s t = z t from if_neg e] at hj
      have hz2 := (h5 t ht).1
      obtain ⟨h10, h11⟩ := h9 t j ht hj
      refine ⟨fun v hv => ?_, ?_⟩
      · rw [g2.2 _ (by omega), g1.2 _ (by omega)]; exact h10 v hv
      · rw [g3.2 _ (by omega), g1.2 _ (by omega)]; exact h11
/-! copy -/
def cp_z (z : Nat → Nat) (s : Nat) : Nat → Nat := fun _ => z s
theorem cp_X {post : Int32 → SX → Prop} {k : Nat} (hs : s < 2) (hz : sz s = nI k)
    (K : ∀ li', rg_I li (fun r => li (r - (1 - s) * 10 * 5 + s * 10 * 5)) ((1 - s) * 10 * 5) ((1 - s) * 10 * 5 + 50) li' → post (nI k) (nI n, nI b, nI (2 ^ b), bd, li', upd sz (1 - s) (nI k), dr, ba, po, wo, xs)) :
    ∃ m, wX_copy_28 post (nI s) (nI (s * 10 * 5)) (nI ((1 - s) * 10 * 5)) (nI n) (nI b) (nI (2 ^ b)) bd m 0 li sz dr ba po wo xs := by
  refine loop_0 (fun m v t => wX_copy_28 post (nI s) (nI (s * 10 * 5)) (nI ((1 - s) * 10 * 5)) (nI n) (nI b) (nI (2 ^ b)) bd m (nI v) t sz dr ba po wo xs) (fun v => rg_I li (fun r => li (r - (1 - s) * 10 * 5 + s * 10 * 5)) ((1 - s) * 10 * 5) ((1 - s) * 10 * 5 + v)) 50 li rg_0 ?_ ?_
  · intro m t h
    refine br_t (show (50 : Int32) ≤ nI 50 by decide) ⟨vp_in_nI hs (by decide), ?_, ?_⟩
    · rw [xi_1m hs]; exact vp_in_nI (by omega) (by decide)
    intro a ea
    rw [xi_1m hs, nI_clamp (by omega), nI_clamp (by omega), hz] at ea
    refine ⟨vp_in_nI hs (by decide), ?_⟩
    rw [nI_clamp (by omega), ea, pk_un (by omega), hz]
    exact K t h
  · intro m v t hv h ih
    refine br_f (nI_ge (b := 50) hv (by decide)) ⟨?_, ?_, ?_⟩
    · rw [nI_add]; exact vp_in_nI (by omega) (by decide)
    · rw [nI_add]; exact vp_in_nI (by omega) (by decide)
    intro a ea y ey
    rw [ey, nI_1, ea, nI_add, nI_add, nI_clamp (by omega), nI_clamp (by omega)]
    refine ih _ (rg_s (hi := (1 - s) * 10 * 5 + v) h (by omega) ?_)
    rw [h.2 _ (by omega)]
    exact congrArg li (by omega)
theorem cp_Y {post : Int32 → SY → Prop} {k : Nat} (hs : s < 2) (hz : he s = nI k)
    (K : ∀ co' ri', rg_I co (fun r => co (r - 40 * (1 - s) + 40 * s)) (40 * (1 - s)) (40 * (1 - s) + 40) co' → rg_I ri (fun r => ri (r - 10 * (1 - s) + 10 * s)) (10 * (1 - s)) (10 * (1 - s) + 10) ri' → post (nI k) (nI n, nI b, nI (2 ^ b), nI ((2 ^ b) ^ n), ln, upd he (1 - s) (nI k), co', ri', se)) :
    ∃ m, wY_copy_16 post (nI s) (nI (1 - s)) (nI n) (nI b) (nI (2 ^ b)) (nI ((2 ^ b) ^ n)) m 0 ln he co ri se := by
  have e40 : ∀ s v : Nat, (40 : Int32) * nI s + nI v = nI (40 * s + v) := by
    intro s v
    show nI 40 * nI s + nI v = _
    rw [pk_mul, nI_add]
  refine loop_0 (fun m v t => wY_copy_16 post (nI s) (nI (1 - s)) (nI n) (nI b) (nI (2 ^ b)) (nI ((2 ^ b) ^ n)) m (nI v) ln he t ri se) (fun v => rg_I co (fun r => co (r - 40 * (1 - s) + 40 * s)) (40 * (1 - s)) (40 * (1 - s) + v)) 40 co rg_0 ?_ ?_
  · intro m c h1
    refine br_t (show (40 : Int32) ≤ nI 40 by decide) ?_
    refine loop_0 (fun m v t => wY_copy_52 post (nI s) (nI (1 - s)) (nI n) (nI b) (nI (2 ^ b)) (nI ((2 ^ b) ^ n)) m (nI v) ln he c t se) (fun v => rg_I ri (fun r => ri (r - 10 * (1 - s) + 10 * s)) (10 * (1 - s)) (10 * (1 - s) + v)) 10 ri rg_0 ?_ ?_
    · intro m t h
      refine br_t (show (10 : Int32) ≤ nI 10 by decide) ⟨vp_in_nI hs (by decide), vp_in_nI (by omega) (by decide), ?_⟩
      intro a ea
      rw [nI_clamp (by omega), nI_clamp (by omega), hz] at ea
      refine ⟨vp_in_nI hs (by decide), ?_⟩
      rw [nI_clamp (by omega), ea, pk_un (by omega), hz]
      exact K c t h1 h
    · intro m v t hv h ih
      refine br_f (nI_ge (b := 10) hv (by decide)) ⟨?_, ?_, ?_⟩
      · rw [yi_ri]; exact vp_in_nI (by omega) (by decide)
      · rw [yi_ri]; exact vp_in_nI (by omega) (by decide)
      intro a ea y ey
      rw [ey, nI_1, ea, yi_ri, yi_ri, nI_clamp (by omega), nI_clamp (by omega)]
      refine ih _ (rg_s (hi := 10 * (1 - s) + v) h (by omega) ?_)
      rw [h.2 _ (by omega)]
      exact congrArg ri (by omega)
  · intro m v t hv h ih
    refine br_f (nI_ge (b := 40) hv (by decide)) ⟨?_, ?_, ?_⟩
    · rw [e40]; exact vp_in_nI (by omega) (by decide)
    · rw [e40]; exact vp_in_nI (by omega) (by decide)
    intro a ea y ey
    rw [ey, nI_1, ea, e40, e40, nI_clamp (by omega), nI_clamp (by omega)]
    refine ih _ (rg_s (hi := 40 * (1 - s) + v) h (by omega) ?_)
    rw [h.2 _ (by omega)]
    exact congrArg co (by omega)
theorem cp_I (h : rl_I n b z li sz dr ln he co ri) (hs : s < 2) {li' co' ri' : Nat → Int32}
    (g1 : rg_I li (fun r => li (r - (1 - s) * 10 * 5 + s * 10 * 5)) ((1 - s) * 10 * 5) ((1 - s) * 10 * 5 + 50) li')
    (g2 : rg_I co (fun r => co (r - 40 * (1 - s) + 40 * s)) (40 * (1 - s)) (40 * (1 - s) + 40) co') (g3 : rg_I ri (fun r => ri (r - 10 * (1 - s) + 10 * s)) (10 * (1 - s)) (10 * (1 - s) + 10) ri') :
    rl_I n b (cp_z z s) li' (upd sz (1 - s) (nI (z s))) dr ln (upd he (1 - s) (nI (z s))) co' ri' := by
  obtain ⟨h1, h2, h3, h4, h5, h6, h7, h8, h9⟩ := h
  have hz10 := (h5 s hs).1
  refine ⟨h1, h2, h3, h4, fun t ht => ?_, fun q hq => ?_, h7, h8, fun t j ht hj => ?_⟩
  · by_cases e : t = 1 - s
    · subst e
      rw [pk_us, pk_us]
      exact ⟨hz10, rfl, rfl⟩
    · have e2 : t = s := by omega
      subst e2
      rw [pk_un e, pk_un e]
      exact h5 t ht
  · by_cases e : (1 - s) * 10 * 5 ≤ q ∧ q < (1 - s) * 10 * 5 + 50
    · rw [g1.1 q e.1 e.2]; exact h6 _ (by omega)
    · rw [g1.2 q (by omega)]; exact h6 q hq
  · have hj2 : j < z s := hj
    obtain ⟨h10, h11⟩ := h9 s j hs hj2
    by_cases e : t = s
    · subst e
      refine ⟨fun v hv => ?_, ?_⟩
      · rw [g2.2 _ (by omega), g1.2 _ (by omega)]; exact h10 v hv
      · rw [g3.2 _ (by omega), g1.2 _ (by omega)]; exact h11
    · have e2 : t = 1 - s := by omega
      subst e2
      refine ⟨fun v hv => ?_, ?_⟩
      · rw [rg_1 g2 _ (by omega) (by omega), rg_1 g1 _ (by omega) (by omega), show 40 * (1 - s) + 4 * j + v - 40 * (1 - s) + 40 * s = 40 * s + 4 * j + v from by omega, show ((1 - s) * 10 + j) * 5 + v - (1 - s) * 10 * 5 + s * 10 * 5 = (s * 10 + j) * 5 + v from by omega]
        exact h10 v hv
      · rw [rg_1 g3 _ (by omega) (by omega), rg_1 g1 _ (by omega) (by omega), show 10 * (1 - s) + j - 10 * (1 - s) + 10 * s = 10 * s + j from by omega, show ((1 - s) * 10 + j) * 5 + 4 - (1 - s) * 10 * 5 + s * 10 * 5 = (s * 10 + j) * 5 + 4 from by omega]
        exact h11
end
end
section
/-! the relation, the constructors, the methods that write or only read -/
def i_Rel (k : Nat) (u : SX) (v : SY) : Prop :=
  ∃ (n b : Nat) (z : Nat → Nat) (bd : Int32) (li sz dr ba po wo xs ln he co ri se : Nat → Int32), u = (nI n, nI b, nI (2 ^ b), bd, li, sz, dr, ba, po, wo, xs) ∧ v = (nI n, nI b, nI (2 ^ b), nI ((2 ^ b) ^ n), ln, he, co, ri, se) ∧ rl_I n b z li sz dr ln he co ri
theorem i_up {k : Nat} {u : SX} {v : SY} (h : i_Rel k u v) : i_Rel (k + 3) u v := h
theorem rl_mk {k n b : Nat} {z : Nat → Nat} {bd : Int32} {li sz dr ba po wo xs ln he co ri se : Nat → Int32} (h : rl_I n b z li sz dr ln he co ri) : i_Rel k (nI n, nI b, nI (2 ^ b), bd, li, sz, dr, ba, po, wo, xs) (nI n, nI b, nI (2 ^ b), nI ((2 ^ b) ^ n), ln, he, co, ri, se) :=
  ⟨n, b, z, bd, li, sz, dr, ba, po, wo, xs, ln, he, co, ri, se, rfl, rfl, h⟩
theorem rl_el {k : Nat} {u : SX} {v : SY} {P : SX → SY → Prop}
    (h : ∀ (n b : Nat) (z : Nat → Nat) (bd : Int32) (li sz dr ba po wo xs ln he co ri se : Nat → Int32), rl_I n b z li sz dr ln he co ri → P (nI n, nI b, nI (2 ^ b), bd, li, sz, dr, ba, po, wo, xs) (nI n, nI b, nI (2 ^ b), nI ((2 ^ b) ^ n), ln, he, co, ri, se)) (I : i_Rel k u v) : P u v := by
  obtain ⟨n, b, z, bd, li, sz, dr, ba, po, wo, xs, ln, he, co, ri, se, hu, hv, hI⟩ := I
  rw [hu, hv]
  exact h n b z bd li sz dr ba po wo xs ln he co ri se hI
theorem sy_cs (v : Int32) : (∃ s, s < 2 ∧ v = nI s) ∨ (¬ v = 0 ∧ ¬ v = 1) := by
  by_cases h0 : v = 0
  · exact Or.inl ⟨0, by decide, h0⟩
  · by_cases h1 : v = 1
    · exact Or.inl ⟨1, by decide, h1⟩
    · exact Or.inr ⟨h0, h1⟩
theorem uk_cs (v : Int32) {n : Nat} (hn : n ≤ 4) : (∃ j, j < n ∧ v = nI j) ∨ (v < 0 ∨ ¬ v < nI n) := by
  rcases pk_ix v (n := n) (by omega) with h | h | h
  · exact Or.inr (Or.inl h)
  · exact Or.inr (Or.inr (Int32.not_lt.mpr h))
  · exact Or.inl h
theorem i_vc0 (k0 : Int32) (k1 : Int32) : wpX_init (fun u => wpY_init (fun v => i_Rel 2 u v) k0 k1) k0 k1 := by
  obtain ⟨n, n1, n4, hX, hY⟩ := in_1 k0 k1
  obtain ⟨m, m2, m4, hX2, hY2⟩ := in_2 k1 n1 n4
  obtain ⟨b, b1, b4, hX3, hY3⟩ := in_3 k1 m2 m4 (nI n)
  refine hX _ (hX2 _ _ _ _ _ _ _ _ (hX3 _ _ _ _ _ _ _ _ ?_))
  refine hY _ (hY2 _ _ _ _ _ _ (hY3 _ _ _ _ _ _ (in_4 n4 b4 ?_)))
  exact rl_mk (rl_0 n1 n4 b1 b4)
theorem i_vc_unknowns {k : Nat} {u : SX} {v : SY} (I : i_Rel k u v) (hk : k + 3 ≤ 1538) : wpX_unknowns (fun r => wpY_unknowns (fun r' => r' = r ∧ i_Rel (k + 3) u v) v) u := by
  refine rl_el (P := fun u v => wpX_unknowns (fun r => wpY_unknowns (fun r' => r' = r ∧ i_Rel (k + 3) u v) v) u) ?_ I
  intro n b z bd li sz dr ba po wo xs ln he co ri se h
  exact And.intro rfl (rl_mk h)
theorem i_vc_modulus {k : Nat} {u : SX} {v : SY} (I : i_Rel k u v) (hk : k + 3 ≤ 1538) : wpX_modulus (fun r => wpY_modulus (fun r' => r' = r ∧ i_Rel (k + 3) u v) v) u := by
  refine rl_el (P := fun u v => wpX_modulus (fun r => wpY_modulus (fun r' => r' = r ∧ i_Rel (k + 3) u v) v) u) ?_ I
  intro n b z bd li sz dr ba po wo xs ln he co ri se h
  exact And.intro rfl (rl_mk h)
theorem i_vc_draft {k : Nat} {u : SX} {v : SY} (I : i_Rel k u v) (hk : k + 3 ≤ 1538) (v1 : Int32) (v2 : Int32) : wpX_draft (fun r u' => wpY_draft (fun r' v' => r' = r ∧ i_Rel (k + 3) u' v') v v1 v2) u v1 v2 := by
  refine rl_el (P := fun u v => wpX_draft (fun r u' => wpY_draft (fun r' v' => r' = r ∧ i_Rel (k + 3) u' v') v v1 v2) u v1 v2) ?_ I
  intro n b z bd li sz dr ba po wo xs ln he co ri se h
  obtain ⟨l1, hn, l3, hb, h5, hR, hD, hD2, _⟩ := id h
  rcases uk_cs v1 hn with ⟨j, hj, rfl⟩ | hq
  · refine br_f (nI_pos (by omega)) (br_t (nI_lt hj (by omega)) ?_)
    refine And.intro (vp_in_nI (by omega) (by decide)) ?_
    intro d ed
    rw [nI_clamp (by omega), rd_r b hb] at ed
    refine ⟨vp_in_nI (by omega) (by decide), ?_⟩
    rw [nI_clamp (by omega), ed, pk_us]
    unfold wpY_draft
    dsimp only
    refine yw_unk hn hj ?_
    refine br_t rfl ?_
    refine And.intro (vp_in_nI (by omega) (by decide)) ?_
    intro l el
    rw [nI_clamp (by omega), rd_r b hb] at el
    refine ⟨vp_in_nI (by omega) (by decide), ?_⟩
    rw [nI_clamp (by omega), el, pk_us]
    exact ⟨rfl, rl_mk (dr_I h hj v2)⟩
  · have hY : wpY_draft (fun r' v' => r' = -1 ∧ i_Rel (k + 3) (nI n, nI b, nI (2 ^ b), bd, li, sz, dr, ba, po, wo, xs) v') (nI n, nI b, nI (2 ^ b), nI ((2 ^ b) ^ n), ln, he, co, ri, se) v1 v2 := by
      unfold wpY_draft
      dsimp only
      refine yw_nunk hq ?_
      exact br_f (by decide) ⟨rfl, rl_mk h⟩
    by_cases h0 : v1 < 0
    · exact br_t h0 hY
    · rcases hq with q | q
      · exact absurd q h0
      · exact br_f h0 (br_f q hY)
theorem i_vc_drafted {k : Nat} {u : SX} {v : SY} (I : i_Rel k u v) (hk : k + 3 ≤ 1538) (v1 : Int32) : wpX_drafted (fun r => wpY_drafted (fun r' => r' = r ∧ i_Rel (k + 3) u v) v v1) u v1 := by
  refine rl_el (P := fun u v => wpX_drafted (fun r => wpY_drafted (fun r' => r' = r ∧ i_Rel (k + 3) u v) v v1) u v1) ?_ I
  intro n b z bd li sz dr ba po wo xs ln he co ri se h
  obtain ⟨l1, hn, l3, hb, h5, hR, hD, hD2, _⟩ := id h
  rcases uk_cs v1 hn with ⟨j, hj, rfl⟩ | hq
  · refine br_f (nI_pos (by omega)) (br_t (nI_lt hj (by omega)) ⟨vp_in_nI (by omega) (by decide), ?_⟩)
    unfold wpY_drafted
    dsimp only
    refine yw_unk hn hj ?_
    refine br_t rfl ⟨vp_in_nI (by omega) (by decide), ?_⟩
    rw [nI_clamp (by omega)]
    exact ⟨hD j hj, rl_mk h⟩
  · have hY : wpY_drafted (fun r' => r' = -1 ∧ i_Rel (k + 3) (nI n, nI b, nI (2 ^ b), bd, li, sz, dr, ba, po, wo, xs) (nI n, nI b, nI (2 ^ b), nI ((2 ^ b) ^ n), ln, he, co, ri, se)) (nI n, nI b, nI (2 ^ b), nI ((2 ^ b) ^ n), ln, he, co, ri, se) v1 := by
      unfold wpY_drafted
      dsimp only
      refine yw_nunk hq ?_
      exact br_f (by decide) ⟨rfl, rl_mk h⟩
    by_cases h0 : v1 < 0
    · exact br_t h0 hY
    · rcases hq with q | q
      · exact absurd q h0
      · exact br_f h0 (br_f q hY)
theorem i_vc_add {k : Nat} {u : SX} {v : SY} (I : i_Rel k u v) (hk : k + 3 ≤ 1538) (v1 : Int32) (v2 : Int32) : wpX_add (fun r u' => wpY_add (fun r' v' => r' = r ∧ i_Rel (k + 3) u' v') v v1 v2) u v1 v2 := by
  refine rl_el (P := fun u v => wpX_add (fun r u' => wpY_add (fun r' v' => r' = r ∧ i_Rel (k + 3) u' v') v v1 v2) u v1 v2) ?_ I
  intro n b z bd li sz dr ba po wo xs ln he co ri se h
  obtain ⟨l1, hn, l3, hb, h5, hR, hD, hD2, _⟩ := id h
  unfold wpX_add
  dsimp only
  rcases sy_cs v1 with ⟨s, hs, rfl⟩ | ⟨q0, q1⟩
  · obtain ⟨z1, z2, z3⟩ := h5 s hs
    refine xw_sys hs ?_
    refine br_f (by decide) ⟨vp_in_nI hs (by decide), ?_⟩
    rw [nI_clamp (by omega), z2]
    by_cases e : z s = 10
    · refine br_t (by rw [e]; rfl) ?_
      unfold wpY_add
      dsimp only
      refine yw_sys hs ?_
      refine br_t rfl ⟨vp_in_nI hs (by decide), ?_⟩
      rw [nI_clamp (by omega), z3]
      refine nm_e (br_f (nI_nlt (b := 10) (by omega) (by omega)) ⟨rfl, rl_mk h⟩)
    · refine br_f (fun q => e ((nI_eq (b := 10) (by omega) (by decide)).mp q)) ⟨vp_in_nI hs (by decide), ?_⟩
      refine nm_r (xi_line s (z s)) ?_
      refine ad_X hn hb hs (by omega) z2 (fun li' g1 g2 g3 => ?_)
      unfold wpY_add
      dsimp only
      refine yw_sys hs ?_
      refine br_t rfl ⟨vp_in_nI hs (by decide), ?_⟩
      rw [nI_clamp (by omega), z3]
      refine nm_e (br_t (nI_lt (b := 10) (by omega) (by decide)) ?_)
      refine ad_Y hb hs (by omega) (fun co' g4 => ?_)
      exact ⟨rfl, rl_mk (ad_I h hs (by omega) g1 g2 g3 g4)⟩
  · refine xw_nsys q0 q1 ?_
    refine br_t rfl ?_
    unfold wpY_add
    dsimp only
    refine yw_nsys q0 q1 ?_
    exact br_f (by decide) ⟨rfl, rl_mk h⟩
theorem i_vc_drop {k : Nat} {u : SX} {v : SY} (I : i_Rel k u v) (hk : k + 3 ≤ 1538) (v1 : Int32) (v2 : Int32) : wpX_drop (fun r u' => wpY_drop (fun r' v' => r' = r ∧ i_Rel (k + 3) u' v') v v1 v2) u v1 v2 := by
  refine rl_el (P := fun u v => wpX_drop (fun r u' => wpY_drop (fun r' v' => r' = r ∧ i_Rel (k + 3) u' v') v v1 v2) u v1 v2) ?_ I
  intro n b z bd li sz dr ba po wo xs ln he co ri se h
  obtain ⟨l1, hn, l3, hb, h5, hR, hD, hD2, _⟩ := id h
  unfold wpX_drop
  dsimp only
  rcases sy_cs v1 with ⟨s, hs, rfl⟩ | ⟨q0, q1⟩
  · obtain ⟨z1, z2, z3⟩ := h5 s hs
    refine xw_sys hs ?_
    refine br_f (by decide) ?_
    by_cases h0 : v2 < 0
    · refine br_t h0 ?_
      unfold wpY_drop
      dsimp only
      refine yw_sys hs ?_
      exact br_t rfl (br_t h0 ⟨rfl, rl_mk h⟩)
    · obtain ⟨i, hi, rfl⟩ := nI_of h0
      refine br_f h0 ⟨vp_in_nI hs (by decide), ?_⟩
      rw [nI_clamp (by omega), z2]
      by_cases hl : i < z s
      · refine br_t (nI_lt hl (by omega)) ⟨vp_in_nI hs (by decide), ?_⟩
        have e1 : (nI s * 10 + nI (z s) - 1) * 5 = nI ((s * 10 + z s - 1) * 5) := by
          show (nI s * nI 10 + nI (z s) - nI 1) * nI 5 = _
          rw [pk_mul, nI_add, pk_sub (by omega), pk_mul]
        refine nm_r e1 (nm_r (xi_line s i) ?_)
        refine dp_X hs z1 hl z2 (fun li' g1 => ?_)
        unfold wpY_drop
        dsimp only
        refine yw_sys hs ?_
        refine br_t rfl (br_f h0 ⟨vp_in_nI hs (by decide), ?_⟩)
        rw [nI_clamp (by omega), z3]
        refine br_f (nI_ge hl (by omega)) (br_t (nI_lt (b := 10) (by omega) (by decide)) ?_)
        refine dp_Y hs z1 hl z3 (fun co' ri' g2 g3 => ?_)
        exact ⟨rfl, rl_mk (dp_I h hs hl g1 g2 g3)⟩
      · refine br_f (nI_nlt (by omega) (by omega)) ?_
        unfold wpY_drop
        dsimp only
        refine yw_sys hs ?_
        refine br_t rfl (br_f h0 ⟨vp_in_nI hs (by decide), ?_⟩)
        rw [nI_clamp (by omega), z3]
        exact br_t (nI_le (by omega) (by omega)) ⟨rfl, rl_mk h⟩
  · refine xw_nsys q0 q1 ?_
    refine br_t rfl ?_
    unfold wpY_drop
    dsimp only
    refine yw_nsys q0 q1 ?_
    exact br_f (by decide) ⟨rfl, rl_mk h⟩
theorem i_vc_copy {k : Nat} {u : SX} {v : SY} (I : i_Rel k u v) (hk : k + 3 ≤ 1538) (v1 : Int32) : wpX_copy (fun r u' => wpY_copy (fun r' v' => r' = r ∧ i_Rel (k + 3) u' v') v v1) u v1 := by
  refine rl_el (P := fun u v => wpX_copy (fun r u' => wpY_copy (fun r' v' => r' = r ∧ i_Rel (k + 3) u' v') v v1) u v1) ?_ I
  intro n b z bd li sz dr ba po wo xs ln he co ri se h
  obtain ⟨l1, hn, l3, hb, h5, hR, hD, hD2, _⟩ := id h
  unfold wpX_copy
  dsimp only
  rcases sy_cs v1 with ⟨s, hs, rfl⟩ | ⟨q0, q1⟩
  · obtain ⟨z1, z2, z3⟩ := h5 s hs
    have e1 : nI s * 10 * 5 = nI (s * 10 * 5) := by
      show nI s * nI 10 * nI 5 = _
      rw [pk_mul, pk_mul]
    have e2 : ((1 : Int32) - nI s) * 10 * 5 = nI ((1 - s) * 10 * 5) := by
      rw [xi_1m hs]
      show nI (1 - s) * nI 10 * nI 5 = _
      rw [pk_mul, pk_mul]
    refine xw_sys hs ?_
    refine br_f (by decide) (nm_r e1 (nm_r e2 ?_))
    refine cp_X hs z2 (fun li' g1 => ?_)
    unfold wpY_copy
    dsimp only
    refine yw_sys hs ?_
    refine br_t rfl (nm_r (xi_1m hs) ?_)
    refine cp_Y hs z3 (fun co' ri' g2 g3 => ?_)
    exact ⟨rfl, rl_mk (cp_I h hs g1 g2 g3)⟩
  · refine xw_nsys q0 q1 ?_
    refine br_t rfl ?_
    unfold wpY_copy
    dsimp only
    refine yw_nsys q0 q1 ?_
    exact br_f (by decide) ⟨rfl, rl_mk h⟩
theorem i_vc_size {k : Nat} {u : SX} {v : SY} (I : i_Rel k u v) (hk : k + 3 ≤ 1538) (v1 : Int32) : wpX_size (fun r => wpY_size (fun r' => r' = r ∧ i_Rel (k + 3) u v) v v1) u v1 := by
  refine rl_el (P := fun u v => wpX_size (fun r => wpY_size (fun r' => r' = r ∧ i_Rel (k + 3) u v) v v1) u v1) ?_ I
  intro n b z bd li sz dr ba po wo xs ln he co ri se h
  obtain ⟨l1, hn, l3, hb, h5, hR, hD, hD2, _⟩ := id h
  unfold wpX_size
  dsimp only
  rcases sy_cs v1 with ⟨s, hs, rfl⟩ | ⟨q0, q1⟩
  · obtain ⟨z1, z2, z3⟩ := h5 s hs
    refine xw_sys hs ?_
    refine br_f (by decide) ⟨vp_in_nI hs (by decide), ?_⟩
    unfold wpY_size
    dsimp only
    refine yw_sys hs ?_
    refine br_t rfl ⟨vp_in_nI hs (by decide), ?_⟩
    rw [nI_clamp (by omega), z2, z3]
    exact ⟨rfl, rl_mk h⟩
  · refine xw_nsys q0 q1 ?_
    refine br_t rfl ?_
    unfold wpY_size
    dsimp only
    refine yw_nsys q0 q1 ?_
    exact br_f (by decide) ⟨rfl, rl_mk h⟩
end
section
/-! the questions: solutions, nth, below, entails, countAt -/
theorem kt_bd {p : Nat → Prop} {c N : Nat} (h : c ≤ N) : kt_n (fun a => a < c ∧ p a) N = kt_n p c := by
  rw [kt_no (p := fun a => a < c ∧ p a) h (fun t h1 _ q => absurd q.1 (by omega))]
  exact kt_c (fun a ha => ⟨fun q => q.2, fun q => ⟨ha, q⟩⟩)
theorem kt_first {p : Nat → Prop} : ∀ {N : Nat}, 0 < kt_n p N → ∃ a, a < N ∧ p a ∧ kt_n p a = 0
  | 0, h => absurd h (by rw [kt_n]; omega)
  | N + 1, h => by
    by_cases e : kt_n p N = 0
    · by_cases q : p N
      · exact ⟨N, by omega, q, e⟩
      · rw [kt_f q] at h; omega
    · obtain ⟨a, h1, h2, h3⟩ := kt_first (p := p) (N := N) (by omega)
      exact ⟨a, by omega, h2, h3⟩
/-- the draft line with right side c -/
def dl_w (b : Nat) (dr : Nat → Int32) (c : Int32) : Nat → Int := fun k => if k = 4 then c.toInt % 2 ^ b else (dr k).toInt % 2 ^ b
theorem dl_jw (b : Nat) (dr : Nat → Int32) (c : Int32) : jn_w b (dl_w b dr c) := by
  intro k _
  unfold dl_w
  by_cases e : k = 4
  · rw [if_pos e]; exact jn_m b _
  · rw [if_neg e]; exact jn_m b _
theorem dl_iff {n b : Nat} (hn : n ≤ 4) (dr : Nat → Int32) (c : Int32) (x : Nat → Int) : (2 : Int) ^ b ∣ lc_ev n (dl_w b dr c) x ↔ lc_sm (fun k => (dr k).toInt) x n % 2 ^ b = c.toInt % 2 ^ b := by
  have h1 : (2 : Int) ^ b ∣ lc_sm (dl_w b dr c) x n - 1 * lc_sm (fun k => (dr k).toInt) x n := by
    refine lc_sm_k (fun v hv => ?_)
    unfold dl_w
    rw [if_neg (by omega), Int.one_mul]
    exact dv_mod _ _
  rw [Int.one_mul] at h1
  have e4 : dl_w b dr c 4 = c.toInt % 2 ^ b := if_pos rfl
  have h2 := dv_mod (2 ^ b) c.toInt
  have h3 : (2 : Int) ^ b ∣ lc_ev n (dl_w b dr c) x ↔ (2 : Int) ^ b ∣ lc_sm (fun k => (dr k).toInt) x n - c.toInt := by
    unfold lc_ev
    rw [e4]
    exact dv_2 h1 h2
  rw [h3]
  constructor
  · exact dv_em
  · intro q
    exact Int.dvd_of_emod_eq_zero (Int.emod_eq_emod_iff_emod_sub_eq_zero.mp q)
section
variable {n b : Nat} {z : Nat → Nat} {bd : Int32} {li sz dr ba po wo xs ln he co ri se : Nat → Int32}
theorem xw_loadDraft1 {post : SX → Prop} (hb : b ≤ 4)
    (K : ∀ wo', (∀ k, k < 4 → wo' k = iI ((dr k).toInt % 2 ^ b)) → wo' 4 = 0 → post (nI n, nI b, nI (2 ^ b), bd, li, sz, dr, ba, po, wo', xs)) : wpX_loadDraft post (nI n, nI b, nI (2 ^ b), bd, li, sz, dr, ba, po, wo, xs) 1 := by
  have h := xw_loadDraft (n := n) (bd := bd) (li := li) (sz := sz) (dr := dr) (ba := ba) (po := po) (wo := wo) (xs := xs) (post := post) hb 1 (fun wo' h1 h2 => K wo' (fun k hk => by rw [h1 k hk, Int.mul_one]) h2)
  rw [show iI 1 = 1 from by decide] at h
  exact h
theorem dl_W {wo wo2 : Nat → Int32} {c : Int32} (hb : b ≤ 4) (h1 : ∀ k, k < 4 → wo k = iI ((dr k).toInt % 2 ^ b)) (e2 : wo2 = upd wo 4 (c &&& (nI (2 ^ b) - 1))) : xw_W wo2 (dl_w b dr c) := by
  intro k hk
  rw [e2]
  unfold dl_w
  by_cases e : k = 4
  · rw [if_pos e, e, pk_us, rd_r b hb]
  · rw [if_neg e, pk_un e]; exact h1 k (by omega)
end
theorem i_vc_solutions {k : Nat} {u : SX} {v : SY} (I : i_Rel k u v) (hk : k + 3 ≤ 1538) (v1 : Int32) : wpX_solutions (fun r u' => wpY_solutions (fun r' => r' = r ∧ i_Rel (k + 3) u' v) v v1) u v1 := by
  refine rl_el (P := fun u v => wpX_solutions (fun r u' => wpY_solutions (fun r' => r' = r ∧ i_Rel (k + 3) u' v) v v1) u v1) ?_ I
  intro n b z bd li sz dr ba po wo xs ln he co ri se h
  obtain ⟨l1, hn, l3, hb, h5, hR, hD, hD2, _⟩ := id h
  unfold wpX_solutions
  dsimp only
  rcases sy_cs v1 with ⟨s, hs, rfl⟩ | ⟨q0, q1⟩
  · obtain ⟨z1, z2, z3⟩ := h5 s hs
    refine xw_sys hs ?_
    refine br_f (by decide) ?_
    refine xw_build hn hb hR hs z2 z1 (fun bd' B P ba' po' wo' hB hP H => ?_)
    refine xw_total hn hb hP H ?_
    unfold wpY_solutions
    dsimp only
    refine yw_sys hs ?_
    refine br_t rfl ?_
    exact yw_solutions hn hb (rl_L h hs) ⟨rfl, rl_mk h⟩
  · refine xw_nsys q0 q1 ?_
    refine br_t rfl ?_
    unfold wpY_solutions
    dsimp only
    refine yw_nsys q0 q1 ?_
    exact br_f (by decide) ⟨rfl, rl_mk h⟩
theorem i_vc_nth {k : Nat} {u : SX} {v : SY} (I : i_Rel k u v) (hk : k + 3 ≤ 1538) (v1 : Int32) (v2 : Int32) : wpX_nth (fun r u' => wpY_nth (fun r' => r' = r ∧ i_Rel (k + 3) u' v) v v1 v2) u v1 v2 := by
  refine rl_el (P := fun u v => wpX_nth (fun r u' => wpY_nth (fun r' => r' = r ∧ i_Rel (k + 3) u' v) v v1 v2) u v1 v2) ?_ I
  intro n b z bd li sz dr ba po wo xs ln he co ri se h
  obtain ⟨l1, hn, l3, hb, h5, hR, hD, hD2, _⟩ := id h
  unfold wpX_nth
  dsimp only
  rcases sy_cs v1 with ⟨s, hs, rfl⟩ | ⟨q0, q1⟩
  · obtain ⟨z1, z2, z3⟩ := h5 s hs
    have hN := nt_N hb hn
    refine xw_sys hs ?_
    refine br_f (by decide) ?_
    refine xw_build hn hb hR hs z2 z1 (fun bd' B P ba' po' wo' hB hP H => ?_)
    by_cases h0 : v2 < 0
    · refine br_t h0 ?_
      refine yw_nth hn hb (rl_L h hs) (fun a ha hsa e => ?_) (fun _ => ⟨rfl, rl_mk h⟩)
      have hle := kt_le (p := fun a => sy_S n b (z s) (ls_L li s) (dg (2 ^ b) a)) a
      rw [← e] at h0
      exact absurd h0 (nI_pos (by omega))
    · obtain ⟨i, hi, rfl⟩ := nI_of h0
      refine br_f h0 (xw_total hn hb hP H ?_)
      have hT := kt_le (p := fun a => sy_S n b (z s) (ls_L li s) (dg (2 ^ b) a)) ((2 ^ b) ^ n)
      by_cases hl : i < kt_n (fun a => sy_S n b (z s) (ls_L li s) (dg (2 ^ b) a)) ((2 ^ b) ^ n)
      · refine br_t (nI_lt hl (by omega)) ?_
        obtain ⟨t1, t2, t3⟩ := H
        have eb : bd' = 0 := by
          by_cases q : bd' = 0
          · exact q
          · rw [kt_0 (fun a _ => t2 q (dg (2 ^ b) a))] at hl
            omega
        obtain ⟨t4, t5⟩ := t3 eb
        have ek : ∀ m, kt_n (fun a => sy_S n b (z s) (ls_L li s) (dg (2 ^ b) a)) m = kt_n (fun a => tr_st n b B (dg (2 ^ b) a)) m := fun m => kt_c (fun a _ => t4 _)
        intro y ey
        rw [ey]
        refine ⟨n + 1, xw_nth_l (i := i) hn hb hB hP t1 t5 (fun a xs' ha hsa hka => ?_) n (Nat.le_refl n) 0 i xs (fun v h1 h2 => absurd h1 (by omega)) (fun i' h1 h2 => absurd h1 (by omega)) ?_ ?_ ?_⟩
        · refine yw_nth hn hb (rl_L h hs) (fun a' ha' hsa' e => ⟨?_, rl_mk h⟩) (fun hno => ?_)
          · have hle := kt_le (p := fun a => sy_S n b (z s) (ls_L li s) (dg (2 ^ b) a)) a'
            have e2 := (nI_eq (by omega) hi).mp e
            rw [← hka, ← ek] at e2
            rw [kt_inj (p := fun a => sy_S n b (z s) (ls_L li s) (dg (2 ^ b) a)) hsa' ((t4 _).mpr hsa) e2]
          · refine absurd ?_ (hno a ha ((t4 _).mpr hsa))
            rw [ek, hka]
        · rw [← tr_total hb t1 t5, ← ek]; exact hl
        · rw [Nat.zero_mul, kt_n, Nat.zero_add]
        · rw [Nat.sub_self, Nat.pow_zero]; omega
      · refine br_f (nI_nlt (by omega) (by omega)) ?_
        refine yw_nth hn hb (rl_L h hs) (fun a ha hsa e => ?_) (fun _ => ⟨rfl, rl_mk h⟩)
        have hle := kt_le (p := fun a => sy_S n b (z s) (ls_L li s) (dg (2 ^ b) a)) a
        have e2 := (nI_eq (by omega) hi).mp e
        have h3 := kt_t (p := fun a => sy_S n b (z s) (ls_L li s) (dg (2 ^ b) a)) hsa
        have h4 := kt_mono (p := fun a => sy_S n b (z s) (ls_L li s) (dg (2 ^ b) a)) (a := a + 1) (c := (2 ^ b) ^ n) ha
        omega
  · refine xw_nsys q0 q1 ?_
    refine br_t rfl ?_
    unfold wpY_nth
    dsimp only
    refine yw_nsys q0 q1 ?_
    exact br_f (by decide) ⟨rfl, rl_mk h⟩
theorem i_vc_below {k : Nat} {u : SX} {v : SY} (I : i_Rel k u v) (hk : k + 3 ≤ 1538) (v1 : Int32) (v2 : Int32) : wpX_below (fun r u' => wpY_below (fun r' => r' = r ∧ i_Rel (k + 3) u' v) v v1 v2) u v1 v2 := by
  refine rl_el (P := fun u v => wpX_below (fun r u' => wpY_below (fun r' => r' = r ∧ i_Rel (k + 3) u' v) v v1 v2) u v1 v2) ?_ I
  intro n b z bd li sz dr ba po wo xs ln he co ri se h
  obtain ⟨l1, hn, l3, hb, h5, hR, hD, hD2, _⟩ := id h
  unfold wpX_below
  dsimp only
  rcases sy_cs v1 with ⟨s, hs, rfl⟩ | ⟨q0, q1⟩
  · obtain ⟨z1, z2, z3⟩ := h5 s hs
    have hN := nt_N hb hn
    have hY : ∀ (c : Nat) (u' : SX), kt_n (fun a => ¬ v2 ≤ nI a ∧ sy_S n b (z s) (ls_L li s) (dg (2 ^ b) a)) ((2 ^ b) ^ n) = c → i_Rel (k + 3) u' (nI n, nI b, nI (2 ^ b), nI ((2 ^ b) ^ n), ln, he, co, ri, se) → wpY_below (fun r' => r' = nI c ∧ i_Rel (k + 3) u' (nI n, nI b, nI (2 ^ b), nI ((2 ^ b) ^ n), ln, he, co, ri, se)) (nI n, nI b, nI (2 ^ b), nI ((2 ^ b) ^ n), ln, he, co, ri, se) (nI s) v2 := by
      intro c u' e hu
      unfold wpY_below
      dsimp only
      refine yw_sys hs ?_
      refine br_t rfl ?_
      refine yw_below hn hb (rl_L h hs) ?_
      rw [e]
      exact ⟨rfl, hu⟩
    refine xw_sys hs ?_
    refine br_f (by decide) ?_
    refine xw_build hn hb hR hs z2 z1 (fun bd' B P ba' po' wo' hB hP H => ?_)
    by_cases eb : bd' = 0
    · refine br_t eb ?_
      by_cases h0 : 0 < v2
      · refine br_t h0 ?_
        obtain ⟨c, hc, rfl⟩ := nI_of (x := v2) (fun q => absurd (Int32.lt_trans h0 q) (by decide))
        have e1 : (1 : Int32) <<< ((nI n * nI b) &&& 31) = nI ((2 ^ b) ^ n) := by
          have hnb : n * b ≤ 4 * 4 := Nat.mul_le_mul hn hb
          rw [pk_mul, ii_shl1 (by omega), Nat.mul_comm n b, Nat.pow_mul]
        rw [e1]
        obtain ⟨t1, t2, t3⟩ := id H
        obtain ⟨t4, t5⟩ := t3 eb
        by_cases hl : c < (2 ^ b) ^ n
        · refine br_t (nI_lt hl (by omega)) ?_
          intro y ey
          rw [ey]
          have hx := xw_below_l (bd := bd') (li := li) (sz := sz) (dr := dr) (wo := wo') (post := fun r u' => wpY_below (fun r' => r' = r ∧ i_Rel (k + 3) u' (nI n, nI b, nI (2 ^ b), nI ((2 ^ b) ^ n), ln, he, co, ri, se)) (nI n, nI b, nI (2 ^ b), nI ((2 ^ b) ^ n), ln, he, co, ri, se) (nI s) (nI c)) hn hb (bound := c) (by omega) hB hP t1 t5 (fun xs' => hY _ _ ?_ (rl_mk h)) n (Nat.le_refl n) xs (fun v h1 h2 => absurd h1 (by omega)) (fun i' h1 h2 => absurd h1 (by omega))
          · rw [Nat.div_eq_of_lt hl, Nat.zero_mul, kt_n] at hx
            exact ⟨_, hx⟩
          · rw [kt_c (q := fun a => a < c ∧ tr_st n b B (dg (2 ^ b) a)), kt_bd (by omega)]
            intro a ha
            rw [nI_leI hc (by omega), t4]
            constructor
            · intro q; exact ⟨by omega, q.2⟩
            · intro q; exact ⟨by omega, q.2⟩
        · refine br_f (nI_nlt (by omega) (by omega)) (xw_total hn hb hP H ?_)
          refine hY _ _ (kt_c (fun a ha => ?_)) (rl_mk h)
          rw [nI_leI hc (by omega)]
          exact ⟨fun q => q.2, fun q => ⟨by omega, q⟩⟩
      · refine br_f h0 ?_
        refine hY 0 _ (kt_0 (fun a ha q => ?_)) (rl_mk h)
        refine q.1 (Int32.le_trans (Int32.not_lt.mp h0) (nI_pos' (by omega)))
    · refine br_f eb ?_
      exact hY 0 _ (kt_0 (fun a ha q => H.2.1 eb _ q.2)) (rl_mk h)
  · refine xw_nsys q0 q1 ?_
    refine br_t rfl ?_
    unfold wpY_below
    dsimp only
    refine yw_nsys q0 q1 ?_
    exact br_f (by decide) ⟨rfl, rl_mk h⟩
theorem i_vc_entails {k : Nat} {u : SX} {v : SY} (I : i_Rel k u v) (hk : k + 3 ≤ 1538) (v1 : Int32) (v2 : Int32) : wpX_entails (fun r u' => wpY_entails (fun r' => r' = r ∧ i_Rel (k + 3) u' v) v v1 v2) u v1 v2 := by
  refine rl_el (P := fun u v => wpX_entails (fun r u' => wpY_entails (fun r' => r' = r ∧ i_Rel (k + 3) u' v) v v1 v2) u v1 v2) ?_ I
  intro n b z bd li sz dr ba po wo xs ln he co ri se h
  obtain ⟨l1, hn, l3, hb, h5, hR, hD, hD2, _⟩ := id h
  unfold wpX_entails
  dsimp only
  rcases sy_cs v1 with ⟨s, hs, rfl⟩ | ⟨q0, q1⟩
  · obtain ⟨z1, z2, z3⟩ := h5 s hs
    refine xw_sys hs ?_
    refine br_f (by decide) ?_
    refine xw_build hn hb hR hs z2 z1 (fun bd' B P ba' po' wo' hB hP H => ?_)
    refine xw_loadDraft1 hb (fun wo1 g1 g2 => ?_)
    refine fun wo2 e2 => ?_
    refine xw_fol hn hb hB hP H (dl_W hb g1 e2) (dl_jw b dr v2) (fun hA wo3 => ?_) (fun hA wo3 => ?_)
    · refine br_f (by decide) ?_
      unfold wpY_entails
      dsimp only
      refine yw_sys hs ?_
      refine br_t rfl ?_
      refine yw_entails hn hb (rl_L h hs) hD (fun _ => ⟨rfl, rl_mk h⟩) (fun G => absurd (fun a ha hsa => (dl_iff hn dr v2 _).mp (hA a ha hsa)) G)
    · refine br_t rfl ?_
      unfold wpY_entails
      dsimp only
      refine yw_sys hs ?_
      refine br_t rfl ?_
      refine yw_entails hn hb (rl_L h hs) hD (fun G => absurd (fun a ha hsa => (dl_iff hn dr v2 _).mpr (G a ha hsa)) hA) (fun _ => ⟨rfl, rl_mk h⟩)
  · refine xw_nsys q0 q1 ?_
    refine br_t rfl ?_
    unfold wpY_entails
    dsimp only
    refine yw_nsys q0 q1 ?_
    exact br_f (by decide) ⟨rfl, rl_mk h⟩
theorem i_vc_countAt {k : Nat} {u : SX} {v : SY} (I : i_Rel k u v) (hk : k + 3 ≤ 1538) (v1 : Int32) (v2 : Int32) : wpX_countAt (fun r u' => wpY_countAt (fun r' => r' = r ∧ i_Rel (k + 3) u' v) v v1 v2) u v1 v2 := by
  refine rl_el (P := fun u v => wpX_countAt (fun r u' => wpY_countAt (fun r' => r' = r ∧ i_Rel (k + 3) u' v) v v1 v2) u v1 v2) ?_ I
  intro n b z bd li sz dr ba po wo xs ln he co ri se h
  obtain ⟨l1, hn, l3, hb, h5, hR, hD, hD2, _⟩ := id h
  unfold wpX_countAt
  dsimp only
  rcases sy_cs v1 with ⟨s, hs, rfl⟩ | ⟨q0, q1⟩
  · obtain ⟨z1, z2, z3⟩ := h5 s hs
    refine xw_sys hs ?_
    refine br_f (by decide) ?_
    refine xw_build hn hb hR hs z2 z1 (fun bd' B P ba' po' wo' hB hP H => ?_)
    refine xw_loadDraft1 hb (fun wo1 g1 g2 => ?_)
    refine fun wo2 e2 => ?_
    refine xw_join hn hb hB hP (dl_W hb g1 e2) (dl_jw b dr v2) H (fun bd2 B2 P2 ba2 po2 wo3 hB2 hP2 H2 => ?_)
    refine xw_total hn hb hP2 H2 ?_
    unfold wpY_countAt
    dsimp only
    refine yw_sys hs ?_
    refine br_t rfl ?_
    refine yw_countAt hn hb (rl_L h hs) hD ⟨?_, rl_mk h⟩
    refine congrArg nI (kt_c (fun a _ => ?_))
    show _ ↔ sy_S n b (z s) (ls_L li s) (dg (2 ^ b) a) ∧ (2 : Int) ^ b ∣ lc_ev n (dl_w b dr v2) (dg (2 ^ b) a)
    rw [dl_iff hn]
  · refine xw_nsys q0 q1 ?_
    refine br_t rfl ?_
    unfold wpY_countAt
    dsimp only
    refine yw_nsys q0 q1 ?_
    exact br_f (by decide) ⟨rfl, rl_mk h⟩
end
section
/-! the questions: values, leastValue, within, common, withoutUnknown, settledBits, redundant -/
theorem vs_iff {n b z : Nat} {li dr : Nat → Int32} {s : Nat} {B : Nat → Nat → Int} (t4 : ∀ x, sy_S n b z (ls_L li s) x ↔ tr_st n b B x) (c : Nat) :
    yw_V n b z (ls_L li s) (fun k => (dr k).toInt) ((2 ^ b) ^ n) c ↔ ∃ a, a < (2 ^ b) ^ n ∧ tr_st n b B (dg (2 ^ b) a) ∧ lc_sm (fun k => (dr k).toInt) (dg (2 ^ b) a) n % 2 ^ b = (c : Int) := by
  constructor
  · rintro ⟨a, h1, h2, h3⟩; exact ⟨a, h1, (t4 _).mp h2, h3⟩
  · rintro ⟨a, h1, h2, h3⟩; exact ⟨a, h1, (t4 _).mpr h2, h3⟩
theorem vs_l (g : Nat) (x : Int) : (x % 2 ^ g).toNat < 2 ^ g := by
  have h := jn_m g x
  have e := ii_p g
  omega
theorem i_vc_values {k : Nat} {u : SX} {v : SY} (I : i_Rel k u v) (hk : k + 3 ≤ 1538) (v1 : Int32) : wpX_values (fun r u' => wpY_values (fun r' v' => r' = r ∧ i_Rel (k + 3) u' v') v v1) u v1 := by
  refine rl_el (P := fun u v => wpX_values (fun r u' => wpY_values (fun r' v' => r' = r ∧ i_Rel (k + 3) u' v') v v1) u v1) ?_ I
  intro n b z bd li sz dr ba po wo xs ln he co ri se h
  obtain ⟨l1, hn, l3, hb, h5, hR, hD, hD2, _⟩ := id h
  unfold wpX_values
  dsimp only
  rcases sy_cs v1 with ⟨s, hs, rfl⟩ | ⟨q0, q1⟩
  · obtain ⟨z1, z2, z3⟩ := h5 s hs
    have h16 := p2_16n hb
    have hY : ∀ (c : Nat) (u' : SX), kt_n (fun c => yw_V n b (z s) (ls_L li s) (fun k => (dr k).toInt) ((2 ^ b) ^ n) c) 16 = c → (∀ se', i_Rel (k + 3) u' (nI n, nI b, nI (2 ^ b), nI ((2 ^ b) ^ n), ln, he, co, ri, se')) → wpY_values (fun r' v' => r' = nI c ∧ i_Rel (k + 3) u' v') (nI n, nI b, nI (2 ^ b), nI ((2 ^ b) ^ n), ln, he, co, ri, se) (nI s) := by
      intro c u' e hu
      unfold wpY_values
      dsimp only
      refine yw_sys hs ?_
      refine br_t rfl ?_
      refine yw_mark hn hb (rl_L h hs) hD (fun se' g => ?_)
      refine yw_values ⟨?_, hu se'⟩
      rw [← e]
      refine congrArg nI (kt_c (fun c hc => ?_))
      rw [g c hc]
      exact ⟨fun q => Classical.byContradiction q, fun q r => r q⟩
    refine xw_sys hs ?_
    refine br_f (by decide) ?_
    refine xw_build hn hb hR hs z2 z1 (fun bd' B P ba' po' wo' hB hP H => ?_)
    obtain ⟨t1, t2, t3⟩ := H
    by_cases eb : bd' = 0
    · obtain ⟨t4, t5⟩ := t3 eb
      refine br_t eb (xw_spread hn hb hB hP t1 t5 (fun kk wo2 kb hA hB2 => ?_))
      obtain ⟨a0, ha0, hs0⟩ := tr_ex0 hb t1 t5
      have hl := vs_l (b - kk) (lc_sm (fun k => (dr k).toInt) (dg (2 ^ b) a0) n)
      show wpY_values (fun r' v' => r' = (1 : Int32) <<< (nI kk &&& 31) ∧ i_Rel (k + 3) (nI n, nI b, nI (2 ^ b), bd', li, sz, dr, ba', po', wo2, xs) v') (nI n, nI b, nI (2 ^ b), nI ((2 ^ b) ^ n), ln, he, co, ri, se) (nI s)
      rw [ii_shl1 (by omega)]
      refine hY (2 ^ kk) _ ?_ (fun se' => rl_mk h)
      rw [kt_c (q := fun c => c < 2 ^ b ∧ c % 2 ^ (b - kk) = (lc_sm (fun k => (dr k).toInt) (dg (2 ^ b) a0) n % 2 ^ (b - kk)).toNat) (fun c _ => (vs_iff t4 c).trans (vl_cos hb kb hA hB2 ha0 hs0 c)),
        kt_bd (p := fun c => c % 2 ^ (b - kk) = (lc_sm (fun k => (dr k).toInt) (dg (2 ^ b) a0) n % 2 ^ (b - kk)).toNat) h16, kt_q (by omega) hl, kt_qM hb kb hl]
    · refine br_f eb ?_
      refine hY 0 _ (kt_0 (fun c _ q => ?_)) (fun se' => rl_mk h)
      obtain ⟨a, _, q2, _⟩ := q
      exact t2 eb _ q2
  · refine xw_nsys q0 q1 ?_
    refine br_t rfl ?_
    unfold wpY_values
    dsimp only
    refine yw_nsys q0 q1 ?_
    exact br_f (by decide) ⟨rfl, rl_mk h⟩
theorem i_vc_leastValue {k : Nat} {u : SX} {v : SY} (I : i_Rel k u v) (hk : k + 3 ≤ 1538) (v1 : Int32) : wpX_leastValue (fun r u' => wpY_leastValue (fun r' v' => r' = r ∧ i_Rel (k + 3) u' v') v v1) u v1 := by
  refine rl_el (P := fun u v => wpX_leastValue (fun r u' => wpY_leastValue (fun r' v' => r' = r ∧ i_Rel (k + 3) u' v') v v1) u v1) ?_ I
  intro n b z bd li sz dr ba po wo xs ln he co ri se h
  obtain ⟨l1, hn, l3, hb, h5, hR, hD, hD2, _⟩ := id h
  unfold wpX_leastValue
  dsimp only
  rcases sy_cs v1 with ⟨s, hs, rfl⟩ | ⟨q0, q1⟩
  · obtain ⟨z1, z2, z3⟩ := h5 s hs
    have h16 := p2_16n hb
    refine xw_sys hs ?_
    refine br_f (by decide) ?_
    refine xw_build hn hb hR hs z2 z1 (fun bd' B P ba' po' wo' hB hP H => ?_)
    obtain ⟨t1, t2, t3⟩ := H
    by_cases eb : bd' = 0
    · obtain ⟨t4, t5⟩ := t3 eb
      refine br_t eb ?_
      intro y ey
      rw [ey]
      have hx := xw_lv_l (bd := bd') (li := li) (sz := sz) (dr := dr) (wo := wo') (post := fun r u' => wpY_leastValue (fun r' v' => r' = r ∧ i_Rel (k + 3) u' v') (nI n, nI b, nI (2 ^ b), nI ((2 ^ b) ^ n), ln, he, co, ri, se) (nI s)) hn hb hB hP t1 t5 (fun a0 xs' ha0 hs0 => xw_spread hn hb hB hP t1 t5 (fun kk wo2 kb hA hB2 => ?_)) n (Nat.le_refl n) 0 xs (fun v h1 h2 => absurd h1 (by omega)) (fun i' h1 h2 => absurd h1 (by omega)) (by rw [Nat.sub_self, Nat.pow_zero]; omega)
      · rw [Int.sub_self, show iI 0 = 0 from by decide] at hx
        exact ⟨_, hx⟩
      · have hl := vs_l (b - kk) (lc_sm (fun k => (dr k).toInt) (dg (2 ^ b) a0) n)
        have hg : 2 ^ (b - kk) ≤ 2 ^ b := Nat.pow_le_pow_right (by decide) (by omega)
        have hV : ∀ c, yw_V n b (z s) (ls_L li s) (fun k => (dr k).toInt) ((2 ^ b) ^ n) c ↔ (c < 2 ^ b ∧ c % 2 ^ (b - kk) = (lc_sm (fun k => (dr k).toInt) (dg (2 ^ b) a0) n % 2 ^ (b - kk)).toNat) :=
          fun c => (vs_iff t4 c).trans (vl_cos hb kb hA hB2 ha0 hs0 c)
        show ∀ g : Int32, g = nI b - nI kk → wpY_leastValue (fun r' v' => r' = (iI (lc_sm (fun k => (dr k).toInt) (dg (2 ^ b) a0) n) &&& ((1 : Int32) <<< (g &&& 31) - 1)) ∧ i_Rel (k + 3) (nI n, nI b, nI (2 ^ b), bd', li, sz, dr, ba', po', wo2, xs') v') (nI n, nI b, nI (2 ^ b), nI ((2 ^ b) ^ n), ln, he, co, ri, se) (nI s)
        intro g eg
        rw [eg, pk_sub kb, ii_shl1 (by omega), ii_and _ (by omega), ii_N (jn_m _ _).1]
        generalize (lc_sm (fun k => (dr k).toInt) (dg (2 ^ b) a0) n % 2 ^ (b - kk)).toNat = l at *
        have hVl : yw_V n b (z s) (ls_L li s) (fun k => (dr k).toInt) ((2 ^ b) ^ n) l := (hV l).mpr ⟨by omega, Nat.mod_eq_of_lt hl⟩
        unfold wpY_leastValue
        dsimp only
        refine yw_sys hs ?_
        refine br_t rfl ?_
        refine yw_mark hn hb (rl_L h hs) hD (fun se' g => ?_)
        refine yw_least (fun c hc n0 hmin => ⟨?_, rl_mk h⟩) (fun hno => ?_)
        · have q1 : yw_V n b (z s) (ls_L li s) (fun k => (dr k).toInt) ((2 ^ b) ^ n) c := Classical.byContradiction (fun q => n0 ((g c hc).mpr q))
          have q2 := ((hV c).mp q1).2
          have q3 : l ≤ c := by rw [← q2]; exact Nat.mod_le _ _
          by_cases e : l = c
          · rw [e]
          · exact absurd hVl ((g l (by omega)).mp (hmin l (by omega)))
        · exact absurd hVl ((g l (by omega)).mp (hno l (by omega)))
    · refine br_f eb ?_
      unfold wpY_leastValue
      dsimp only
      refine yw_sys hs ?_
      refine br_t rfl ?_
      refine yw_mark hn hb (rl_L h hs) hD (fun se' g => ?_)
      refine yw_least (fun c hc n0 hmin => absurd ((g c hc).mpr ?_) n0) (fun _ => ⟨rfl, rl_mk h⟩)
      rintro ⟨a, _, q2, _⟩
      exact t2 eb _ q2
  · refine xw_nsys q0 q1 ?_
    refine br_t rfl ?_
    unfold wpY_leastValue
    dsimp only
    refine yw_nsys q0 q1 ?_
    exact br_f (by decide) ⟨rfl, rl_mk h⟩
theorem i_vc_within {k : Nat} {u : SX} {v : SY} (I : i_Rel k u v) (hk : k + 3 ≤ 1538) (v1 : Int32) : wpX_within (fun r u' => wpY_within (fun r' => r' = r ∧ i_Rel (k + 3) u' v) v v1) u v1 := by
  refine rl_el (P := fun u v => wpX_within (fun r u' => wpY_within (fun r' => r' = r ∧ i_Rel (k + 3) u' v) v v1) u v1) ?_ I
  intro n b z bd li sz dr ba po wo xs ln he co ri se h
  obtain ⟨l1, hn, l3, hb, h5, hR, hD, hD2, _⟩ := id h
  unfold wpX_within
  dsimp only
  rcases sy_cs v1 with ⟨s, hs, rfl⟩ | ⟨q0, q1⟩
  · obtain ⟨z1, z2, z3⟩ := h5 s hs
    obtain ⟨y1, y2, y3⟩ := h5 (1 - s) (by omega)
    refine xw_sys hs ?_
    refine br_f (by decide) ?_
    refine xw_build hn hb hR hs z2 z1 (fun bd' B P ba' po' wo' hB hP H => ?_)
    refine xw_within hn hb hR hs y2 y1 hB hP H (fun hA wo2 => ?_) (fun hA wo2 => ?_)
    · unfold wpY_within
      dsimp only
      refine yw_sys hs ?_
      refine br_t rfl ?_
      refine yw_within hn hb (rl_L h hs) (rl_L h (s := 1 - s) (by omega)) (fun _ => ⟨rfl, rl_mk h⟩) (fun G => absurd (fun a ha hsa i hi => hA i hi a ha hsa) G)
    · unfold wpY_within
      dsimp only
      refine yw_sys hs ?_
      refine br_t rfl ?_
      refine yw_within hn hb (rl_L h hs) (rl_L h (s := 1 - s) (by omega)) (fun G => absurd (fun i hi a ha hsa => G a ha hsa i hi) hA) (fun _ => ⟨rfl, rl_mk h⟩)
  · refine xw_nsys q0 q1 ?_
    refine br_t rfl ?_
    unfold wpY_within
    dsimp only
    refine yw_nsys q0 q1 ?_
    exact br_f (by decide) ⟨rfl, rl_mk h⟩
theorem i_vc_common {k : Nat} {u : SX} {v : SY} (I : i_Rel k u v) (hk : k + 3 ≤ 1538) : wpX_common (fun r u' => wpY_common (fun r' => r' = r ∧ i_Rel (k + 3) u' v) v) u := by
  refine rl_el (P := fun u v => wpX_common (fun r u' => wpY_common (fun r' => r' = r ∧ i_Rel (k + 3) u' v) v) u) ?_ I
  intro n b z bd li sz dr ba po wo xs ln he co ri se h
  obtain ⟨l1, hn, l3, hb, h5, hR, hD, hD2, _⟩ := id h
  unfold wpX_common
  dsimp only
  obtain ⟨z1, z2, z3⟩ := h5 0 (by decide)
  obtain ⟨y1, y2, y3⟩ := h5 1 (by decide)
  refine xw_build (s := 0) hn hb hR (by decide) z2 z1 (fun bd' B P ba' po' wo' hB hP H => ?_)
  refine xw_joinAll (s := 1) hn hb hR (by decide) y2 y1 hB hP H (fun bd2 B2 P2 ba2 po2 wo2 hB2 hP2 H2 => ?_)
  refine xw_total hn hb hP2 H2 ?_
  exact yw_common hn hb (rl_L h (by decide)) (rl_L h (by decide)) ⟨rfl, rl_mk h⟩
theorem i_vc_withoutUnknown {k : Nat} {u : SX} {v : SY} (I : i_Rel k u v) (hk : k + 3 ≤ 1538) (v1 : Int32) (v2 : Int32) : wpX_withoutUnknown (fun r u' => wpY_withoutUnknown (fun r' => r' = r ∧ i_Rel (k + 3) u' v) v v1 v2) u v1 v2 := by
  refine rl_el (P := fun u v => wpX_withoutUnknown (fun r u' => wpY_withoutUnknown (fun r' => r' = r ∧ i_Rel (k + 3) u' v) v v1 v2) u v1 v2) ?_ I
  intro n b z bd li sz dr ba po wo xs ln he co ri se h
  obtain ⟨l1, hn, l3, hb, h5, hR, hD, hD2, _⟩ := id h
  unfold wpX_withoutUnknown
  dsimp only
  rcases sy_cs v1 with ⟨s, hs, rfl⟩ | ⟨q0, q1⟩
  · obtain ⟨z1, z2, z3⟩ := h5 s hs
    refine xw_sys hs ?_
    refine br_f (by decide) ?_
    rcases uk_cs v2 hn with ⟨j, hj, rfl⟩ | hq
    · refine br_f (nI_pos (by omega)) (br_t (nI_lt hj (by omega)) ?_)
      refine xw_build hn hb hR hs z2 z1 (fun bd' B P ba' po' wo' hB hP H => ?_)
      refine xw_wu hn hb hR hs z2 z1 hj hP H (fun fr f1 f2 f3 => ?_)
      unfold wpY_withoutUnknown
      dsimp only
      refine yw_sys hs ?_
      refine br_t rfl ?_
      refine yw_unk hn hj ?_
      refine br_t rfl ?_
      refine yw_wu hn hb (rl_L h hs) hj ⟨?_, rl_mk h⟩
      rw [wu_all hb hj f1 f2 f3, Nat.mul_div_cancel_left _ (Nat.two_pow_pos fr)]
    · have hY : wpY_withoutUnknown (fun r' => r' = -2 ∧ i_Rel (k + 3) (nI n, nI b, nI (2 ^ b), bd, li, sz, dr, ba, po, wo, xs) (nI n, nI b, nI (2 ^ b), nI ((2 ^ b) ^ n), ln, he, co, ri, se)) (nI n, nI b, nI (2 ^ b), nI ((2 ^ b) ^ n), ln, he, co, ri, se) (nI s) v2 := by
        unfold wpY_withoutUnknown
        dsimp only
        refine yw_sys hs ?_
        refine br_t rfl ?_
        refine yw_nunk hq ?_
        exact br_f (by decide) ⟨rfl, rl_mk h⟩
      by_cases h0 : v2 < 0
      · exact br_t h0 hY
      · rcases hq with q | q
        · exact absurd q h0
        · exact br_f h0 (br_f q hY)
  · refine xw_nsys q0 q1 ?_
    refine br_t rfl ?_
    unfold wpY_withoutUnknown
    dsimp only
    refine yw_nsys q0 q1 ?_
    exact br_f (by decide) ⟨rfl, rl_mk h⟩
theorem sb_AC {n b z : Nat} {L : Nat → Nat → Int} {v k : Nat} {c : Int} (hk : k ≤ b) (h : yw_A n b z L v (b - k) c) : sb_C n b (sy_S n b z L) v k := by
  intro a a' l1 l2 s1 s2
  have e := (h a l1 s1).trans (h a' l2 s2).symm
  have d := Int.dvd_of_emod_eq_zero (Int.emod_eq_emod_iff_emod_sub_eq_zero.mp e)
  have e2 : (2 : Int) ^ b = 2 ^ k * 2 ^ (b - k) := by rw [← Int.pow_add, Nat.add_sub_of_le hk]
  rw [e2]
  exact Int.mul_dvd_mul (Int.dvd_refl _) d
theorem sb_CA {n b z : Nat} {L : Nat → Nat → Int} {v k a : Nat} (hb : b ≤ 4) (hk : k ≤ b) (ha : a < (2 ^ b) ^ n) (hs : sy_S n b z L (dg (2 ^ b) a)) (h : sb_C n b (sy_S n b z L) v k) : yw_A n b z L v (b - k) (dg (2 ^ b) a v) :=
  fun a' l1 s1 => dv_em (ar_A hb hk (h a' a l1 ha s1 hs))
theorem i_vc_settledBits {k : Nat} {u : SX} {v : SY} (I : i_Rel k u v) (hk : k + 3 ≤ 1538) (v1 : Int32) (v2 : Int32) : wpX_settledBits (fun r u' => wpY_settledBits (fun r' => r' = r ∧ i_Rel (k + 3) u' v) v v1 v2) u v1 v2 := by
  refine rl_el (P := fun u v => wpX_settledBits (fun r u' => wpY_settledBits (fun r' => r' = r ∧ i_Rel (k + 3) u' v) v v1 v2) u v1 v2) ?_ I
  intro n b z bd li sz dr ba po wo xs ln he co ri se h
  obtain ⟨l1, hn, l3, hb, h5, hR, hD, hD2, _⟩ := id h
  unfold wpX_settledBits
  dsimp only
  rcases sy_cs v1 with ⟨s, hs, rfl⟩ | ⟨q0, q1⟩
  · obtain ⟨z1, z2, z3⟩ := h5 s hs
    have hN := nt_N hb hn
    refine xw_sys hs ?_
    refine br_f (by decide) ?_
    rcases uk_cs v2 hn with ⟨j, hj, rfl⟩ | hq
    · refine br_f (nI_pos (by omega)) (br_t (nI_lt hj (by omega)) ?_)
      refine xw_build hn hb hR hs z2 z1 (fun bd' B P ba' po' wo' hB hP H => ?_)
      obtain ⟨t1, t2, t3⟩ := H
      by_cases eb : bd' = 0
      · obtain ⟨t4, t5⟩ := t3 eb
        refine br_t eb (xw_settled hn hb hB hP t1 t5 hj (fun kk wo2 kb hA hB2 => ?_))
        have eS : sy_S n b (z s) (ls_L li s) = tr_st n b B := funext (fun x => propext (t4 x))
        unfold wpY_settledBits
        dsimp only
        refine yw_sys hs ?_
        refine br_t rfl ?_
        refine yw_unk hn hj ?_
        refine br_t rfl ?_
        refine yw_nth hn hb (rl_L h hs) (fun a ha hsa e => ?_) (fun hno => ?_)
        · refine br_t (nI_pos' (by omega)) (yw_digit hb (by omega) (by omega) ?_)
          refine yw_settled hn hb (rl_L h hs) hj (j0 := b - kk) (by omega) (sb_CA hb kb ha hsa (by rw [eS]; exact hA)) (fun j' h1 h2 G => ?_) ⟨rfl, rl_mk h⟩
          have e3 : j' = b - (b - j') := by omega
          rw [e3] at G
          have G2 := sb_AC (k := b - j') (by omega) G
          rw [eS] at G2
          exact hB2 (b - j') (by omega) G2
        · have hp : 0 < kt_n (fun a => sy_S n b (z s) (ls_L li s) (dg (2 ^ b) a)) ((2 ^ b) ^ n) := by
            rw [eS, tr_total hb t1 t5]
            exact Nat.two_pow_pos _
          obtain ⟨a, g1, g2, g3⟩ := kt_first hp
          refine absurd ?_ (hno a g1 g2)
          rw [g3]
          rfl
      · refine br_f eb ?_
        unfold wpY_settledBits
        dsimp only
        refine yw_sys hs ?_
        refine br_t rfl ?_
        refine yw_unk hn hj ?_
        refine br_t rfl ?_
        refine yw_nth hn hb (rl_L h hs) (fun a ha hsa e => absurd hsa (t2 eb _)) (fun hno => ?_)
        exact br_f (by decide) ⟨rfl, rl_mk h⟩
    · have hY : wpY_settledBits (fun r' => r' = -2 ∧ i_Rel (k + 3) (nI n, nI b, nI (2 ^ b), bd, li, sz, dr, ba, po, wo, xs) (nI n, nI b, nI (2 ^ b), nI ((2 ^ b) ^ n), ln, he, co, ri, se)) (nI n, nI b, nI (2 ^ b), nI ((2 ^ b) ^ n), ln, he, co, ri, se) (nI s) v2 := by
        unfold wpY_settledBits
        dsimp only
        refine yw_sys hs ?_
        refine br_t rfl ?_
        refine yw_nunk hq ?_
        exact br_f (by decide) ⟨rfl, rl_mk h⟩
      by_cases h0 : v2 < 0
      · exact br_t h0 hY
      · rcases hq with q | q
        · exact absurd q h0
        · exact br_f h0 (br_f q hY)
  · refine xw_nsys q0 q1 ?_
    refine br_t rfl ?_
    unfold wpY_settledBits
    dsimp only
    refine yw_nsys q0 q1 ?_
    exact br_f (by decide) ⟨rfl, rl_mk h⟩
theorem rd_iff {n b z i0 : Nat} {L : Nat → Nat → Int} (hi0 : i0 < z) : xw_all n b (sy_W n b z i0 L) (L i0) ↔ ∀ a, a < (2 ^ b) ^ n → (sy_S n b z L (dg (2 ^ b) a) ↔ sy_W n b z i0 L (dg (2 ^ b) a)) := by
  constructor
  · intro h a ha
    refine ⟨fun q i hi _ => q i hi, fun q i hi => ?_⟩
    by_cases e : i = i0
    · rw [e]; exact h a ha q
    · exact q i hi e
  · intro h a ha q
    exact (h a ha).mpr q i0 hi0
theorem i_vc_redundant {k : Nat} {u : SX} {v : SY} (I : i_Rel k u v) (hk : k + 3 ≤ 1538) (v1 : Int32) (v2 : Int32) : wpX_redundant (fun r u' => wpY_redundant (fun r' => r' = r ∧ i_Rel (k + 3) u' v) v v1 v2) u v1 v2 := by
  refine rl_el (P := fun u v => wpX_redundant (fun r u' => wpY_redundant (fun r' => r' = r ∧ i_Rel (k + 3) u' v) v v1 v2) u v1 v2) ?_ I
  intro n b z bd li sz dr ba po wo xs ln he co ri se h
  obtain ⟨l1, hn, l3, hb, h5, hR, hD, hD2, _⟩ := id h
  unfold wpX_redundant
  dsimp only
  rcases sy_cs v1 with ⟨s, hs, rfl⟩ | ⟨q0, q1⟩
  · obtain ⟨z1, z2, z3⟩ := h5 s hs
    refine xw_sys hs ?_
    refine br_f (by decide) ?_
    by_cases h0 : v2 < 0
    · refine br_t h0 ?_
      unfold wpY_redundant
      dsimp only
      refine yw_sys hs ?_
      exact br_t rfl (br_t h0 ⟨rfl, rl_mk h⟩)
    · obtain ⟨i, hi, rfl⟩ := nI_of h0
      refine br_f h0 ⟨vp_in_nI hs (by decide), ?_⟩
      rw [nI_clamp (by omega), z2]
      by_cases hl : i < z s
      · refine br_t (nI_lt hl (by omega)) ?_
        refine xw_start (fun ba1 po1 hB1 hP1 => ?_)
        refine xw_red hn hb hR hs z2 z1 hl hB1 hP1 jn_st (fun hA bd' ba' po' wo' => ?_) (fun hA bd' ba' po' wo' => ?_)
        · unfold wpY_redundant
          dsimp only
          refine yw_sys hs ?_
          refine br_t rfl (br_f h0 ⟨vp_in_nI hs (by decide), ?_⟩)
          rw [nI_clamp (by omega), z3]
          refine br_t (nI_lt hl (by omega)) ?_
          exact yw_red hn hb (rl_L h hs) hl (fun _ => ⟨rfl, rl_mk h⟩) (fun G => absurd ((rd_iff hl).mp hA) G)
        · unfold wpY_redundant
          dsimp only
          refine yw_sys hs ?_
          refine br_t rfl (br_f h0 ⟨vp_in_nI hs (by decide), ?_⟩)
          rw [nI_clamp (by omega), z3]
          refine br_t (nI_lt hl (by omega)) ?_
          exact yw_red hn hb (rl_L h hs) hl (fun G => absurd ((rd_iff hl).mpr G) hA) (fun _ => ⟨rfl, rl_mk h⟩)
      · refine br_f (nI_nlt (by omega) (by omega)) ?_
        unfold wpY_redundant
        dsimp only
        refine yw_sys hs ?_
        refine br_t rfl (br_f h0 ⟨vp_in_nI hs (by decide), ?_⟩)
        rw [nI_clamp (by omega), z3]
        exact br_f (nI_nlt (by omega) (by omega)) ⟨rfl, rl_mk h⟩
  · refine xw_nsys q0 q1 ?_
    refine br_t rfl ?_
    unfold wpY_redundant
    dsimp only
    refine yw_nsys q0 q1 ?_
    exact br_f (by decide) ⟨rfl, rl_mk h⟩
end
