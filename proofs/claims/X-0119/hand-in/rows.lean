section
theorem pk_us {f : Nat → Int32} {k : Nat} {x : Int32} : upd f k x k = x := if_pos rfl
theorem pk_un {f : Nat → Int32} {k j : Nat} {x : Int32} (h : j ≠ k) : upd f k x j = f j := if_neg h
theorem pk_sub {a b : Nat} (h : b ≤ a) : nI a - nI b = nI (a - b) := by
  obtain ⟨c, rfl⟩ : ∃ c, a = c + b := ⟨a - b, by omega⟩
  rw [← nI_add, Int32.add_sub_cancel, Nat.add_sub_cancel]
theorem pk_m1 (n : Nat) : nI (n + 1) + (-1) = nI n := by
  rw [← nI_1, Int32.add_assoc, show (1 : Int32) + (-1) = 0 from rfl, Int32.add_zero]
theorem pk_mul (a b : Nat) : nI a * nI b = nI (a * b) := (Int32.ofNat_mul a b).symm
theorem pk_div {a d : Nat} (ha : a < 2 ^ 31) (h0 : 0 < d) (hd : d < 2 ^ 31) : nI a / nI d = nI (a / d) := by
  apply Int32.toInt_inj.mp
  rw [lg_idiv_nonneg (by rw [nI_toInt ha]; omega) (by rw [nI_toInt hd]; omega), nI_toInt ha, nI_toInt hd, nI_toInt (Nat.lt_of_le_of_lt (Nat.div_le_self a d) ha)]
  first | rfl | exact (Int.natCast_ediv _ _).symm
theorem pk_rem {a d : Nat} (ha : a < 2 ^ 31) (h0 : 0 < d) (hd : d < 2 ^ 31) : nI a - nI a / nI d * nI d = nI (a % d) := by
  rw [pk_div ha h0 hd, pk_mul, pk_sub (Nat.div_mul_le_self a d)]
  exact congrArg nI (by have := Nat.div_add_mod' a d; omega)
theorem pk_sub_toInt {a b : Nat} (ha : a < 2 ^ 30) (hb : b < 2 ^ 30) : (nI a - nI b).toInt = (a : Int) - b := by
  rw [Int32.toInt_sub, nI_toInt (by omega), nI_toInt (by omega)]
  exact Int.bmod_eq_of_le (by omega) (by omega)
theorem pk_sneg {a b : Nat} (hb : b < 2 ^ 30) (h : a < b) : nI a - nI b < 0 := by
  rw [Int32.lt_iff_toInt_lt, pk_sub_toInt (by omega) hb, show (0 : Int32).toInt = 0 from by decide]
  omega
theorem pk_ix (x : Int32) {n : Nat} (hn : n < 2 ^ 31) : x < 0 ∨ nI n ≤ x ∨ ∃ j : Nat, j < n ∧ x = nI j := by
  by_cases h : x < 0
  · exact Or.inl h
  · obtain ⟨j, hj, rfl⟩ := nI_of h
    by_cases h2 : j < n
    · exact Or.inr (Or.inr ⟨j, h2, rfl⟩)
    · exact Or.inr (Or.inl (nI_le (by omega) hj))
theorem pk_le {x y : Int32} {A B : Prop} (a b : Nat) (f : a ≤ b → A) (g : b < a → B) (hx : x = nI a := by rfl) (hy : y = nI b := by rfl) (ha : a < 2 ^ 31 := by omega) (hb : b < 2 ^ 31 := by omega) : (x ≤ y → A) ∧ (¬ x ≤ y → B) := by
  subst hx hy
  rw [nI_leI ha hb]
  exact ⟨f, fun z => g (by omega)⟩
theorem pk_lt {x y : Int32} {A B : Prop} (a b : Nat) (f : a < b → A) (g : b ≤ a → B) (hx : x = nI a := by rfl) (hy : y = nI b := by rfl) (ha : a < 2 ^ 31 := by omega) (hb : b < 2 ^ 31 := by omega) : (x < y → A) ∧ (¬ x < y → B) := by
  subst hx hy
  rw [nI_ltI ha hb]
  exact ⟨f, fun z => g (by omega)⟩
theorem pk_eq {x y : Int32} {A B : Prop} (a b : Nat) (f : a = b → A) (g : a ≠ b → B) (hx : x = nI a := by rfl) (hy : y = nI b := by rfl) (ha : a < 2 ^ 31 := by omega) (hb : b < 2 ^ 31 := by omega) : (x = y → A) ∧ (¬ x = y → B) := by
  subst hx hy
  rw [nI_eq ha hb]
  exact ⟨f, g⟩
theorem pk_in {x : Int32} (n N : Nat) (h : n < N) (hx : x = nI n := by rfl) (hN : N < 2 ^ 31 := by omega) : vp_in x N := by
  subst hx
  exact vp_in_nI h hN
theorem pk_cl {x : Int32} (n : Nat) (hx : x = nI n := by rfl) (h : n < 2 ^ 31 := by omega) : x.toNatClampNeg = n := by
  subst hx
  exact nI_clamp h
theorem pk_tn {n : Nat} (h : n < 2 ^ 32) : (nI n).toBitVec.toNat = n := Nat.mod_eq_of_lt h
theorem pk_and (x : Int32) {m : Int32} (k : Nat) (hm : m.toBitVec.toNat = 2 ^ k - 1) : x &&& m = nI (x.toBitVec.toNat % 2 ^ k) := by
  apply Int32.toBitVec_inj.mp
  apply BitVec.eq_of_toNat_eq
  rw [Int32.toBitVec_and, BitVec.toNat_and, hm, Nat.and_two_pow_sub_one_eq_mod]
  show _ = (BitVec.ofNat 32 _).toNat
  rw [BitVec.toNat_ofNat]
  exact (Nat.mod_eq_of_lt (Nat.lt_of_le_of_lt (Nat.mod_le _ _) x.toBitVec.isLt)).symm
theorem pk_andN {n : Nat} (h : n < 2 ^ 32) {m : Int32} (k : Nat) (hm : m.toBitVec.toNat = 2 ^ k - 1) : nI n &&& m = nI (n % 2 ^ k) := by
  rw [pk_and _ k hm, pk_tn h]
theorem pk_andE (x : Int32) {m : Int32} (k : Nat) (hm : m.toBitVec.toNat = 2 ^ k - 1) : ∃ j : Nat, j < 2 ^ k ∧ x &&& m = nI j := ⟨_, Nat.mod_lt _ (Nat.two_pow_pos k), pk_and x k hm⟩
theorem pk_andIn (x : Int32) {m : Int32} (k : Nat) (hm : m.toBitVec.toNat = 2 ^ k - 1) (hk : k ≤ 30) : vp_in (x &&& m) (2 ^ k) := by
  obtain ⟨j, hj, e⟩ := pk_andE x k hm
  rw [e]
  exact vp_in_nI hj (Nat.lt_of_le_of_lt (Nat.pow_le_pow_right (by decide) hk) (by decide))
theorem pk_shl (a s : Int32) (k : Nat) (hs : (s.toBitVec.smod 32).toNat = k) : (a <<< s).toBitVec.toNat = a.toBitVec.toNat * 2 ^ k % 2 ^ 32 := by
  show (a.toBitVec <<< (s.toBitVec.smod 32).toNat).toNat = _
  rw [hs, BitVec.toNat_shiftLeft, Nat.shiftLeft_eq]
theorem pk_shlN {n : Nat} (s : Int32) (k : Nat) (hs : (s.toBitVec.smod 32).toNat = k) (h : n * 2 ^ k < 2 ^ 32) : nI n <<< s = nI (n * 2 ^ k) := by
  apply Int32.toBitVec_inj.mp
  apply BitVec.eq_of_toNat_eq
  have hn : n < 2 ^ 32 := Nat.lt_of_le_of_lt (Nat.le_mul_of_pos_right n (Nat.two_pow_pos k)) h
  rw [pk_shl _ _ k hs, pk_tn hn, pk_tn h, Nat.mod_eq_of_lt h]
theorem pk_shr (a s : Int32) (k : Nat) (hs : (s.toBitVec.smod 32).toNat = k) : (a >>> s).toInt = a.toInt >>> k := by
  show (a.toBitVec.sshiftRight (s.toBitVec.smod 32).toNat).toInt = _
  rw [hs, BitVec.toInt_sshiftRight]
  rfl
theorem pk_shrN {n : Nat} (h : n < 2 ^ 31) (s : Int32) (k : Nat) (hs : (s.toBitVec.smod 32).toNat = k) : nI n >>> s = nI (n / 2 ^ k) := by
  apply Int32.toInt_inj.mp
  have h2 : n / 2 ^ k ≤ n := Nat.div_le_self _ _
  rw [pk_shr _ _ k hs, nI_toInt h, nI_toInt (by omega), Int.shiftRight_eq_div_pow]
  rfl
/-! own: numbers -/
def pn_b : Nat → Int32
  | 0 => -1
  | b + 1 => nI b
theorem pn_b1 (b : Nat) : pn_b b + 1 = nI b := by
  cases b with
  | zero => rfl
  | succ b => exact nI_1 b
theorem pn_lit2 (a : Nat) : 2 * nI a = nI (2 * a) := pk_mul 2 a
theorem pn_lit8 (a : Nat) : 8 * nI a = nI (8 * a) := pk_mul 8 a
theorem pn_lit16 (a : Nat) : 16 * nI a = nI (16 * a) := pk_mul 16 a
theorem pn_mul8 (a : Nat) : nI a * 8 = nI (a * 8) := pk_mul a 8
theorem pn_mul16 (a : Nat) : nI a * 16 = nI (a * 16) := pk_mul a 16
theorem pn_node (b d : Nat) : ((pn_b b + 1) * 8) + nI d = nI (8 * b + d) := by
  rw [pn_b1, pn_mul8, nI_add, Nat.mul_comm b 8]
theorem pn_neg1 : (-1 : Int32) < 0 := by decide
theorem pn_b0 : pn_b 0 = -1 := rfl
theorem pn_bs (b : Nat) : pn_b (b + 1) = nI b := rfl
theorem pn_ne1 {a : Nat} (h : a < 2 ^ 31) : ¬ nI a = -1 := by
  intro e
  have := nI_pos (n := a) h
  rw [e] at this
  exact this pn_neg1
theorem pn_ne2 {a : Nat} (h : a < 2 ^ 31) : ¬ nI a = -2 := by
  intro e
  have := nI_pos (n := a) h
  rw [e] at this
  exact this (by decide)
theorem pn_b_eq {a b : Nat} (ha : a < 2 ^ 31) (hb : b < 2 ^ 31) : pn_b a = pn_b b ↔ a = b := by
  cases a with
  | zero =>
    cases b with
    | zero => exact ⟨fun _ => rfl, fun _ => rfl⟩
    | succ b => exact ⟨fun e => absurd e.symm (pn_ne1 (by omega)), fun e => by omega⟩
  | succ a =>
    cases b with
    | zero => exact ⟨fun e => absurd e (pn_ne1 (by omega)), fun e => by omega⟩
    | succ b =>
      rw [pn_bs, pn_bs, nI_eq (by omega) (by omega)]
      omega
theorem pn_b_lt {b : Nat} (hb : b < 2 ^ 31) : pn_b b < 0 ↔ b = 0 := by
  cases b with
  | zero => exact ⟨fun _ => rfl, fun _ => pn_neg1⟩
  | succ b => exact ⟨fun e => absurd e (nI_pos (by omega)), fun e => by omega⟩
theorem pn_b_m1 {b : Nat} (hb : b < 2 ^ 31) : pn_b b = -1 ↔ b = 0 := by
  rw [← pn_b0, pn_b_eq hb (by omega)]
theorem pn_b_m2 {b : Nat} (hb : b < 2 ^ 31) : ¬ pn_b b = -2 := by
  cases b with
  | zero => decide
  | succ b => exact pn_ne2 (by omega)
/-- the least multiple of u not below v -/
def pn_ru (v u : Nat) : Nat := (v + u - 1) / u * u
theorem pn_maskN {x k : Nat} (hx : x < 2 ^ 31) (hk : k < 5) : x &&& (4294967296 - 2 ^ k) = x / 2 ^ k * 2 ^ k := by
  apply Nat.eq_of_testBit_eq
  intro i
  have e : x / 2 ^ k * 2 ^ k = (x >>> k) <<< k := by
    rw [Nat.shiftLeft_eq, Nat.shiftRight_eq_div_pow]
  rw [e, Nat.testBit_and, Nat.testBit_shiftLeft, Nat.testBit_shiftRight]
  by_cases hi : i < 32
  · have h1 : ∀ k', k' < 5 → ∀ i', i' < 32 → (4294967296 - 2 ^ k').testBit i' = decide (k' ≤ i') := by decide +kernel
    rw [h1 k hk i hi]
    by_cases hki : k ≤ i
    · rw [show k + (i - k) = i by omega]
      simp [hki]
    · simp [hki]
  · have h2 : x.testBit i = false := Nat.testBit_lt_two_pow (Nat.lt_of_lt_of_le hx (Nat.pow_le_pow_right (by decide) (by omega)))
    rw [h2]
    by_cases hki : k ≤ i
    · rw [show k + (i - k) = i by omega, h2]; simp
    · simp [hki]
theorem pn_ruI {v k : Nat} (hv : v + 2 ^ k < 2 ^ 31) (hk : k < 5) : ((nI v + nI (2 ^ k)) - 1) &&& (-(nI (2 ^ k))) = nI (pn_ru v (2 ^ k)) := by
  have h0 : 0 < 2 ^ k := Nat.two_pow_pos k
  have e1 : (nI v + nI (2 ^ k)) - 1 = nI (v + 2 ^ k - 1) := by
    rw [nI_add]
    exact pk_sub (a := v + 2 ^ k) (b := 1) (by omega)
  have e2 : ∀ k', k' < 5 → (-(nI (2 ^ k'))).toBitVec.toNat = 4294967296 - 2 ^ k' := by decide +kernel
  rw [e1]
  apply Int32.toBitVec_inj.mp
  apply BitVec.eq_of_toNat_eq
  rw [Int32.toBitVec_and, BitVec.toNat_and, e2 k hk, pk_tn (by omega), pn_maskN (by omega) hk, pk_tn]
  · rfl
  · have : (v + 2 ^ k - 1) / 2 ^ k * 2 ^ k ≤ v + 2 ^ k - 1 := Nat.div_mul_le_self _ _
    unfold pn_ru
    omega
theorem pn_ru_ge {v u : Nat} (h : 0 < u) : v ≤ pn_ru v u := by
  unfold pn_ru
  have h1 := Nat.div_add_mod (v + u - 1) u
  have h2 := Nat.mod_lt (v + u - 1) h
  rw [Nat.mul_comm] at h1
  omega
theorem pn_ru_lt {v u : Nat} (h : 0 < u) : pn_ru v u < v + u := by
  unfold pn_ru
  have h1 := Nat.div_mul_le_self (v + u - 1) u
  omega
theorem pn_ru_dvd (v u : Nat) : u ∣ pn_ru v u := ⟨(v + u - 1) / u, by unfold pn_ru; exact Nat.mul_comm _ _⟩
theorem pn_ru_add {s v u : Nat} (h : 0 < u) (hd : u ∣ s) : pn_ru (s + v) u = s + pn_ru v u := by
  obtain ⟨q, rfl⟩ := hd
  unfold pn_ru
  rw [show u * q + v + u - 1 = (v + u - 1) + u * q by omega, Nat.add_mul_div_left _ _ h, Nat.add_mul, Nat.mul_comm q u]
  omega
theorem pn_ru_0 {u : Nat} (h : 0 < u) : pn_ru 0 u = 0 := by
  unfold pn_ru
  rw [Nat.div_eq_of_lt (by omega), Nat.zero_mul]
theorem pn_vb0 : vp_nar .boolean 0 = 0 := by decide
theorem pn_vb1 : vp_nar .boolean 1 = 1 := by decide
end
section
/-! finite sums -/
def ps_sm : Nat → (Nat → Nat) → Nat
  | 0, _ => 0
  | n + 1, f => ps_sm n f + f n
theorem ps_s (n : Nat) (f : Nat → Nat) : ps_sm (n + 1) f = ps_sm n f + f n := rfl
theorem ps_congr {n : Nat} {f g : Nat → Nat} (h : ∀ i, i < n → f i = g i) : ps_sm n f = ps_sm n g := by
  induction n with
  | zero => rfl
  | succ n ih => rw [ps_s, ps_s, ih (fun i hi => h i (by omega)), h n (by omega)]
theorem ps_add (n : Nat) (f g : Nat → Nat) : ps_sm n (fun i => f i + g i) = ps_sm n f + ps_sm n g := by
  induction n with
  | zero => rfl
  | succ n ih => rw [ps_s, ps_s, ps_s, ih]; omega
theorem ps_0 (n : Nat) : ps_sm n (fun _ => 0) = 0 := by
  induction n with
  | zero => rfl
  | succ n ih => rw [ps_s, ih]
theorem ps_z {n : Nat} {f : Nat → Nat} (h : ∀ i, i < n → f i = 0) : ps_sm n f = 0 := by
  rw [ps_congr h, ps_0]
theorem ps_comm (n m : Nat) (f : Nat → Nat → Nat) : ps_sm n (fun i => ps_sm m (fun j => f i j)) = ps_sm m (fun j => ps_sm n (fun i => f i j)) := by
  induction n with
  | zero => exact (ps_0 m).symm
  | succ n ih =>
    rw [ps_s, ih, ← ps_add]
    exact ps_congr fun j _ => rfl
theorem ps_le {n : Nat} {f g : Nat → Nat} (h : ∀ i, i < n → f i ≤ g i) : ps_sm n f ≤ ps_sm n g := by
  induction n with
  | zero => exact Nat.le_refl _
  | succ n ih => rw [ps_s, ps_s]; exact Nat.add_le_add (ih fun i hi => h i (by omega)) (h n (by omega))
theorem ps_mono {m n : Nat} (f : Nat → Nat) (h : m ≤ n) : ps_sm m f ≤ ps_sm n f := by
  induction n with
  | zero => rw [show m = 0 by omega]; exact Nat.le_refl _
  | succ n ih =>
    by_cases e : m = n + 1
    · rw [e]; exact Nat.le_refl _
    · rw [ps_s]; exact Nat.le_trans (ih (by omega)) (Nat.le_add_right _ _)
theorem ps_one {n a : Nat} {f : Nat → Nat} (ha : a < n) (h : ∀ i, i < n → i ≠ a → f i = 0) : ps_sm n f = f a := by
  induction n with
  | zero => omega
  | succ n ih =>
    rw [ps_s]
    by_cases e : a = n
    · rw [ps_z (fun i hi => h i (by omega) (by omega)), e, Nat.zero_add]
    · rw [ih (by omega) (fun i hi => h i (by omega)), h n (by omega) (by omega), Nat.add_zero]
theorem ps_const (n c : Nat) : ps_sm n (fun _ => c) = n * c := by
  induction n with
  | zero => exact (Nat.zero_mul c).symm
  | succ n ih => rw [ps_s, ih, Nat.add_mul, Nat.one_mul]
theorem ps_split {n a : Nat} (f : Nat → Nat) (ha : a < n) : ps_sm n f = f a + ps_sm n (fun i => if i = a then 0 else f i) := by
  have h1 : ps_sm n f = ps_sm n (fun i => (if i = a then f i else 0) + (if i = a then 0 else f i)) :=
    ps_congr fun i _ => by
      by_cases e : i = a
      · rw [if_pos e, if_pos e, Nat.add_zero]
      · rw [if_neg e, if_neg e, Nat.zero_add]
  rw [h1, ps_add, ps_one (a := a) ha (fun i _ e => if_neg e), if_pos rfl]
theorem ps_at {n a : Nat} (f : Nat → Nat) (ha : a < n) : f a ≤ ps_sm n f := by
  rw [ps_split f ha]; exact Nat.le_add_right _ _
theorem ps_le_n {n : Nat} {f : Nat → Nat} (c : Nat) (h : ∀ i, i < n → f i ≤ c) : ps_sm n f ≤ n * c := by
  rw [← ps_const n c]; exact ps_le h
theorem ps_two {n a b : Nat} (f : Nat → Nat) (ha : a < n) (hb : b < n) (hab : a ≠ b) : f a + f b ≤ ps_sm n f := by
  rw [ps_split f ha]
  have := ps_at (fun i => if i = a then 0 else f i) hb
  rw [if_neg (fun e => hab e.symm)] at this
  omega
end
section
/-! the tree: parents by bus index (0 the root bus, s + 1 the bus below slot s) -/
def pt_up (pa : Nat → Nat) : Nat → Nat
  | 0 => 0
  | s + 1 => pa s
def pt_it (pa : Nat → Nat) : Nat → Nat → Nat
  | 0, c => c
  | n + 1, c => pt_it pa n (pt_up pa c)
def pt_abN (pa : Nat → Nat) (b : Nat) : Nat → Nat → Bool
  | 0, _ => false
  | n + 1, c => (pt_up pa c == b) || pt_abN pa b n (pt_up pa c)
def pt_ab (pa : Nat → Nat) (b c : Nat) : Bool := pt_abN pa b 16 c
def pt_T (K : Nat → Int32) (pa de r : Nat → Nat) : Prop :=
  (∀ s, s < 16 → K s = 0 ∨ K s = 1 ∨ K s = 2) ∧ (∀ s, pa s ≤ 16) ∧ (∀ s, de s < 8) ∧
  (∀ s, s < 16 → K s ≠ 0 → pa s = 0 ∨ ∃ p, p < 16 ∧ pa s = p + 1 ∧ K p = 2 ∧ r p < r s) ∧
  (∀ s s', s < 16 → s' < 16 → K s ≠ 0 → K s' ≠ 0 → pa s = pa s' → de s = de s' → s = s')
theorem pt_abN_iff (pa : Nat → Nat) (b : Nat) : ∀ n c, pt_abN pa b n c = true ↔ ∃ k, k < n ∧ pt_it pa (k + 1) c = b := by
  intro n
  induction n with
  | zero => intro c; exact ⟨fun h => by simp [pt_abN] at h, fun ⟨k, hk, _⟩ => by omega⟩
  | succ n ih =>
    intro c
    rw [pt_abN, Bool.or_eq_true, beq_iff_eq, ih]
    constructor
    · rintro (h | ⟨k, hk, h⟩)
      · exact ⟨0, by omega, h⟩
      · exact ⟨k + 1, by omega, h⟩
    · rintro ⟨k, hk, h⟩
      cases k with
      | zero => exact Or.inl h
      | succ k => exact Or.inr ⟨k, by omega, h⟩
theorem pt_it0 (pa : Nat → Nat) : ∀ n, pt_it pa n 0 = 0 := by
  intro n
  induction n with
  | zero => rfl
  | succ n ih => exact ih
theorem pt_it_add (pa : Nat → Nat) : ∀ m n c, pt_it pa (m + n) c = pt_it pa n (pt_it pa m c) := by
  intro m
  induction m with
  | zero => intro n c; rw [Nat.zero_add]; rfl
  | succ m ih => intro n c; rw [Nat.succ_add]; exact ih n _
theorem pt_stab {pa : Nat → Nat} {b c j n m : Nat} (hj : pt_it pa (j + 1) c = 0) (hn : j < n) (hm : j < m) : pt_abN pa b n c = pt_abN pa b m c := by
  have key : ∀ n m, j < n → j < m → pt_abN pa b n c = true → pt_abN pa b m c = true := by
    intro n m hn hm h
    obtain ⟨k, hk, e⟩ := (pt_abN_iff pa b n c).mp h
    by_cases hk2 : k ≤ j
    · exact (pt_abN_iff pa b m c).mpr ⟨k, by omega, e⟩
    · refine (pt_abN_iff pa b m c).mpr ⟨j, hm, ?_⟩
      rw [hj, ← e, show k + 1 = (j + 1) + (k - j) by omega, pt_it_add, hj, pt_it0]
  by_cases h : pt_abN pa b n c = true
  · rw [h, key n m hn hm h]
  · by_cases h2 : pt_abN pa b m c = true
    · exact absurd (key m n hm hn h2) h
    · rw [Bool.eq_false_iff.mpr h, Bool.eq_false_iff.mpr h2]
section
variable {K : Nat → Int32} {pa de r : Nat → Nat}
theorem pt_rk (T : pt_T K pa de r) : ∀ k s q, s < 16 → K s ≠ 0 → pt_it pa (k + 1) (s + 1) = q + 1 → q < 16 ∧ K q = 2 ∧ r q < r s := by
  intro k
  induction k with
  | zero =>
    intro s q hs hK e
    have e' : pa s = q + 1 := e
    rcases T.2.2.2.1 s hs hK with h | ⟨p, hp, h1, h2, h3⟩
    · omega
    · obtain rfl : p = q := by omega
      exact ⟨hp, h2, h3⟩
  | succ k ih =>
    intro s q hs hK e
    have e' : pt_it pa (k + 1) (pa s) = q + 1 := e
    rcases T.2.2.2.1 s hs hK with h | ⟨p, hp, h1, h2, h3⟩
    · rw [h, pt_it0] at e'; omega
    · rw [h1] at e'
      have := ih p q hp (by rw [h2]; decide) e'
      exact ⟨this.1, this.2.1, by omega⟩
theorem pt_end (T : pt_T K pa de r) : ∀ n s, s < 16 → K s ≠ 0 → r s ≤ n → pt_it pa (r s + 1) (s + 1) = 0 := by
  intro n
  induction n with
  | zero =>
    intro s hs hK hr
    rcases T.2.2.2.1 s hs hK with h | ⟨p, hp, h1, h2, h3⟩
    · show pt_it pa (r s) (pa s) = 0
      rw [h, pt_it0]
    · omega
  | succ n ih =>
    intro s hs hK hr
    show pt_it pa (r s) (pa s) = 0
    rcases T.2.2.2.1 s hs hK with h | ⟨p, hp, h1, h2, h3⟩
    · rw [h, pt_it0]
    · have := ih p hp (by rw [h2]; decide) (by omega)
      rw [h1, show r s = (r p + 1) + (r s - r p - 1) by omega, pt_it_add, this, pt_it0]
/-- ancestors counted with enough steps -/
def pt_dM (pa : Nat → Nat) (M c : Nat) : Nat := ps_sm 16 (fun i => if pt_abN pa (i + 1) M c = true then 1 else 0)
theorem pt_M (T : pt_T K pa de r) {s b : Nat} (hs : s < 16) (hK : K s ≠ 0) : pt_abN pa b (ps_sm 16 r + 1) (s + 1) = ((pa s == b) || pt_abN pa b (ps_sm 16 r + 1) (pa s)) := by
  have h := ps_at r hs
  rw [pt_stab (m := ps_sm 16 r + 2) (pt_end T _ s hs hK (Nat.le_refl _)) (by omega) (by omega)]
  rfl
theorem pt_irrM (T : pt_T K pa de r) {s M : Nat} (hs : s < 16) (hK : K s ≠ 0) : pt_abN pa (s + 1) M (s + 1) = false := by
  apply Bool.eq_false_iff.mpr
  intro h
  obtain ⟨k, _, e⟩ := (pt_abN_iff pa _ _ _).mp h
  have := pt_rk T k s s hs hK e
  omega
theorem pt_ab0N {pa : Nat → Nat} {b n : Nat} (h : b ≠ 0) : pt_abN pa b n 0 = false := by
  apply Bool.eq_false_iff.mpr
  intro h2
  obtain ⟨k, _, e⟩ := (pt_abN_iff pa _ _ _).mp h2
  rw [pt_it0] at e
  omega
theorem pt_dM0 (T : pt_T K pa de r) {s : Nat} (hs : s < 16) (hK : K s ≠ 0) (h : pa s = 0) : pt_dM pa (ps_sm 16 r + 1) (s + 1) = 0 := by
  refine ps_z fun i _ => ?_
  rw [pt_M T hs hK, h, pt_ab0N (by omega), if_neg]
  simp
theorem pt_dMs (T : pt_T K pa de r) {s p : Nat} (hs : s < 16) (hK : K s ≠ 0) (h : pa s = p + 1) (hp : p < 16) (hpK : K p ≠ 0) : pt_dM pa (ps_sm 16 r + 1) (s + 1) = pt_dM pa (ps_sm 16 r + 1) (p + 1) + 1 := by
  unfold pt_dM
  rw [ps_split _ hp, ps_split (fun i => if pt_abN pa (i + 1) (ps_sm 16 r + 1) (p + 1) = true then 1 else 0) hp]
  rw [pt_irrM T hp hpK, pt_M T hs hK, h]
  have e : ps_sm 16 (fun i => if i = p then 0 else if pt_abN pa (i + 1) (ps_sm 16 r + 1) (s + 1) = true then 1 else 0) = ps_sm 16 (fun i => if i = p then 0 else if pt_abN pa (i + 1) (ps_sm 16 r + 1) (p + 1) = true then 1 else 0) := by
    refine ps_congr fun i _ => ?_
    by_cases ei : i = p
    · rw [if_pos ei, if_pos ei]
    · rw [if_neg ei, if_neg ei, pt_M T hs hK, h]
      have : (p + 1 == i + 1) = false := by simp; omega
      rw [this, Bool.false_or]
  rw [e]
  simp
  omega
theorem pt_dMle (T : pt_T K pa de r) {s : Nat} (M : Nat) (hs : s < 16) (hK : K s ≠ 0) : pt_dM pa M (s + 1) ≤ 15 := by
  unfold pt_dM
  rw [ps_split _ hs]
  rw [pt_irrM T hs hK]
  have h1 := ps_split (fun _ => 1) hs
  rw [ps_const] at h1
  have h2 : ps_sm 16 (fun i => if i = s then 0 else if pt_abN pa (i + 1) M (s + 1) = true then 1 else 0) ≤ ps_sm 16 (fun i => if i = s then 0 else 1) := by
    refine ps_le fun i _ => ?_
    by_cases ei : i = s
    · rw [if_pos ei, if_pos ei]; exact Nat.le_refl _
    · rw [if_neg ei, if_neg ei]
      by_cases hb : pt_abN pa (i + 1) M (s + 1) = true
      · rw [if_pos hb]; exact Nat.le_refl _
      · rw [if_neg hb]; omega
  simp only [Bool.false_eq_true, if_false]
  omega
theorem pt_dMend (T : pt_T K pa de r) : ∀ n s, s < 16 → K s ≠ 0 → r s ≤ n → pt_it pa (pt_dM pa (ps_sm 16 r + 1) (s + 1) + 1) (s + 1) = 0 := by
  intro n
  induction n with
  | zero =>
    intro s hs hK hr
    rcases T.2.2.2.1 s hs hK with h | ⟨p, hp, h1, h2, h3⟩
    · rw [pt_dM0 T hs hK h]; exact h
    · omega
  | succ n ih =>
    intro s hs hK hr
    rcases T.2.2.2.1 s hs hK with h | ⟨p, hp, h1, h2, h3⟩
    · rw [pt_dM0 T hs hK h]; exact h
    · have hpK : K p ≠ 0 := by rw [h2]; decide
      rw [pt_dMs T hs hK h1 hp hpK]
      show pt_it pa (pt_dM pa (ps_sm 16 r + 1) (p + 1) + 1) (pa s) = 0
      rw [h1]
      exact ih p hp hpK (by omega)
theorem pt_ab_M (T : pt_T K pa de r) {s b : Nat} (hs : s < 16) (hK : K s ≠ 0) : pt_ab pa b (s + 1) = pt_abN pa b (ps_sm 16 r + 1) (s + 1) := by
  have h := ps_at r hs
  have h2 := pt_dMle T (ps_sm 16 r + 1) hs hK
  unfold pt_ab
  rw [pt_stab (m := ps_sm 16 r + 17) (pt_dMend T _ s hs hK (Nat.le_refl _)) (by omega) (by omega)]
  exact pt_stab (pt_end T _ s hs hK (Nat.le_refl _)) (by omega) (by omega)
/-! the interface -/
theorem pt_a0 {b : Nat} : pt_ab pa b 0 = true ↔ b = 0 := by
  unfold pt_ab
  rw [pt_abN_iff]
  constructor
  · rintro ⟨k, _, e⟩
    rw [pt_it0] at e
    exact e.symm
  · rintro rfl
    exact ⟨0, by omega, pt_it0 pa 1⟩
theorem pt_up2 (T : pt_T K pa de r) {s : Nat} (hs : s < 16) (hK : K s ≠ 0) : pa s = 0 ∨ ∃ p, p < 16 ∧ pa s = p + 1 ∧ K p = 2 ∧ K p ≠ 0 := by
  rcases T.2.2.2.1 s hs hK with h | ⟨p, hp, h1, h2, h3⟩
  · exact Or.inl h
  · exact Or.inr ⟨p, hp, h1, h2, by rw [h2]; decide⟩
theorem pt_st (T : pt_T K pa de r) {s b : Nat} (hs : s < 16) (hK : K s ≠ 0) : pt_ab pa b (s + 1) = true ↔ b = pa s ∨ pt_ab pa b (pa s) = true := by
  rw [pt_ab_M T hs hK, pt_M T hs hK, Bool.or_eq_true, beq_iff_eq]
  rcases pt_up2 T hs hK with h | ⟨p, hp, h1, _, hpK⟩
  · rw [h, pt_a0]
    constructor
    · rintro (e | e)
      · exact Or.inl e.symm
      · by_cases hb : b = 0
        · exact Or.inl hb
        · rw [pt_ab0N hb] at e; cases e
    · rintro (e | e)
      · exact Or.inl e.symm
      · exact Or.inl e.symm
  · rw [h1, ← pt_ab_M T hp hpK]
    exact ⟨fun h => h.imp Eq.symm id, fun h => h.imp Eq.symm id⟩
theorem pt_lt (T : pt_T K pa de r) {s q : Nat} (hs : s < 16) (hK : K s ≠ 0) (h : pt_ab pa (q + 1) (s + 1) = true) : q < 16 ∧ K q = 2 ∧ K q ≠ 0 ∧ r q < r s := by
  obtain ⟨k, _, e⟩ := (pt_abN_iff pa _ _ _).mp h
  have := pt_rk T k s q hs hK e
  exact ⟨this.1, this.2.1, by rw [this.2.1]; decide, this.2.2⟩
theorem pt_irr (T : pt_T K pa de r) {s : Nat} (hs : s < 16) (hK : K s ≠ 0) : ¬ pt_ab pa (s + 1) (s + 1) = true := by
  intro h
  have := pt_lt T hs hK h
  omega
/-- induction down from the root -/
theorem pt_ind (T : pt_T K pa de r) {P : Nat → Prop} (h0 : ∀ s, s < 16 → K s ≠ 0 → pa s = 0 → P s) (h1 : ∀ s p, s < 16 → K s ≠ 0 → pa s = p + 1 → p < 16 → K p = 2 → K p ≠ 0 → P p → P s) : ∀ s, s < 16 → K s ≠ 0 → P s := by
  have key : ∀ n s, s < 16 → K s ≠ 0 → r s ≤ n → P s := by
    intro n
    induction n with
    | zero =>
      intro s hs hK hr
      rcases T.2.2.2.1 s hs hK with h | ⟨p, hp, e, h2, h3⟩
      · exact h0 s hs hK h
      · omega
    | succ n ih =>
      intro s hs hK hr
      rcases T.2.2.2.1 s hs hK with h | ⟨p, hp, e, h2, h3⟩
      · exact h0 s hs hK h
      · have hpK : K p ≠ 0 := by rw [h2]; decide
        exact h1 s p hs hK e hp h2 hpK (ih p hp hpK (by omega))
  exact fun s hs hK => key _ s hs hK (Nat.le_refl _)
theorem pt_root (T : pt_T K pa de r) : ∀ s, s < 16 → K s ≠ 0 → pt_ab pa 0 (s + 1) = true := by
  refine pt_ind T (fun s hs hK h => ?_) (fun s p hs hK h hp h2 hpK ih => ?_)
  · exact (pt_st T hs hK).mpr (Or.inl h.symm)
  · exact (pt_st T hs hK).mpr (Or.inr (by rw [h]; exact ih))
theorem pt_tr (T : pt_T K pa de r) {b c : Nat} (hbc : pt_ab pa b c = true) : ∀ s, s < 16 → K s ≠ 0 → pt_ab pa c (s + 1) = true → pt_ab pa b (s + 1) = true := by
  refine pt_ind T (fun s hs hK h => ?_) (fun s p hs hK h hp h2 hpK ih => ?_)
  · intro hc
    rcases (pt_st T hs hK).mp hc with e | e
    · exact (pt_st T hs hK).mpr (Or.inr (by rw [← e]; exact hbc))
    · rw [h, pt_a0] at e
      exact (pt_st T hs hK).mpr (Or.inr (by rw [h, ← e]; exact hbc))
  · intro hc
    rcases (pt_st T hs hK).mp hc with e | e
    · exact (pt_st T hs hK).mpr (Or.inr (by rw [← e]; exact hbc))
    · rw [h] at e
      exact (pt_st T hs hK).mpr (Or.inr (by rw [h]; exact ih e))
theorem pt_cmp (T : pt_T K pa de r) {b c : Nat} : ∀ s, s < 16 → K s ≠ 0 → pt_ab pa b (s + 1) = true → pt_ab pa c (s + 1) = true → b = c ∨ pt_ab pa b c = true ∨ pt_ab pa c b = true := by
  refine pt_ind T (fun s hs hK h => ?_) (fun s p hs hK h hp h2 hpK ih => ?_)
  · intro hb hc
    have z : ∀ x, pt_ab pa x (s + 1) = true → x = 0 := by
      intro x hx
      rcases (pt_st T hs hK).mp hx with e | e
      · rw [e, h]
      · rw [h, pt_a0] at e; exact e
    exact Or.inl (by rw [z b hb, z c hc])
  · intro hb hc
    rcases (pt_st T hs hK).mp hb with e | e
    · rcases (pt_st T hs hK).mp hc with e2 | e2
      · exact Or.inl (by rw [e, e2])
      · exact Or.inr (Or.inr (by rw [e]; exact e2))
    · rcases (pt_st T hs hK).mp hc with e2 | e2
      · exact Or.inr (Or.inl (by rw [e2]; exact e))
      · rw [h] at e e2
        exact ih e e2
/-- depth: the number of bridges above -/
def pt_dp (pa : Nat → Nat) (s : Nat) : Nat := ps_sm 16 (fun i => if pt_ab pa (i + 1) (s + 1) = true then 1 else 0)
theorem pt_dp_M (T : pt_T K pa de r) {s : Nat} (hs : s < 16) (hK : K s ≠ 0) : pt_dp pa s = pt_dM pa (ps_sm 16 r + 1) (s + 1) :=
  ps_congr fun i _ => by rw [pt_ab_M T hs hK]
theorem pt_dp0 (T : pt_T K pa de r) {s : Nat} (hs : s < 16) (hK : K s ≠ 0) (h : pa s = 0) : pt_dp pa s = 0 := by
  rw [pt_dp_M T hs hK, pt_dM0 T hs hK h]
theorem pt_dps (T : pt_T K pa de r) {s p : Nat} (hs : s < 16) (hK : K s ≠ 0) (h : pa s = p + 1) : pt_dp pa s = pt_dp pa p + 1 := by
  rcases pt_up2 T hs hK with e | ⟨q, hq, e, _, hqK⟩
  · omega
  · obtain rfl : p = q := by omega
    rw [pt_dp_M T hs hK, pt_dp_M T hq hqK, pt_dMs T hs hK h hq hqK]
theorem pt_dp15 (T : pt_T K pa de r) {s : Nat} (hs : s < 16) (hK : K s ≠ 0) : pt_dp pa s ≤ 15 := by
  rw [pt_dp_M T hs hK]
  exact pt_dMle T _ hs hK
theorem pt_dp_ab (T : pt_T K pa de r) {q : Nat} : ∀ s, s < 16 → K s ≠ 0 → pt_ab pa (q + 1) (s + 1) = true → pt_dp pa q < pt_dp pa s := by
  refine pt_ind T (fun s hs hK h => ?_) (fun s p hs hK h hp h2 hpK ih => ?_)
  · intro hq
    rcases (pt_st T hs hK).mp hq with e | e
    · omega
    · rw [h, pt_a0] at e; omega
  · intro hq
    rw [pt_dps T hs hK h]
    rcases (pt_st T hs hK).mp hq with e | e
    · rw [h] at e
      obtain rfl : q = p := by omega
      omega
    · rw [h] at e
      have := ih e
      omega
end
end
section
/-! find, and sums over what lies below a bus -/
def pf_N (K : Nat → Int32) (pa de : Nat → Nat) (b d : Nat) : Nat → Nat → Nat
  | 0, _ => 16
  | n + 1, i => if K i ≠ 0 ∧ pa i = b ∧ de i = d then i else pf_N K pa de b d n (i + 1)
def pf_fd (K : Nat → Int32) (pa de : Nat → Nat) (b d : Nat) : Nat := pf_N K pa de b d 16 0
theorem pf_N_c (K : Nat → Int32) (pa de : Nat → Nat) (b d : Nat) : ∀ n i, n + i = 16 → (pf_N K pa de b d n i = 16 ∧ ∀ j, i ≤ j → j < 16 → ¬ (K j ≠ 0 ∧ pa j = b ∧ de j = d)) ∨ (pf_N K pa de b d n i < 16 ∧ K (pf_N K pa de b d n i) ≠ 0 ∧ pa (pf_N K pa de b d n i) = b ∧ de (pf_N K pa de b d n i) = d) := by
  intro n
  induction n with
  | zero => intro i hi; exact Or.inl ⟨rfl, fun j h1 h2 => by omega⟩
  | succ n ih =>
    intro i hi
    rw [pf_N]
    by_cases h : K i ≠ 0 ∧ pa i = b ∧ de i = d
    · rw [if_pos h]
      exact Or.inr ⟨by omega, h⟩
    · rw [if_neg h]
      rcases ih (i + 1) (by omega) with ⟨h1, h2⟩ | h1
      · refine Or.inl ⟨h1, fun j hj hj2 => ?_⟩
        by_cases e : j = i
        · rw [e]; exact h
        · exact h2 j (by omega) hj2
      · exact Or.inr h1
section
variable {K : Nat → Int32} {pa de r : Nat → Nat}
theorem pf_c (K : Nat → Int32) (pa de : Nat → Nat) (b d : Nat) : (pf_fd K pa de b d = 16 ∧ ∀ j, j < 16 → ¬ (K j ≠ 0 ∧ pa j = b ∧ de j = d)) ∨ (pf_fd K pa de b d < 16 ∧ K (pf_fd K pa de b d) ≠ 0 ∧ pa (pf_fd K pa de b d) = b ∧ de (pf_fd K pa de b d) = d) := by
  rcases pf_N_c K pa de b d 16 0 rfl with ⟨h1, h2⟩ | h
  · exact Or.inl ⟨h1, fun j hj => h2 j (by omega) hj⟩
  · exact Or.inr h
theorem pf_i {b d : Nat} (h : pf_fd K pa de b d < 16) : K (pf_fd K pa de b d) ≠ 0 ∧ pa (pf_fd K pa de b d) = b ∧ de (pf_fd K pa de b d) = d := by
  rcases pf_c K pa de b d with ⟨h1, _⟩ | h1
  · omega
  · exact h1.2
theorem pf_at (T : pt_T K pa de r) {s : Nat} (hs : s < 16) (hK : K s ≠ 0) : pf_fd K pa de (pa s) (de s) = s := by
  rcases pf_c K pa de (pa s) (de s) with ⟨_, h2⟩ | ⟨h1, h2, h3, h4⟩
  · exact absurd ⟨hK, rfl, rfl⟩ (h2 s hs)
  · exact T.2.2.2.2 _ _ h1 hs h2 hK h3 h4
theorem pf_eq (T : pt_T K pa de r) {s b d : Nat} (hs : s < 16) (hK : K s ≠ 0) (hb : pa s = b) (hd : de s = d) : pf_fd K pa de b d = s := by
  rw [← hb, ← hd]; exact pf_at T hs hK
theorem pf_le (b d : Nat) : pf_fd K pa de b d ≤ 16 := by
  rcases pf_c K pa de b d with ⟨h1, _⟩ | h1
  · omega
  · omega
/-- the child of bus b on the way to s -/
theorem pf_path (T : pt_T K pa de r) {b : Nat} : ∀ s, s < 16 → K s ≠ 0 → pt_ab pa b (s + 1) = true → ∃ c, c < 16 ∧ K c ≠ 0 ∧ pa c = b ∧ (c = s ∨ pt_ab pa (c + 1) (s + 1) = true) := by
  refine pt_ind T (fun s hs hK h => ?_) (fun s p hs hK h hp h2 hpK ih => ?_)
  · intro hb
    refine ⟨s, hs, hK, ?_, Or.inl rfl⟩
    rcases (pt_st T hs hK).mp hb with e | e
    · exact e.symm
    · rw [h, pt_a0] at e; rw [h, e]
  · intro hb
    rcases (pt_st T hs hK).mp hb with e | e
    · exact ⟨s, hs, hK, e.symm, Or.inl rfl⟩
    · rw [h] at e
      obtain ⟨c, hc, hcK, hcb, hcs⟩ := ih e
      refine ⟨c, hc, hcK, hcb, Or.inr ?_⟩
      rcases hcs with e2 | e2
      · exact (pt_st T hs hK).mpr (Or.inl (by rw [h, e2]))
      · exact (pt_st T hs hK).mpr (Or.inr (by rw [h]; exact e2))
theorem pf_loop (T : pt_T K pa de r) {b c : Nat} (hc : c < 16) (hcK : K c ≠ 0) (h : pa c = b) : ¬ (c + 1 = b ∨ pt_ab pa (c + 1) b = true) := by
  intro h2
  refine pt_irr T hc hcK ((pt_st T hc hcK).mpr ?_)
  rw [h]; exact h2
theorem pf_uni (T : pt_T K pa de r) {b c c' s : Nat} (hs : s < 16) (hK : K s ≠ 0) (hc : c < 16) (hcK : K c ≠ 0) (hcb : pa c = b) (hc' : c' < 16) (hcK' : K c' ≠ 0) (hcb' : pa c' = b) (h : c = s ∨ pt_ab pa (c + 1) (s + 1) = true) (h' : c' = s ∨ pt_ab pa (c' + 1) (s + 1) = true) : c = c' := by
  have key : ∀ x y, x < 16 → K x ≠ 0 → pa x = b → y < 16 → K y ≠ 0 → pa y = b → pt_ab pa (x + 1) (y + 1) = true → False := by
    intro x y hx hxK hxb hy hyK hyb hxy
    refine pf_loop T hx hxK hxb ?_
    rw [← hyb]
    exact (pt_st T hy hyK).mp hxy
  rcases h with e | e
  · rcases h' with e' | e'
    · rw [e, e']
    · rw [e] at hcb
      exact (key c' s hc' hcK' hcb' hs hK hcb e').elim
  · rcases h' with e' | e'
    · rw [e'] at hcb'
      exact (key c s hc hcK hcb hs hK hcb' e).elim
    · rcases pt_cmp T s hs hK e e' with e2 | e2 | e2
      · omega
      · exact (key c c' hc hcK hcb hc' hcK' hcb' e2).elim
      · exact (key c' c hc' hcK' hcb' hc hcK hcb e2).elim
/-- the sum of f over the live nodes below bus b -/
def pf_sb (K : Nat → Int32) (pa : Nat → Nat) (f : Nat → Nat) (b : Nat) : Nat := ps_sm 16 (fun s => if K s ≠ 0 ∧ pt_ab pa b (s + 1) = true then f s else 0)
/-- what device d of bus b adds to it -/
def pf_cw (K : Nat → Int32) (pa de : Nat → Nat) (f : Nat → Nat) (b d : Nat) : Nat := if pf_fd K pa de b d < 16 then f (pf_fd K pa de b d) + pf_sb K pa f (pf_fd K pa de b d + 1) else 0
def pf_A (K : Nat → Int32) (pa de : Nat → Nat) (f : Nat → Nat) (b d s : Nat) : Nat := (if pf_fd K pa de b d = s then f s else 0) + (if pf_fd K pa de b d < 16 ∧ K s ≠ 0 ∧ pt_ab pa (pf_fd K pa de b d + 1) (s + 1) = true then f s else 0)
theorem pf_Asum (K : Nat → Int32) (pa de : Nat → Nat) (f : Nat → Nat) (b d : Nat) : ps_sm 16 (fun s => pf_A K pa de f b d s) = pf_cw K pa de f b d := by
  unfold pf_A pf_cw
  rw [ps_add]
  by_cases h : pf_fd K pa de b d < 16
  · rw [if_pos h, ps_one h (fun i _ e => if_neg (fun e2 => e e2.symm)), if_pos rfl]
    congr 1
    unfold pf_sb
    refine ps_congr fun s _ => ?_
    by_cases h2 : K s ≠ 0 ∧ pt_ab pa (pf_fd K pa de b d + 1) (s + 1) = true
    · rw [if_pos ⟨h, h2⟩, if_pos h2]
    · rw [if_neg (fun z => h2 z.2), if_neg h2]
  · rw [if_neg h, ps_z (fun i hi => if_neg (by omega)), ps_z (fun i hi => if_neg (fun z => h z.1))]
theorem pf_Apt (T : pt_T K pa de r) (f : Nat → Nat) {b s : Nat} (hs : s < 16) : ps_sm 8 (fun d => pf_A K pa de f b d s) = if K s ≠ 0 ∧ pt_ab pa b (s + 1) = true then f s else 0 := by
  by_cases h : K s ≠ 0 ∧ pt_ab pa b (s + 1) = true
  · rw [if_pos h]
    obtain ⟨hK, hb⟩ := h
    obtain ⟨c, hc, hcK, hcb, hcs⟩ := pf_path T s hs hK hb
    have hf : pf_fd K pa de b (de c) = c := pf_eq T hc hcK hcb rfl
    rw [ps_one (T.2.2.1 c) (f := fun d => pf_A K pa de f b d s)]
    · unfold pf_A
      rw [hf]
      rcases hcs with e | e
      · rw [if_pos e, if_neg, Nat.add_zero]
        rw [e]
        exact fun z => pt_irr T hs hK z.2.2
      · rw [if_neg, if_pos ⟨hc, hK, e⟩, Nat.zero_add]
        rintro rfl
        exact pt_irr T hs hK e
    · intro d _ hd
      unfold pf_A
      by_cases hlt : pf_fd K pa de b d < 16
      · obtain ⟨g1, g2, g3⟩ := pf_i hlt
        rw [if_neg, if_neg]
        · rintro ⟨_, _, z⟩
          have := pf_uni T hs hK hc hcK hcb hlt g1 g2 hcs (Or.inr z)
          rw [← this] at g3
          exact hd g3.symm
        · intro z
          have := pf_uni T hs hK hc hcK hcb hlt g1 g2 hcs (Or.inl z)
          rw [← this] at g3
          exact hd g3.symm
      · rw [if_neg (by omega), if_neg (fun z => hlt z.1)]
  · rw [if_neg h]
    refine ps_z fun d _ => ?_
    unfold pf_A
    by_cases hlt : pf_fd K pa de b d < 16
    · obtain ⟨g1, g2, g3⟩ := pf_i hlt
      rw [if_neg, if_neg]
      · rintro ⟨_, hK, z⟩
        exact h ⟨hK, pt_tr T ((pt_st T hlt g1).mpr (Or.inl g2.symm)) s hs hK z⟩
      · intro z
        rw [z] at g1 g2
        exact h ⟨g1, (pt_st T hs g1).mpr (Or.inl g2.symm)⟩
    · rw [if_neg (by omega), if_neg (fun z => hlt z.1)]
theorem pf_rec (T : pt_T K pa de r) (f : Nat → Nat) (b : Nat) : pf_sb K pa f b = ps_sm 8 (fun d => pf_cw K pa de f b d) := by
  have h1 : pf_sb K pa f b = ps_sm 16 (fun s => ps_sm 8 (fun d => pf_A K pa de f b d s)) := by
    unfold pf_sb
    exact ps_congr fun s hs => (pf_Apt T f hs).symm
  rw [h1, ps_comm]
  exact ps_congr fun d _ => pf_Asum K pa de f b d
theorem pf_cw_at (T : pt_T K pa de r) (f : Nat → Nat) {s : Nat} (hs : s < 16) (hK : K s ≠ 0) : pf_cw K pa de f (pa s) (de s) = f s + pf_sb K pa f (s + 1) := by
  unfold pf_cw
  rw [pf_at T hs hK, if_pos hs]
theorem pf_sb_le (f : Nat → Nat) (b c : Nat) (h : ∀ s, s < 16 → f s ≤ c) : pf_sb K pa f b ≤ 16 * c := by
  refine ps_le_n c fun s hs => ?_
  by_cases e : K s ≠ 0 ∧ pt_ab pa b (s + 1) = true
  · rw [if_pos e]; exact h s hs
  · rw [if_neg e]; exact Nat.zero_le _
/-- a node that is no bridge has nothing below -/
theorem pf_sb_0 (T : pt_T K pa de r) (f : Nat → Nat) {c : Nat} (h : ¬ K c = 2) : pf_sb K pa f (c + 1) = 0 := by
  refine ps_z fun s hs => if_neg ?_
  rintro ⟨hK, z⟩
  exact h (pt_lt T hs hK z).2.1
end
end
section
/-! packing a bus: the cursor after n of 80 steps (five units, eight devices, two items) -/
def pm_it (F : Nat → Nat → Nat) (b n : Nat) : Nat := 2 * F b (n % 16 / 2) + n % 2
def pm_ok (F : Nat → Nat → Nat) (sp al : Nat → Nat) (b n : Nat) : Prop := F b (n % 16 / 2) < 16 ∧ 0 < sp (pm_it F b n) ∧ al (pm_it F b n) = 2 ^ (4 - n / 16)
def pm_cur (F : Nat → Nat → Nat) (sp al : Nat → Nat) (b st : Nat) : Nat → Nat
  | 0 => st
  | n + 1 => if F b (n % 16 / 2) < 16 ∧ 0 < sp (pm_it F b n) ∧ al (pm_it F b n) = 2 ^ (4 - n / 16) then pn_ru (pm_cur F sp al b st n) (2 ^ (4 - n / 16)) + sp (pm_it F b n) else pm_cur F sp al b st n
def pm_ix (de al : Nat → Nat) (i : Nat) : Nat := 16 * (4 - Nat.log2 (al i)) + (2 * de (i / 2) + i % 2)
def pm_pl (F : Nat → Nat → Nat) (de sp al : Nat → Nat) (b st i : Nat) : Nat := pn_ru (pm_cur F sp al b st (pm_ix de al i)) (al i)
section
variable {F : Nat → Nat → Nat} {de sp al sp' al' : Nat → Nat} {b st : Nat}
theorem pm_cT {n : Nat} (h : pm_ok F sp al b n) : pm_cur F sp al b st (n + 1) = pn_ru (pm_cur F sp al b st n) (2 ^ (4 - n / 16)) + sp (pm_it F b n) := if_pos h
theorem pm_cF {n : Nat} (h : ¬ pm_ok F sp al b n) : pm_cur F sp al b st (n + 1) = pm_cur F sp al b st n := if_neg h
theorem pm_mono1 (n : Nat) : pm_cur F sp al b st n ≤ pm_cur F sp al b st (n + 1) := by
  by_cases h : pm_ok F sp al b n
  · rw [pm_cT h]
    exact Nat.le_trans (pn_ru_ge (Nat.two_pow_pos _)) (Nat.le_add_right _ _)
  · rw [pm_cF h]; exact Nat.le_refl _
theorem pm_mono {m : Nat} : ∀ n, m ≤ n → pm_cur F sp al b st m ≤ pm_cur F sp al b st n := by
  intro n
  induction n with
  | zero => intro h; rw [show m = 0 by omega]; exact Nat.le_refl _
  | succ n ih =>
    intro h
    by_cases e : m = n + 1
    · rw [e]; exact Nat.le_refl _
    · exact Nat.le_trans (ih (by omega)) (pm_mono1 n)
theorem pm_congr (h : ∀ d e, d < 8 → e < 2 → F b d < 16 → sp (2 * F b d + e) = sp' (2 * F b d + e) ∧ al (2 * F b d + e) = al' (2 * F b d + e)) : ∀ n, pm_cur F sp al b st n = pm_cur F sp' al' b st n := by
  intro n
  induction n with
  | zero => rfl
  | succ n ih =>
    rw [pm_cur, pm_cur, ih]
    by_cases hF : F b (n % 16 / 2) < 16
    · have := h (n % 16 / 2) (n % 2) (by omega) (by omega) hF
      unfold pm_it
      rw [this.1, this.2]
    · rw [if_neg (fun z => hF z.1), if_neg (fun z => hF z.1)]
theorem pm_shift (h : ∀ d e, d < 8 → e < 2 → F b d < 16 → 0 < sp (2 * F b d + e) → al (2 * F b d + e) ∣ st) : ∀ n, pm_cur F sp al b st n = st + pm_cur F sp al b 0 n := by
  intro n
  induction n with
  | zero => rfl
  | succ n ih =>
    by_cases ho : pm_ok F sp al b n
    · rw [pm_cT ho, pm_cT ho, ih, pn_ru_add (Nat.two_pow_pos _)]
      · omega
      · rw [← ho.2.2]
        exact h (n % 16 / 2) (n % 2) (by omega) (by omega) ho.1 ho.2.1
    · rw [pm_cF ho, pm_cF ho, ih]
/-- an item of the bus by its index -/
theorem pm_ixI {s e : Nat} (hF : F b (de s) = s) (hd : de s < 8) (he : e < 2) {k : Nat} (hk : k < 5) (ha : al (2 * s + e) = 2 ^ k) : pm_ix de al (2 * s + e) = 16 * (4 - k) + (2 * de s + e) ∧ pm_ix de al (2 * s + e) < 80 ∧ pm_it F b (pm_ix de al (2 * s + e)) = 2 * s + e ∧ 2 ^ (4 - pm_ix de al (2 * s + e) / 16) = al (2 * s + e) ∧ pm_ix de al (2 * s + e) % 16 / 2 = de s := by
  have e1 : pm_ix de al (2 * s + e) = 16 * (4 - k) + (2 * de s + e) := by
    unfold pm_ix
    rw [ha, Nat.log2_two_pow, show (2 * s + e) / 2 = s by omega, show (2 * s + e) % 2 = e by omega]
  have e2 : (16 * (4 - k) + (2 * de s + e)) % 16 / 2 = de s := by omega
  have e3 : (16 * (4 - k) + (2 * de s + e)) % 2 = e := by omega
  have e4 : (16 * (4 - k) + (2 * de s + e)) / 16 = 4 - k := by omega
  rw [e1]
  refine ⟨rfl, by omega, ?_, ?_, e2⟩
  · unfold pm_it
    rw [e2, e3, hF]
  · rw [e4, ha, show 4 - (4 - k) = k by omega]
theorem pm_at {s e : Nat} (hs : s < 16) (hF : F b (de s) = s) (hd : de s < 8) (he : e < 2) {k : Nat} (hk : k < 5) (ha : al (2 * s + e) = 2 ^ k) (hp : 0 < sp (2 * s + e)) : pm_ok F sp al b (pm_ix de al (2 * s + e)) ∧ pm_cur F sp al b st (pm_ix de al (2 * s + e) + 1) = pm_pl F de sp al b st (2 * s + e) + sp (2 * s + e) ∧ pm_cur F sp al b st (pm_ix de al (2 * s + e)) ≤ pm_pl F de sp al b st (2 * s + e) := by
  obtain ⟨h1, h2, h3, h4, h5⟩ := pm_ixI hF hd he hk ha
  have ho : pm_ok F sp al b (pm_ix de al (2 * s + e)) := by
    refine ⟨?_, ?_, ?_⟩
    · rw [h5, hF]; exact hs
    · rw [h3]; exact hp
    · rw [h3, h4]
  refine ⟨ho, ?_, ?_⟩
  · rw [pm_cT ho, h3, h4]; rfl
  · unfold pm_pl
    exact pn_ru_ge (by rw [ha]; exact Nat.two_pow_pos _)
theorem pm_pl_in {s e : Nat} (hs : s < 16) (hF : F b (de s) = s) (hd : de s < 8) (he : e < 2) {k : Nat} (hk : k < 5) (ha : al (2 * s + e) = 2 ^ k) (hp : 0 < sp (2 * s + e)) : st ≤ pm_pl F de sp al b st (2 * s + e) ∧ pm_pl F de sp al b st (2 * s + e) + sp (2 * s + e) ≤ pm_cur F sp al b st 80 := by
  obtain ⟨_, h2, h3⟩ := pm_at (st := st) hs hF hd he hk ha hp
  have h4 := (pm_ixI hF hd he hk ha).2.1
  have h5 := pm_mono (F := F) (sp := sp) (al := al) (b := b) (st := st) (m := 0) _ (Nat.zero_le (pm_ix de al (2 * s + e)))
  have h6 := pm_mono (F := F) (sp := sp) (al := al) (b := b) (st := st) (m := pm_ix de al (2 * s + e) + 1) 80 (by omega)
  have h7 : pm_cur F sp al b st 0 = st := rfl
  omega
theorem pm_dis {s e s' e' : Nat} (hs : s < 16) (hF : F b (de s) = s) (hd : de s < 8) (he : e < 2) {k : Nat} (hk : k < 5) (ha : al (2 * s + e) = 2 ^ k) (hp : 0 < sp (2 * s + e)) (hs' : s' < 16) (hF' : F b (de s') = s') (hd' : de s' < 8) (he' : e' < 2) {k' : Nat} (hk' : k' < 5) (ha' : al (2 * s' + e') = 2 ^ k') (hp' : 0 < sp (2 * s' + e')) (hne : 2 * s + e ≠ 2 * s' + e') : pm_pl F de sp al b st (2 * s + e) + sp (2 * s + e) ≤ pm_pl F de sp al b st (2 * s' + e') ∨ pm_pl F de sp al b st (2 * s' + e') + sp (2 * s' + e') ≤ pm_pl F de sp al b st (2 * s + e) := by
  obtain ⟨_, a2, a3⟩ := pm_at (st := st) hs hF hd he hk ha hp
  obtain ⟨_, b2, b3⟩ := pm_at (st := st) hs' hF' hd' he' hk' ha' hp'
  have i1 := (pm_ixI hF hd he hk ha).1
  have i2 := (pm_ixI hF' hd' he' hk' ha').1
  have hn : pm_ix de al (2 * s + e) ≠ pm_ix de al (2 * s' + e') := by
    intro z
    rw [i1, i2] at z
    have z1 : de s = de s' := by omega
    have z2 : e = e' := by omega
    rw [z1] at hF
    have : s = s' := hF.symm.trans hF'
    omega
  by_cases hlt : pm_ix de al (2 * s + e) < pm_ix de al (2 * s' + e')
  · have := pm_mono (F := F) (sp := sp) (al := al) (b := b) (st := st) (m := pm_ix de al (2 * s + e) + 1) (pm_ix de al (2 * s' + e')) (by omega)
    exact Or.inl (by omega)
  · have := pm_mono (F := F) (sp := sp) (al := al) (b := b) (st := st) (m := pm_ix de al (2 * s' + e') + 1) (pm_ix de al (2 * s + e)) (by omega)
    exact Or.inr (by omega)
/-! a bound: every item once, with at most 15 words ahead of it -/
def pm_w (F : Nat → Nat → Nat) (sp al : Nat → Nat) (b n : Nat) : Nat := if F b (n % 16 / 2) < 16 ∧ 0 < sp (pm_it F b n) ∧ al (pm_it F b n) = 2 ^ (4 - n / 16) then sp (pm_it F b n) + 15 else 0
theorem pm_p16 (n : Nat) : 2 ^ (4 - n) ≤ 16 := by
  have : 2 ^ (4 - n) ≤ 2 ^ 4 := Nat.pow_le_pow_right (by decide) (by omega)
  omega
theorem pm_bd1 : ∀ n, pm_cur F sp al b st n ≤ st + ps_sm n (pm_w F sp al b) := by
  intro n
  induction n with
  | zero => exact Nat.le_refl _
  | succ n ih =>
    rw [ps_s]
    by_cases ho : pm_ok F sp al b n
    · rw [pm_cT ho, show pm_w F sp al b n = sp (pm_it F b n) + 15 from if_pos ho]
      have h1 := pn_ru_lt (v := pm_cur F sp al b st n) (Nat.two_pow_pos (4 - n / 16))
      have h2 := pm_p16 (n / 16)
      omega
    · rw [pm_cF ho, show pm_w F sp al b n = 0 from if_neg ho]
      omega
theorem pm_blk (f : Nat → Nat) (m : Nat) : ∀ q, ps_sm (m + q) f = ps_sm m f + ps_sm q (fun k => f (m + k)) := by
  intro q
  induction q with
  | zero => rfl
  | succ q ih => rw [← Nat.add_assoc, ps_s, ps_s, ih]; omega
theorem pm_80 (f : Nat → Nat) : ps_sm 80 f = ps_sm 16 (fun k => ((((f k + f (16 + k)) + f (32 + k)) + f (48 + k)) + f (64 + k))) := by
  rw [show (80 : Nat) = 64 + 16 from rfl, pm_blk f 64 16, show (64 : Nat) = 48 + 16 from rfl, pm_blk f 48 16, show (48 : Nat) = 32 + 16 from rfl, pm_blk f 32 16, show (32 : Nat) = 16 + 16 from rfl, pm_blk f 16 16, ← ps_add, ← ps_add, ← ps_add, ← ps_add]
def pm_v (F : Nat → Nat → Nat) (sp : Nat → Nat) (b d : Nat) : Nat := if F b d < 16 then (sp (2 * F b d) + 15) + (sp (2 * F b d + 1) + 15) else 0
theorem pm_w1 {k q : Nat} (hk : k < 16) : pm_w F sp al b (16 * q + k) = if F b (k / 2) < 16 ∧ 0 < sp (2 * F b (k / 2) + k % 2) ∧ al (2 * F b (k / 2) + k % 2) = 2 ^ (4 - q) then sp (2 * F b (k / 2) + k % 2) + 15 else 0 := by
  unfold pm_w pm_it
  rw [show (16 * q + k) % 16 = k by omega, show (16 * q + k) % 2 = k % 2 by omega, show (16 * q + k) / 16 = q by omega]
theorem pm_wk {k : Nat} (hk : k < 16) : (((pm_w F sp al b k + pm_w F sp al b (16 + k)) + pm_w F sp al b (32 + k)) + pm_w F sp al b (48 + k)) + pm_w F sp al b (64 + k) ≤ if F b (k / 2) < 16 then sp (2 * F b (k / 2) + k % 2) + 15 else 0 := by
  have h0 := pm_w1 (F := F) (sp := sp) (al := al) (b := b) (q := 0) hk
  have h1 := pm_w1 (F := F) (sp := sp) (al := al) (b := b) (q := 1) hk
  have h2 := pm_w1 (F := F) (sp := sp) (al := al) (b := b) (q := 2) hk
  have h3 := pm_w1 (F := F) (sp := sp) (al := al) (b := b) (q := 3) hk
  have h4 := pm_w1 (F := F) (sp := sp) (al := al) (b := b) (q := 4) hk
  rw [show 16 * 0 + k = k by omega] at h0
  rw [show 16 * 1 + k = 16 + k by omega] at h1
  rw [show 16 * 2 + k = 32 + k by omega] at h2
  rw [show 16 * 3 + k = 48 + k by omega] at h3
  rw [show 16 * 4 + k = 64 + k by omega] at h4
  rw [h0, h1, h2, h3, h4]
  by_cases hF : F b (k / 2) < 16
  · by_cases hp : 0 < sp (2 * F b (k / 2) + k % 2)
    · generalize al (2 * F b (k / 2) + k % 2) = a
      simp only [hF, hp, true_and, if_true]
      by_cases c0 : a = 2 ^ (4 - 0)
      · subst c0; simp
      · by_cases c1 : a = 2 ^ (4 - 1)
        · subst c1; simp
        · by_cases c2 : a = 2 ^ (4 - 2)
          · subst c2; simp
          · by_cases c3 : a = 2 ^ (4 - 3)
            · subst c3; simp
            · rw [if_neg c0, if_neg c1, if_neg c2, if_neg c3]
              by_cases c4 : a = 2 ^ (4 - 4)
              · rw [if_pos c4]; omega
              · rw [if_neg c4]; omega
    · simp [hp]
  · simp [hF]
theorem pm_16 (f : Nat → Nat) : ps_sm 16 f = ps_sm 8 (fun d => f (2 * d) + f (2 * d + 1)) := by
  simp only [ps_sm, Nat.zero_add, Nat.reduceMul, Nat.reduceAdd]
  omega
theorem pm_bd : pm_cur F sp al b st 80 ≤ st + ps_sm 8 (pm_v F sp b) := by
  refine Nat.le_trans (pm_bd1 80) (Nat.add_le_add_left ?_ st)
  rw [pm_80, ]
  refine Nat.le_trans (ps_le (g := fun k => if F b (k / 2) < 16 then sp (2 * F b (k / 2) + k % 2) + 15 else 0) fun k hk => pm_wk hk) ?_
  rw [pm_16]
  refine ps_le fun d _ => ?_
  unfold pm_v
  rw [show 2 * d / 2 = d by omega, show (2 * d + 1) / 2 = d by omega, show 2 * d % 2 = 0 by omega, show (2 * d + 1) % 2 = 1 by omega]
  by_cases hF : F b d < 16
  · rw [if_pos hF, if_pos hF, if_pos hF]; exact Nat.le_refl _
  · rw [if_neg hF, if_neg hF, if_neg hF]; exact Nat.le_refl _
end
end
section
/-! measuring: spans and aligns of all items as one fixed point -/
def pm_sz (c : Nat) : Nat := 2 ^ c / 2
def pm_wa (F : Nat → Nat → Nat) (sp al : Nat → Nat) (g b : Nat) : Nat → Nat
  | 0 => g
  | n + 1 => if F b (n / 2) < 16 ∧ 0 < sp (2 * F b (n / 2) + n % 2) ∧ pm_wa F sp al g b n < al (2 * F b (n / 2) + n % 2) then al (2 * F b (n / 2) + n % 2) else pm_wa F sp al g b n
def pm_MF (F : Nat → Nat → Nat) (K : Nat → Int32) (cd : Nat → Nat) (g : Nat) (m : Nat → Nat × Nat) : Nat → Nat × Nat := fun i =>
  if K (i / 2) = 1 then (pm_sz (cd i), pm_sz (cd i)) else
  if K (i / 2) = 2 ∧ i % 2 = 0 then (pn_ru (pm_cur F (fun j => (m j).1) (fun j => (m j).2) (i / 2 + 1) 0 80) g + cd (i + 1) * g, pm_wa F (fun j => (m j).1) (fun j => (m j).2) g (i / 2 + 1) 16) else (0, 0)
def pm_MS (F : Nat → Nat → Nat) (K : Nat → Int32) (cd : Nat → Nat) (g : Nat) : Nat → Nat → Nat × Nat
  | 0 => fun _ => (0, 0)
  | n + 1 => pm_MF F K cd g (pm_MS F K cd g n)
def pm_G (K : Nat → Int32) (pa de cd : Nat → Nat) (g : Nat) (sp al : Nat → Nat) : Prop :=
  (∀ s, s < 16 → K s = 1 → ∀ e, e < 2 → sp (2 * s + e) = pm_sz (cd (2 * s + e)) ∧ al (2 * s + e) = pm_sz (cd (2 * s + e))) ∧
  (∀ s, s < 16 → K s = 2 → sp (2 * s) = pn_ru (pm_cur (pf_fd K pa de) sp al (s + 1) 0 80) g + cd (2 * s + 1) * g ∧ al (2 * s) = pm_wa (pf_fd K pa de) sp al g (s + 1) 16 ∧ sp (2 * s + 1) = 0 ∧ al (2 * s + 1) = 0) ∧
  (∀ s, s < 16 → K s ≠ 0 → ∀ e, e < 2 → (0 < sp (2 * s + e) → ∃ k, k < 5 ∧ al (2 * s + e) = 2 ^ k) ∧ (sp (2 * s + e) = 0 → al (2 * s + e) ≤ g)) ∧
  (∀ b, pm_cur (pf_fd K pa de) sp al b 0 80 ≤ pf_sb K pa (fun _ => 93) b)
/-- codes in range -/
def pm_CD (K : Nat → Int32) (cd : Nat → Nat) : Prop := ∀ s, s < 16 → (K s = 1 → cd (2 * s) ≤ 4 ∧ cd (2 * s + 1) ≤ 4) ∧ (K s = 2 → cd (2 * s) ≤ 3 ∧ cd (2 * s + 1) ≤ 3)
section
variable {F : Nat → Nat → Nat} {sp al sp' al' : Nat → Nat} {g b : Nat}
theorem pm_wa_congr (h : ∀ d e, d < 8 → e < 2 → F b d < 16 → sp (2 * F b d + e) = sp' (2 * F b d + e) ∧ al (2 * F b d + e) = al' (2 * F b d + e)) : ∀ n, n ≤ 16 → pm_wa F sp al g b n = pm_wa F sp' al' g b n := by
  intro n
  induction n with
  | zero => intro _; rfl
  | succ n ih =>
    intro hn
    rw [pm_wa, pm_wa, ih (by omega)]
    by_cases hF : F b (n / 2) < 16
    · have := h (n / 2) (n % 2) (by omega) (by omega) hF
      rw [this.1, this.2]
    · rw [if_neg (fun z => hF z.1), if_neg (fun z => hF z.1)]
theorem pm_wa_c : ∀ n, g ≤ pm_wa F sp al g b n ∧ (∀ k, k < n → F b (k / 2) < 16 → 0 < sp (2 * F b (k / 2) + k % 2) → al (2 * F b (k / 2) + k % 2) ≤ pm_wa F sp al g b n) ∧ (pm_wa F sp al g b n = g ∨ ∃ k, k < n ∧ F b (k / 2) < 16 ∧ 0 < sp (2 * F b (k / 2) + k % 2) ∧ pm_wa F sp al g b n = al (2 * F b (k / 2) + k % 2)) := by
  intro n
  induction n with
  | zero => exact ⟨Nat.le_refl _, fun k hk => by omega, Or.inl rfl⟩
  | succ n ih =>
    obtain ⟨h1, h2, h3⟩ := ih
    rw [pm_wa]
    by_cases c : F b (n / 2) < 16 ∧ 0 < sp (2 * F b (n / 2) + n % 2) ∧ pm_wa F sp al g b n < al (2 * F b (n / 2) + n % 2)
    · rw [if_pos c]
      refine ⟨by omega, fun k hk hF hp => ?_, Or.inr ⟨n, by omega, c.1, c.2.1, rfl⟩⟩
      by_cases e : k = n
      · rw [e]; exact Nat.le_refl _
      · have := h2 k (by omega) hF hp
        omega
    · rw [if_neg c]
      refine ⟨h1, fun k hk hF hp => ?_, ?_⟩
      · by_cases e : k = n
        · rw [e] at hF hp ⊢
          exact Nat.le_of_not_lt fun z => c ⟨hF, hp, z⟩
        · exact h2 k (by omega) hF hp
      · rcases h3 with h3 | ⟨k, hk, h3⟩
        · exact Or.inl h3
        · exact Or.inr ⟨k, by omega, h3⟩
end
section
variable {K : Nat → Int32} {pa de r cd : Nat → Nat} {g : Nat}
/-- induction up from the leaves -/
theorem pm_indU (T : pt_T K pa de r) {P : Nat → Prop} (h : ∀ s, s < 16 → K s ≠ 0 → (∀ c, c < 16 → K c ≠ 0 → pa c = s + 1 → P c) → P s) : ∀ s, s < 16 → K s ≠ 0 → P s := by
  have key : ∀ n s, s < 16 → K s ≠ 0 → 16 ≤ pt_dp pa s + n → P s := by
    intro n
    induction n with
    | zero =>
      intro s hs hK hn
      have := pt_dp15 T hs hK
      omega
    | succ n ih =>
      intro s hs hK hn
      refine h s hs hK fun c hc hcK hp => ih c hc hcK ?_
      rw [pt_dps T hc hcK hp]
      omega
  exact fun s hs hK => key 16 s hs hK (by omega)
theorem pm_stab (T : pt_T K pa de r) : ∀ n s e, s < 16 → K s ≠ 0 → e < 2 → 16 ≤ pt_dp pa s + n → pm_MS (pf_fd K pa de) K cd g (n + 1) (2 * s + e) = pm_MS (pf_fd K pa de) K cd g n (2 * s + e) := by
  intro n
  induction n with
  | zero =>
    intro s e hs hK he hn
    have := pt_dp15 T hs hK
    omega
  | succ n ih =>
    intro s e hs hK he hn
    have hc : ∀ d e', d < 8 → e' < 2 → pf_fd K pa de (s + 1) d < 16 → pm_MS (pf_fd K pa de) K cd g (n + 1) (2 * pf_fd K pa de (s + 1) d + e') = pm_MS (pf_fd K pa de) K cd g n (2 * pf_fd K pa de (s + 1) d + e') := by
      intro d e' hd he' hF
      obtain ⟨g1, g2, g3⟩ := pf_i hF
      refine ih _ _ hF g1 he' ?_
      rw [pt_dps T hF g1 g2]
      omega
    show pm_MF (pf_fd K pa de) K cd g (pm_MS (pf_fd K pa de) K cd g (n + 1)) (2 * s + e) = pm_MF (pf_fd K pa de) K cd g (pm_MS (pf_fd K pa de) K cd g n) (2 * s + e)
    have hs2 : (2 * s + e) / 2 = s := by omega
    unfold pm_MF
    rw [hs2]
    rw [pm_congr (sp' := fun j => (pm_MS (pf_fd K pa de) K cd g n j).1) (al' := fun j => (pm_MS (pf_fd K pa de) K cd g n j).2)]
    · rw [pm_wa_congr (sp' := fun j => (pm_MS (pf_fd K pa de) K cd g n j).1) (al' := fun j => (pm_MS (pf_fd K pa de) K cd g n j).2) _ 16 (by omega)]
      intro d e' hd he' hF
      rw [hc d e' hd he' hF]
      exact ⟨rfl, rfl⟩
    · intro d e' hd he' hF
      rw [hc d e' hd he' hF]
      exact ⟨rfl, rfl⟩
theorem pm_fix (T : pt_T K pa de r) {s e : Nat} (hs : s < 16) (hK : K s ≠ 0) (he : e < 2) : pm_MS (pf_fd K pa de) K cd g 16 (2 * s + e) = pm_MF (pf_fd K pa de) K cd g (pm_MS (pf_fd K pa de) K cd g 16) (2 * s + e) :=
  (pm_stab T 16 s e hs hK he (by omega)).symm
theorem pm_sz_p {c : Nat} (hc : c ≤ 4) : pm_sz c ≤ 8 ∧ (0 < pm_sz c → ∃ k, k < 5 ∧ pm_sz c = 2 ^ k) := by
  have h : ∀ c, c < 5 → pm_sz c ≤ 8 ∧ (0 < pm_sz c → ∃ k, k < 5 ∧ pm_sz c = 2 ^ k) := by decide
  exact h c (by omega)
theorem pm_pow_le {a b : Nat} (h : 2 ^ a ≤ 2 ^ b) : 2 ^ a ∣ 2 ^ b := by
  refine Nat.pow_dvd_pow 2 ?_
  exact (Nat.pow_le_pow_iff_right (by decide)).mp h
theorem pm_ex (T : pt_T K pa de r) (C : pm_CD K cd) {q : Nat} (hq : q < 5) (hg : g = 2 ^ q) : ∃ sp al : Nat → Nat, pm_G K pa de cd g sp al := by
  have hg0 : 0 < g := by rw [hg]; exact Nat.two_pow_pos q
  have hg16 : g ≤ 16 := by
    rw [hg]
    exact Nat.le_trans (Nat.pow_le_pow_right (by decide) (show q ≤ 4 by omega)) (by decide)
  refine ⟨fun j => (pm_MS (pf_fd K pa de) K cd g 16 j).1, fun j => (pm_MS (pf_fd K pa de) K cd g 16 j).2, ?_⟩
  have fx := fun s e (hs : s < 16) (hK : K s ≠ 0) (he : e < 2) => pm_fix (cd := cd) (g := g) T hs hK he
  generalize pm_MS (pf_fd K pa de) K cd g 16 = m at fx ⊢
  have G1 : ∀ s, s < 16 → K s = 1 → ∀ e, e < 2 → (m (2 * s + e)).1 = pm_sz (cd (2 * s + e)) ∧ (m (2 * s + e)).2 = pm_sz (cd (2 * s + e)) := by
    intro s hs hK e he
    rw [fx s e hs (by rw [hK]; decide) he]
    unfold pm_MF
    rw [show (2 * s + e) / 2 = s by omega, if_pos hK]
    exact ⟨rfl, rfl⟩
  have G2 : ∀ s, s < 16 → K s = 2 → (m (2 * s)).1 = pn_ru (pm_cur (pf_fd K pa de) (fun j => (m j).1) (fun j => (m j).2) (s + 1) 0 80) g + cd (2 * s + 1) * g ∧ (m (2 * s)).2 = pm_wa (pf_fd K pa de) (fun j => (m j).1) (fun j => (m j).2) g (s + 1) 16 ∧ (m (2 * s + 1)).1 = 0 ∧ (m (2 * s + 1)).2 = 0 := by
    intro s hs hK
    have hK0 : K s ≠ 0 := by rw [hK]; decide
    have hK1 : ¬ K s = 1 := by rw [hK]; decide
    have e0 := fx s 0 hs hK0 (by omega)
    have e1 := fx s 1 hs hK0 (by omega)
    unfold pm_MF at e0 e1
    rw [show (2 * s + 0) / 2 = s by omega, if_neg hK1, if_pos ⟨hK, by omega⟩, Nat.add_zero] at e0
    rw [show (2 * s + 1) / 2 = s by omega, if_neg hK1, if_neg (by omega)] at e1
    rw [e1]
    refine ⟨by rw [e0], by rw [e0], rfl, rfl⟩
  have E : ∀ s, s < 16 → K s ≠ 0 → (∀ e, e < 2 → (0 < (m (2 * s + e)).1 → ∃ k, k < 5 ∧ (m (2 * s + e)).2 = 2 ^ k) ∧ ((m (2 * s + e)).1 = 0 → (m (2 * s + e)).2 ≤ g)) ∧ (m (2 * s)).1 + (m (2 * s + 1)).1 ≤ 63 + pf_sb K pa (fun _ => 93) (s + 1) := by
    refine pm_indU T fun s hs hK ih => ?_
    rcases T.1 s hs with h | h | h
    · exact absurd h hK
    · have c := (C s hs).1 h
      constructor
      · intro e he
        have g1 := G1 s hs h e he
        have hce : cd (2 * s + e) ≤ 4 := by
          rcases (by omega : e = 0 ∨ e = 1) with rfl | rfl
          · exact c.1
          · exact c.2
        rw [g1.1, g1.2]
        exact ⟨(pm_sz_p hce).2, fun z => by omega⟩
      · have g0 := (G1 s hs h 0 (by omega)).1
        have g1 := (G1 s hs h 1 (by omega)).1
        rw [Nat.add_zero] at g0
        rw [g0, g1]
        have := (pm_sz_p c.1).1
        have := (pm_sz_p c.2).1
        omega
    · obtain ⟨a1, a2, a3, a4⟩ := G2 s hs h
      have c := ((C s hs).2 h).2
      have ch : ∀ d, d < 8 → pf_fd K pa de (s + 1) d < 16 → (∀ e, e < 2 → (0 < (m (2 * pf_fd K pa de (s + 1) d + e)).1 → ∃ k, k < 5 ∧ (m (2 * pf_fd K pa de (s + 1) d + e)).2 = 2 ^ k) ∧ ((m (2 * pf_fd K pa de (s + 1) d + e)).1 = 0 → (m (2 * pf_fd K pa de (s + 1) d + e)).2 ≤ g)) ∧ (m (2 * pf_fd K pa de (s + 1) d)).1 + (m (2 * pf_fd K pa de (s + 1) d + 1)).1 ≤ 63 + pf_sb K pa (fun _ => 93) (pf_fd K pa de (s + 1) d + 1) := by
        intro d hd hF
        obtain ⟨g1, g2, g3⟩ := pf_i hF
        exact ih _ hF g1 g2
      have hC : pm_cur (pf_fd K pa de) (fun j => (m j).1) (fun j => (m j).2) (s + 1) 0 80 ≤ pf_sb K pa (fun _ => 93) (s + 1) := by
        refine Nat.le_trans pm_bd ?_
        rw [Nat.zero_add, pf_rec T]
        refine ps_le fun d hd => ?_
        unfold pm_v pf_cw
        by_cases hF : pf_fd K pa de (s + 1) d < 16
        · rw [if_pos hF, if_pos hF]
          have := (ch d hd hF).2
          dsimp only
          omega
        · rw [if_neg hF, if_neg hF]; exact Nat.le_refl _
      have hru := pn_ru_lt (v := pm_cur (pf_fd K pa de) (fun j => (m j).1) (fun j => (m j).2) (s + 1) 0 80) hg0
      have hcg : cd (2 * s + 1) * g ≤ 3 * g := Nat.mul_le_mul_right g c
      constructor
      · intro e he
        rcases (by omega : e = 0 ∨ e = 1) with rfl | rfl
        · rw [Nat.add_zero, a2]
          obtain ⟨w1, w2, w3⟩ := pm_wa_c (F := pf_fd K pa de) (sp := fun j => (m j).1) (al := fun j => (m j).2) (g := g) (b := s + 1) 16
          constructor
          · intro _
            rcases w3 with w3 | ⟨k, hk, hF, hp, w3⟩
            · exact ⟨q, hq, by rw [w3, hg]⟩
            · obtain ⟨k', hk', e'⟩ := ((ch (k / 2) (by omega) hF).1 (k % 2) (by omega)).1 hp
              exact ⟨k', hk', by rw [w3]; exact e'⟩
          · intro z
            rcases w3 with w3 | ⟨k, hk, hF, hp, w3⟩
            · rw [w3]; exact Nat.le_refl _
            · exfalso
              obtain ⟨k', hk', e'⟩ := ((ch (k / 2) (by omega) hF).1 (k % 2) (by omega)).1 hp
              obtain ⟨g1, g2, g3⟩ := pf_i hF
              have h8 := T.2.2.1 (pf_fd K pa de (s + 1) (k / 2))
              have := (pm_pl_in (F := pf_fd K pa de) (de := de) (b := s + 1) (st := 0) (sp := fun j => (m j).1) (al := fun j => (m j).2) hF (by rw [g3]) h8 (show k % 2 < 2 by omega) hk' e' hp).2
              have h9 := pn_ru_ge (v := pm_cur (pf_fd K pa de) (fun j => (m j).1) (fun j => (m j).2) (s + 1) 0 80) hg0
              rw [a1] at z
              omega
        · rw [a3, a4]
          exact ⟨fun z => by omega, fun _ => Nat.zero_le _⟩
      · rw [a1, a3]
        omega
  refine ⟨G1, G2, fun s hs hK => (E s hs hK).1, fun b => ?_⟩
  refine Nat.le_trans pm_bd ?_
  rw [Nat.zero_add, pf_rec T]
  refine ps_le fun d hd => ?_
  unfold pm_v pf_cw
  by_cases hF : pf_fd K pa de b d < 16
  · rw [if_pos hF, if_pos hF]
    have := (E _ hF (pf_i hF).1).2
    dsimp only
    omega
  · rw [if_neg hF, if_neg hF]; exact Nat.le_refl _
end
end
section
/-! values given from the top bus downwards -/
def pd_td (pa : Nat → Nat) (t z : Nat) (f : Nat → Nat → Nat) : Nat → Nat → Nat
  | 0, _ => z
  | n + 1, b => if b = t then z else f (b - 1) (pd_td pa t z f n (pt_up pa b))
def pd_v (pa : Nat → Nat) (t z : Nat) (f : Nat → Nat → Nat) (b : Nat) : Nat := pd_td pa t z f 17 b
section
variable {K : Nat → Int32} {pa de r : Nat → Nat} {t z : Nat} {f : Nat → Nat → Nat}
theorem pd_tdt (n : Nat) : pd_td pa t z f n t = z := by
  cases n with
  | zero => rfl
  | succ n => rw [pd_td, if_pos rfl]
theorem pd_tds (n s : Nat) : pd_td pa t z f (n + 1) (s + 1) = if s + 1 = t then z else f s (pd_td pa t z f n (pa s)) := rfl
theorem pd_t : pd_v pa t z f t = z := pd_tdt 17
theorem pd_ne (T : pt_T K pa de r) {s : Nat} (hs : s < 16) (hK : K s ≠ 0) (h : pt_ab pa t (s + 1) = true) : ¬ s + 1 = t := by
  intro e
  rw [← e] at h
  exact pt_irr T hs hK h
theorem pd_up (T : pt_T K pa de r) {s : Nat} (hs : s < 16) (hK : K s ≠ 0) (h : pt_ab pa t (s + 1) = true) : pa s = t ∨ ∃ p, p < 16 ∧ pa s = p + 1 ∧ K p = 2 ∧ K p ≠ 0 ∧ pt_ab pa t (p + 1) = true := by
  rcases (pt_st T hs hK).mp h with e | e
  · exact Or.inl e.symm
  · rcases pt_up2 T hs hK with h0 | ⟨p, hp, h1, h2, h3⟩
    · rw [h0, pt_a0] at e
      exact Or.inl (by rw [h0, e])
    · rw [h1] at e
      exact Or.inr ⟨p, hp, h1, h2, h3, e⟩
theorem pd_stab (T : pt_T K pa de r) : ∀ s, s < 16 → K s ≠ 0 → pt_ab pa t (s + 1) = true → ∀ n, pt_dp pa s < n → pd_td pa t z f (n + 1) (s + 1) = pd_td pa t z f n (s + 1) := by
  refine pt_ind T (fun s hs hK h => ?_) (fun s p hs hK h hp h2 hpK ih => ?_)
  · intro ht n hn
    obtain ⟨m, rfl⟩ : ∃ m, n = m + 1 := ⟨n - 1, by omega⟩
    rcases pd_up T hs hK ht with e | ⟨p, _, e, _⟩
    · rw [pd_tds, pd_tds, if_neg (pd_ne T hs hK ht), if_neg (pd_ne T hs hK ht)]
      show f s (pd_td pa t z f (m + 1) (pa s)) = f s (pd_td pa t z f m (pa s))
      rw [e, pd_tdt, pd_tdt]
    · omega
  · intro ht n hn
    obtain ⟨m, rfl⟩ : ∃ m, n = m + 1 := ⟨n - 1, by omega⟩
    rw [pd_tds, pd_tds, if_neg (pd_ne T hs hK ht), if_neg (pd_ne T hs hK ht)]
    show f s (pd_td pa t z f (m + 1) (pa s)) = f s (pd_td pa t z f m (pa s))
    rw [pt_dps T hs hK h] at hn
    rcases pd_up T hs hK ht with e | ⟨q, _, e, _, _, hq⟩
    · rw [e, pd_tdt, pd_tdt]
    · obtain rfl : p = q := by omega
      rw [h, ih hq m (by omega)]
theorem pd_s (T : pt_T K pa de r) {s : Nat} (hs : s < 16) (hK : K s ≠ 0) (h : pt_ab pa t (s + 1) = true) : pd_v pa t z f (s + 1) = f s (pd_v pa t z f (pa s)) := by
  have h15 := pt_dp15 T hs hK
  unfold pd_v
  rw [pd_td, if_neg (pd_ne T hs hK h)]
  show f s (pd_td pa t z f 16 (pa s)) = _
  rcases pd_up T hs hK h with e | ⟨p, hp, e, _, hpK, hq⟩
  · rw [e, pd_tdt, pd_tdt]
  · rw [e]
    rw [pt_dps T hs hK e] at h15
    rw [pd_stab T p hp hpK hq 16 (by omega)]
end
/-! numbers: w the weight of a bridge -/
def pd_nm (K : Nat → Int32) (pa de w : Nat → Nat) (t z b : Nat) : Nat := pd_v pa t z (fun s N => N + 1 + ps_sm (de s) (pf_cw K pa de w (pa s))) b
/-- the weight is zero but at bridges, there at least one -/
def pd_W (K : Nat → Int32) (w : Nat → Nat) : Prop := ∀ s, s < 16 → (K s = 2 → 1 ≤ w s) ∧ (¬ K s = 2 → w s = 0)
section
variable {K : Nat → Int32} {pa de r w : Nat → Nat} {t z : Nat}
theorem pd_nmt : pd_nm K pa de w t z t = z := pd_t
theorem pd_nms (T : pt_T K pa de r) {s : Nat} (hs : s < 16) (hK : K s ≠ 0) (h : pt_ab pa t (s + 1) = true) : pd_nm K pa de w t z (s + 1) = pd_nm K pa de w t z (pa s) + 1 + ps_sm (de s) (pf_cw K pa de w (pa s)) := pd_s T hs hK h
theorem pd_sum (T : pt_T K pa de r) {s : Nat} (hs : s < 16) (hK : K s ≠ 0) : ps_sm (de s) (pf_cw K pa de w (pa s)) + (w s + pf_sb K pa w (s + 1)) = ps_sm (de s + 1) (pf_cw K pa de w (pa s)) := by
  rw [ps_s, pf_cw_at T w hs hK]
theorem pd_in (T : pt_T K pa de r) {s : Nat} (hs : s < 16) (hK : K s ≠ 0) (h : pt_ab pa t (s + 1) = true) : pd_nm K pa de w t z (pa s) < pd_nm K pa de w t z (s + 1) ∧ pd_nm K pa de w t z (s + 1) + w s + pf_sb K pa w (s + 1) ≤ pd_nm K pa de w t z (pa s) + 1 + pf_sb K pa w (pa s) := by
  have h1 := pd_nms (w := w) (z := z) T hs hK h
  have h2 := pd_sum (w := w) T hs hK
  have h3 := ps_mono (pf_cw K pa de w (pa s)) (show de s + 1 ≤ 8 from T.2.2.1 s)
  have h4 := pf_rec T w (pa s)
  have h5 : ps_sm 8 (pf_cw K pa de w (pa s)) = pf_sb K pa w (pa s) := h4.symm
  omega
theorem pd_top (T : pt_T K pa de r) (hw : pd_W K w) : ∀ s, s < 16 → K s ≠ 0 → pt_ab pa t (s + 1) = true → K s = 2 → z < pd_nm K pa de w t z (s + 1) ∧ pd_nm K pa de w t z (s + 1) + (w s - 1) + pf_sb K pa w (s + 1) ≤ z + pf_sb K pa w t := by
  refine pt_ind T (fun s hs hK h => ?_) (fun s p hs hK h hp h2 hpK ih => ?_)
  · intro ht h2
    have i := pd_in (w := w) (z := z) T hs hK ht
    have w1 := (hw s hs).1 h2
    rcases pd_up T hs hK ht with e | ⟨p, _, e, _⟩
    · rw [e, pd_nmt] at i
      omega
    · omega
  · intro ht h2
    have i := pd_in (w := w) (z := z) T hs hK ht
    have w1 := (hw s hs).1 h2
    rcases pd_up T hs hK ht with e | ⟨q, hq, e, hq2, hqK, hqt⟩
    · rw [e, pd_nmt] at i
      omega
    · obtain rfl : p = q := by omega
      have i2 := ih hqt hq2
      rw [h] at i
      omega
theorem pd_sib (T : pt_T K pa de r) {s s' : Nat} (hs : s < 16) (hK : K s ≠ 0) (h : pt_ab pa t (s + 1) = true) (hs' : s' < 16) (hK' : K s' ≠ 0) (h' : pt_ab pa t (s' + 1) = true) (hp : pa s = pa s') (hd : de s < de s') : pd_nm K pa de w t z (s + 1) + w s + pf_sb K pa w (s + 1) ≤ pd_nm K pa de w t z (s' + 1) := by
  have h1 := pd_nms (w := w) (z := z) T hs hK h
  have h2 := pd_sum (w := w) T hs hK
  have h3 := pd_nms (w := w) (z := z) T hs' hK' h'
  rw [← hp] at h3
  have h4 := ps_mono (pf_cw K pa de w (pa s)) (show de s + 1 ≤ de s' from hd)
  omega
end
/-! starts -/
def pd_st (K : Nat → Int32) (pa de sp al : Nat → Nat) (t z b : Nat) : Nat := pd_v pa t z (fun s S => if 0 < sp (2 * s) then pm_pl (pf_fd K pa de) de sp al (pa s) S (2 * s) else 0) b
/-- the base of an item below t -/
def pd_ba (K : Nat → Int32) (pa de sp al : Nat → Nat) (t z i : Nat) : Nat := if 0 < sp i then pm_pl (pf_fd K pa de) de sp al (pa (i / 2)) (pd_st K pa de sp al t z (pa (i / 2))) i else 0
section
variable {K : Nat → Int32} {pa de r sp al cd : Nat → Nat} {t z g : Nat}
theorem pd_stt : pd_st K pa de sp al t z t = z := pd_t
theorem pd_sts (T : pt_T K pa de r) {s : Nat} (hs : s < 16) (hK : K s ≠ 0) (h : pt_ab pa t (s + 1) = true) : pd_st K pa de sp al t z (s + 1) = pd_ba K pa de sp al t z (2 * s) := by
  have := pd_s (z := z) (f := fun s S => if 0 < sp (2 * s) then pm_pl (pf_fd K pa de) de sp al (pa s) S (2 * s) else 0) T hs hK h
  unfold pd_st pd_ba
  rw [this, show 2 * s / 2 = s by omega]
  rfl
theorem pd_szb (G : pm_G K pa de cd g sp al) (C : pm_CD K cd) (hg : g ≤ 16) (hg0 : 0 < g) {s e : Nat} (hs : s < 16) (hK : K s = 1 ∨ K s = 2) (he : e < 2) : sp (2 * s + e) ≤ 1551 ∧ al (2 * s + e) ≤ 16 := by
  have hK0 : K s ≠ 0 := by
    rcases hK with h | h
    · rw [h]; decide
    · rw [h]; decide
  have ha : sp (2 * s + e) ≤ 1551 := by
    rcases hK with h | h
    · have c := (C s hs).1 h
      rw [(G.1 s hs h e he).1]
      have hce : cd (2 * s + e) ≤ 4 := by
        rcases (by omega : e = 0 ∨ e = 1) with rfl | rfl
        · exact c.1
        · exact c.2
      have := (pm_sz_p hce).1
      omega
    · obtain ⟨a1, a2, a3, a4⟩ := G.2.1 s hs h
      rcases (by omega : e = 0 ∨ e = 1) with rfl | rfl
      · rw [Nat.add_zero, a1]
        have h1 := pn_ru_lt (v := pm_cur (pf_fd K pa de) sp al (s + 1) 0 80) hg0
        have h2 := G.2.2.2 (s + 1)
        have h3 := pf_sb_le (K := K) (pa := pa) (fun _ => 93) (s + 1) 93 (fun _ _ => Nat.le_refl _)
        have h4 : cd (2 * s + 1) * g ≤ 3 * g := Nat.mul_le_mul_right g ((C s hs).2 h).2
        omega
      · rw [a3]; omega
  refine ⟨ha, ?_⟩
  have g3 := G.2.2.1 s hs hK0 e he
  by_cases hp : 0 < sp (2 * s + e)
  · obtain ⟨k, hk, e1⟩ := g3.1 hp
    rw [e1]
    exact Nat.le_trans (Nat.pow_le_pow_right (by decide) (show k ≤ 4 by omega)) (by decide)
  · have := g3.2 (by omega)
    omega
/-- the aligns of a bus divide that of its window -/
theorem pd_dvd (T : pt_T K pa de r) (G : pm_G K pa de cd g sp al) {q : Nat} (hg : g = 2 ^ q) {p c e : Nat} (hp : p < 16) (hpK : K p = 2) (hc : c < 16) (hcK : K c ≠ 0) (hcp : pa c = p + 1) (he : e < 2) (h0 : 0 < sp (2 * c + e)) : al (2 * c + e) ∣ al (2 * p) := by
  have hF : pf_fd K pa de (p + 1) (de c) = c := pf_eq T hc hcK hcp rfl
  have h8 := T.2.2.1 c
  obtain ⟨w1, w2, w3⟩ := pm_wa_c (F := pf_fd K pa de) (sp := sp) (al := al) (g := g) (b := p + 1) 16
  have a2 := (G.2.1 p hp hpK).2.1
  have hle := w2 (2 * de c + e) (by omega)
  rw [show (2 * de c + e) / 2 = de c by omega, show (2 * de c + e) % 2 = e by omega, hF] at hle
  have hle := hle hc h0
  obtain ⟨k, hk, e1⟩ := (G.2.2.1 c hc hcK e he).1 h0
  have : ∃ k', al (2 * p) = 2 ^ k' := by
    rw [a2]
    rcases w3 with w3 | ⟨j, hj, hF2, hp2, w3⟩
    · exact ⟨q, by rw [w3, hg]⟩
    · obtain ⟨k', _, e'⟩ := (G.2.2.1 _ hF2 (pf_i hF2).1 (j % 2) (by omega)).1 hp2
      exact ⟨k', by rw [w3, e']⟩
  obtain ⟨k', e'⟩ := this
  rw [← a2, e1, e'] at hle
  rw [e1, e']
  exact pm_pow_le hle
theorem pd_baI {s e : Nat} (he : e < 2) : pd_ba K pa de sp al t z (2 * s + e) = if 0 < sp (2 * s + e) then pm_pl (pf_fd K pa de) de sp al (pa s) (pd_st K pa de sp al t z (pa s)) (2 * s + e) else 0 := by
  unfold pd_ba
  rw [show (2 * s + e) / 2 = s by omega]
/-- an item below t lies in the window of its bus -/
theorem pd_baIn (T : pt_T K pa de r) (G : pm_G K pa de cd g sp al) {q : Nat} (hg : g = 2 ^ q) {s e : Nat} (hs : s < 16) (hK : K s ≠ 0) (he : e < 2) (h : pt_ab pa t (s + 1) = true) (h0 : 0 < sp (2 * s + e)) : (pa s = t → z ≤ pd_ba K pa de sp al t z (2 * s + e) ∧ pd_ba K pa de sp al t z (2 * s + e) + sp (2 * s + e) ≤ pm_cur (pf_fd K pa de) sp al t z 80) ∧ (∀ p, pa s = p + 1 → ¬ pa s = t → 0 < sp (2 * p) ∧ pd_ba K pa de sp al t z (2 * p) ≤ pd_ba K pa de sp al t z (2 * s + e) ∧ pd_ba K pa de sp al t z (2 * s + e) + sp (2 * s + e) ≤ pd_ba K pa de sp al t z (2 * p) + sp (2 * p)) := by
  obtain ⟨k, hk, e1⟩ := (G.2.2.1 s hs hK e he).1 h0
  have hF : pf_fd K pa de (pa s) (de s) = s := pf_at T hs hK
  have h8 := T.2.2.1 s
  have hin := fun st => pm_pl_in (F := pf_fd K pa de) (de := de) (b := pa s) (st := st) (sp := sp) (al := al) hs hF h8 he hk e1 h0
  rw [pd_baI he, if_pos h0]
  constructor
  · intro e
    have := hin z
    rw [e] at this ⊢
    rw [pd_stt]
    exact this
  · intro p hp hne
    rcases pd_up T hs hK h with e2 | ⟨q2, hq2, e2, hq3, hq4, hq5⟩
    · exact absurd e2 hne
    · obtain rfl : p = q2 := by omega
      obtain ⟨a1, a2, a3, a4⟩ := G.2.1 p hq2 hq3
      have hg0 : 0 < g := by rw [hg]; exact Nat.two_pow_pos q
      have h9 := pn_ru_ge (v := pm_cur (pf_fd K pa de) sp al (p + 1) 0 80) hg0
      have hin0 := hin 0
      rw [hp] at hin0
      have hsp : 0 < sp (2 * p) := by rw [a1]; omega
      have hdv : ∀ d e', d < 8 → e' < 2 → pf_fd K pa de (p + 1) d < 16 → 0 < sp (2 * pf_fd K pa de (p + 1) d + e') → al (2 * pf_fd K pa de (p + 1) d + e') ∣ pd_st K pa de sp al t z (p + 1) := by
        intro d e' hd he' hF' h0'
        obtain ⟨g1, g2, g3⟩ := pf_i hF'
        refine Nat.dvd_trans (pd_dvd T G hg hq2 hq3 hF' g1 g2 he' h0') ?_
        rw [pd_sts T hq2 hq4 hq5]
        have := pd_baI (K := K) (pa := pa) (de := de) (sp := sp) (al := al) (t := t) (z := z) (s := p) (e := 0) (by omega)
        rw [Nat.add_zero] at this
        rw [this, if_pos hsp]
        exact pn_ru_dvd _ _
      have hst := pd_sts (z := z) (sp := sp) (al := al) T hq2 hq4 hq5
      have hsh := pm_shift hdv 80
      have hin1 := hin (pd_st K pa de sp al t z (p + 1))
      rw [hp] at hin1 ⊢
      rw [hsh] at hin1
      rw [← hst]
      exact ⟨hsp, hin1.1, by omega⟩
theorem pd_baDis (T : pt_T K pa de r) (G : pm_G K pa de cd g sp al) {s e s' e' : Nat} (hs : s < 16) (hK : K s ≠ 0) (he : e < 2) (h0 : 0 < sp (2 * s + e)) (hs' : s' < 16) (hK' : K s' ≠ 0) (he' : e' < 2) (h0' : 0 < sp (2 * s' + e')) (hp : pa s = pa s') (hne : 2 * s + e ≠ 2 * s' + e') : pd_ba K pa de sp al t z (2 * s + e) + sp (2 * s + e) ≤ pd_ba K pa de sp al t z (2 * s' + e') ∨ pd_ba K pa de sp al t z (2 * s' + e') + sp (2 * s' + e') ≤ pd_ba K pa de sp al t z (2 * s + e) := by
  obtain ⟨k, hk, e1⟩ := (G.2.2.1 s hs hK e he).1 h0
  obtain ⟨k', hk', e1'⟩ := (G.2.2.1 s' hs' hK' e' he').1 h0'
  have hF : pf_fd K pa de (pa s) (de s) = s := pf_at T hs hK
  have hF' : pf_fd K pa de (pa s) (de s') = s' := by rw [hp]; exact pf_at T hs' hK'
  rw [pd_baI he, pd_baI he', if_pos h0, if_pos h0', ← hp]
  exact pm_dis hs hF (T.2.2.1 s) he hk e1 h0 hs' hF' (T.2.2.1 s') he' hk' e1' h0' hne
end
end
section
/-! the component's small methods -/
def pc_v (K : Nat → Int32) (pa de : Nat → Nat) (b d : Nat) : Int32 := if pf_fd K pa de b d < 16 then nI (pf_fd K pa de b d) else -1
def pc_C (K : Nat → Int32) (pa de : Nat → Nat) (ch : Nat → Int32) : Prop := ∀ b d, b ≤ 16 → d < 8 → ch (8 * b + d) = pc_v K pa de b d
section
variable {xbu xho xsp xgr xfo xla xde xcr : Int32} {xki xpa xdv xt0 xt1 xch xas xco xpr xse xsu xba xsz xce xsn xal xpl xns xnu xor xbt xnd xdo : Nat → Int32} {pa de : Nat → Nat}
theorem xw_node {post : Int32 → Prop} {b d : Nat} (hC : pc_C xki pa de xch) (hb : b ≤ 16) (hd : d < 8) (h1 : ∀ s, s < 16 → pf_fd xki pa de b d = s → post (nI s)) (h2 : pf_fd xki pa de b d = 16 → post (-1)) : wpX_nodeAt post (xbu, xho, xsp, xgr, xfo, xla, xde, xcr, xki, xpa, xdv, xt0, xt1, xch, xas, xco, xpr, xse, xsu, xba, xsz, xce, xsn, xal, xpl, xns, xnu, xor, xbt, xnd, xdo) (pn_b b) (nI d) := by
  show vp_in (((pn_b b + 1) * 8) + nI d) 136 ∧ post (xch (((pn_b b + 1) * 8) + nI d).toNatClampNeg)
  rw [pn_node, nI_clamp (by omega), hC b d hb hd]
  refine ⟨vp_in_nI (by omega) (by omega), ?_⟩
  unfold pc_v
  by_cases h : pf_fd xki pa de b d < 16
  · rw [if_pos h]; exact h1 _ h rfl
  · rw [if_neg h]
    have := pf_le (K := xki) (pa := pa) (de := de) b d
    exact h2 (by omega)
theorem xw_isK {post : Int32 → Prop} {s : Nat} {kk : Int32} (hs : s < 16) (h1 : xki s = kk → post 1) (h2 : ¬ xki s = kk → post 0) : wpX_isKind post (xbu, xho, xsp, xgr, xfo, xla, xde, xcr, xki, xpa, xdv, xt0, xt1, xch, xas, xco, xpr, xse, xsu, xba, xsz, xce, xsn, xal, xpl, xns, xnu, xor, xbt, xnd, xdo) (nI s) kk := by
  refine br_f (nI_pos (by omega)) (br_f (nI_ge (b := 16) hs (by decide)) ⟨vp_in_nI hs (by decide), ?_⟩)
  rw [nI_clamp (by omega)]
  exact br_c h1 h2
theorem xw_isKn {post : Int32 → Prop} {kk : Int32} (h : post 0) : wpX_isKind post (xbu, xho, xsp, xgr, xfo, xla, xde, xcr, xki, xpa, xdv, xt0, xt1, xch, xas, xco, xpr, xse, xsu, xba, xsz, xce, xsn, xal, xpl, xns, xnu, xor, xbt, xnd, xdo) (-1) kk := br_t pn_neg1 h
/-- any int -/
theorem xw_isKa {post : Int32 → Prop} {v kk : Int32} (h1 : ∀ s, s < 16 → v = nI s → xki s = kk → post 1) (h2 : (∀ s, s < 16 → v = nI s → ¬ xki s = kk) → post 0) : wpX_isKind post (xbu, xho, xsp, xgr, xfo, xla, xde, xcr, xki, xpa, xdv, xt0, xt1, xch, xas, xco, xpr, xse, xsu, xba, xsz, xce, xsn, xal, xpl, xns, xnu, xor, xbt, xnd, xdo) v kk := by
  rcases pk_ix v (n := 16) (by decide) with h | h | ⟨j, hj, rfl⟩
  · refine br_t h (h2 fun s hs e => ?_)
    rw [e] at h
    exact absurd h (nI_pos (by omega))
  · by_cases h0 : v < 0
    · refine br_t h0 (h2 fun s hs e => ?_)
      rw [e] at h0
      exact absurd h0 (nI_pos (by omega))
    · refine br_f h0 (br_t h (h2 fun s hs e => ?_))
      rw [e] at h
      exact absurd h (nI_ge hs (by decide))
  · exact xw_isK hj (fun e => h1 j hj rfl e) (fun e => h2 fun s hs e2 => by
      obtain rfl : j = s := (nI_eq (by omega) (by omega)).mp e2
      exact e)
theorem xw_out {post : Int32 → Prop} {v : Int32} {m : Nat} (hm : m < 2 ^ 31) (h1 : ∀ j, j ≤ m → v = nI j → post 0) (h2 : (∀ j, j ≤ m → ¬ v = nI j) → post 1) : wpX_outside post (xbu, xho, xsp, xgr, xfo, xla, xde, xcr, xki, xpa, xdv, xt0, xt1, xch, xas, xco, xpr, xse, xsu, xba, xsz, xce, xsn, xal, xpl, xns, xnu, xor, xbt, xnd, xdo) v (nI m) := by
  by_cases h0 : v < 0
  · refine br_t h0 (h2 fun j hj e => ?_)
    rw [e] at h0
    exact absurd h0 (nI_pos (by omega))
  · obtain ⟨j, hj, rfl⟩ := nI_of h0
    refine br_f h0 (pk_le j m (fun h => h1 j h rfl) (fun h => h2 fun i hi e => ?_))
    have := (nI_eq (by omega) (by omega)).mp e
    omega
theorem xw_num {post : Int32 → Prop} {b : Nat} (hb : b ≤ 16) (h0 : b = 0 → post 0) (h1 : ∀ s, b = s + 1 → xas s = 0 → post (-1)) (h2 : ∀ s, b = s + 1 → ¬ xas s = 0 → post (xse s)) : wpX_numberOf post (xbu, xho, xsp, xgr, xfo, xla, xde, xcr, xki, xpa, xdv, xt0, xt1, xch, xas, xco, xpr, xse, xsu, xba, xsz, xce, xsn, xal, xpl, xns, xnu, xor, xbt, xnd, xdo) (pn_b b) := by
  cases b with
  | zero => exact br_t rfl (h0 rfl)
  | succ s =>
    refine br_f (pn_ne1 (by omega)) ⟨vp_in_nI (show s < 16 by omega) (by decide), ?_⟩
    show (xas (nI s).toNatClampNeg = 0 → _) ∧ (¬ xas (nI s).toNatClampNeg = 0 → _)
    rw [nI_clamp (by omega)]
    refine br_c (h1 s rfl) (fun h => ⟨vp_in_nI (show s < 16 by omega) (by decide), ?_⟩)
    show post (xse (nI s).toNatClampNeg)
    rw [nI_clamp (by omega)]
    exact h2 s rfl h
end
end
section
/-! packing a bus, the component -/
def pm_PI (K : Nat → Int32) (pa de sp al : Nat → Nat) (b st n : Nat) (place : Nat → Int32) : Prop := ∀ s, s < 16 → K s ≠ 0 → pa s = b → ∀ e, e < 2 → 0 < sp (2 * s + e) → pm_ix de al (2 * s + e) < n → place (2 * s + e) = nI (pm_pl (pf_fd K pa de) de sp al b st (2 * s + e))
/-- the items of bus b are measured in two arrays -/
def pm_MD (K : Nat → Int32) (pa sp al : Nat → Nat) (b : Nat) (sn an : Nat → Int32) : Prop := ∀ s, s < 16 → K s ≠ 0 → pa s = b → ∀ e, e < 2 → sn (2 * s + e) = nI (sp (2 * s + e)) ∧ an (2 * s + e) = nI (al (2 * s + e))
/-- what the walks need of the measures -/
def pm_H (K : Nat → Int32) (pa de r cd : Nat → Nat) (g : Nat) (sp al : Nat → Nat) : Prop := pt_T K pa de r ∧ pm_G K pa de cd g sp al ∧ (∀ s, s < 16 → K s ≠ 0 → ∀ e, e < 2 → sp (2 * s + e) ≤ 1551 ∧ al (2 * s + e) ≤ 16) ∧ (∀ b st, pm_cur (pf_fd K pa de) sp al b st 80 ≤ st + 28000)
section
variable {K : Nat → Int32} {pa de r cd sp al : Nat → Nat} {g b st n : Nat} {place : Nat → Int32}
theorem pm_PI0 : pm_PI K pa de sp al b st 0 place := fun s _ _ _ e _ _ h => by omega
theorem pm_PIok (H : pm_H K pa de r cd g sp al) (hn : n < 80) (ho : pm_ok (pf_fd K pa de) sp al b n) (h : pm_PI K pa de sp al b st n place) : pm_PI K pa de sp al b st (n + 1) (upd place (pm_it (pf_fd K pa de) b n) (nI (pn_ru (pm_cur (pf_fd K pa de) sp al b st n) (2 ^ (4 - n / 16))))) := by
  intro s hs hK hb e he h0 hix
  obtain ⟨k, hk, ha⟩ := (H.2.1.2.2.1 s hs hK e he).1 h0
  have hF : pf_fd K pa de b (de s) = s := pf_eq H.1 hs hK hb rfl
  have I := pm_ixI (b := b) hF (H.1.2.2.1 s) he hk ha
  by_cases ei : 2 * s + e = pm_it (pf_fd K pa de) b n
  · have hx : pm_ix de al (2 * s + e) = n := by
      have h1 := ho.2.2
      rw [← ei, ha] at h1
      have h2 : k = 4 - n / 16 := (Nat.pow_right_inj (by decide)).mp h1
      have h3 := (pf_i ho.1).2.2
      unfold pm_it at ei
      have h4 : pf_fd K pa de b (n % 16 / 2) = s := by omega
      rw [h4] at h3
      rw [I.1]
      omega
    rw [← ei, pk_us]
    unfold pm_pl
    rw [hx, ← I.2.2.2.1, hx]
  · rw [pk_un ei]
    refine h s hs hK hb e he h0 ?_
    by_cases hx : pm_ix de al (2 * s + e) = n
    · rw [← hx] at ei
      exact absurd I.2.2.1.symm ei
    · omega
theorem pm_PIno (H : pm_H K pa de r cd g sp al) (ho : ¬ pm_ok (pf_fd K pa de) sp al b n) (h : pm_PI K pa de sp al b st n place) : pm_PI K pa de sp al b st (n + 1) place := by
  intro s hs hK hb e he h0 hix
  obtain ⟨k, hk, ha⟩ := (H.2.1.2.2.1 s hs hK e he).1 h0
  have hF : pf_fd K pa de b (de s) = s := pf_eq H.1 hs hK hb rfl
  refine h s hs hK hb e he h0 ?_
  by_cases hx : pm_ix de al (2 * s + e) = n
  · have := (pm_at (st := st) hs hF (H.1.2.2.1 s) he hk ha h0).1
    rw [hx] at this
    exact absurd this ho
  · omega
theorem pm_curB (H : pm_H K pa de r cd g sp al) (hst : st ≤ 60000) (hn : n ≤ 80) : pm_cur (pf_fd K pa de) sp al b st n ≤ 120000 := by
  have h1 := pm_mono (F := pf_fd K pa de) (sp := sp) (al := al) (b := b) (st := st) 80 hn
  have h2 := H.2.2.2 b st
  omega
end
section
variable {xbu xho xsp xgr xfo xla xde xcr : Int32} {xki xpa xdv xt0 xt1 xch xas xco xpr xse xsu xba xsz xce xsn xal xpl xns xnu xor xbt xnd xdo : Nat → Int32} {pa de r cd sp al : Nat → Nat} {g b st n : Nat} {pl : Nat → Int32}
theorem xw_place {post : Int32 → SX → Prop} {i u : Nat} (hit : pm_it (pf_fd xki pa de) b n = i) (hun : 2 ^ (4 - n / 16) = u) (H : pm_H xki pa de r cd g sp al) (hM : pm_MD xki pa sp al b xsn xal) (hst : st ≤ 60000) (hn : n < 80) (hF : pf_fd xki pa de b (n % 16 / 2) < 16) (hP : pm_PI xki pa de sp al b st n pl) (h : ∀ pl', pm_PI xki pa de sp al b st (n + 1) pl' → post (nI (pm_cur (pf_fd xki pa de) sp al b st (n + 1))) (xbu, xho, xsp, xgr, xfo, xla, xde, xcr, xki, xpa, xdv, xt0, xt1, xch, xas, xco, xpr, xse, xsu, xba, xsz, xce, xsn, xal, pl', xns, xnu, xor, xbt, xnd, xdo)) : wpX_placeItem post (xbu, xho, xsp, xgr, xfo, xla, xde, xcr, xki, xpa, xdv, xt0, xt1, xch, xas, xco, xpr, xse, xsu, xba, xsz, xce, xsn, xal, pl, xns, xnu, xor, xbt, xnd, xdo) (nI i) (nI u) (nI (pm_cur (pf_fd xki pa de) sp al b st n)) := by
  subst hit hun
  obtain ⟨f1, f2, f3⟩ := pf_i hF
  have hi : pm_it (pf_fd xki pa de) b n < 32 := by unfold pm_it; omega
  have hM' := hM _ hF f1 f2 (n % 2) (by omega)
  have hB := H.2.2.1 _ hF f1 (n % 2) (by omega)
  have hc := pm_curB (n := n) (b := b) H hst (by omega)
  have hk : 4 - n / 16 < 5 := by omega
  have hp := pm_p16 (n / 16)
  have hcl : (nI (pm_it (pf_fd xki pa de) b n)).toNatClampNeg = pm_it (pf_fd xki pa de) b n := nI_clamp (by omega)
  have hin : vp_in (nI (pm_it (pf_fd xki pa de) b n)) 32 := vp_in_nI hi (by decide)
  have e1 : xsn (pm_it (pf_fd xki pa de) b n) = nI (sp (pm_it (pf_fd xki pa de) b n)) := hM'.1
  have e2 : xal (pm_it (pf_fd xki pa de) b n) = nI (al (pm_it (pf_fd xki pa de) b n)) := hM'.2
  have b1 : sp (pm_it (pf_fd xki pa de) b n) ≤ 1551 := hB.1
  have b2 : al (pm_it (pf_fd xki pa de) b n) ≤ 16 := hB.2
  unfold wpX_placeItem wpX_roundUp
  dsimp only
  rw [hcl, e1, e2]
  refine ⟨hin, pk_eq (sp (pm_it (pf_fd xki pa de) b n)) 0 (fun z => ?_) (fun z => ⟨hin, pk_eq (al (pm_it (pf_fd xki pa de) b n)) (2 ^ (4 - n / 16)) (fun y => ⟨hin, nm_r (congrArg (upd pl (pm_it (pf_fd xki pa de) b n)) (pn_ruI (by omega) hk)) ⟨hin, hin, ?_⟩⟩) (fun y => ?_)⟩)⟩
  · have ho : ¬ pm_ok (pf_fd xki pa de) sp al b n := fun o => by have := o.2.1; omega
    rw [← pm_cF ho]
    exact h pl (pm_PIno H ho hP)
  · have ho : pm_ok (pf_fd xki pa de) sp al b n := ⟨hF, by omega, y⟩
    rw [pk_us, nI_add, ← pm_cT ho]
    exact h _ (pm_PIok H hn ho hP)
  · have ho : ¬ pm_ok (pf_fd xki pa de) sp al b n := fun o => y o.2.2
    rw [← pm_cF ho]
    exact h pl (pm_PIno H ho hP)
theorem pm_skip {F : Nat → Nat → Nat} (hF : ¬ F b (n % 16 / 2) < 16) : ¬ pm_ok F sp al b n := fun o => hF o.1
theorem xw_pack15 {post : Int32 → SX → Prop} {J : Int32 → Int32 → Int32 → Int32 → Int32 → Int32 → Int32 → Int32 → Int32 → Int32 → (Nat → Int32) → (Nat → Int32) → (Nat → Int32) → (Nat → Int32) → (Nat → Int32) → (Nat → Int32) → (Nat → Int32) → (Nat → Int32) → (Nat → Int32) → (Nat → Int32) → (Nat → Int32) → (Nat → Int32) → (Nat → Int32) → (Nat → Int32) → (Nat → Int32) → (Nat → Int32) → (Nat → Int32) → (Nat → Int32) → (Nat → Int32) → (Nat → Int32) → (Nat → Int32) → (Nat → Int32) → (Nat → Int32) → Prop} {q : Nat} (H : pm_H xki pa de r cd g sp al) (hC : pc_C xki pa de xch) (hM : pm_MD xki pa sp al b xsn xal) (hb : b ≤ 16) (hst : st ≤ 60000) (hq : q < 5) (hJ : ∀ pl', pm_PI xki pa de sp al b st (16 * q + 16) pl' → J (nI (pm_cur (pf_fd xki pa de) sp al b st (16 * q + 16))) (nI (2 ^ (4 - q) / 2)) xbu xho xsp xgr xfo xla xde xcr xki xpa xdv xt0 xt1 xch xas xco xpr xse xsu xba xsz xce xsn xal pl' xns xnu xor xbt xnd xdo) : ∀ m d pl, d ≤ 8 → 8 - d < m → pm_PI xki pa de sp al b st (16 * q + 2 * d) pl → wX_pack_15 post J (pn_b b) (nI (2 ^ (4 - q))) m (nI (pm_cur (pf_fd xki pa de) sp al b st (16 * q + 2 * d))) (nI d) xbu xho xsp xgr xfo xla xde xcr xki xpa xdv xt0 xt1 xch xas xco xpr xse xsu xba xsz xce xsn xal pl xns xnu xor xbt xnd xdo := by
  intro m
  induction m with
  | zero => intro d pl h1 h2; omega
  | succ m ih =>
    intro d pl hd hm hP
    by_cases h8 : d = 8
    · subst h8
      have hp := pm_p16 q
      exact br_t (nI_le (a := 8) (b := 8) (by omega) (by decide)) (nm_r (pk_shrN (by omega) _ 1 (by decide)) (hJ pl hP))
    · refine br_f (nI_ge (b := 8) (by omega) (by decide)) (xw_node hC hb (by omega) (fun s hs hf => br_f (nI_pos (by omega)) ?_) (fun hf => br_t pn_neg1 (nm_r (nI_1 d) ?_)))
      · have q1 : (16 * q + 2 * d) / 16 = q := by omega
        have q2 : (16 * q + 2 * d + 1) / 16 = q := by omega
        have d1 : (16 * q + 2 * d) % 16 / 2 = d := by omega
        have d2 : (16 * q + 2 * d + 1) % 16 / 2 = d := by omega
        have i1 : pm_it (pf_fd xki pa de) b (16 * q + 2 * d) = 2 * s := by unfold pm_it; rw [d1, hf]; omega
        have i2 : pm_it (pf_fd xki pa de) b (16 * q + 2 * d + 1) = 2 * s + 1 := by unfold pm_it; rw [d2, hf]; omega
        rw [pn_lit2, nI_1 (2 * s)]
        refine xw_place (n := 16 * q + 2 * d) i1 (by rw [q1]) H hM hst (by omega) (by rw [d1, hf]; exact hs) hP (fun pl1 hP1 => ?_)
        refine xw_place (n := 16 * q + 2 * d + 1) i2 (by rw [q2]) H hM hst (by omega) (by rw [d2, hf]; exact hs) hP1 (fun pl2 hP2 => nm_r (nI_1 d) ?_)
        exact ih (d + 1) pl2 (by omega) (by omega) hP2
      · have d1 : (16 * q + 2 * d) % 16 / 2 = d := by omega
        have d2 : (16 * q + 2 * d + 1) % 16 / 2 = d := by omega
        have n1 := pm_skip (sp := sp) (al := al) (b := b) (n := 16 * q + 2 * d) (F := pf_fd xki pa de) (by rw [d1]; omega)
        have n2 := pm_skip (sp := sp) (al := al) (b := b) (n := 16 * q + 2 * d + 1) (F := pf_fd xki pa de) (by rw [d2]; omega)
        have hP2 := pm_PIno H n2 (pm_PIno H n1 hP)
        rw [← pm_cF n1, ← pm_cF n2]
        exact ih (d + 1) pl (by omega) (by omega) hP2
theorem pm_half : ∀ q, q < 5 → 2 ^ (4 - q) / 2 = 16 / 2 ^ (q + 1) ∧ 16 / 2 ^ q = 2 ^ (4 - q) := by decide
theorem xw_pack6 {post : Int32 → SX → Prop} (H : pm_H xki pa de r cd g sp al) (hC : pc_C xki pa de xch) (hM : pm_MD xki pa sp al b xsn xal) (hb : b ≤ 16) (hst : st ≤ 60000) (hJ : ∀ pl', pm_PI xki pa de sp al b st 80 pl' → post (nI (pm_cur (pf_fd xki pa de) sp al b st 80)) (xbu, xho, xsp, xgr, xfo, xla, xde, xcr, xki, xpa, xdv, xt0, xt1, xch, xas, xco, xpr, xse, xsu, xba, xsz, xce, xsn, xal, pl', xns, xnu, xor, xbt, xnd, xdo)) : ∀ m q pl, q ≤ 5 → 5 - q < m → pm_PI xki pa de sp al b st (16 * q) pl → wX_pack_6 post (pn_b b) m (nI (pm_cur (pf_fd xki pa de) sp al b st (16 * q))) (nI (16 / 2 ^ q)) xbu xho xsp xgr xfo xla xde xcr xki xpa xdv xt0 xt1 xch xas xco xpr xse xsu xba xsz xce xsn xal pl xns xnu xor xbt xnd xdo := by
  intro m
  induction m with
  | zero => intro q pl h1 h2; omega
  | succ m ih =>
    intro q pl hq hm hP
    by_cases h5 : q = 5
    · subst h5
      exact br_t (nI_lt (a := 0) (b := 1) (by omega) (by decide)) (hJ pl hP)
    · have hh := pm_half q (by omega)
      rw [hh.2]
      have h1 : 1 ≤ 2 ^ (4 - q) := Nat.two_pow_pos _
      have hp := pm_p16 q
      refine br_f (nI_nlt (b := 1) h1 (by omega)) ⟨9, ?_⟩
      refine xw_pack15 (post := post) (st := st) (q := q) H hC hM hb hst (by omega) (fun pl' hP' => ?_) 9 0 pl (by omega) (by omega) hP
      rw [hh.1]
      exact ih (q + 1) pl' (by omega) (by omega) hP'
theorem xw_pack {post : Int32 → SX → Prop} (H : pm_H xki pa de r cd g sp al) (hC : pc_C xki pa de xch) (hM : pm_MD xki pa sp al b xsn xal) (hb : b ≤ 16) (hst : st ≤ 60000) (hJ : ∀ pl', pm_PI xki pa de sp al b st 80 pl' → post (nI (pm_cur (pf_fd xki pa de) sp al b st 80)) (xbu, xho, xsp, xgr, xfo, xla, xde, xcr, xki, xpa, xdv, xt0, xt1, xch, xas, xco, xpr, xse, xsu, xba, xsz, xce, xsn, xal, pl', xns, xnu, xor, xbt, xnd, xdo)) : wpX_pack post (xbu, xho, xsp, xgr, xfo, xla, xde, xcr, xki, xpa, xdv, xt0, xt1, xch, xas, xco, xpr, xse, xsu, xba, xsz, xce, xsn, xal, xpl, xns, xnu, xor, xbt, xnd, xdo) (pn_b b) (nI st) :=
  ⟨6, xw_pack6 H hC hM hb hst hJ 6 0 xpl (by omega) (by omega) pm_PI0⟩
end
end
section
/-! the reference's small methods -/
def py_b (c : Bool) : Int32 := if c = true then 1 else 0
theorem py_t : py_b true = 1 := rfl
theorem py_f : py_b false = 0 := rfl
/-- parents and devices in the arrays -/
def py_P (pa de : Nat → Nat) (pv dv : Nat → Int32) : Prop := (∀ s, pa s ≤ 16) ∧ (∀ s, de s < 8) ∧ ∀ s, s < 16 → pv s = pn_b (pa s) ∧ dv s = nI (de s)
section
variable {ybc yho yhw yg : Int32} {yki ypa ydv ycd yco yas yre yce ysn yal ypl : Nat → Int32} {pa de r : Nat → Nat}
theorem yw_find2 {post : Int32 → Prop} {bv dv : Int32} (h1 : ∀ s, s < 16 → yki s ≠ 0 → ypa s = bv → ydv s = dv → post (nI s)) (h2 : (∀ s, s < 16 → ¬ (yki s ≠ 0 ∧ ypa s = bv ∧ ydv s = dv)) → post (-2)) : ∀ m i, i ≤ 16 → 16 - i < m → (∀ j, j < i → ¬ (yki j ≠ 0 ∧ ypa j = bv ∧ ydv j = dv)) → wY_find_2 post bv dv ybc yho yhw yg yki ypa ydv ycd yco yas yre yce ysn yal ypl m (nI i) := by
  intro m
  induction m with
  | zero => intro i a b; omega
  | succ m ih =>
    intro i hi hm hj
    by_cases h16 : i = 16
    · subst h16
      exact br_t (nI_le (a := 16) (b := 16) (by omega) (by decide)) (h2 hj)
    · have hin : vp_in (nI i) 16 := vp_in_nI (by omega) (by decide)
      have hcl : (nI i).toNatClampNeg = i := nI_clamp (by omega)
      have nx : ¬ (yki i ≠ 0 ∧ ypa i = bv ∧ ydv i = dv) → wY_find_2 post bv dv ybc yho yhw yg yki ypa ydv ycd yco yas yre yce ysn yal ypl m (nI (i + 1)) := fun hn => ih (i + 1) (by omega) (by omega) fun j hj2 => by
        by_cases e : j = i
        · rw [e]; exact hn
        · exact hj j (by omega)
      refine br_f (nI_ge (b := 16) (by omega) (by decide)) ⟨hin, ?_⟩
      rw [hcl]
      refine br_c (fun z => nm_r (nI_1 i) (nx fun y => y.1 z)) (fun z => ⟨hin, br_c (fun z2 => ⟨hin, br_c (fun z3 => h1 i (by omega) z z2 z3) (fun z3 => nm_r (nI_1 i) (nx fun y => z3 y.2.2))⟩) (fun z2 => nm_r (nI_1 i) (nx fun y => z2 y.2.1))⟩)
theorem yw_findG {post : Int32 → Prop} {bv dv : Int32} (h1 : ∀ s, s < 16 → yki s ≠ 0 → ypa s = bv → ydv s = dv → post (nI s)) (h2 : (∀ s, s < 16 → ¬ (yki s ≠ 0 ∧ ypa s = bv ∧ ydv s = dv)) → post (-2)) : wpY_find post (ybc, yho, yhw, yg, yki, ypa, ydv, ycd, yco, yas, yre, yce, ysn, yal, ypl) bv dv :=
  ⟨17, yw_find2 h1 h2 17 0 (by omega) (by omega) (fun j hj => by omega)⟩
theorem yw_find {post : Int32 → Prop} {b d : Nat} (T : pt_T yki pa de r) (hP : py_P pa de ypa ydv) (hb : b ≤ 16) (hd : d < 8) (h1 : ∀ s, s < 16 → pf_fd yki pa de b d = s → post (nI s)) (h2 : pf_fd yki pa de b d = 16 → post (-2)) : wpY_find post (ybc, yho, yhw, yg, yki, ypa, ydv, ycd, yco, yas, yre, yce, ysn, yal, ypl) (pn_b b) (nI d) := by
  refine yw_findG (fun s hs hK e1 e2 => h1 s hs ?_) (fun hn => h2 ?_)
  · have hp := hP.2.2 s hs
    have a1 := hP.1 s
    have a2 := hP.2.1 s
    rw [hp.1] at e1
    rw [hp.2] at e2
    exact pf_eq T hs hK ((pn_b_eq (by omega) (by omega)).mp e1) ((nI_eq (by omega) (by omega)).mp e2)
  · rcases pf_c yki pa de b d with h | ⟨h, g1, g2, g3⟩
    · exact h.1
    · exfalso
      have hp := hP.2.2 _ h
      exact hn _ h ⟨g1, by rw [hp.1, g2], by rw [hp.2, g3]⟩
theorem yw_above5 {post : Int32 → Prop} {b : Nat} (hP : py_P pa de ypa ydv) (hb : b ≤ 16) : ∀ m p n, n ≤ 16 → p ≤ 16 → 16 - n < m → post (py_b (pt_abN pa b (16 - n) p)) → wY_above_5 post (pn_b b) ybc yho yhw yg yki ypa ydv ycd yco yas yre yce ysn yal ypl m (pn_b p) (nI n) := by
  intro m
  induction m with
  | zero => intro p n a b c; omega
  | succ m ih =>
    intro p n hn hp hm h
    by_cases h16 : n = 16
    · subst h16
      exact br_t (nI_le (a := 16) (b := 16) (by omega) (by decide)) h
    · obtain ⟨k, hk⟩ : ∃ k, 16 - n = k + 1 := ⟨15 - n, by omega⟩
      rw [hk, pt_abN] at h
      have hup : pt_up pa p ≤ 16 := by
        cases p with
        | zero => exact Nat.zero_le _
        | succ s => exact hP.1 s
      have fin : wY_above_23 post (wY_above_5 post (pn_b b) ybc yho yhw yg yki ypa ydv ycd yco yas yre yce ysn yal ypl m) (pn_b b) (pn_b (pt_up pa p)) (nI n) ybc yho yhw yg yki ypa ydv ycd yco yas yre yce ysn yal ypl := by
        refine br_c (fun z => ?_) (fun z => nm_r (nI_1 n) ?_)
        · rw [pn_b_eq (by omega) (by omega)] at z
          rw [z] at h
          simp only [beq_self_eq_true, Bool.true_or] at h
          exact h
        · rw [pn_b_eq (by omega) (by omega)] at z
          refine ih _ (n + 1) (by omega) hup (by omega) ?_
          rw [show 16 - (n + 1) = k by omega]
          rw [show (pt_up pa p == b) = false from beq_eq_false_iff_ne.mpr z, Bool.false_or] at h
          exact h
      refine br_f (nI_ge (b := 16) (by omega) (by decide)) ?_
      cases p with
      | zero => exact br_t pn_neg1 fin
      | succ s =>
        refine br_f (nI_pos (by omega)) ⟨vp_in_nI (show s < 16 by omega) (by decide), nm_r ?_ fin⟩
        show ypa (nI s).toNatClampNeg = pn_b (pa s)
        rw [nI_clamp (by omega)]
        exact (hP.2.2 s (by omega)).1
theorem yw_above {post : Int32 → Prop} {b c : Nat} (hP : py_P pa de ypa ydv) (hb : b ≤ 16) (hc : c ≤ 16) (h : post (py_b (pt_ab pa b c))) : wpY_above post (ybc, yho, yhw, yg, yki, ypa, ydv, ycd, yco, yas, yre, yce, ysn, yal, ypl) (pn_b b) (pn_b c) :=
  ⟨17, yw_above5 hP hb 17 c 0 (by omega) hc (by omega) h⟩
/-- by cases -/
theorem yw_aboveC {post : Int32 → Prop} {b c : Nat} (hP : py_P pa de ypa ydv) (hb : b ≤ 16) (hc : c ≤ 16) (h1 : pt_ab pa b c = true → post 1) (h0 : ¬ pt_ab pa b c = true → post 0) : wpY_above post (ybc, yho, yhw, yg, yki, ypa, ydv, ycd, yco, yas, yre, yce, ysn, yal, ypl) (pn_b b) (pn_b c) := by
  refine yw_above hP hb hc ?_
  by_cases h : pt_ab pa b c = true
  · rw [h]; exact h1 h
  · rw [Bool.eq_false_iff.mpr h]; exact h0 h
theorem yw_depth4 {post : Int32 → Prop} {s : Nat} (hP : py_P pa de ypa ydv) (hs : s < 16) (h : post (nI (pt_dp pa s))) : ∀ m i, i ≤ 16 → 16 - i < m → wY_depth_4 post (nI s) ybc yho yhw yg yki ypa ydv ycd yco yas yre yce ysn yal ypl m (nI (ps_sm i (fun j => if pt_ab pa (j + 1) (s + 1) = true then 1 else 0))) (nI i) := by
  intro m
  induction m with
  | zero => intro i a b; omega
  | succ m ih =>
    intro i hi hm
    by_cases h16 : i = 16
    · subst h16
      exact br_t (nI_le (a := 16) (b := 16) (by omega) (by decide)) h
    · have I := ih (i + 1) (by omega) (by omega)
      rw [ps_s] at I
      refine br_f (nI_ge (b := 16) (by omega) (by decide)) (yw_aboveC (b := i + 1) (c := s + 1) hP (by omega) (by omega) (fun z => br_f (by decide) (nm_r (nI_1 _) (nm_r (nI_1 i) ?_))) (fun z => br_t rfl (nm_r (nI_1 i) ?_)))
      · rw [if_pos z] at I; exact I
      · rw [if_neg z] at I; exact I
theorem yw_depth {post : Int32 → Prop} {s : Nat} (hP : py_P pa de ypa ydv) (hs : s < 16) (h : post (nI (pt_dp pa s))) : wpY_depth post (ybc, yho, yhw, yg, yki, ypa, ydv, ycd, yco, yas, yre, yce, ysn, yal, ypl) (nI s) :=
  ⟨17, yw_depth4 hP hs h 17 0 (by omega) (by omega)⟩
/-- the weight of a bridge in buses -/
def py_w (K : Nat → Int32) (cd : Nat → Nat) (s : Nat) : Nat := if K s = 2 then 1 + cd (2 * s) else 0
def py_cd (K : Nat → Int32) (cd : Nat → Nat) (cv : Nat → Int32) : Prop := ∀ s, s < 16 → K s ≠ 0 → cv (2 * s) = nI (cd (2 * s)) ∧ cv (2 * s + 1) = nI (cd (2 * s + 1))
theorem yw_bb4 {post : Int32 → Prop} {t : Nat} {cd : Nat → Nat} (hP : py_P pa de ypa ydv) (hc : py_cd yki cd ycd) (ht : t ≤ 16) (h : post (nI (pf_sb yki pa (py_w yki cd) t))) : ∀ m i, i ≤ 16 → 16 - i < m → wY_busesBelow_4 post (pn_b t) ybc yho yhw yg yki ypa ydv ycd yco yas yre yce ysn yal ypl m (nI (ps_sm i (fun s => if yki s ≠ 0 ∧ pt_ab pa t (s + 1) = true then py_w yki cd s else 0))) (nI i) := by
  intro m
  induction m with
  | zero => intro i a b; omega
  | succ m ih =>
    intro i hi hm
    by_cases h16 : i = 16
    · subst h16
      exact br_t (nI_le (a := 16) (b := 16) (by omega) (by decide)) h
    · have I := ih (i + 1) (by omega) (by omega)
      rw [ps_s] at I
      have hin : vp_in (nI i) 16 := vp_in_nI (by omega) (by decide)
      refine br_f (nI_ge (b := 16) (by omega) (by decide)) ⟨hin, ?_⟩
      rw [nI_clamp (by omega)]
      refine br_c (fun z => ?_) (fun z => nm_r (nI_1 i) ?_)
      · have hK : yki i ≠ 0 := by rw [z]; decide
        refine yw_aboveC (b := t) (c := i + 1) hP ht (by omega) (fun y => br_f (by decide) ?_) (fun y => br_t rfl (nm_r (nI_1 i) ?_))
        · rw [if_pos ⟨hK, y⟩] at I
          rw [pn_lit2]
          refine ⟨vp_in_nI (show 2 * i < 32 by omega) (by decide), nm_r ?_ (nm_r (nI_1 i) I)⟩
          rw [nI_clamp (by omega), (hc i (by omega) hK).1]
          unfold py_w
          rw [if_pos z, ← nI_add, ← nI_add]
          rfl
        · rw [if_neg (fun x => y x.2)] at I; exact I
      · have e : (if yki i ≠ 0 ∧ pt_ab pa t (i + 1) = true then py_w yki cd i else 0) = 0 := by
          by_cases c : yki i ≠ 0 ∧ pt_ab pa t (i + 1) = true
          · rw [if_pos c]; exact if_neg z
          · rw [if_neg c]
        rw [e] at I; exact I
theorem yw_bb {post : Int32 → Prop} {t : Nat} {cd : Nat → Nat} (hP : py_P pa de ypa ydv) (hc : py_cd yki cd ycd) (ht : t ≤ 16) (h : post (nI (pf_sb yki pa (py_w yki cd) t))) : wpY_busesBelow post (ybc, yho, yhw, yg, yki, ypa, ydv, ycd, yco, yas, yre, yce, ysn, yal, ypl) (pn_b t) :=
  ⟨17, yw_bb4 hP hc ht h 17 0 (by omega) (by omega)⟩
theorem yw_kindOf {post : Int32 → Prop} {v : Int32} (h1 : ∀ s, s < 16 → v = nI s → post (yki s)) (h2 : (∀ s, s < 16 → ¬ v = nI s) → post 0) : wpY_kindOf post (ybc, yho, yhw, yg, yki, ypa, ydv, ycd, yco, yas, yre, yce, ysn, yal, ypl) v := by
  by_cases h0 : v < 0
  · refine br_t h0 (h2 fun s hs e => ?_)
    rw [e] at h0
    exact absurd h0 (nI_pos (by omega))
  · obtain ⟨j, hj, rfl⟩ := nI_of h0
    by_cases h16 : j < 16
    · refine br_f h0 (br_f (nI_ge (b := 16) h16 (by decide)) ⟨vp_in_nI h16 (by decide), ?_⟩)
      rw [nI_clamp (by omega)]
      exact h1 j h16 rfl
    · refine br_f h0 (br_t (nI_le (a := 16) (by omega) hj) (h2 fun s hs e => ?_))
      have := (nI_eq (by omega) (by omega)).mp e
      omega
theorem pn_div2 {k : Nat} (h : k < 2 ^ 31) : nI k / 2 = nI (k / 2) := pk_div (d := 2) h (by decide) (by decide)
theorem pn_rem2 {k : Nat} (h : k < 2 ^ 31) : nI k - nI (k / 2) * 2 = nI (k % 2) := by
  rw [← pn_div2 h]
  exact pk_rem (d := 2) h (by decide) (by decide)
theorem py_n2 : ¬ (2 : Int32) = 0 := by decide
theorem py_sh : ∀ c, c < 5 → 0 < c → (1 : Int32) <<< ((nI c - 1) &&& 31) = nI (pm_sz c) := by decide
/-- size: of an item of a live slot, by its kind -/
theorem yw_size {post : Int32 → Prop} {i : Nat} {cd : Nat → Nat} (hc : py_cd yki cd ycd) (hr : pm_CD yki cd) (hi : i < 32) (h : post (nI (if yki (i / 2) = 1 then pm_sz (cd i) else 0))) : wpY_size post (ybc, yho, yhw, yg, yki, ypa, ydv, ycd, yco, yas, yre, yce, ysn, yal, ypl) (nI i) := by
  have hin : vp_in (nI (i / 2)) 16 := vp_in_nI (by omega) (by decide)
  refine ⟨py_n2, ?_⟩
  rw [pn_div2 (by omega)]
  refine ⟨hin, ?_⟩
  rw [nI_clamp (by omega), nI_clamp (show i < 2 ^ 31 by omega)]
  refine br_c (fun z => ⟨vp_in_nI hi (by decide), ?_⟩) (fun z => by rw [if_neg z] at h; exact h)
  rw [if_pos z] at h
  have hK : yki (i / 2) ≠ 0 := by rw [z]; decide
  have hcd := hc (i / 2) (by omega) hK
  have hr2 := (hr (i / 2) (by omega)).1 z
  have e : ycd i = nI (cd i) ∧ cd i ≤ 4 := by
    rcases (by omega : 2 * (i / 2) = i ∨ 2 * (i / 2) + 1 = i) with e | e
    · rw [e] at hcd hr2; exact ⟨hcd.1, hr2.1⟩
    · rw [e] at hcd hr2; exact ⟨hcd.2, hr2.2⟩
  rw [e.1]
  refine pk_le (cd i) 0 (fun y => ?_) (fun y => ⟨vp_in_nI hi (by decide), ?_⟩)
  · rw [show cd i = 0 by omega] at h; exact h
  · rw [py_sh _ (by omega) y]; exact h
end
end
section
/-! packing a bus, the reference -/
theorem py_m1 (a : Nat) : pn_b (a + 1) + (-1) = pn_b a := by
  cases a with
  | zero => rfl
  | succ a => exact pk_m1 a
theorem py_shl : ∀ j, j < 5 → (1 : Int32) <<< (nI j &&& 31) = nI (2 ^ j) := by decide
section
variable {ybc yho yhw yg : Int32} {yki ypa ydv ycd yco yas yre yce ysn yal ypl : Nat → Int32} {pa de r cd sp al : Nat → Nat} {g b st n : Nat} {pl : Nat → Int32}
theorem yw_pack13 {post : Int32 → SY → Prop} {J : Int32 → Int32 → (Nat → Int32) → (Nat → Int32) → (Nat → Int32) → (Nat → Int32) → (Nat → Int32) → (Nat → Int32) → (Nat → Int32) → (Nat → Int32) → (Nat → Int32) → (Nat → Int32) → (Nat → Int32) → Prop} {q : Nat} (H : pm_H yki pa de r cd g sp al) (hP : py_P pa de ypa ydv) (hM : pm_MD yki pa sp al b ysn yal) (hb : b ≤ 16) (hst : st ≤ 60000) (hq : q < 5) (hJ : ∀ pl', pm_PI yki pa de sp al b st (16 * q + 16) pl' → J (nI (pm_cur (pf_fd yki pa de) sp al b st (16 * q + 16))) (pn_b (4 - q)) yki ypa ydv ycd yco yas yre yce ysn yal pl') : ∀ m k pl, k ≤ 16 → 16 - k < m → pm_PI yki pa de sp al b st (16 * q + k) pl → wY_pack_13 post J (pn_b b) (nI (4 - q)) ybc yho yhw yg m (nI (pm_cur (pf_fd yki pa de) sp al b st (16 * q + k))) (nI k) yki ypa ydv ycd yco yas yre yce ysn yal pl := by
  intro m
  induction m with
  | zero => intro k pl h1 h2; omega
  | succ m ih =>
    intro k pl hk hm hPI
    by_cases h16 : k = 16
    · subst h16
      exact br_t (nI_le (a := 16) (b := 16) (by omega) (by decide)) (nm_r (py_m1 (4 - q)) (hJ pl hPI))
    · have hn : 16 * q + k < 80 := by omega
      have q1 : (16 * q + k) / 16 = q := by omega
      have d1 : (16 * q + k) % 16 / 2 = k / 2 := by omega
      have no : ¬ pm_ok (pf_fd yki pa de) sp al b (16 * q + k) → wY_pack_13 post J (pn_b b) (nI (4 - q)) ybc yho yhw yg m (nI (pm_cur (pf_fd yki pa de) sp al b st (16 * q + k))) (nI (k + 1)) yki ypa ydv ycd yco yas yre yce ysn yal pl := fun ho => by
        have := ih (k + 1) pl (by omega) (by omega) (pm_PIno H ho hPI)
        rw [show 16 * q + (k + 1) = 16 * q + k + 1 from rfl, pm_cF ho] at this
        exact this
      refine br_f (nI_ge (b := 16) (by omega) (by decide)) ⟨py_n2, ?_⟩
      rw [pn_div2 (by omega), pn_rem2 (by omega)]
      refine yw_find H.1 hP hb (by omega) (fun s hs hf => ⟨py_n2, ?_⟩) (fun hf => ⟨py_n2, fun y _ => br_t (by decide) (nm_r (nI_1 k) (no (pm_skip (by rw [d1]; omega))))⟩)
      rw [pn_lit2, nI_add]
      have hi : pm_it (pf_fd yki pa de) b (16 * q + k) = 2 * s + k % 2 := by unfold pm_it; rw [d1, hf]; omega
      have f := pf_i (K := yki) (pa := pa) (de := de) (b := b) (d := k / 2) (by rw [hf]; exact hs)
      rw [hf] at f
      have hM' := hM s hs f.1 f.2.1 (k % 2) (by omega)
      have hB := H.2.2.1 s hs f.1 (k % 2) (by omega)
      have hc := pm_curB (n := 16 * q + k) (b := b) H hst (by omega)
      have hp := pm_p16 q
      have hin : vp_in (nI (2 * s + k % 2)) 32 := vp_in_nI (by omega) (by decide)
      have hcl : (nI (2 * s + k % 2)).toNatClampNeg = 2 * s + k % 2 := nI_clamp (by omega)
      refine nm_e (br_f (nI_pos (by omega)) ⟨hin, ?_⟩)
      rw [hcl, hM'.1, hM'.2, py_shl (4 - q) (by omega)]
      refine pk_le (sp (2 * s + k % 2)) 0 (fun z => nm_r (nI_1 k) (no fun o => by have := o.2.1; rw [hi] at this; omega)) (fun z => ⟨hin, pk_eq (al (2 * s + k % 2)) (2 ^ (4 - q)) (fun y => ⟨hin, hin, hin, ?_⟩) (fun y => nm_r (nI_1 k) (no fun o => by have := o.2.2; rw [hi, q1] at this; exact y this))⟩)
      have ho : pm_ok (pf_fd yki pa de) sp al b (16 * q + k) := by
        refine ⟨?_, ?_, ?_⟩
        · rw [d1, hf]; exact hs
        · rw [hi]; exact z
        · rw [hi, q1]; exact y
      have hPk := pm_PIok (n := 16 * q + k) H hn ho hPI
      rw [hi, q1] at hPk
      have I := ih (k + 1) _ (by omega) (by omega) hPk
      rw [show 16 * q + (k + 1) = 16 * q + k + 1 from rfl, pm_cT ho, hi, q1] at I
      rw [y]
      refine nm_r (congrArg (upd pl (2 * s + k % 2)) (pn_ruI (by omega) (by omega))) ⟨hin, hin, nm_r ?_ (nm_r (nI_1 k) I)⟩
      rw [pk_us, nI_add]
theorem yw_pack5 {post : Int32 → SY → Prop} (H : pm_H yki pa de r cd g sp al) (hP : py_P pa de ypa ydv) (hM : pm_MD yki pa sp al b ysn yal) (hb : b ≤ 16) (hst : st ≤ 60000) (hJ : ∀ pl', pm_PI yki pa de sp al b st 80 pl' → post (nI (pm_cur (pf_fd yki pa de) sp al b st 80)) (ybc, yho, yhw, yg, yki, ypa, ydv, ycd, yco, yas, yre, yce, ysn, yal, pl')) : ∀ m q pl, q ≤ 5 → 5 - q < m → pm_PI yki pa de sp al b st (16 * q) pl → wY_pack_5 post (pn_b b) ybc yho yhw yg m (nI (pm_cur (pf_fd yki pa de) sp al b st (16 * q))) (pn_b (5 - q)) yki ypa ydv ycd yco yas yre yce ysn yal pl := by
  intro m
  induction m with
  | zero => intro q pl h1 h2; omega
  | succ m ih =>
    intro q pl hq hm hPI
    by_cases h5 : q = 5
    · subst h5
      exact br_t pn_neg1 (hJ pl hPI)
    · have e : pn_b (5 - q) = nI (4 - q) := by
        rw [show 5 - q = (4 - q) + 1 by omega]; rfl
      rw [e]
      refine br_f (nI_pos (by omega)) ⟨17, ?_⟩
      refine yw_pack13 (post := post) (st := st) H hP hM hb hst (by omega) (fun pl' hP' => ?_) 17 0 pl (by omega) (by omega) hPI
      have := ih (q + 1) pl' (by omega) (by omega) hP'
      rw [show 5 - (q + 1) = 4 - q by omega] at this
      exact this
theorem yw_pack {post : Int32 → SY → Prop} (H : pm_H yki pa de r cd g sp al) (hP : py_P pa de ypa ydv) (hM : pm_MD yki pa sp al b ysn yal) (hb : b ≤ 16) (hst : st ≤ 60000) (hJ : ∀ pl', pm_PI yki pa de sp al b st 80 pl' → post (nI (pm_cur (pf_fd yki pa de) sp al b st 80)) (ybc, yho, yhw, yg, yki, ypa, ydv, ycd, yco, yas, yre, yce, ysn, yal, pl')) : wpY_pack post (ybc, yho, yhw, yg, yki, ypa, ydv, ycd, yco, yas, yre, yce, ysn, yal, ypl) (pn_b b) (nI st) :=
  ⟨6, yw_pack5 H hP hM hb hst hJ 6 0 ypl (by omega) (by omega) pm_PI0⟩
end
end
section
/-! sizing a window, the component -/
section
variable {F : Nat → Nat → Nat} {sp al : Nat → Nat} {g b n s : Nat}
theorem pm_waT (h : al (2 * F b (n / 2) + n % 2) ≤ pm_wa F sp al g b n) : pm_wa F sp al g b (n + 1) = pm_wa F sp al g b n := by
  rw [pm_wa, if_neg]
  rintro ⟨_, _, z⟩
  omega
theorem pm_waF (hF : F b (n / 2) < 16) (h0 : sp (2 * F b (n / 2) + n % 2) = 0 → al (2 * F b (n / 2) + n % 2) ≤ g) (h : ¬ al (2 * F b (n / 2) + n % 2) ≤ pm_wa F sp al g b n) : pm_wa F sp al g b (n + 1) = al (2 * F b (n / 2) + n % 2) := by
  have := (pm_wa_c (F := F) (sp := sp) (al := al) (g := g) (b := b) n).1
  rw [pm_wa, if_pos]
  refine ⟨hF, ?_, by omega⟩
  refine Nat.pos_of_ne_zero fun z => ?_
  have := h0 z
  omega
theorem pm_waS (hF : ¬ F b (n / 2) < 16) : pm_wa F sp al g b (n + 1) = pm_wa F sp al g b n := by
  rw [pm_wa, if_neg]
  exact fun z => hF z.1
theorem pm_waB (hg : g ≤ 16) (h : ∀ d e, d < 8 → e < 2 → F b d < 16 → al (2 * F b d + e) ≤ 16) (hn : n ≤ 16) : pm_wa F sp al g b n ≤ 16 := by
  rcases (pm_wa_c (F := F) (sp := sp) (al := al) (g := g) (b := b) n).2.2 with e | ⟨k, hk, hF, _, e⟩
  · omega
  · rw [e]; exact h (k / 2) (k % 2) (by omega) (by omega) hF
end
section
variable {xbu xho xsp xgr xfo xla xde xcr : Int32} {xki xpa xdv xt0 xt1 xch xas xco xpr xse xsu xba xsz xce xsn xal xpl xns xnu xor xbt xnd xdo : Nat → Int32} {pa de r cd sp al : Nat → Nat} {g b : Nat}
theorem xw_wa7 {post : Int32 → Prop} (H : pm_H xki pa de r cd g sp al) (hC : pc_C xki pa de xch) (hA : ∀ s, s < 16 → xki s ≠ 0 → pa s = b → ∀ e, e < 2 → xal (2 * s + e) = nI (al (2 * s + e))) (hb : b ≤ 16) (hg : g ≤ 16) (h : post (nI (pm_wa (pf_fd xki pa de) sp al g b 16))) : ∀ m d, d ≤ 8 → 8 - d < m → wX_widestAlign_7 post (pn_b b) xbu xho xsp xgr xfo xla xde xcr xki xpa xdv xt0 xt1 xch xas xco xpr xse xsu xba xsz xce xsn xal xpl xns xnu xor xbt xnd xdo m (nI (pm_wa (pf_fd xki pa de) sp al g b (2 * d))) (nI d) := by
  intro m
  induction m with
  | zero => intro d h1 h2; omega
  | succ m ih =>
    intro d hd hm
    by_cases h8 : d = 8
    · subst h8
      exact br_t (nI_le (a := 8) (b := 8) (by omega) (by decide)) h
    · have I := ih (d + 1) (by omega) (by omega)
      rw [show 2 * (d + 1) = 2 * d + 1 + 1 by omega] at I
      have d1 : 2 * d / 2 = d := by omega
      have d2 : (2 * d + 1) / 2 = d := by omega
      have r1 : 2 * d % 2 = 0 := by omega
      have r2 : (2 * d + 1) % 2 = 1 := by omega
      refine br_f (nI_ge (b := 8) (by omega) (by decide)) (xw_node hC hb (by omega) (fun s hs hf => br_f (nI_pos (by omega)) ?_) (fun hf => br_t pn_neg1 (nm_r (nI_1 d) ?_)))
      · have f := pf_i (K := xki) (pa := pa) (de := de) (b := b) (d := d) (by rw [hf]; exact hs)
        rw [hf] at f
        have a0 := hA s hs f.1 f.2.1 0 (by omega)
        have a1 := hA s hs f.1 f.2.1 1 (by omega)
        have B0 := H.2.2.1 s hs f.1 0 (by omega)
        have B1 := H.2.2.1 s hs f.1 1 (by omega)
        have g0 := (H.2.1.2.2.1 s hs f.1 0 (by omega)).2
        have g1 := (H.2.1.2.2.1 s hs f.1 1 (by omega)).2
        have hwb : ∀ n, n ≤ 16 → pm_wa (pf_fd xki pa de) sp al g b n ≤ 16 := fun n hn => pm_waB hg (fun d e hd he hF => (H.2.2.1 _ hF (pf_i hF).1 e he).2) hn
        have w0 := hwb (2 * d) (by omega)
        have w1 := hwb (2 * d + 1) (by omega)
        rw [Nat.add_zero] at a0 B0 g0
        have fin : wX_widestAlign_52 post (wX_widestAlign_7 post (pn_b b) xbu xho xsp xgr xfo xla xde xcr xki xpa xdv xt0 xt1 xch xas xco xpr xse xsu xba xsz xce xsn xal xpl xns xnu xor xbt xnd xdo m) (pn_b b) (nI d) (nI s) (nI (pm_wa (pf_fd xki pa de) sp al g b (2 * d + 1))) xbu xho xsp xgr xfo xla xde xcr xki xpa xdv xt0 xt1 xch xas xco xpr xse xsu xba xsz xce xsn xal xpl xns xnu xor xbt xnd xdo := by
          unfold wX_widestAlign_52
          have hin : vp_in (nI (2 * s + 1)) 32 := vp_in_nI (by omega) (by decide)
          rw [pn_lit2, nI_1 (2 * s), nI_clamp (by omega), a1]
          refine ⟨hin, pk_le (al (2 * s + 1)) (pm_wa (pf_fd xki pa de) sp al g b (2 * d + 1)) (fun z => nm_r (nI_1 d) ?_) (fun z => ⟨hin, nm_e (nm_r (nI_1 d) ?_)⟩)⟩
          · rw [pm_waT (by rw [d2, r2, hf]; exact z)] at I
            exact I
          · rw [pm_waF (by rw [d2, hf]; exact hs) (by rw [d2, r2, hf]; exact g1) (by rw [d2, r2, hf]; omega), d2, r2, hf] at I
            exact I
        have hin : vp_in (nI (2 * s)) 32 := vp_in_nI (by omega) (by decide)
        rw [pn_lit2, nI_clamp (by omega), a0]
        refine ⟨hin, pk_le (al (2 * s)) (pm_wa (pf_fd xki pa de) sp al g b (2 * d)) (fun z => ?_) (fun z => ⟨hin, ?_⟩)⟩
        · rw [pm_waT (by rw [d1, r1, hf]; exact z)] at fin
          exact fin
        · rw [pm_waF (by rw [d1, hf]; exact hs) (by rw [d1, r1, hf]; exact g0) (by rw [d1, r1, hf, Nat.add_zero]; omega), d1, r1, hf] at fin
          exact fin
      · have hF : ¬ pf_fd xki pa de b d < 16 := by omega
        rw [pm_waS (by rw [d2]; exact hF), pm_waS (by rw [d1]; exact hF)] at I
        exact I
theorem xw_wa {post : Int32 → Prop} (H : pm_H xki pa de r cd g sp al) (hC : pc_C xki pa de xch) (hA : ∀ s, s < 16 → xki s ≠ 0 → pa s = b → ∀ e, e < 2 → xal (2 * s + e) = nI (al (2 * s + e))) (hb : b ≤ 16) (hg : g ≤ 16) (hgr : xgr = nI g) (h : post (nI (pm_wa (pf_fd xki pa de) sp al g b 16))) : wpX_widestAlign post (xbu, xho, xsp, xgr, xfo, xla, xde, xcr, xki, xpa, xdv, xt0, xt1, xch, xas, xco, xpr, xse, xsu, xba, xsz, xce, xsn, xal, xpl, xns, xnu, xor, xbt, xnd, xdo) (pn_b b) := by
  subst hgr
  exact ⟨9, xw_wa7 (xgr := nI g) H hC hA hb hg h 9 0 (by omega) (by omega)⟩
theorem xw_size {post : SX → Prop} {s q : Nat} (H : pm_H xki pa de r cd g sp al) (hC : pc_C xki pa de xch) (hM : pm_MD xki pa sp al (s + 1) xsn xal) (hs : s < 16) (hK : xki s = 2) (hgr : xgr = nI g) (hq : q < 5) (hg : g = 2 ^ q) (ht : xt1 s = nI (cd (2 * s + 1))) (h : ∀ pl', post (xbu, xho, xsp, xgr, xfo, xla, xde, xcr, xki, xpa, xdv, xt0, xt1, xch, xas, xco, xpr, xse, xsu, xba, xsz, xce, upd xsn (2 * s) (nI (sp (2 * s))), upd xal (2 * s) (nI (al (2 * s))), pl', xns, xnu, xor, xbt, xnd, xdo)) : wpX_sizeWindow post (xbu, xho, xsp, xgr, xfo, xla, xde, xcr, xki, xpa, xdv, xt0, xt1, xch, xas, xco, xpr, xse, xsu, xba, xsz, xce, xsn, xal, xpl, xns, xnu, xor, xbt, xnd, xdo) (nI s) := by
  have hg16 : g ≤ 16 := by
    rw [hg]
    exact Nat.le_trans (Nat.pow_le_pow_right (by decide) (show q ≤ 4 by omega)) (by decide)
  obtain ⟨a1, a2, _, _⟩ := H.2.1.2.1 s hs hK
  have hcur := pm_curB (n := 80) (b := s + 1) (st := 0) H (by omega) (by omega)
  unfold wpX_sizeWindow
  refine xw_pack (b := s + 1) (st := 0) H hC hM (by omega) (by omega) (fun pl' _ => ?_)
  unfold wpX_roundUp
  dsimp only
  have hin : vp_in (nI (2 * s)) 32 := vp_in_nI (by omega) (by decide)
  rw [pn_lit2, nI_clamp (show 2 * s < 2 ^ 31 by omega), nI_clamp (show s < 2 ^ 31 by omega)]
  refine ⟨vp_in_nI hs (by decide), hin, nm_r (e' := upd xsn (2 * s) (nI (sp (2 * s)))) ?_ ?_⟩
  · rw [hgr, hg, pn_ruI (by omega) hq, ht, pk_mul, nI_add, ← hg, ← a1]
  · refine xw_wa (b := s + 1) H hC (fun c hc hcK hcp e he => (hM c hc hcK hcp e he).2) (by omega) hg16 hgr ⟨hin, nm_r (e' := upd xal (2 * s) (nI (al (2 * s)))) ?_ (h pl')⟩
    rw [← a2]
end
end
section
/-! laying out a bus, the component -/
def px_SE (K : Nat → Int32) (pa nm sbo bas sp : Nat → Nat) (s : Nat) (as co pr se su ba sz : Nat → Int32) : Prop := as s = 1 ∧ co s = 3 ∧ (∀ e, e < 2 → ba (2 * s + e) = nI (bas (2 * s + e)) ∧ sz (2 * s + e) = nI (sp (2 * s + e))) ∧ (K s = 2 → pr s = nI (nm (pa s)) ∧ se s = nI (nm (s + 1)) ∧ su s = nI (sbo s))
def px_FR (c : Nat) (as co pr se su ba sz as0 co0 pr0 se0 su0 ba0 sz0 : Nat → Int32) : Prop := as c = as0 c ∧ co c = co0 c ∧ pr c = pr0 c ∧ se c = se0 c ∧ su c = su0 c ∧ ∀ e, e < 2 → ba (2 * c + e) = ba0 (2 * c + e) ∧ sz (2 * c + e) = sz0 (2 * c + e)
def px_IN (K : Nat → Int32) (pa nm sbo bas sp : Nat → Nat) (t : Nat) (S : Nat → Prop) (as0 co0 pr0 se0 su0 ba0 sz0 as co pr se su ba sz : Nat → Int32) : Prop := (∀ c, c < 16 → K c ≠ 0 → pt_ab pa t (c + 1) = true → S c → px_SE K pa nm sbo bas sp c as co pr se su ba sz) ∧ (∀ c, c < 16 → ¬ (K c ≠ 0 ∧ pt_ab pa t (c + 1) = true) → px_FR c as co pr se su ba sz as0 co0 pr0 se0 su0 ba0 sz0)
section
variable {K : Nat → Int32} {pa nm sbo bas sp : Nat → Nat} {t c : Nat} {S S' : Nat → Prop} {as0 co0 pr0 se0 su0 ba0 sz0 as co pr se su ba sz as' co' pr' se' su' ba' sz' : Nat → Int32}
theorem px_SEF (h : px_SE K pa nm sbo bas sp c as co pr se su ba sz) (f : px_FR c as' co' pr' se' su' ba' sz' as co pr se su ba sz) : px_SE K pa nm sbo bas sp c as' co' pr' se' su' ba' sz' := by
  obtain ⟨f1, f2, f3, f4, f5, f6⟩ := f
  obtain ⟨h1, h2, h3, h4⟩ := h
  refine ⟨by rw [f1, h1], by rw [f2, h2], fun e he => ?_, fun hK => ?_⟩
  · rw [(f6 e he).1, (f6 e he).2]; exact h3 e he
  · rw [f3, f4, f5]; exact h4 hK
theorem px_FRt (f : px_FR c as' co' pr' se' su' ba' sz' as co pr se su ba sz) (f0 : px_FR c as co pr se su ba sz as0 co0 pr0 se0 su0 ba0 sz0) : px_FR c as' co' pr' se' su' ba' sz' as0 co0 pr0 se0 su0 ba0 sz0 := by
  obtain ⟨f1, f2, f3, f4, f5, f6⟩ := f
  obtain ⟨h1, h2, h3, h4, h5, h6⟩ := f0
  exact ⟨f1.trans h1, f2.trans h2, f3.trans h3, f4.trans h4, f5.trans h5, fun e he => ⟨(f6 e he).1.trans (h6 e he).1, (f6 e he).2.trans (h6 e he).2⟩⟩
theorem px_step (hcK : K c ≠ 0) (hct : pt_ab pa t (c + 1) = true) (hS : ∀ x, x < 16 → K x ≠ 0 → S' x → x ≠ c → S x) (I : px_IN K pa nm sbo bas sp t S as0 co0 pr0 se0 su0 ba0 sz0 as co pr se su ba sz) (h : px_SE K pa nm sbo bas sp c as' co' pr' se' su' ba' sz') (f : ∀ x, x ≠ c → px_FR x as' co' pr' se' su' ba' sz' as co pr se su ba sz) : px_IN K pa nm sbo bas sp t S' as0 co0 pr0 se0 su0 ba0 sz0 as' co' pr' se' su' ba' sz' := by
  constructor
  · intro x hx hxK hxt hxS
    by_cases e : x = c
    · rw [e]; exact h
    · exact px_SEF (I.1 x hx hxK hxt (hS x hx hxK hxS e)) (f x e)
  · intro x hx hn
    by_cases e : x = c
    · exact absurd ⟨by rw [e]; exact hcK, by rw [e]; exact hct⟩ hn
    · exact px_FRt (f x e) (I.2 x hx hn)
theorem px_mono (hS : ∀ x, S' x → S x) (I : px_IN K pa nm sbo bas sp t S as0 co0 pr0 se0 su0 ba0 sz0 as co pr se su ba sz) : px_IN K pa nm sbo bas sp t S' as0 co0 pr0 se0 su0 ba0 sz0 as co pr se su ba sz :=
  ⟨fun x hx hxK hxt hxS => I.1 x hx hxK hxt (hS x hxS), I.2⟩
theorem px_init : px_IN K pa nm sbo bas sp t (fun _ => False) as co pr se su ba sz as co pr se su ba sz :=
  ⟨fun _ _ _ _ h => h.elim, fun _ _ _ => ⟨rfl, rfl, rfl, rfl, rfl, fun _ _ => ⟨rfl, rfl⟩⟩⟩
theorem px_ne1 {x c e : Nat} (h : x ≠ c) (he : e < 2) : 2 * x + e ≠ 2 * c ∧ 2 * x + e ≠ 2 * c + 1 := by omega
theorem px_set2 {a : Nat → Int32} {c : Nat} {v0 v1 : Int32} : upd (upd a (2 * c) v0) (2 * c + 1) v1 (2 * c) = v0 ∧ upd (upd a (2 * c) v0) (2 * c + 1) v1 (2 * c + 1) = v1 ∧ ∀ x, x ≠ c → ∀ e, e < 2 → upd (upd a (2 * c) v0) (2 * c + 1) v1 (2 * x + e) = a (2 * x + e) := by
  refine ⟨?_, pk_us, fun x hx e he => ?_⟩
  · rw [pk_un (by omega), pk_us]
  · have := px_ne1 hx he
    rw [pk_un this.2, pk_un this.1]
end
section
variable {xbu xho xsp xgr xfo xla xde xcr : Int32} {xki xpa xdv xt0 xt1 xch xas xco xpr xse xsu xba xsz xce xsn xal xpl xns xnu xor xbt xnd xdo : Nat → Int32} {pa de r cd sp al nm sbo bas : Nat → Nat} {g b st t : Nat} {S : Nat → Prop} {as0 co0 pr0 se0 su0 ba0 sz0 : Nat → Int32}
theorem xw_setI {post : SX → Prop} {i v w : Nat} (hi : i < 32) (hsp : xsn i = nI w) (hw : w ≤ 1551) (h0 : w = 0 → v = 0) (h1 : 0 < w → xpl i = nI v) (h : post (xbu, xho, xsp, xgr, xfo, xla, xde, xcr, xki, xpa, xdv, xt0, xt1, xch, xas, xco, xpr, xse, xsu, upd xba i (nI v), upd xsz i (nI w), xce, xsn, xal, xpl, xns, xnu, xor, xbt, xnd, xdo)) : wpX_settleItem post (xbu, xho, xsp, xgr, xfo, xla, xde, xcr, xki, xpa, xdv, xt0, xt1, xch, xas, xco, xpr, xse, xsu, xba, xsz, xce, xsn, xal, xpl, xns, xnu, xor, xbt, xnd, xdo) (nI i) := by
  have hin : vp_in (nI i) 32 := vp_in_nI hi (by decide)
  have hcl : (nI i).toNatClampNeg = i := nI_clamp (by omega)
  unfold wpX_settleItem wX_settleItem_24
  dsimp only
  rw [hcl, hsp]
  refine ⟨hin, pk_le w 0 (fun z => ⟨hin, nm_r (e' := upd xba i (nI v)) ?_ ⟨hin, hin, nm_e h⟩⟩) (fun z => ⟨hin, hin, nm_r (e' := upd xba i (nI v)) ?_ ⟨hin, hin, nm_e h⟩⟩)⟩
  · rw [h0 (by omega)]; rfl
  · rw [h1 z]
theorem xw_set {post : SX → Prop} {c : Nat} {S' : Nat → Prop} (hc : c < 16) (hcK : xki c ≠ 0) (hct : pt_ab pa t (c + 1) = true) (hsp : ∀ e, e < 2 → xsn (2 * c + e) = nI (sp (2 * c + e)) ∧ sp (2 * c + e) ≤ 1551 ∧ (sp (2 * c + e) = 0 → bas (2 * c + e) = 0) ∧ (0 < sp (2 * c + e) → xpl (2 * c + e) = nI (bas (2 * c + e)))) (hN : xki c = 2 → xns c = nI (nm (c + 1)) ∧ xnu c = nI (sbo c)) (hS : ∀ x, x < 16 → xki x ≠ 0 → S' x → x ≠ c → S x) (I : px_IN xki pa nm sbo bas sp t S as0 co0 pr0 se0 su0 ba0 sz0 xas xco xpr xse xsu xba xsz) (h : ∀ as' co' pr' se' su' ba' sz', px_IN xki pa nm sbo bas sp t S' as0 co0 pr0 se0 su0 ba0 sz0 as' co' pr' se' su' ba' sz' → post (xbu, xho, xsp, xgr, xfo, xla, xde, xcr, xki, xpa, xdv, xt0, xt1, xch, as', co', pr', se', su', ba', sz', xce, xsn, xal, xpl, xns, xnu, xor, xbt, xnd, xdo)) : wpX_settle post (xbu, xho, xsp, xgr, xfo, xla, xde, xcr, xki, xpa, xdv, xt0, xt1, xch, xas, xco, xpr, xse, xsu, xba, xsz, xce, xsn, xal, xpl, xns, xnu, xor, xbt, xnd, xdo) (nI c) (nI (nm (pa c))) := by
  have hin : vp_in (nI c) 16 := vp_in_nI hc (by decide)
  have hcl : (nI c).toNatClampNeg = c := nI_clamp (by omega)
  have s0 := hsp 0 (by omega)
  have s1 := hsp 1 (by omega)
  rw [Nat.add_zero] at s0
  unfold wpX_settle
  dsimp only
  rw [hcl, pn_lit2, nI_1 (2 * c), pn_vb1]
  refine ⟨hin, nm_e ⟨hin, nm_e ?_⟩⟩
  refine xw_setI (by omega) s0.1 s0.2.1 s0.2.2.1 s0.2.2.2 ?_
  dsimp only
  refine xw_setI (by omega) s1.1 s1.2.1 s1.2.2.1 s1.2.2.2 ?_
  dsimp only
  have B := px_set2 (a := xba) (c := c) (v0 := nI (bas (2 * c))) (v1 := nI (bas (2 * c + 1)))
  have Z := px_set2 (a := xsz) (c := c) (v0 := nI (sp (2 * c))) (v1 := nI (sp (2 * c + 1)))
  have BZ : ∀ e, e < 2 → upd (upd xba (2 * c) (nI (bas (2 * c)))) (2 * c + 1) (nI (bas (2 * c + 1))) (2 * c + e) = nI (bas (2 * c + e)) ∧ upd (upd xsz (2 * c) (nI (sp (2 * c)))) (2 * c + 1) (nI (sp (2 * c + 1))) (2 * c + e) = nI (sp (2 * c + e)) := by
    intro e he
    rcases (by omega : e = 0 ∨ e = 1) with rfl | rfl
    · exact ⟨B.1, Z.1⟩
    · exact ⟨B.2.1, Z.2.1⟩
  refine ⟨hin, br_c (fun z => ⟨hin, nm_e ⟨hin, hin, nm_e ⟨hin, hin, nm_e (h _ _ _ _ _ _ _ (px_step hcK hct hS I ?_ ?_))⟩⟩⟩) (fun z => h _ _ _ _ _ _ _ (px_step hcK hct hS I ?_ ?_))⟩
  · exact ⟨pk_us, pk_us, BZ, fun _ => ⟨pk_us, by rw [pk_us, (hN z).1], by rw [pk_us, (hN z).2]⟩⟩
  · exact fun x hx => ⟨pk_un hx, pk_un hx, pk_un hx, pk_un hx, pk_un hx, fun e he => ⟨B.2.2 x hx e he, Z.2.2 x hx e he⟩⟩
  · exact ⟨pk_us, pk_us, BZ, fun y => absurd y z⟩
  · exact fun x hx => ⟨pk_un hx, pk_un hx, rfl, rfl, rfl, fun e he => ⟨B.2.2 x hx e he, Z.2.2 x hx e he⟩⟩
theorem xw_lay16 {post : SX → Prop} (H : pm_H xki pa de r cd g sp al) (hC : pc_C xki pa de xch) (hM : pm_MD xki pa sp al b xsn xal) (hb : b ≤ 16) (hbt : t = b ∨ pt_ab pa t b = true) (hP : pm_PI xki pa de sp al b st 80 xpl) (hbas : ∀ c, c < 16 → xki c ≠ 0 → pa c = b → ∀ e, e < 2 → bas (2 * c + e) = if 0 < sp (2 * c + e) then pm_pl (pf_fd xki pa de) de sp al b st (2 * c + e) else 0) (hN : ∀ c, c < 16 → xki c = 2 → pt_ab pa t (c + 1) = true → xns c = nI (nm (c + 1)) ∧ xnu c = nI (sbo c)) (h : ∀ as' co' pr' se' su' ba' sz', px_IN xki pa nm sbo bas sp t (fun c => S c ∨ pa c = b) as0 co0 pr0 se0 su0 ba0 sz0 as' co' pr' se' su' ba' sz' → post (xbu, xho, xsp, xgr, xfo, xla, xde, xcr, xki, xpa, xdv, xt0, xt1, xch, as', co', pr', se', su', ba', sz', xce, xsn, xal, xpl, xns, xnu, xor, xbt, xnd, xdo)) : ∀ m d as co pr se su ba sz, d ≤ 8 → 8 - d < m → px_IN xki pa nm sbo bas sp t (fun c => S c ∨ (pa c = b ∧ de c < d)) as0 co0 pr0 se0 su0 ba0 sz0 as co pr se su ba sz → wX_layOutBus_16 post (pn_b b) (nI (nm b)) m (nI d) xbu xho xsp xgr xfo xla xde xcr xki xpa xdv xt0 xt1 xch as co pr se su ba sz xce xsn xal xpl xns xnu xor xbt xnd xdo := by
  intro m
  induction m with
  | zero => intro d as co pr se su ba sz h1 h2; omega
  | succ m ih =>
    intro d as co pr se su ba sz hd hm I
    by_cases h8 : d = 8
    · subst h8
      exact br_t (nI_le (a := 8) (b := 8) (by omega) (by decide)) (h as co pr se su ba sz (px_mono (fun x hx => hx.imp id fun z => ⟨z, H.1.2.2.1 x⟩) I))
    · refine br_f (nI_ge (b := 8) (by omega) (by decide)) (xw_node hC hb (by omega) (fun c hc hf => br_f (nI_pos (by omega)) ?_) (fun hf => br_t pn_neg1 (nm_r (nI_1 d) ?_)))
      · have f := pf_i (K := xki) (pa := pa) (de := de) (b := b) (d := d) (by rw [hf]; exact hc)
        rw [hf] at f
        obtain ⟨f1, f2, f3⟩ := f
        have hct : pt_ab pa t (c + 1) = true := (pt_st H.1 hc f1).mpr (by rw [f2]; exact hbt)
        have e1 : nI (nm b) = nI (nm (pa c)) := by rw [f2]
        rw [e1]
        refine xw_set (sp := sp) (nm := nm) (sbo := sbo) (bas := bas) (S' := fun c => S c ∨ (pa c = b ∧ de c < d + 1)) hc f1 hct (fun e he => ?_) (fun z => hN c hc z hct) ?_ I (fun as' co' pr' se' su' ba' sz' I' => nm_r (nI_1 d) ?_)
        · have hb1 := hbas c hc f1 f2 e he
          refine ⟨(hM c hc f1 f2 e he).1, (H.2.2.1 c hc f1 e he).1, fun z => ?_, fun z => ?_⟩
          · rw [hb1, if_neg (by omega)]
          · rw [hb1, if_pos z]
            obtain ⟨k, hk, ha⟩ := (H.2.1.2.2.1 c hc f1 e he).1 z
            exact hP c hc f1 f2 e he z (pm_ixI (b := b) (pf_eq H.1 hc f1 f2 rfl) (H.1.2.2.1 c) he hk ha).2.1
        · intro x hx hxK hxS hxc
          refine hxS.imp id fun z => ⟨z.1, ?_⟩
          by_cases e : de x = d
          · exact absurd ((pf_eq H.1 hx hxK z.1 e).symm.trans hf) hxc
          · omega
        · rw [← e1]
          exact ih (d + 1) as' co' pr' se' su' ba' sz' (by omega) (by omega) I'
      · refine ih (d + 1) as co pr se su ba sz (by omega) (by omega) ⟨fun c hc hcK hct hS => I.1 c hc hcK hct (hS.imp id fun z => ⟨z.1, ?_⟩), I.2⟩
        by_cases e : de c = d
        · have := pf_eq H.1 hc hcK z.1 e
          omega
        · omega
theorem xw_lay {post : SX → Prop} (H : pm_H xki pa de r cd g sp al) (hC : pc_C xki pa de xch) (hM : pm_MD xki pa sp al b xsn xal) (hb : b ≤ 16) (hst : st ≤ 60000) (hbt : t = b ∨ pt_ab pa t b = true) (hbas : ∀ c, c < 16 → xki c ≠ 0 → pa c = b → ∀ e, e < 2 → bas (2 * c + e) = if 0 < sp (2 * c + e) then pm_pl (pf_fd xki pa de) de sp al b st (2 * c + e) else 0) (hN : ∀ c, c < 16 → xki c = 2 → pt_ab pa t (c + 1) = true → xns c = nI (nm (c + 1)) ∧ xnu c = nI (sbo c)) (hn0 : b = 0 → nm 0 = 0) (hn1 : ∀ s, b = s + 1 → ¬ xas s = 0 ∧ xse s = nI (nm (s + 1))) (I : px_IN xki pa nm sbo bas sp t S as0 co0 pr0 se0 su0 ba0 sz0 xas xco xpr xse xsu xba xsz) (h : ∀ pl as' co' pr' se' su' ba' sz', px_IN xki pa nm sbo bas sp t (fun c => S c ∨ pa c = b) as0 co0 pr0 se0 su0 ba0 sz0 as' co' pr' se' su' ba' sz' → post (xbu, xho, xsp, xgr, xfo, xla, xde, xcr, xki, xpa, xdv, xt0, xt1, xch, as', co', pr', se', su', ba', sz', xce, xsn, xal, pl, xns, xnu, xor, xbt, xnd, xdo)) : wpX_layOutBus post (xbu, xho, xsp, xgr, xfo, xla, xde, xcr, xki, xpa, xdv, xt0, xt1, xch, xas, xco, xpr, xse, xsu, xba, xsz, xce, xsn, xal, xpl, xns, xnu, xor, xbt, xnd, xdo) (pn_b b) (nI st) := by
  unfold wpX_layOutBus
  refine xw_pack H hC hM hb hst (fun pl hP => ?_)
  dsimp only
  have fin : ∃ n16 : Nat, wX_layOutBus_16 post (pn_b b) (nI (nm b)) n16 0 xbu xho xsp xgr xfo xla xde xcr xki xpa xdv xt0 xt1 xch xas xco xpr xse xsu xba xsz xce xsn xal pl xns xnu xor xbt xnd xdo :=
    ⟨9, xw_lay16 (xpl := pl) H hC hM hb hbt hP hbas hN (h pl) 9 0 xas xco xpr xse xsu xba xsz (by omega) (by omega) (px_mono (fun x hx => hx.elim id fun z => by omega) I)⟩
  refine xw_num hb (fun e => ?_) (fun s e z => ?_) (fun s e z => ?_)
  · have e2 : (0 : Int32) = nI (nm b) := by rw [e, hn0 e]; rfl
    rw [← e2] at fin
    exact fin
  · exact absurd z (hn1 s e).1
  · rw [(hn1 s e).2, ← e]
    exact fin
end
end
section
/-! numbering the buses: the walk with its stack -/
def px_w1 (K : Nat → Int32) (s : Nat) : Nat := if K s = 2 then 1 else 0
def px_DI (K : Nat → Int32) (pa PN : Nat → Nat) (t F : Nat) (ord : Nat → Int32) : Prop := ∀ i, i < F → ∃ s, s < 16 ∧ K s = 2 ∧ pt_ab pa t (s + 1) = true ∧ PN (s + 1) = i + 1 ∧ ord i = nI s
def px_GD (PN NM SB : Nat → Nat) (F s : Nat) (ord ns nu : Nat → Int32) : Prop := PN (s + 1) ≤ F ∧ ord (PN (s + 1) - 1) = nI s ∧ ns s = nI (NM (s + 1)) ∧ nu s = nI (SB s)
def px_br (K : Nat → Int32) (pa de : Nat → Nat) (b d x : Nat) : Prop := ∃ c, c < 16 ∧ K c ≠ 0 ∧ pa c = b ∧ d ≤ de c ∧ (x = c ∨ pt_ab pa (c + 1) (x + 1) = true)
section
variable {K : Nat → Int32} {pa de r w : Nat → Nat} {b d : Nat}
theorem px_cw0 (T : pt_T K pa de r) (hw : ∀ s, ¬ K s = 2 → w s = 0) (h : ∀ s, s < 16 → pf_fd K pa de b d = s → ¬ K s = 2) : pf_cw K pa de w b d = 0 := by
  unfold pf_cw
  by_cases hF : pf_fd K pa de b d < 16
  · rw [if_pos hF, hw _ (h _ hF rfl), pf_sb_0 T w (h _ hF rfl)]
  · rw [if_neg hF]
theorem px_cws {s : Nat} (hs : s < 16) (hf : pf_fd K pa de b d = s) : pf_cw K pa de w b d = w s + pf_sb K pa w (s + 1) := by
  unfold pf_cw
  rw [hf, if_pos hs]
theorem px_w1n (s : Nat) (h : ¬ K s = 2) : px_w1 K s = 0 := if_neg h
theorem px_wBn {cd : Nat → Nat} (s : Nat) (h : ¬ K s = 2) : py_w K cd s = 0 := if_neg h
end
section
variable {xbu xho xsp xgr xfo xla xde xcr : Int32} {xki xpa xdv xt0 xt1 xch xas xco xpr xse xsu xba xsz xce xsn xal xpl xns xnu xor xbt xnd xdo : Nat → Int32} {pa de r cd : Nat → Nat} {t : Nat} {PN NM SB : Nat → Nat}
set_option maxHeartbeats 4000000 in
theorem xw_dfs {post : SX → Prop} (T : pt_T xki pa de r) (hC : pc_C xki pa de xch) (hcd : ∀ s, s < 16 → xki s = 2 → xt0 s = nI (cd (2 * s))) (hPN : ∀ s, s < 16 → xki s = 2 → pt_ab pa t (s + 1) = true → PN (s + 1) = PN (pa s) + 1 + ps_sm (de s) (pf_cw xki pa de (px_w1 xki) (pa s))) (hNM : ∀ s, s < 16 → xki s = 2 → pt_ab pa t (s + 1) = true → NM (s + 1) = NM (pa s) + 1 + ps_sm (de s) (pf_cw xki pa de (py_w xki cd) (pa s))) (hSB : ∀ s, SB s = NM (s + 1) + pf_sb xki pa (py_w xki cd) (s + 1) + cd (2 * s)) : ∀ N b d q k F L m n ns nu ord bt nd, b ≤ 16 → (t = b ∨ pt_ab pa t b = true) → d ≤ 8 → q + ps_sm d (pf_cw xki pa de (px_w1 xki) b) = ps_sm 8 (pf_cw xki pa de (px_w1 xki) b) → N = 9 * q + (8 - d) → k + q ≤ 16 → F = PN b + ps_sm d (pf_cw xki pa de (px_w1 xki) b) → F + q ≤ 16 → L = NM b + ps_sm d (pf_cw xki pa de (py_w xki cd) b) → m + N ≤ 158 → bt k = pn_b b → nd k = nI d → px_DI xki pa PN t F ord → (∀ ns' nu' ord' bt' nd', (∀ j, j < k → bt' j = bt j ∧ nd' j = nd j) → bt' k = pn_b b → nd' k = nI 8 → px_DI xki pa PN t (F + q) ord' → (∀ s, s < 16 → xki s = 2 → px_br xki pa de b d s → px_GD PN NM SB (F + q) s ord' ns' nu') → (∀ i, i < F → ord' i = ord i) → (∀ s, ns s = nI (NM (s + 1)) → ns' s = nI (NM (s + 1))) → (∀ s, nu s = nI (SB s) → nu' s = nI (SB s)) → wX_numberBuses_31 post n (nI (m + N)) xbu xho xsp xgr (nI (F + q)) (nI (NM b + pf_sb xki pa (py_w xki cd) b)) (nI k) xcr xki xpa xdv xt0 xt1 xch xas xco xpr xse xsu xba xsz xce xsn xal xpl ns' nu' ord' bt' nd' xdo) → wX_numberBuses_31 post (N + n) (nI m) xbu xho xsp xgr (nI F) (nI L) (nI k) xcr xki xpa xdv xt0 xt1 xch xas xco xpr xse xsu xba xsz xce xsn xal xpl ns nu ord bt nd xdo := by
  intro N
  induction N using Nat.strongRecOn with
  | ind N IH =>
    intro b d q k F L m n ns nu ord bt nd hb hbt hd hq hN hk hF hFq hL hm hbk hdk hDI hJ
    by_cases h8 : d = 8
    · subst h8
      have q0 : q = 0 := by omega
      subst q0
      have N0 : N = 0 := by omega
      subst N0
      have := hJ ns nu ord bt nd (fun j _ => ⟨rfl, rfl⟩) hbk hdk hDI (fun s _ _ ⟨c, _, _, _, hdc, _⟩ => by have := T.2.2.1 c; omega) (fun _ _ => rfl) (fun _ h => h) (fun _ h => h)
      rw [Nat.zero_add, hL]
      rw [pf_rec T] at this
      exact this
    · obtain ⟨N', rfl⟩ : ∃ N', N = N' + 1 := ⟨N - 1, by omega⟩
      rw [show N' + 1 + n = (N' + n) + 1 by omega]
      have hcl : (nI k).toNatClampNeg = k := nI_clamp (by omega)
      have hink : vp_in (nI k) 17 := vp_in_nI (by omega) (by decide)
      have skip : (∀ s, s < 16 → pf_fd xki pa de b d = s → ¬ xki s = 2) → wX_numberBuses_31 post (N' + n) (nI (m + 1)) xbu xho xsp xgr (nI F) (nI L) (nI k) xcr xki xpa xdv xt0 xt1 xch xas xco xpr xse xsu xba xsz xce xsn xal xpl ns nu ord bt (upd nd k (nI (d + 1))) xdo := by
        intro hn
        have c1 := px_cw0 T px_w1n hn
        have c2 := px_cw0 (w := py_w xki cd) T px_wBn hn
        refine IH N' (by omega) b (d + 1) q k F L (m + 1) n ns nu ord bt (upd nd k (nI (d + 1))) hb hbt (by omega) (by rw [ps_s, c1]; omega) (by omega) hk (by rw [ps_s, c1]; omega) hFq (by rw [ps_s, c2]; omega) (by omega) hbk pk_us hDI ?_
        intro ns' nu' ord' bt' nd' a1 a2 a3 a4 a5 a6 a7 a8
        have := hJ ns' nu' ord' bt' nd' (fun j hj => ⟨(a1 j hj).1, by rw [(a1 j hj).2, pk_un (by omega)]⟩) a2 a3 a4 (fun x hx hxK hbr => a5 x hx hxK ?_) a6 a7 a8
        · rw [show m + 1 + N' = m + (N' + 1) by omega]
          exact this
        · obtain ⟨c, hc, hcK, hcb, hdc, hxc⟩ := hbr
          refine ⟨c, hc, hcK, hcb, ?_, hxc⟩
          by_cases e : de c = d
          · exfalso
            have h2 := hn c hc (pf_eq T hc hcK hcb e)
            rcases hxc with e2 | e2
            · exact h2 (by rw [← e2]; exact hxK)
            · exact h2 (pt_lt T hx (by rw [hxK]; decide) e2).2.1
          · omega
      refine br_f (nI_ge (b := 160) (by omega) (by decide)) (br_f (nI_pos (by omega)) ⟨hink, nm_r (e' := nI d) (by rw [hcl]; exact hdk) (br_f (nI_ge (b := 8) (by omega) (by decide)) ⟨hink, nm_r (e' := upd nd k (nI (d + 1))) (by rw [hcl, nI_1]) ⟨hink, ?_⟩⟩)⟩)
      rw [hcl, hbk]
      refine xw_node hC hb (by omega) (fun s hs hf => ?_) (fun hf => xw_isKn (br_t rfl (nm_r (nI_1 m) (skip fun s hs e => by omega))))
      refine xw_isK hs (fun z => br_f (by decide) ?_) (fun z => br_t rfl (nm_r (nI_1 m) (skip fun s' hs' e => by rw [← e, hf]; exact z)))
      have f := pf_i (K := xki) (pa := pa) (de := de) (b := b) (d := d) (by rw [hf]; exact hs)
      rw [hf] at f
      obtain ⟨f1, f2, f3⟩ := f
      have hst : pt_ab pa t (s + 1) = true := (pt_st T hs f1).mpr (by rw [f2]; exact hbt)
      have c1 := px_cws (w := px_w1 xki) hs hf
      have c2 := px_cws (w := py_w xki cd) hs hf
      rw [show px_w1 xki s = 1 from if_pos z] at c1
      rw [show py_w xki cd s = 1 + cd (2 * s) from if_pos z] at c2
      have p1 := hPN s hs z hst
      have p2 := hNM s hs z hst
      rw [f2, f3] at p1 p2
      have m8 := ps_mono (pf_cw xki pa de (px_w1 xki) b) (show d + 1 ≤ 8 by omega)
      rw [ps_s, c1] at m8
      obtain ⟨qc, hqc⟩ : ∃ qc, pf_sb xki pa (px_w1 xki) (s + 1) = qc := ⟨_, rfl⟩
      rw [hqc] at c1 m8
      obtain ⟨q2, hq2⟩ : ∃ q2, q = 1 + qc + q2 := ⟨q - 1 - qc, by omega⟩
      have s0 := hSB s
      unfold wpX_enterBridge
      dsimp only
      have hcls : (nI s).toNatClampNeg = s := nI_clamp (by omega)
      have hins : vp_in (nI s) 16 := vp_in_nI hs (by decide)
      have hclk : (nI (k + 1)).toNatClampNeg = k + 1 := nI_clamp (by omega)
      have hink1 : vp_in (nI (k + 1)) 17 := vp_in_nI (by omega) (by decide)
      refine nm_r (nI_1 L) ⟨hins, nm_r (e' := upd ns s (nI (L + 1))) (by rw [hcls]) ⟨vp_in_nI (by omega) (by decide), nm_r (e' := upd ord F (nI s)) (by rw [nI_clamp (by omega)]) (nm_r (nI_1 F) (nm_r (nI_1 k) ⟨hink1, nm_r (e' := upd bt (k + 1) (nI s)) (by rw [hclk]) ⟨hink1, nm_r (e' := upd (upd nd k (nI (d + 1))) (k + 1) 0) (by rw [hclk]) (nm_r (nI_1 m) ?_)⟩⟩))⟩⟩
      rw [show N' + n = (9 * qc + 8) + ((9 * q2 + (8 - (d + 1)) + n) + 1) by omega]
      refine IH (9 * qc + 8) (by omega) (s + 1) 0 qc (k + 1) (F + 1) (L + 1) (m + 1) ((9 * q2 + (8 - (d + 1)) + n) + 1) _ nu _ _ _ (by omega) (Or.inr hst) (by omega) (by rw [← pf_rec T, hqc]; rfl) (by omega) (by omega) (by rw [p1, hF]; show _ = _ + 0; omega) (by omega) (by rw [p2, hL]; show _ = _ + 0; omega) (by omega) pk_us pk_us ?_ ?_
      · intro i hi
        by_cases e : i = F
        · refine ⟨s, hs, z, hst, ?_, ?_⟩
          · rw [p1, e, hF]; omega
          · rw [e]; exact pk_us
        · obtain ⟨s', a, b', c, d', e'⟩ := hDI i (by omega)
          exact ⟨s', a, b', c, d', by rw [pk_un e]; exact e'⟩
      intro ns' nu' ord' bt' nd' a1 a2 a3 a4 a5 a6 a7 a8
      have a2' : bt' (k + 1) = nI s := a2
      refine br_f (nI_ge (b := 160) (by omega) (by decide)) (br_f (nI_pos (by omega)) ⟨hink1, nm_r (e' := nI 8) (by rw [hclk]; exact a3) (br_t (nI_le (a := 8) (b := 8) (by omega) (by decide)) ⟨hink1, ?_⟩)⟩)
      rw [hclk, a2']
      unfold wpX_leaveBus
      dsimp only
      refine nm_r (nI_pred k) (br_f (nI_pos (by omega)) ⟨hins, nm_r (e' := nI (SB s)) (by rw [hcls, hcd s hs z, nI_add, s0]) ⟨hins, nm_r (e' := upd nu' s (nI (SB s))) (by rw [hcls]) (nm_r (nI_1 _) ?_)⟩⟩)
      refine IH (9 * q2 + (8 - (d + 1))) (by omega) b (d + 1) q2 k (F + 1 + qc) (SB s) (m + 1 + (9 * qc + 8) + 1) n ns' (upd nu' s (nI (SB s))) ord' bt' nd' hb hbt (by omega) (by rw [ps_s, c1]; omega) rfl (by omega) (by rw [ps_s, c1]; omega) (by omega) (by rw [ps_s, c2, s0]; omega) (by omega) ?_ ?_ a4 ?_
      · rw [(a1 k (by omega)).1, pk_un (by omega)]; exact hbk
      · rw [(a1 k (by omega)).2, pk_un (by omega)]; exact pk_us
      intro ns2 nu2 ord2 bt2 nd2 b1 b2 b3 b4 b5 b6 b7 b8
      have eF : F + 1 + qc + q2 = F + q := by omega
      rw [eF] at b4
      have key := hJ ns2 nu2 ord2 bt2 nd2 ?_ b2 b3 b4 ?_ ?_ ?_ ?_
      · rw [show m + 1 + (9 * qc + 8) + 1 + (9 * q2 + (8 - (d + 1))) = m + (N' + 1) by omega, eF]
        exact key
      · intro j hj
        rw [(b1 j hj).1, (b1 j hj).2, (a1 j (by omega)).1, (a1 j (by omega)).2]
        exact ⟨pk_un (by omega), by rw [pk_un (by omega), pk_un (by omega)]⟩
      · intro x hx hxK hbr
        obtain ⟨c, hc, hcK, hcb, hdc, hxc⟩ := hbr
        by_cases e : de c = d
        · obtain rfl : s = c := hf.symm.trans (pf_eq T hc hcK hcb e)
          rcases hxc with e2 | e2
          · subst e2
            refine ⟨by omega, ?_, b7 x (a7 x ?_), b8 x pk_us⟩
            · rw [show PN (x + 1) - 1 = F by omega, b6 F (by omega), a6 F (by omega)]; exact pk_us
            · rw [pk_us, p2, hL]; exact congrArg nI (by omega)
          · obtain ⟨c', hc', hcK', hcb', hxc'⟩ := pf_path T x hx (by rw [hxK]; decide) e2
            obtain ⟨g1, g2, g3, g4⟩ := a5 x hx hxK ⟨c', hc', hcK', hcb', by omega, hxc'.imp Eq.symm id⟩
            refine ⟨by omega, ?_, b7 x g3, b8 x ?_⟩
            · rw [b6 _ (by omega)]; exact g2
            · by_cases ex : x = s
              · rw [ex]; exact pk_us
              · rw [pk_un ex]; exact g4
        · have := b5 x hx hxK ⟨c, hc, hcK, hcb, by omega, hxc⟩
          rw [eF] at this
          exact this
      · intro i hi
        rw [b6 i (by omega), a6 i (by omega)]
        exact pk_un (by omega)
      · intro x hx
        refine b7 x (a7 x ?_)
        by_cases ex : x = s
        · rw [ex, pk_us, p2, hL]; exact congrArg nI (by omega)
        · rw [pk_un ex]; exact hx
      · intro x hx
        refine b8 x ?_
        by_cases ex : x = s
        · rw [ex]; exact pk_us
        · rw [pk_un ex]; exact a8 x hx
theorem xw_numb {post : SX → Prop} {z q : Nat} (T : pt_T xki pa de r) (hC : pc_C xki pa de xch) (hcd : ∀ s, s < 16 → xki s = 2 → xt0 s = nI (cd (2 * s))) (hPN : ∀ s, s < 16 → xki s = 2 → pt_ab pa t (s + 1) = true → PN (s + 1) = PN (pa s) + 1 + ps_sm (de s) (pf_cw xki pa de (px_w1 xki) (pa s))) (hNM : ∀ s, s < 16 → xki s = 2 → pt_ab pa t (s + 1) = true → NM (s + 1) = NM (pa s) + 1 + ps_sm (de s) (pf_cw xki pa de (py_w xki cd) (pa s))) (hSB : ∀ s, SB s = NM (s + 1) + pf_sb xki pa (py_w xki cd) (s + 1) + cd (2 * s)) (ht : t ≤ 16) (hP0 : PN t = 0) (hN0 : NM t = z) (hq : pf_sb xki pa (px_w1 xki) t = q) (h : ∀ ns nu ord bt nd, px_DI xki pa PN t q ord → (∀ s, s < 16 → xki s = 2 → pt_ab pa t (s + 1) = true → px_GD PN NM SB q s ord ns nu) → post (xbu, xho, xsp, xgr, nI q, nI (z + pf_sb xki pa (py_w xki cd) t), -1, xcr, xki, xpa, xdv, xt0, xt1, xch, xas, xco, xpr, xse, xsu, xba, xsz, xce, xsn, xal, xpl, ns, nu, ord, bt, nd, xdo)) : wpX_numberBuses post (xbu, xho, xsp, xgr, xfo, xla, xde, xcr, xki, xpa, xdv, xt0, xt1, xch, xas, xco, xpr, xse, xsu, xba, xsz, xce, xsn, xal, xpl, xns, xnu, xor, xbt, xnd, xdo) (pn_b t) (nI z) := by
  have hq16 : q ≤ 16 := by
    rw [← hq]
    refine Nat.le_trans (pf_sb_le _ t 1 fun s _ => ?_) (by omega)
    unfold px_w1
    by_cases e : xki s = 2
    · rw [if_pos e]; exact Nat.le_refl _
    · rw [if_neg e]; omega
  unfold wpX_numberBuses
  refine nm_e (nm_e ⟨(9 * q + 8) + 2, ?_⟩)
  refine xw_dfs (post := post) T hC hcd hPN hNM hSB (9 * q + 8) t 0 q 0 0 z 0 2 xns xnu xor _ _ ht (Or.inl rfl) (by omega) (by rw [← pf_rec T, hq]; rfl) (by omega) (by omega) (by rw [hP0]; rfl) (by omega) (by rw [hN0]; rfl) (by omega) pk_us pk_us (fun i hi => by omega) ?_
  intro ns nu ord bt nd a1 a2 a3 a4 a5 a6 a7 a8
  have hcl : (nI 0).toNatClampNeg = 0 := nI_clamp (by omega)
  have hin : vp_in (nI 0) 17 := vp_in_nI (by omega) (by decide)
  refine br_f (nI_ge (b := 160) (by omega) (by decide)) (br_f (nI_pos (by omega)) ⟨hin, nm_r (e' := nI 8) (by rw [hcl]; exact a3) (br_t (nI_le (a := 8) (b := 8) (by omega) (by decide)) ⟨hin, ?_⟩)⟩)
  rw [hcl, a2, Nat.zero_add]
  rw [Nat.zero_add] at a4 a5
  unfold wpX_leaveBus
  dsimp only
  refine nm_r (e' := (-1 : Int32)) (by decide) (br_t pn_neg1 (nm_r (nI_1 _) ?_))
  refine br_f (nI_ge (b := 160) (by omega) (by decide)) (br_t pn_neg1 ?_)
  rw [hN0, Nat.zero_add q]
  refine h ns nu ord bt nd a4 fun s hs hK hst => a5 s hs hK ?_
  obtain ⟨c, hc, hcK, hcb, hx⟩ := pf_path T s hs (by rw [hK]; decide) hst
  exact ⟨c, hc, hcK, hcb, by omega, hx.imp Eq.symm id⟩
end
end
section
/-! assigning everything below a bus, the component -/
def px_EM (K : Nat → Int32) (sp al : Nat → Nat) (sn an : Nat → Int32) : Prop := ∀ s, s < 16 → K s ≠ 0 → ∀ e, e < 2 → (K s = 1 ∨ e = 1) → sn (2 * s + e) = nI (sp (2 * s + e)) ∧ an (2 * s + e) = nI (al (2 * s + e))
def px_SZ (K : Nat → Int32) (pa sp al PN : Nat → Nat) (t j : Nat) (sn an : Nat → Int32) : Prop := ∀ s, s < 16 → K s = 2 → pt_ab pa t (s + 1) = true → j < PN (s + 1) → sn (2 * s) = nI (sp (2 * s)) ∧ an (2 * s) = nI (al (2 * s))
/-- the numbers, positions and bases of what lies below t -/
def px_Q (K : Nat → Int32) (pa de cd sp al : Nat → Nat) (t z st : Nat) (PN nm sbo bas : Nat → Nat) : Prop :=
  PN t = 0 ∧ nm t = z ∧
  (∀ s, s < 16 → K s = 2 → pt_ab pa t (s + 1) = true → PN (s + 1) = PN (pa s) + 1 + ps_sm (de s) (pf_cw K pa de (px_w1 K) (pa s))) ∧
  (∀ s, s < 16 → K s = 2 → pt_ab pa t (s + 1) = true → nm (s + 1) = nm (pa s) + 1 + ps_sm (de s) (pf_cw K pa de (py_w K cd) (pa s))) ∧
  (∀ s, sbo s = nm (s + 1) + pf_sb K pa (py_w K cd) (s + 1) + cd (2 * s)) ∧
  (∀ c, c < 16 → K c ≠ 0 → pt_ab pa t (c + 1) = true → ∀ e, e < 2 → (pa c = t → bas (2 * c + e) = if 0 < sp (2 * c + e) then pm_pl (pf_fd K pa de) de sp al t st (2 * c + e) else 0) ∧ (∀ p, pa c = p + 1 → ¬ pa c = t → bas (2 * c + e) = if 0 < sp (2 * c + e) then pm_pl (pf_fd K pa de) de sp al (p + 1) (bas (2 * p)) (2 * c + e) else 0)) ∧
  (∀ s, s < 16 → K s = 2 → pt_ab pa t (s + 1) = true → bas (2 * s) ≤ 60000)
section
variable {K : Nat → Int32} {pa de r cd sp al PN nm sbo bas : Nat → Nat} {t z st j b : Nat} {sn an : Nat → Int32}
theorem px_MDb (T : pt_T K pa de r) (Q : px_Q K pa de cd sp al t z st PN nm sbo bas) (E : px_EM K sp al sn an) (Z : px_SZ K pa sp al PN t j sn an) (hbt : t = b ∨ pt_ab pa t b = true) (hj : j ≤ PN b) : pm_MD K pa sp al b sn an := by
  intro c hc hcK hcb e he
  have hct : pt_ab pa t (c + 1) = true := (pt_st T hc hcK).mpr (by rw [hcb]; exact hbt)
  rcases T.1 c hc with h | h | h
  · exact absurd h hcK
  · exact E c hc hcK e he (Or.inl h)
  · rcases (by omega : e = 0 ∨ e = 1) with rfl | rfl
    · have := Q.2.2.1 c hc h hct
      rw [hcb] at this
      exact Z c hc h hct (by omega)
    · exact E c hc hcK 1 he (Or.inr rfl)
theorem px_inj {PN NM SB : Nat → Nat} {q s s' j : Nat} {ord ns nu : Nat → Int32} (hs : s < 16) (hs' : s' < 16) (h : ord j = nI s) (h' : px_GD PN NM SB q s' ord ns nu) (hp : PN (s' + 1) = j + 1) : s' = s := by
  have := h'.2.1
  rw [hp, show j + 1 - 1 = j by omega, h] at this
  exact ((nI_eq (by omega) (by omega)).mp this).symm
end
section
variable {xbu xho xsp xgr xfo xla xde xcr : Int32} {xki xpa xdv xt0 xt1 xch xas xco xpr xse xsu xba xsz xce xsn xal xpl xns xnu xor xbt xnd xdo : Nat → Int32} {pa de r cd sp al PN nm sbo bas : Nat → Nat} {g t z st q lim gb : Nat}
theorem xw_numV {post : Int32 → Prop} {b : Nat} (hb : b ≤ 16) (h0 : b = 0 → z = 0) (h1 : ∀ s, b = s + 1 → ¬ xas s = 0 ∧ xse s = nI z) (h : post (nI z)) : wpX_numberOf post (xbu, xho, xsp, xgr, xfo, xla, xde, xcr, xki, xpa, xdv, xt0, xt1, xch, xas, xco, xpr, xse, xsu, xba, xsz, xce, xsn, xal, xpl, xns, xnu, xor, xbt, xnd, xdo) (pn_b b) := by
  refine xw_num hb (fun e => ?_) (fun s e y => absurd y (h1 s e).1) (fun s e y => ?_)
  · rw [h0 e] at h; exact h
  · rw [(h1 s e).2]; exact h
theorem xw_asg82 {post : Int32 → SX → Prop} {as0 co0 pr0 se0 su0 ba0 sz0 : Nat → Int32} (H : pm_H xki pa de r cd g sp al) (hC : pc_C xki pa de xch) (Q : px_Q xki pa de cd sp al t z st PN nm sbo bas) (E : px_EM xki sp al xsn xal) (Z : px_SZ xki pa sp al PN t 0 xsn xal) (D : px_DI xki pa PN t q xor) (G : ∀ s, s < 16 → xki s = 2 → pt_ab pa t (s + 1) = true → px_GD PN nm sbo q s xor xns xnu) (hq : q ≤ 16) (hfo : xfo = nI q) (h : ∀ pl as co pr se su ba sz, px_IN xki pa nm sbo bas sp t (fun _ => True) as0 co0 pr0 se0 su0 ba0 sz0 as co pr se su ba sz → post 0 (xbu, xho, xsp, xgr, xfo, xla, xde, xcr, xki, xpa, xdv, xt0, xt1, xch, as, co, pr, se, su, ba, sz, xce, xsn, xal, pl, xns, xnu, xor, xbt, xnd, xdo)) : ∀ m j pl as co pr se su ba sz, j ≤ q → q - j < m → px_IN xki pa nm sbo bas sp t (fun c => pa c = t ∨ PN (pa c) ≤ j) as0 co0 pr0 se0 su0 ba0 sz0 as co pr se su ba sz → wX_assignBelow_82 post m (nI j) xbu xho xsp xgr xfo xla xde xcr xki xpa xdv xt0 xt1 xch as co pr se su ba sz xce xsn xal pl xns xnu xor xbt xnd xdo := by
  subst hfo
  intro m
  induction m with
  | zero => intro j pl as co pr se su ba sz h1 h2; omega
  | succ m ih =>
    intro j pl as co pr se su ba sz hj hm I
    by_cases hjq : j = q
    · subst hjq
      refine br_t (nI_le (by omega) (by omega)) (h pl as co pr se su ba sz ⟨fun c hc hcK hct _ => I.1 c hc hcK hct ?_, I.2⟩)
      rcases pd_up H.1 hc hcK hct with e | ⟨p, hp, e, hp2, hpK, hpt⟩
      · exact Or.inl e
      · rw [e]; exact Or.inr (G p hp hp2 hpt).1
    · obtain ⟨s, hs, hK, hst, hP, ho⟩ := D j (by omega)
      have hK0 : xki s ≠ 0 := by rw [hK]; decide
      have hlt : PN (pa s) < PN (s + 1) := by
        have := Q.2.2.1 s hs hK hst
        omega
      have hSE := I.1 s hs hK0 hst (Or.inr (by omega))
      have hbs := (hSE.2.2.1 0 (by omega)).1
      rw [Nat.add_zero] at hbs
      have hcl : (nI j).toNatClampNeg = j := nI_clamp (by omega)
      refine br_f (nI_ge (by omega) (by omega)) ⟨vp_in_nI (by omega) (by decide), nm_r (e' := nI s) (by rw [hcl]; exact ho) ?_⟩
      rw [pn_lit2, nI_clamp (show 2 * s < 2 ^ 31 by omega), hbs]
      refine ⟨vp_in_nI (by omega) (by decide), ?_⟩
      refine xw_lay (b := s + 1) (t := t) (nm := nm) (sbo := sbo) (bas := bas) (as0 := as0) (co0 := co0) (pr0 := pr0) (se0 := se0) (su0 := su0) (ba0 := ba0) (sz0 := sz0) H hC (px_MDb (j := 0) H.1 Q E Z (Or.inr hst) (by omega)) (by omega) (Q.2.2.2.2.2.2 s hs hK hst) (Or.inr hst) (fun c hc hcK hcb e he => ?_) (fun c hc hcK hct => ⟨(G c hc hcK hct).2.2.1, (G c hc hcK hct).2.2.2⟩) (fun e => by omega) (fun s' e => ?_) I (fun pl' as' co' pr' se' su' ba' sz' I' => nm_r (nI_1 j) (ih (j + 1) pl' as' co' pr' se' su' ba' sz' (by omega) (by omega) ⟨fun c hc hcK hct hS => I'.1 c hc hcK hct ?_, I'.2⟩))
      · have hct : pt_ab pa t (c + 1) = true := (pt_st H.1 hc hcK).mpr (by rw [hcb]; exact Or.inr hst)
        refine (Q.2.2.2.2.2.1 c hc hcK hct e he).2 s hcb fun e => ?_
        exact pd_ne H.1 hs hK0 hst (by rw [← hcb, e])
      · obtain rfl : s = s' := by omega
        exact ⟨by rw [hSE.1]; decide, (hSE.2.2.2 hK).2.1⟩
      · rcases hS with e | e
        · exact Or.inl (Or.inl e)
        · by_cases e2 : PN (pa c) ≤ j
          · exact Or.inl (Or.inr e2)
          · rcases pd_up H.1 hc hcK hct with e3 | ⟨p, hp, e3, hp2, hpK, hpt⟩
            · exact Or.inl (Or.inl e3)
            · refine Or.inr ?_
              rw [e3] at e e2 ⊢
              rw [px_inj hs hp ho (G p hp hp2 hpt) (by omega)]
theorem xw_asg34 {post : Int32 → SX → Prop} (H : pm_H xki pa de r cd g sp al) (hC : pc_C xki pa de xch) (Q : px_Q xki pa de cd sp al t z st PN nm sbo bas) (D : px_DI xki pa PN t q xor) (G : ∀ s, s < 16 → xki s = 2 → pt_ab pa t (s + 1) = true → px_GD PN nm sbo q s xor xns xnu) (hq : q ≤ 16) (hfo : xfo = nI q) {gq : Nat} (hgr : xgr = nI g) (hgq : gq < 5) (hg : g = 2 ^ gq) (ht1 : ∀ s, s < 16 → xki s = 2 → xt1 s = nI (cd (2 * s + 1))) (ht : t ≤ 16) (hst : st ≤ 60000) (hlim : lim < 2 ^ 30) (htz : t = 0 → z = 0) (htb : ∀ s, t = s + 1 → ¬ xas s = 0 ∧ xse s = nI z) (h7 : lim < pm_cur (pf_fd xki pa de) sp al t st 80 → ∀ sn an pl, px_EM xki sp al sn an → post (-7) (xbu, xho, xsp, xgr, xfo, xla, xde, xcr, xki, xpa, xdv, xt0, xt1, xch, xas, xco, xpr, xse, xsu, xba, xsz, xce, sn, an, pl, xns, xnu, xor, xbt, xnd, xdo)) (h0 : pm_cur (pf_fd xki pa de) sp al t st 80 ≤ lim → ∀ sn an pl as co pr se su ba sz, px_EM xki sp al sn an → px_IN xki pa nm sbo bas sp t (fun _ => True) xas xco xpr xse xsu xba xsz as co pr se su ba sz → post 0 (xbu, xho, xsp, xgr, xfo, xla, xde, xcr, xki, xpa, xdv, xt0, xt1, xch, as, co, pr, se, su, ba, sz, xce, sn, an, pl, xns, xnu, xor, xbt, xnd, xdo)) : ∀ m j sn an pl, j ≤ q → j < m → px_EM xki sp al sn an → px_SZ xki pa sp al PN t j sn an → wX_assignBelow_34 post (pn_b t) (nI st) (nI lim) m (pn_b j) xbu xho xsp xgr xfo xla xde xcr xki xpa xdv xt0 xt1 xch xas xco xpr xse xsu xba xsz xce sn an pl xns xnu xor xbt xnd xdo := by
  intro m
  induction m with
  | zero => intro j sn an pl h1 h2; omega
  | succ m ih =>
    intro j sn an pl hj hm E Z
    cases j with
    | zero =>
      have M := px_MDb H.1 Q E Z (Or.inl rfl) (Nat.zero_le _)
      have hcur := pm_curB (n := 80) (b := t) (st := st) H hst (by omega)
      refine br_t pn_neg1 ?_
      refine xw_pack H hC M ht hst (fun pl' _ => ?_)
      dsimp only
      refine pk_le (pm_cur (pf_fd xki pa de) sp al t st 80) lim (fun hle => ?_) (fun hlt => h7 hlt sn an pl' E)
      refine xw_lay (b := t) (t := t) (nm := nm) (sbo := sbo) (bas := bas) (S := fun _ => False) (as0 := xas) (co0 := xco) (pr0 := xpr) (se0 := xse) (su0 := xsu) (ba0 := xba) (sz0 := xsz) H hC M ht hst (Or.inl rfl) (fun c hc hcK hcb e he => ?_) (fun c hc hcK hct => ⟨(G c hc hcK hct).2.2.1, (G c hc hcK hct).2.2.2⟩) (fun e => ?_) (fun s e => ?_) px_init (fun pl2 as co pr se su ba sz I => ?_)
      · have hct : pt_ab pa t (c + 1) = true := (pt_st H.1 hc hcK).mpr (Or.inl hcb.symm)
        exact (Q.2.2.2.2.2.1 c hc hcK hct e he).1 hcb
      · have q1 := Q.2.1
        rw [e, htz e] at q1
        exact q1
      · rw [← e, Q.2.1]; exact htb s e
      · refine ⟨q + 1, ?_⟩
        refine xw_asg82 (post := post) H hC Q E Z D G hq hfo (fun pl3 as' co' pr' se' su' ba' sz' I' => h0 hle sn an pl3 as' co' pr' se' su' ba' sz' E I') (q + 1) 0 pl2 as co pr se su ba sz (by omega) (by omega) ⟨fun c hc hcK hct hS => I.1 c hc hcK hct ?_, I.2⟩
        rcases hS with e | e
        · exact Or.inr e
        · rcases pd_up H.1 hc hcK hct with e3 | ⟨p, hp, e3, hp2, hpK, hpt⟩
          · exact Or.inr e3
          · exfalso
            have := Q.2.2.1 p hp hp2 hpt
            rw [e3] at e
            omega
    | succ j =>
      obtain ⟨s, hs, hK, hsT, hP, ho⟩ := D j (by omega)
      have hcl : (nI j).toNatClampNeg = j := nI_clamp (by omega)
      have M : pm_MD xki pa sp al (s + 1) sn an := px_MDb H.1 Q E Z (Or.inr hsT) (by omega)
      refine br_f (nI_pos (by omega)) ⟨vp_in_nI (show j < 17 by omega) (by decide), ?_⟩
      show wpX_sizeWindow _ _ (xor (nI j).toNatClampNeg)
      rw [hcl, ho]
      refine xw_size H hC M hs hK hgr hgq hg (ht1 s hs hK) (fun pl' => ?_)
      refine nm_r (py_m1 j) (ih j _ _ pl' (by omega) (by omega) ?_ ?_)
      · intro c hc hcK e he hor
        have hne : 2 * c + e ≠ 2 * s := by
          intro z
          have z1 : c = s := by omega
          have z2 : e = 0 := by omega
          rcases hor with y | y
          · rw [z1, hK] at y; exact absurd y (by decide)
          · omega
        rw [pk_un hne, pk_un hne]
        exact E c hc hcK e he hor
      · intro c hc hcK hct hlt
        by_cases e : c = s
        · rw [e]; exact ⟨pk_us, pk_us⟩
        · have hne : 2 * c ≠ 2 * s := by omega
          rw [pk_un hne, pk_un hne]
          refine Z c hc hcK hct ?_
          by_cases e2 : PN (c + 1) = j + 1
          · exact absurd (px_inj hs hc ho (G c hc hcK hct) e2) e
          · omega
theorem xw_asg {post : Int32 → SX → Prop} (H : pm_H xki pa de r cd g sp al) (hC : pc_C xki pa de xch) (Q : px_Q xki pa de cd sp al t z st PN nm sbo bas) (E : px_EM xki sp al xsn xal) {gq : Nat} (hgr : xgr = nI g) (hgq : gq < 5) (hg : g = 2 ^ gq) (ht0 : ∀ s, s < 16 → xki s = 2 → xt0 s = nI (cd (2 * s))) (ht1 : ∀ s, s < 16 → xki s = 2 → xt1 s = nI (cd (2 * s + 1))) (ht : t ≤ 16) (hst : st ≤ 60000) (hlim : lim < 2 ^ 30) (hgb : gb < 2 ^ 30) (hz : z + pf_sb xki pa (py_w xki cd) t < 2 ^ 30) (htz : t = 0 → z = 0) (htb : ∀ s, t = s + 1 → ¬ xas s = 0 ∧ xse s = nI z) (h6 : gb < z + pf_sb xki pa (py_w xki cd) t → ∀ fo la dq ns nu ord bt nd, post (-6) (xbu, xho, xsp, xgr, fo, la, dq, xcr, xki, xpa, xdv, xt0, xt1, xch, xas, xco, xpr, xse, xsu, xba, xsz, xce, xsn, xal, xpl, ns, nu, ord, bt, nd, xdo)) (h7 : z + pf_sb xki pa (py_w xki cd) t ≤ gb → lim < pm_cur (pf_fd xki pa de) sp al t st 80 → ∀ fo la dq ns nu ord bt nd sn an pl, px_EM xki sp al sn an → post (-7) (xbu, xho, xsp, xgr, fo, la, dq, xcr, xki, xpa, xdv, xt0, xt1, xch, xas, xco, xpr, xse, xsu, xba, xsz, xce, sn, an, pl, ns, nu, ord, bt, nd, xdo)) (h0 : z + pf_sb xki pa (py_w xki cd) t ≤ gb → pm_cur (pf_fd xki pa de) sp al t st 80 ≤ lim → ∀ fo la dq ns nu ord bt nd sn an pl as co pr se su ba sz, px_EM xki sp al sn an → px_IN xki pa nm sbo bas sp t (fun _ => True) xas xco xpr xse xsu xba xsz as co pr se su ba sz → post 0 (xbu, xho, xsp, xgr, fo, la, dq, xcr, xki, xpa, xdv, xt0, xt1, xch, as, co, pr, se, su, ba, sz, xce, sn, an, pl, ns, nu, ord, bt, nd, xdo)) : wpX_assignBelow post (xbu, xho, xsp, xgr, xfo, xla, xde, xcr, xki, xpa, xdv, xt0, xt1, xch, xas, xco, xpr, xse, xsu, xba, xsz, xce, xsn, xal, xpl, xns, xnu, xor, xbt, xnd, xdo) (pn_b t) (nI st) (nI lim) (nI gb) := by
  unfold wpX_assignBelow
  refine xw_numV ht htz htb ?_
  refine xw_numb (cd := cd) (PN := PN) (NM := nm) (SB := sbo) H.1 hC ht0 Q.2.2.1 Q.2.2.2.1 Q.2.2.2.2.1 ht Q.1 Q.2.1 rfl (fun ns nu ord bt nd D G => ?_)
  dsimp only
  have hq16 : pf_sb xki pa (px_w1 xki) t ≤ 16 := by
    refine Nat.le_trans (pf_sb_le _ t 1 fun s _ => ?_) (by omega)
    unfold px_w1
    by_cases e : xki s = 2
    · rw [if_pos e]; exact Nat.le_refl _
    · rw [if_neg e]; omega
  refine pk_le (z + pf_sb xki pa (py_w xki cd) t) gb (fun hle => ?_) (fun hlt => h6 hlt _ _ _ ns nu ord bt nd)
  have e1 : nI (pf_sb xki pa (px_w1 xki) t) - 1 = pn_b (pf_sb xki pa (px_w1 xki) t) := by
    rw [← pn_b1, Int32.add_sub_cancel]
  refine nm_r e1 ⟨17, ?_⟩
  refine xw_asg34 (post := post) (xns := ns) (xnu := nu) (xor := ord) H hC Q D G hq16 rfl hgr hgq hg ht1 ht hst hlim htz htb (fun hlt sn an pl E' => h7 hle hlt _ _ _ _ _ _ _ _ sn an pl E') (fun hle2 sn an pl as co pr se su ba sz E' I => h0 hle hle2 _ _ _ _ _ _ _ _ sn an pl as co pr se su ba sz E' I) 17 (pf_sb xki pa (px_w1 xki) t) xsn xal xpl (by omega) (by omega) E ?_
  intro s hs hK hsT hlt
  have := (G s hs hK hsT).1
  omega
end
end
section
/-! measuring, the reference -/
def py_AB (K : Nat → Int32) (pa sp al : Nat → Nat) (g b n v : Nat) : Prop := g ≤ v ∧ (∀ i, i < n → K (i / 2) ≠ 0 → pa (i / 2) = b → 0 < sp i → al i ≤ v) ∧ (v = g ∨ ∃ i, i < n ∧ K (i / 2) ≠ 0 ∧ pa (i / 2) = b ∧ 0 < sp i ∧ v = al i)
section
variable {K : Nat → Int32} {pa de r cd sp al : Nat → Nat} {g b v : Nat}
theorem py_waU (T : pt_T K pa de r) (h : py_AB K pa sp al g b 32 v) : v = pm_wa (pf_fd K pa de) sp al g b 16 := by
  obtain ⟨w1, w2, w3⟩ := pm_wa_c (F := pf_fd K pa de) (sp := sp) (al := al) (g := g) (b := b) 16
  obtain ⟨v1, v2, v3⟩ := h
  apply Nat.le_antisymm
  · rcases v3 with e | ⟨i, hi, hK, hp, h0, e⟩
    · rw [e]; exact w1
    · have hF := pf_eq T (show i / 2 < 16 by omega) hK hp rfl
      have h8 := T.2.2.1 (i / 2)
      have := w2 (2 * de (i / 2) + i % 2) (by omega)
      rw [show (2 * de (i / 2) + i % 2) / 2 = de (i / 2) by omega, show (2 * de (i / 2) + i % 2) % 2 = i % 2 by omega, hF, show 2 * (i / 2) + i % 2 = i by omega] at this
      rw [e]
      exact this (by omega) h0
  · rcases w3 with e | ⟨k, hk, hF, h0, e⟩
    · rw [e]; exact v1
    · obtain ⟨f1, f2, f3⟩ := pf_i hF
      rw [e]
      have e2 : (2 * pf_fd K pa de b (k / 2) + k % 2) / 2 = pf_fd K pa de b (k / 2) := by omega
      refine v2 _ (by omega) ?_ ?_ h0
      · rw [e2]; exact f1
      · rw [e2]; exact f2
end
section
variable {ybc yho yhw yg : Int32} {yki ypa ydv ycd yco yas yre yce ysn yal ypl : Nat → Int32} {pa de r cd sp al : Nat → Nat} {g b st n : Nat}
theorem yw_al7 {post : Int32 → Prop} (H : pm_H yki pa de r cd g sp al) (hP : py_P pa de ypa ydv) (hM : pm_MD yki pa sp al b ysn yal) (hb : b ≤ 16) (h : post (nI (pm_wa (pf_fd yki pa de) sp al g b 16))) : ∀ m i v, i ≤ 32 → 32 - i < m → v ≤ 16 → py_AB yki pa sp al g b i v → wY_alignBelow_7 post (pn_b b) ybc yho yhw yg yki ypa ydv ycd yco yas yre yce ysn yal ypl m (nI v) (nI i) := by
  intro m
  induction m with
  | zero => intro i v a b; omega
  | succ m ih =>
    intro i v hi hm hv A
    by_cases h32 : i = 32
    · subst h32
      refine br_t (nI_le (a := 32) (b := 32) (by omega) (by decide)) ?_
      rw [py_waU H.1 A]; exact h
    · have hin2 : vp_in (nI (i / 2)) 16 := vp_in_nI (by omega) (by decide)
      have hin : vp_in (nI i) 32 := vp_in_nI (by omega) (by decide)
      have no : ¬ (yki (i / 2) ≠ 0 ∧ pa (i / 2) = b ∧ 0 < sp i ∧ v < al i) → wY_alignBelow_7 post (pn_b b) ybc yho yhw yg yki ypa ydv ycd yco yas yre yce ysn yal ypl m (nI v) (nI (i + 1)) := by
        intro hn
        refine ih (i + 1) v (by omega) (by omega) hv ⟨A.1, fun j hj hK hp h0 => ?_, A.2.2.imp id fun ⟨j, hj, z⟩ => ⟨j, by omega, z⟩⟩
        by_cases e : j = i
        · rw [e] at hK hp h0 ⊢
          exact Nat.le_of_not_lt fun z => hn ⟨hK, hp, h0, z⟩
        · exact A.2.1 j (by omega) hK hp h0
      refine br_f (nI_ge (b := 32) (by omega) (by decide)) ⟨py_n2, ?_⟩
      rw [pn_div2 (by omega)]
      refine ⟨hin2, ?_⟩
      rw [nI_clamp (show i / 2 < 2 ^ 31 by omega), nI_clamp (show i < 2 ^ 31 by omega)]
      refine br_c (fun z => nm_r (nI_1 i) (no fun y => y.1 z)) (fun z => ⟨py_n2, hin2, ?_⟩)
      have hpe := (hP.2.2 (i / 2) (by omega)).1
      have hp16 := hP.1 (i / 2)
      rw [hpe]
      refine br_c (fun z2 => ⟨hin, ?_⟩) (fun z2 => nm_r (nI_1 i) (no fun y => z2 (by rw [y.2.1])))
      have hpb : pa (i / 2) = b := (pn_b_eq (by omega) (by omega)).mp z2
      have hMi := hM (i / 2) (by omega) z hpb (i % 2) (by omega)
      have hBi := H.2.2.1 (i / 2) (by omega) z (i % 2) (by omega)
      rw [show 2 * (i / 2) + i % 2 = i by omega] at hMi hBi
      rw [hMi.1, hMi.2]
      refine pk_le (sp i) 0 (fun y => nm_r (nI_1 i) (no fun x => by have := x.2.2.1; omega)) (fun y => ⟨hin, pk_le (al i) v (fun x => nm_r (nI_1 i) (no fun w => by have := w.2.2.2; omega)) (fun x => ⟨hin, nm_e (nm_r (nI_1 i) ?_)⟩)⟩)
      refine ih (i + 1) (al i) (by omega) (by omega) hBi.2 ⟨by have := A.1; omega, fun j hj hK hp h0 => ?_, Or.inr ⟨i, by omega, z, hpb, y, rfl⟩⟩
      by_cases e : j = i
      · rw [e]; exact Nat.le_refl _
      · have := A.2.1 j (by omega) hK hp h0
        omega
theorem yw_al {post : Int32 → Prop} (H : pm_H yki pa de r cd g sp al) (hP : py_P pa de ypa ydv) (hM : pm_MD yki pa sp al b ysn yal) (hb : b ≤ 16) (hg : g ≤ 16) (hyg : yg = nI g) (h : post (nI (pm_wa (pf_fd yki pa de) sp al g b 16))) : wpY_alignBelow post (ybc, yho, yhw, yg, yki, ypa, ydv, ycd, yco, yas, yre, yce, ysn, yal, ypl) (pn_b b) := by
  subst hyg
  exact ⟨33, yw_al7 H hP hM hb h 33 0 g (by omega) (by omega) hg ⟨Nat.le_refl _, fun i hi => by omega, Or.inl rfl⟩⟩
/-- measured: every item but the windows of bridges at a depth below j (at depth D from index i on) -/
def py_ME (K : Nat → Int32) (pa sp al : Nat → Nat) (P : Nat → Prop) (sn an : Nat → Int32) : Prop := px_EM K sp al sn an ∧ ∀ s, s < 16 → K s = 2 → P s → sn (2 * s) = nI (sp (2 * s)) ∧ an (2 * s) = nI (al (2 * s))
theorem py_MEb {K : Nat → Int32} {P : Nat → Prop} {sn an : Nat → Int32} (T : pt_T K pa de r) (M : py_ME K pa sp al P sn an) (hP : ∀ c, c < 16 → K c = 2 → pa c = b → P c) : pm_MD K pa sp al b sn an := by
  intro c hc hcK hcb e he
  rcases T.1 c hc with h | h | h
  · exact absurd h hcK
  · exact M.1 c hc hcK e he (Or.inl h)
  · rcases (by omega : e = 0 ∨ e = 1) with rfl | rfl
    · exact M.2 c hc h (hP c hc h hcb)
    · exact M.1 c hc hcK 1 he (Or.inr rfl)
theorem yw_me46 {post : SY → Prop} {J : Int32 → Int32 → Int32 → Int32 → Int32 → (Nat → Int32) → (Nat → Int32) → (Nat → Int32) → (Nat → Int32) → (Nat → Int32) → (Nat → Int32) → (Nat → Int32) → (Nat → Int32) → (Nat → Int32) → (Nat → Int32) → (Nat → Int32) → Prop} {D gq : Nat} (H : pm_H yki pa de r cd g sp al) (hP : py_P pa de ypa ydv) (hc : py_cd yki cd ycd) (hyg : yg = nI g) (hgq : gq < 5) (hg : g = 2 ^ gq) (hD : D < 16) (hJ : ∀ sn an pl, py_ME yki pa sp al (fun s => D ≤ pt_dp pa s) sn an → J (pn_b D) ybc yho yhw yg yki ypa ydv ycd yco yas yre yce sn an pl) : ∀ m i sn an pl, i ≤ 16 → 16 - i < m → py_ME yki pa sp al (fun s => D + 1 ≤ pt_dp pa s ∨ (pt_dp pa s = D ∧ s < i)) sn an → wY_measure_46 post J (nI D) m (nI i) ybc yho yhw yg yki ypa ydv ycd yco yas yre yce sn an pl := by
  have hg16 : g ≤ 16 := by
    rw [hg]
    exact Nat.le_trans (Nat.pow_le_pow_right (by decide) (show gq ≤ 4 by omega)) (by decide)
  intro m
  induction m with
  | zero => intro i sn an pl a b; omega
  | succ m ih =>
    intro i sn an pl hi hm M
    by_cases h16 : i = 16
    · subst h16
      refine br_t (nI_le (a := 16) (b := 16) (by omega) (by decide)) (nm_r (py_m1 D) (hJ sn an pl ⟨M.1, fun s hs hK hd => M.2 s hs hK ?_⟩))
      by_cases e : pt_dp pa s = D
      · exact Or.inr ⟨e, hs⟩
      · exact Or.inl (by omega)
    · have hin : vp_in (nI i) 16 := vp_in_nI (by omega) (by decide)
      have no : (¬ (yki i = 2 ∧ pt_dp pa i = D)) → wY_measure_46 post J (nI D) m (nI (i + 1)) ybc yho yhw yg yki ypa ydv ycd yco yas yre yce sn an pl := by
        intro hn
        refine ih (i + 1) sn an pl (by omega) (by omega) ⟨M.1, fun s hs hK hd => M.2 s hs hK (hd.imp id fun z => ⟨z.1, ?_⟩)⟩
        by_cases e : s = i
        · exact absurd ⟨by rw [← e]; exact hK, by rw [← e]; exact z.1⟩ hn
        · omega
      refine br_f (nI_ge (b := 16) (by omega) (by decide)) ⟨hin, ?_⟩
      rw [nI_clamp (by omega)]
      refine br_c (fun z => ?_) (fun z => nm_r (nI_1 i) (no fun y => z y.1))
      have hK0 : yki i ≠ 0 := by rw [z]; decide
      have hdp := pt_dp15 H.1 (show i < 16 by omega) hK0
      refine yw_depth hP (by omega) (pk_eq (pt_dp pa i) D (fun y => ?_) (fun y => nm_r (nI_1 i) (no fun x => y x.2)))
      have MD : pm_MD yki pa sp al (i + 1) sn an := py_MEb H.1 M fun c hc hcK hcb => Or.inl (by rw [pt_dps H.1 hc (by rw [hcK]; decide) hcb]; omega)
      obtain ⟨a1, a2, _, _⟩ := H.2.1.2.1 i (by omega) z
      have hcur := pm_curB (n := 80) (b := i + 1) (st := 0) H (by omega) (by omega)
      refine yw_pack (b := i + 1) (st := 0) H hP MD (by omega) (by omega) (fun pl' _ => ?_)
      dsimp only
      have hin2 : vp_in (nI (2 * i)) 32 := vp_in_nI (by omega) (by decide)
      rw [pn_lit2, nI_1 (2 * i), nI_clamp (show 2 * i < 2 ^ 31 by omega), nI_clamp (show 2 * i + 1 < 2 ^ 31 by omega)]
      refine ⟨vp_in_nI (show 2 * i + 1 < 32 by omega) (by decide), hin2, nm_r (e' := upd sn (2 * i) (nI (sp (2 * i)))) ?_ ?_⟩
      · rw [hyg, hg, pn_ruI (by omega) hgq, (hc i (by omega) hK0).2, pk_mul, nI_add, ← hg, ← a1]
      · have hne : ∀ c e, c < 16 → yki c ≠ 0 → pa c = i + 1 → e < 2 → 2 * c + e ≠ 2 * i := by
          intro c e hc hcK hcb he z2
          obtain rfl : c = i := by omega
          exact pf_loop H.1 hc hcK hcb (Or.inl rfl)
        refine yw_al (b := i + 1) H hP (fun c hc hcK hcb e he => ?_) (by omega) hg16 hyg ⟨hin2, nm_r (e' := upd an (2 * i) (nI (al (2 * i)))) ?_ (nm_r (nI_1 i) ?_)⟩
        · rw [pk_un (hne c e hc hcK hcb he)]
          exact MD c hc hcK hcb e he
        · rw [← a2]
        · refine ih (i + 1) _ _ pl' (by omega) (by omega) ⟨fun c hc hcK e he hor => ?_, fun c hc hcK hd => ?_⟩
          · have hne2 : 2 * c + e ≠ 2 * i := by
              intro z2
              have z3 : c = i := by omega
              have z4 : e = 0 := by omega
              rcases hor with x | x
              · rw [z3, z] at x; exact absurd x (by decide)
              · omega
            rw [pk_un hne2, pk_un hne2]
            exact M.1 c hc hcK e he hor
          · by_cases e : c = i
            · rw [e]; exact ⟨pk_us, pk_us⟩
            · have hne3 : 2 * c ≠ 2 * i := by omega
              rw [pk_un hne3, pk_un hne3]
              refine M.2 c hc hcK (hd.imp id fun x => ⟨x.1, by omega⟩)
theorem yw_me40 {post : SY → Prop} {gq : Nat} (H : pm_H yki pa de r cd g sp al) (hP : py_P pa de ypa ydv) (hc : py_cd yki cd ycd) (hyg : yg = nI g) (hgq : gq < 5) (hg : g = 2 ^ gq) (hJ : ∀ sn an pl, py_ME yki pa sp al (fun _ => True) sn an → post (ybc, yho, yhw, yg, yki, ypa, ydv, ycd, yco, yas, yre, yce, sn, an, pl)) : ∀ m j sn an pl, j ≤ 16 → j < m → py_ME yki pa sp al (fun s => j ≤ pt_dp pa s) sn an → wY_measure_40 post m (pn_b j) ybc yho yhw yg yki ypa ydv ycd yco yas yre yce sn an pl := by
  intro m
  induction m with
  | zero => intro j sn an pl a b; omega
  | succ m ih =>
    intro j sn an pl hj hm M
    cases j with
    | zero => exact br_t pn_neg1 (hJ sn an pl ⟨M.1, fun s hs hK _ => M.2 s hs hK (Nat.zero_le _)⟩)
    | succ D =>
      refine br_f (nI_pos (by omega)) ⟨17, ?_⟩
      refine yw_me46 (post := post) H hP hc hyg hgq hg (by omega) (fun sn' an' pl' M' => ih D sn' an' pl' (by omega) (by omega) M') 17 0 sn an pl (by omega) (by omega) ⟨M.1, fun s hs hK hd => M.2 s hs hK ?_⟩
      rcases hd with e | e
      · exact e
      · omega
theorem yw_me2 {post : SY → Prop} {gq : Nat} (H : pm_H yki pa de r cd g sp al) (hr : pm_CD yki cd) (hP : py_P pa de ypa ydv) (hc : py_cd yki cd ycd) (hyg : yg = nI g) (hgq : gq < 5) (hg : g = 2 ^ gq) (hJ : ∀ sn an pl, py_ME yki pa sp al (fun _ => True) sn an → post (ybc, yho, yhw, yg, yki, ypa, ydv, ycd, yco, yas, yre, yce, sn, an, pl)) : ∀ m i sn an, i ≤ 32 → 32 - i < m → (∀ j, j < i → sn j = nI (if yki (j / 2) = 1 then pm_sz (cd j) else 0) ∧ an j = nI (if yki (j / 2) = 1 then pm_sz (cd j) else 0)) → wY_measure_2 post ybc yho yhw yg m (nI i) yki ypa ydv ycd yco yas yre yce sn an ypl := by
  intro m
  induction m with
  | zero => intro i sn an a b; omega
  | succ m ih =>
    intro i sn an hi hm A
    by_cases h32 : i = 32
    · subst h32
      refine br_t (nI_le (a := 32) (b := 32) (by omega) (by decide)) ⟨17, ?_⟩
      refine yw_me40 H hP hc hyg hgq hg hJ 17 16 sn an ypl (by omega) (by omega) ⟨fun s hs hK e he hor => ?_, fun s hs hK hd => ?_⟩
      · have a := A (2 * s + e) (by omega)
        rw [show (2 * s + e) / 2 = s by omega] at a
        rcases H.1.1 s hs with h | h | h
        · exact absurd h hK
        · have g1 := H.2.1.1 s hs h e he
          rw [if_pos h] at a
          rw [g1.1, g1.2]; exact a
        · have g2 := H.2.1.2.1 s hs h
          rw [if_neg (by rw [h]; decide)] at a
          rcases hor with x | x
          · rw [h] at x; exact absurd x (by decide)
          · subst x
            rw [g2.2.2.1, g2.2.2.2]; exact a
      · have := pt_dp15 H.1 hs (by rw [hK]; decide)
        omega
    · have hin : vp_in (nI i) 32 := vp_in_nI (by omega) (by decide)
      refine br_f (nI_ge (b := 32) (by omega) (by decide)) (yw_size hc hr (by omega) ?_)
      rw [nI_clamp (by omega)]
      refine ⟨hin, nm_e ⟨hin, hin, nm_r (e' := upd an i (nI (if yki (i / 2) = 1 then pm_sz (cd i) else 0))) (by rw [pk_us]) (nm_r (nI_1 i) (ih (i + 1) _ _ (by omega) (by omega) fun j hj => ?_))⟩⟩
      by_cases e : j = i
      · rw [e]; exact ⟨pk_us, pk_us⟩
      · rw [pk_un e, pk_un e]; exact A j (by omega)
theorem yw_meas {post : SY → Prop} {gq : Nat} (H : pm_H yki pa de r cd g sp al) (hr : pm_CD yki cd) (hP : py_P pa de ypa ydv) (hc : py_cd yki cd ycd) (hyg : yg = nI g) (hgq : gq < 5) (hg : g = 2 ^ gq) (hJ : ∀ sn an pl, (∀ b, pm_MD yki pa sp al b sn an) → post (ybc, yho, yhw, yg, yki, ypa, ydv, ycd, yco, yas, yre, yce, sn, an, pl)) : wpY_measure post (ybc, yho, yhw, yg, yki, ypa, ydv, ycd, yco, yas, yre, yce, ysn, yal, ypl) :=
  ⟨33, yw_me2 H hr hP hc hyg hgq hg (fun sn an pl M => hJ sn an pl fun b => py_MEb H.1 M fun _ _ _ _ => True.intro) 33 0 ysn yal (by omega) (by omega) (fun j hj => by omega)⟩
end
end
section
/-! laying out, the reference -/
def py_SE (K : Nat → Int32) (pa nm sbo bas sp : Nat → Nat) (s : Nat) (as co re : Nat → Int32) : Prop := as s = 1 ∧ co s = 3 ∧ (K s = 2 → re (8 * s + 2) = nI (nm (pa s)) ∧ re (8 * s + 3) = nI (nm (s + 1)) ∧ re (8 * s + 4) = nI (sbo s) ∧ re (8 * s + 5) = nI (bas (2 * s)) ∧ re (8 * s + 6) = nI (sp (2 * s))) ∧ (¬ K s = 2 → re (8 * s + 2) = nI (bas (2 * s)) ∧ re (8 * s + 3) = nI (bas (2 * s + 1)))
def py_FR (c : Nat) (as co re as0 co0 re0 : Nat → Int32) : Prop := as c = as0 c ∧ co c = co0 c ∧ ∀ j, j < 8 → re (8 * c + j) = re0 (8 * c + j)
def py_IN (K : Nat → Int32) (pa nm sbo bas sp : Nat → Nat) (t : Nat) (S : Nat → Prop) (as0 co0 re0 as co re : Nat → Int32) : Prop := (∀ c, c < 16 → K c ≠ 0 → pt_ab pa t (c + 1) = true → S c → py_SE K pa nm sbo bas sp c as co re) ∧ (∀ c, c < 16 → ¬ (K c ≠ 0 ∧ pt_ab pa t (c + 1) = true) → py_FR c as co re as0 co0 re0)
section
variable {K : Nat → Int32} {pa nm sbo bas sp : Nat → Nat} {t c : Nat} {S S' : Nat → Prop} {as0 co0 re0 as co re as' co' re' : Nat → Int32}
theorem py_SEF (h : py_SE K pa nm sbo bas sp c as co re) (f : py_FR c as' co' re' as co re) : py_SE K pa nm sbo bas sp c as' co' re' := by
  obtain ⟨f1, f2, f3⟩ := f
  obtain ⟨h1, h2, h3, h4⟩ := h
  refine ⟨by rw [f1, h1], by rw [f2, h2], fun hK => ?_, fun hK => ?_⟩
  · rw [f3 2 (by omega), f3 3 (by omega), f3 4 (by omega), f3 5 (by omega), f3 6 (by omega)]; exact h3 hK
  · rw [f3 2 (by omega), f3 3 (by omega)]; exact h4 hK
theorem py_step (hcK : K c ≠ 0) (hct : pt_ab pa t (c + 1) = true) (hS : ∀ x, x < 16 → K x ≠ 0 → S' x → x ≠ c → S x) (I : py_IN K pa nm sbo bas sp t S as0 co0 re0 as co re) (h : py_SE K pa nm sbo bas sp c as' co' re') (f : ∀ x, x ≠ c → py_FR x as' co' re' as co re) : py_IN K pa nm sbo bas sp t S' as0 co0 re0 as' co' re' := by
  constructor
  · intro x hx hxK hxt hxS
    by_cases e : x = c
    · rw [e]; exact h
    · exact py_SEF (I.1 x hx hxK hxt (hS x hx hxK hxS e)) (f x e)
  · intro x hx hn
    by_cases e : x = c
    · exact absurd ⟨by rw [e]; exact hcK, by rw [e]; exact hct⟩ hn
    · have f1 := f x e
      have f2 := I.2 x hx hn
      exact ⟨f1.1.trans f2.1, f1.2.1.trans f2.2.1, fun j hj => (f1.2.2 j hj).trans (f2.2.2 j hj)⟩
end
section
variable {ybc yho yhw yg : Int32} {yki ypa ydv ycd yco yas yre yce ysn yal ypl : Nat → Int32} {pa de r cd sp al nm sbo bas : Nat → Nat} {g b st t z : Nat} {S : Nat → Prop} {as0 co0 re0 : Nat → Int32}
/-- one node settled: x4 the next number -/
theorem yw_set {post : SY → Prop} {J : Int32 → Int32 → (Nat → Int32) → (Nat → Int32) → (Nat → Int32) → (Nat → Int32) → (Nat → Int32) → (Nat → Int32) → (Nat → Int32) → (Nat → Int32) → (Nat → Int32) → (Nat → Int32) → (Nat → Int32) → Prop} {c d N N' : Nat} {S' : Nat → Prop} (hP : py_P pa de ypa ydv) (hcd : py_cd yki cd ycd) (hc : c < 16) (hcK : yki c ≠ 0) (hct : pt_ab pa t (c + 1) = true) (hpc : pa c = b) (hsp : ∀ e, e < 2 → ysn (2 * c + e) = nI (sp (2 * c + e)) ∧ sp (2 * c + e) ≤ 1551 ∧ (sp (2 * c + e) = 0 → bas (2 * c + e) = 0) ∧ (0 < sp (2 * c + e) → ypl (2 * c + e) = nI (bas (2 * c + e)))) (hN2 : yki c = 2 → N = nm (c + 1) ∧ N' = nm (c + 1) + 1 + cd (2 * c) + pf_sb yki pa (py_w yki cd) (c + 1) ∧ sbo c + 1 = N') (hN1 : ¬ yki c = 2 → N' = N) (hS : ∀ x, x < 16 → yki x ≠ 0 → S' x → x ≠ c → S x) (I : py_IN yki pa nm sbo bas sp t S as0 co0 re0 yas yco yre) (h : ∀ as co re, py_IN yki pa nm sbo bas sp t S' as0 co0 re0 as co re → J (nI N') (nI (d + 1)) yki ypa ydv ycd co as re yce ysn yal ypl) : wY_layOut_68 post J (pn_b b) (nI (nm b)) (nI N) (nI d) (nI c) (nI (8 * c)) (nI (bas (2 * c))) ybc yho yhw yg yki ypa ydv ycd yco yas yre yce ysn yal ypl := by
  have hin : vp_in (nI c) 16 := vp_in_nI hc (by decide)
  have hcl : (nI c).toNatClampNeg = c := nI_clamp (by omega)
  have hr : ∀ j, j < 8 → nI (8 * c) + nI j = nI (8 * c + j) ∧ vp_in (nI (8 * c + j)) 128 ∧ (nI (8 * c + j)).toNatClampNeg = 8 * c + j := fun j hj => ⟨nI_add _ _, vp_in_nI (by omega) (by decide), nI_clamp (by omega)⟩
  have r2 : nI (8 * c) + 2 = nI (8 * c + 2) := nI_add _ _
  have r3 : nI (8 * c) + 3 = nI (8 * c + 3) := nI_add _ _
  have r4 : nI (8 * c) + 4 = nI (8 * c + 4) := nI_add _ _
  have r5 : nI (8 * c) + 5 = nI (8 * c + 5) := nI_add _ _
  have r6 : nI (8 * c) + 6 = nI (8 * c + 6) := nI_add _ _
  have i2 := vp_in_nI (show 2 * c < 32 by omega) (by decide)
  have i3 := vp_in_nI (show 2 * c + 1 < 32 by omega) (by decide)
  have s0 := hsp 0 (by omega)
  have s1 := hsp 1 (by omega)
  rw [Nat.add_zero] at s0
  unfold wY_layOut_68
  rw [hcl, r2, r3, r4, r5, r6, (hr 2 (by omega)).2.2, (hr 3 (by omega)).2.2, (hr 4 (by omega)).2.2, (hr 5 (by omega)).2.2, (hr 6 (by omega)).2.2, pn_lit2, nI_1 (2 * c), nI_clamp (show 2 * c < 2 ^ 31 by omega), nI_clamp (show 2 * c + 1 < 2 ^ 31 by omega), pn_vb1, s0.1, s1.1]
  refine ⟨hin, nm_e ⟨hin, nm_e ⟨hin, br_c (fun k2 => ?_) (fun k2 => ?_)⟩⟩⟩
  · obtain ⟨n1, n2, n3⟩ := hN2 k2
    refine ⟨(hr 2 (by omega)).2.1, nm_e ⟨(hr 3 (by omega)).2.1, nm_e ⟨i2, ?_⟩⟩⟩
    refine yw_bb (t := c + 1) hP hcd (by omega) ?_
    rw [(hcd c hc hcK).1]
    refine nm_r (e' := nI N') ?_ ⟨(hr 4 (by omega)).2.1, nm_r (e' := upd (upd (upd yre (8 * c + 2) (nI (nm b))) (8 * c + 3) (nI N)) (8 * c + 4) (nI (sbo c))) ?_ ⟨(hr 5 (by omega)).2.1, nm_e ⟨i2, (hr 6 (by omega)).2.1, nm_e (nm_r (nI_1 d) (h _ _ _ (py_step hcK hct hS I ?_ ?_)))⟩⟩⟩
    · rw [nI_1, nI_add, nI_add, n1, n2]
    · rw [← n3, nI_pred]
    · refine ⟨pk_us, pk_us, fun _ => ⟨?_, ?_, ?_, ?_, ?_⟩, fun y => absurd k2 y⟩
      · rw [pk_un (by omega), pk_un (by omega), pk_un (by omega), pk_un (by omega), pk_us, hpc]
      · rw [pk_un (by omega), pk_un (by omega), pk_un (by omega), pk_us, n1]
      · rw [pk_un (by omega), pk_un (by omega), pk_us]
      · rw [pk_un (by omega), pk_us]
      · exact pk_us
    · intro x hx
      exact ⟨pk_un hx, pk_un hx, fun j hj => by rw [pk_un (by omega), pk_un (by omega), pk_un (by omega), pk_un (by omega), pk_un (by omega)]⟩
  · have n1 := hN1 k2
    have fr : ∀ v, ∀ x, x ≠ c → py_FR x (upd yas c 1) (upd yco c 3) (upd (upd yre (8 * c + 2) (nI (bas (2 * c)))) (8 * c + 3) v) yas yco yre := fun v x hx => ⟨pk_un hx, pk_un hx, fun j hj => by rw [pk_un (by omega), pk_un (by omega)]⟩
    refine ⟨(hr 2 (by omega)).2.1, nm_e ⟨i3, pk_le (sp (2 * c + 1)) 0 (fun y => ⟨(hr 3 (by omega)).2.1, nm_e (nm_r (nI_1 d) ?_)⟩) (fun y => ⟨i3, (hr 3 (by omega)).2.1, nm_e (nm_r (nI_1 d) ?_)⟩)⟩⟩
    · rw [← n1]
      refine h _ _ _ (py_step hcK hct hS I ⟨pk_us, pk_us, fun y => absurd y k2, fun _ => ⟨?_, ?_⟩⟩ (fr _))
      · rw [pk_un (by omega), pk_us]
      · rw [pk_us, s1.2.2.1 (by omega)]; rfl
    · rw [← n1]
      refine h _ _ _ (py_step hcK hct hS I ⟨pk_us, pk_us, fun y => absurd y k2, fun _ => ⟨?_, ?_⟩⟩ (fr _))
      · rw [pk_un (by omega), pk_us]
      · rw [pk_us, s1.2.2.2 y]
theorem yw_lay15 {post : SY → Prop} (H : pm_H yki pa de r cd g sp al) (hPa : py_P pa de ypa ydv) (hcd : py_cd yki cd ycd) (hM : pm_MD yki pa sp al b ysn yal) (hb : b ≤ 16) (hbt : t = b ∨ pt_ab pa t b = true) (hP : pm_PI yki pa de sp al b st 80 ypl) (hbas : ∀ c, c < 16 → yki c ≠ 0 → pa c = b → ∀ e, e < 2 → bas (2 * c + e) = if 0 < sp (2 * c + e) then pm_pl (pf_fd yki pa de) de sp al b st (2 * c + e) else 0) (hnm : ∀ c, c < 16 → yki c = 2 → pa c = b → nm (c + 1) = nm b + 1 + ps_sm (de c) (pf_cw yki pa de (py_w yki cd) b)) (hsb : ∀ s, sbo s = nm (s + 1) + pf_sb yki pa (py_w yki cd) (s + 1) + cd (2 * s)) (h : ∀ as co re, py_IN yki pa nm sbo bas sp t (fun c => S c ∨ pa c = b) as0 co0 re0 as co re → post (ybc, yho, yhw, yg, yki, ypa, ydv, ycd, co, as, re, yce, ysn, yal, ypl)) : ∀ m d as co re, d ≤ 8 → 8 - d < m → py_IN yki pa nm sbo bas sp t (fun c => S c ∨ (pa c = b ∧ de c < d)) as0 co0 re0 as co re → wY_layOut_15 post (pn_b b) (nI (nm b)) ybc yho yhw yg m (nI (nm b + 1 + ps_sm d (pf_cw yki pa de (py_w yki cd) b))) (nI d) yki ypa ydv ycd co as re yce ysn yal ypl := by
  intro m
  induction m with
  | zero => intro d as co re h1 h2; omega
  | succ m ih =>
    intro d as co re hd hm I
    by_cases h8 : d = 8
    · subst h8
      exact br_t (nI_le (a := 8) (b := 8) (by omega) (by decide)) (h as co re ⟨fun c hc hcK hct hS => I.1 c hc hcK hct (hS.imp id fun z => ⟨z, H.1.2.2.1 c⟩), I.2⟩)
    · refine br_f (nI_ge (b := 8) (by omega) (by decide)) (yw_find H.1 hPa hb (by omega) (fun c hc hf => br_f (nI_pos (by omega)) ?_) (fun hf => br_t (by decide) (nm_r (nI_1 d) ?_)))
      · have f := pf_i (K := yki) (pa := pa) (de := de) (b := b) (d := d) (by rw [hf]; exact hc)
        rw [hf] at f
        obtain ⟨f1, f2, f3⟩ := f
        have hct : pt_ab pa t (c + 1) = true := (pt_st H.1 hc f1).mpr (by rw [f2]; exact hbt)
        have hb0 := hbas c hc f1 f2 0 (by omega)
        rw [Nat.add_zero] at hb0
        have cw := px_cws (w := py_w yki cd) hc hf
        have fin : wY_layOut_68 post (wY_layOut_15 post (pn_b b) (nI (nm b)) ybc yho yhw yg m) (pn_b b) (nI (nm b)) (nI (nm b + 1 + ps_sm d (pf_cw yki pa de (py_w yki cd) b))) (nI d) (nI c) (nI (8 * c)) (nI (bas (2 * c))) ybc yho yhw yg yki ypa ydv ycd co as re yce ysn yal ypl := by
          refine yw_set (t := t) (sp := sp) (nm := nm) (sbo := sbo) (bas := bas) (N' := nm b + 1 + ps_sm (d + 1) (pf_cw yki pa de (py_w yki cd) b)) (S' := fun c => S c ∨ (pa c = b ∧ de c < d + 1)) hPa hcd hc f1 hct f2 (fun e he => ?_) (fun k2 => ?_) (fun k2 => ?_) ?_ I (fun as' co' re' I' => ih (d + 1) as' co' re' (by omega) (by omega) I')
          · have hb1 := hbas c hc f1 f2 e he
            refine ⟨(hM c hc f1 f2 e he).1, (H.2.2.1 c hc f1 e he).1, fun z => ?_, fun z => ?_⟩
            · rw [hb1, if_neg (by omega)]
            · rw [hb1, if_pos z]
              obtain ⟨k, hk, ha⟩ := (H.2.1.2.2.1 c hc f1 e he).1 z
              exact hP c hc f1 f2 e he z (pm_ixI (b := b) (pf_eq H.1 hc f1 f2 rfl) (H.1.2.2.1 c) he hk ha).2.1
          · have n1 := hnm c hc k2 f2
            rw [f3] at n1
            rw [show py_w yki cd c = 1 + cd (2 * c) from if_pos k2] at cw
            have n2 := hsb c
            rw [ps_s, cw]
            exact ⟨n1.symm, by omega, by omega⟩
          · rw [ps_s, cw, px_wBn c k2, pf_sb_0 H.1 _ k2]; rfl
          · intro x hx hxK hxS hxc
            refine hxS.imp id fun z => ⟨z.1, ?_⟩
            by_cases e : de x = d
            · exact absurd ((pf_eq H.1 hx hxK z.1 e).symm.trans hf) hxc
            · omega
        have hM0 := (hM c hc f1 f2 0 (by omega)).1
        have hB0 := (H.2.2.1 c hc f1 0 (by omega)).1
        rw [Nat.add_zero] at hM0 hB0
        have i2 := vp_in_nI (show 2 * c < 32 by omega) (by decide)
        rw [pn_lit8, pn_lit2, nI_clamp (show 2 * c < 2 ^ 31 by omega), hM0]
        refine nm_e ⟨i2, pk_le (sp (2 * c)) 0 (fun y => ?_) (fun y => ⟨i2, ?_⟩)⟩
        · rw [if_neg (by omega)] at hb0
          rw [hb0] at fin
          exact fin
        · obtain ⟨k, hk, ha⟩ := (H.2.1.2.2.1 c hc f1 0 (by omega)).1 (by rw [Nat.add_zero]; exact y)
          have := hP c hc f1 f2 0 (by omega) (by rw [Nat.add_zero]; exact y) (pm_ixI (b := b) (pf_eq H.1 hc f1 f2 rfl) (H.1.2.2.1 c) (by omega) hk ha).2.1
          rw [Nat.add_zero] at this
          rw [if_pos y] at hb0
          rw [this, ← hb0]
          exact fin
      · have cw0 := px_cw0 (w := py_w yki cd) (b := b) (d := d) H.1 px_wBn (fun s hs e => by omega)
        have I2 := ih (d + 1) as co re (by omega) (by omega) ⟨fun c hc hcK hct hS => I.1 c hc hcK hct (hS.imp id fun z => ⟨z.1, ?_⟩), I.2⟩
        · rw [ps_s, cw0] at I2
          exact I2
        · by_cases e : de c = d
          · have := pf_eq H.1 hc hcK z.1 e
            omega
          · omega
theorem yw_lay {post : SY → Prop} (H : pm_H yki pa de r cd g sp al) (hPa : py_P pa de ypa ydv) (hcd : py_cd yki cd ycd) (hM : pm_MD yki pa sp al b ysn yal) (hb : b ≤ 16) (hst : st ≤ 60000) (hbt : t = b ∨ pt_ab pa t b = true) (hbas : ∀ c, c < 16 → yki c ≠ 0 → pa c = b → ∀ e, e < 2 → bas (2 * c + e) = if 0 < sp (2 * c + e) then pm_pl (pf_fd yki pa de) de sp al b st (2 * c + e) else 0) (hnm : ∀ c, c < 16 → yki c = 2 → pa c = b → nm (c + 1) = nm b + 1 + ps_sm (de c) (pf_cw yki pa de (py_w yki cd) b)) (hsb : ∀ s, sbo s = nm (s + 1) + pf_sb yki pa (py_w yki cd) (s + 1) + cd (2 * s)) (I : py_IN yki pa nm sbo bas sp t S as0 co0 re0 yas yco yre) (h : ∀ pl as co re, py_IN yki pa nm sbo bas sp t (fun c => S c ∨ pa c = b) as0 co0 re0 as co re → post (ybc, yho, yhw, yg, yki, ypa, ydv, ycd, co, as, re, yce, ysn, yal, pl)) : wpY_layOut post (ybc, yho, yhw, yg, yki, ypa, ydv, ycd, yco, yas, yre, yce, ysn, yal, ypl) (pn_b b) (nI (nm b)) (nI st) := by
  unfold wpY_layOut
  refine yw_pack H hPa hM hb hst (fun pl hP => ?_)
  dsimp only
  refine nm_r (nI_1 (nm b)) ⟨9, ?_⟩
  exact yw_lay15 (ypl := pl) H hPa hcd hM hb hbt hP hbas hnm hsb (h pl) 9 0 yas yco yre (by omega) (by omega) ⟨fun c hc hcK hct hS => I.1 c hc hcK hct (hS.elim id fun z => by omega), I.2⟩
end
end
section
/-! renewing, the reference -/
section
variable {ybc yho yhw yg : Int32} {yki ypa ydv ycd yco yas yre yce ysn yal ypl : Nat → Int32} {pa de r cd sp al PN nm sbo bas : Nat → Nat} {g t z st : Nat} {as0 co0 re0 : Nat → Int32}
def py_S (pa : Nat → Nat) (t D i c : Nat) : Prop := pa c = t ∨ ∃ p, pa c = p + 1 ∧ (pt_dp pa p < D ∨ (pt_dp pa p = D ∧ p < i))
theorem yw_ren57 {post : Int32 → SY → Prop} {J : Int32 → Int32 → Int32 → Int32 → Int32 → (Nat → Int32) → (Nat → Int32) → (Nat → Int32) → (Nat → Int32) → (Nat → Int32) → (Nat → Int32) → (Nat → Int32) → (Nat → Int32) → (Nat → Int32) → (Nat → Int32) → (Nat → Int32) → Prop} {D : Nat} (H : pm_H yki pa de r cd g sp al) (hPa : py_P pa de ypa ydv) (hcd : py_cd yki cd ycd) (hM : ∀ b, pm_MD yki pa sp al b ysn yal) (Q : px_Q yki pa de cd sp al t z st PN nm sbo bas) (ht : t ≤ 16) (hD : D < 16) (hJ : ∀ pl as co re, py_IN yki pa nm sbo bas sp t (py_S pa t (D + 1) 0) as0 co0 re0 as co re → J (nI (D + 1)) ybc yho yhw yg yki ypa ydv ycd co as re yce ysn yal pl) : ∀ m i pl as co re, i ≤ 16 → 16 - i < m → py_IN yki pa nm sbo bas sp t (py_S pa t D i) as0 co0 re0 as co re → wY_renew_57 post J (pn_b t) (nI D) m (nI i) ybc yho yhw yg yki ypa ydv ycd co as re yce ysn yal pl := by
  intro m
  induction m with
  | zero => intro i pl as co re h1 h2; omega
  | succ m ih =>
    intro i pl as co re hi hm I
    by_cases h16 : i = 16
    · subst h16
      refine br_t (nI_le (a := 16) (b := 16) (by omega) (by decide)) (nm_r (nI_1 D) (hJ pl as co re ⟨fun c hc hcK hct hS => I.1 c hc hcK hct ?_, I.2⟩))
      rcases hS with e | ⟨p, e, hp⟩
      · exact Or.inl e
      · refine Or.inr ⟨p, e, ?_⟩
        rcases pt_up2 H.1 hc hcK with e2 | ⟨p2, hp2, e2, _⟩
        · omega
        · obtain rfl : p = p2 := by omega
          omega
    · have hin : vp_in (nI i) 16 := vp_in_nI (by omega) (by decide)
      have no : (¬ (yki i = 2 ∧ pt_dp pa i = D ∧ pt_ab pa t (i + 1) = true)) → wY_renew_57 post J (pn_b t) (nI D) m (nI (i + 1)) ybc yho yhw yg yki ypa ydv ycd co as re yce ysn yal pl := by
        intro hn
        refine ih (i + 1) pl as co re (by omega) (by omega) ⟨fun c hc hcK hct hS => I.1 c hc hcK hct ?_, I.2⟩
        rcases pd_up H.1 hc hcK hct with e | ⟨p, hp, e, hp2, hpK, hpt⟩
        · exact Or.inl e
        · rcases hS with e2 | ⟨p2, e2, hq⟩
          · exact Or.inl e2
          · obtain rfl : p = p2 := by omega
            refine Or.inr ⟨p, e, hq.imp id fun y => ⟨y.1, ?_⟩⟩
            by_cases e3 : p = i
            · subst e3; exact absurd ⟨hp2, y.1, hpt⟩ hn
            · omega
      refine br_f (nI_ge (b := 16) (by omega) (by decide)) ⟨hin, ?_⟩
      rw [nI_clamp (by omega)]
      refine br_c (fun k2 => ?_) (fun k2 => nm_r (nI_1 i) (no fun y => k2 y.1))
      have hK0 : yki i ≠ 0 := by rw [k2]; decide
      have hdp := pt_dp15 H.1 (show i < 16 by omega) hK0
      refine yw_depth hPa (by omega) (pk_eq (pt_dp pa i) D (fun y => ?_) (fun y => nm_r (nI_1 i) (no fun x => y x.2.1)))
      refine yw_aboveC (b := t) (c := i + 1) hPa ht (by omega) (fun hit => br_f (by decide) ?_) (fun hit => br_t rfl (nm_r (nI_1 i) (no fun x => hit x.2.2)))
      have hSE := I.1 i (by omega) hK0 hit (by
        rcases pd_up H.1 (by omega) hK0 hit with e | ⟨p, hp, e, hp2, hpK, hpt⟩
        · exact Or.inl e
        · refine Or.inr ⟨p, e, Or.inl ?_⟩
          rw [pt_dps H.1 (by omega) hK0 e] at y
          omega)
      obtain ⟨_, n3, _, n5, _⟩ := hSE.2.2.1 k2
      have r3 : nI (8 * i) + 3 = nI (8 * i + 3) := nI_add _ _
      have r5 : nI (8 * i) + 5 = nI (8 * i + 5) := nI_add _ _
      rw [pn_lit8, r3, r5, nI_clamp (show 8 * i + 3 < 2 ^ 31 by omega), nI_clamp (show 8 * i + 5 < 2 ^ 31 by omega), n3, n5]
      refine ⟨vp_in_nI (by omega) (by decide), vp_in_nI (by omega) (by decide), ?_⟩
      refine yw_lay (b := i + 1) (t := t) (nm := nm) (sbo := sbo) (bas := bas) (as0 := as0) (co0 := co0) (re0 := re0) H hPa hcd (hM (i + 1)) (by omega) (Q.2.2.2.2.2.2 i (by omega) k2 hit) (Or.inr hit) (fun c hc hcK hcb e he => ?_) (fun c hc hcK hcb => ?_) Q.2.2.2.2.1 I (fun pl' as' co' re' I' => nm_r (nI_1 i) (ih (i + 1) pl' as' co' re' (by omega) (by omega) ⟨fun c hc hcK hct hS => I'.1 c hc hcK hct ?_, I'.2⟩))
      · have hct : pt_ab pa t (c + 1) = true := (pt_st H.1 hc hcK).mpr (by rw [hcb]; exact Or.inr hit)
        exact (Q.2.2.2.2.2.1 c hc hcK hct e he).2 i hcb fun e => pd_ne H.1 (by omega) hK0 hit (by rw [← hcb, e])
      · have hct : pt_ab pa t (c + 1) = true := (pt_st H.1 hc (by rw [hcK]; decide)).mpr (by rw [hcb]; exact Or.inr hit)
        have := Q.2.2.2.1 c hc hcK hct
        rw [hcb] at this
        exact this
      · rcases hS with e | ⟨p, e, hq⟩
        · exact Or.inl (Or.inl e)
        · by_cases e3 : p = i
          · exact Or.inr (by rw [e, e3])
          · exact Or.inl (Or.inr ⟨p, e, hq.imp id fun y => ⟨y.1, by omega⟩⟩)
theorem yw_ren47 {post : Int32 → SY → Prop} (H : pm_H yki pa de r cd g sp al) (hPa : py_P pa de ypa ydv) (hcd : py_cd yki cd ycd) (hM : ∀ b, pm_MD yki pa sp al b ysn yal) (Q : px_Q yki pa de cd sp al t z st PN nm sbo bas) (ht : t ≤ 16) (h : ∀ pl as co re, py_IN yki pa nm sbo bas sp t (fun _ => True) as0 co0 re0 as co re → post 0 (ybc, yho, yhw, yg, yki, ypa, ydv, ycd, co, as, re, yce, ysn, yal, pl)) : ∀ m D pl as co re, D ≤ 16 → 16 - D < m → py_IN yki pa nm sbo bas sp t (py_S pa t D 0) as0 co0 re0 as co re → wY_renew_47 post (pn_b t) m (nI D) ybc yho yhw yg yki ypa ydv ycd co as re yce ysn yal pl := by
  intro m
  induction m with
  | zero => intro D pl as co re h1 h2; omega
  | succ m ih =>
    intro D pl as co re hD hm I
    by_cases h16 : D = 16
    · subst h16
      refine br_t (nI_le (a := 16) (b := 16) (by omega) (by decide)) (h pl as co re ⟨fun c hc hcK hct _ => I.1 c hc hcK hct ?_, I.2⟩)
      rcases pd_up H.1 hc hcK hct with e | ⟨p, hp, e, hp2, hpK, hpt⟩
      · exact Or.inl e
      · have := pt_dp15 H.1 hp hpK
        exact Or.inr ⟨p, e, Or.inl (by omega)⟩
    · refine br_f (nI_ge (b := 16) (by omega) (by decide)) ⟨17, ?_⟩
      exact yw_ren57 (post := post) H hPa hcd hM Q ht (by omega) (fun pl' as' co' re' I' => ih (D + 1) pl' as' co' re' (by omega) (by omega) I') 17 0 pl as co re (by omega) (by omega) I
theorem yw_ren {post : Int32 → SY → Prop} {gq nb wo : Nat} (H : pm_H yki pa de r cd g sp al) (hr : pm_CD yki cd) (hPa : py_P pa de ypa ydv) (hcd : py_cd yki cd ycd) (Q : px_Q yki pa de cd sp al t z st PN nm sbo bas) (hyg : yg = nI g) (hgq : gq < 5) (hg : g = 2 ^ gq) (ht : t ≤ 16) (hst : st ≤ 60000) (hwo : st + wo < 2 ^ 30) (hnb : nb < 2 ^ 30) (hsb : pf_sb yki pa (py_w yki cd) t < 2 ^ 30) (h6 : nb < 1 + pf_sb yki pa (py_w yki cd) t → ∀ sn an pl, post (-6) (ybc, yho, yhw, yg, yki, ypa, ydv, ycd, yco, yas, yre, yce, sn, an, pl)) (h7 : 1 + pf_sb yki pa (py_w yki cd) t ≤ nb → st + wo < pm_cur (pf_fd yki pa de) sp al t st 80 → ∀ sn an pl, post (-7) (ybc, yho, yhw, yg, yki, ypa, ydv, ycd, yco, yas, yre, yce, sn, an, pl)) (h0 : 1 + pf_sb yki pa (py_w yki cd) t ≤ nb → pm_cur (pf_fd yki pa de) sp al t st 80 ≤ st + wo → ∀ sn an pl as co re, py_IN yki pa nm sbo bas sp t (fun _ => True) yas yco yre as co re → post 0 (ybc, yho, yhw, yg, yki, ypa, ydv, ycd, co, as, re, yce, sn, an, pl)) : wpY_renew post (ybc, yho, yhw, yg, yki, ypa, ydv, ycd, yco, yas, yre, yce, ysn, yal, ypl) (pn_b t) (nI z) (nI nb) (nI st) (nI wo) := by
  unfold wpY_renew
  refine yw_meas H hr hPa hcd hyg hgq hg (fun sn an pl hM => ?_)
  dsimp only
  refine yw_bb (t := t) hPa hcd ht ?_
  have e1 : (1 : Int32) + nI (pf_sb yki pa (py_w yki cd) t) = nI (1 + pf_sb yki pa (py_w yki cd) t) := nI_add 1 _
  have hcur := pm_curB (n := 80) (b := t) (st := st) H hst (by omega)
  rw [e1, nI_add]
  refine pk_le (1 + pf_sb yki pa (py_w yki cd) t) nb (fun hle => ?_) (fun hlt => h6 hlt sn an pl)
  refine yw_pack H hPa (hM t) ht hst (fun pl' _ => ?_)
  dsimp only
  refine pk_le (pm_cur (pf_fd yki pa de) sp al t st 80) (st + wo) (fun hle2 => ?_) (fun hlt => h7 hle hlt sn an pl')
  rw [← Q.2.1]
  refine yw_lay (b := t) (t := t) (nm := nm) (sbo := sbo) (bas := bas) (S := fun _ => False) (as0 := yas) (co0 := yco) (re0 := yre) H hPa hcd (hM t) ht hst (Or.inl rfl) (fun c hc hcK hcb e he => ?_) (fun c hc hcK hcb => ?_) Q.2.2.2.2.1 ⟨fun _ _ _ _ x => x.elim, fun _ _ _ => ⟨rfl, rfl, fun _ _ => rfl⟩⟩ (fun pl2 as co re I => ⟨17, ?_⟩)
  · have hct : pt_ab pa t (c + 1) = true := (pt_st H.1 hc hcK).mpr (Or.inl hcb.symm)
    exact (Q.2.2.2.2.2.1 c hc hcK hct e he).1 hcb
  · have hct : pt_ab pa t (c + 1) = true := (pt_st H.1 hc (by rw [hcK]; decide)).mpr (Or.inl hcb.symm)
    have := Q.2.2.2.1 c hc hcK hct
    rw [hcb] at this
    exact this
  · refine yw_ren47 (post := post) H hPa hcd hM Q ht (fun pl3 as' co' re' I' => h0 hle hle2 sn an pl3 as' co' re' I') 17 0 pl2 as co re (by omega) (by omega) ⟨fun c hc hcK hct hS => I.1 c hc hcK hct ?_, I.2⟩
    rcases hS with e | ⟨p, e, hq⟩
    · exact Or.inr e
    · omega
end
end
section
/-! the relation -/
def rl_C (xbu xho xsp xgr : Int32) : Prop := ∃ B h W q : Nat, xbu = nI B ∧ 2 ≤ B ∧ B ≤ 32 ∧ xho = nI (64 * h) ∧ 1 ≤ h ∧ h ≤ 16 ∧ xsp = nI W ∧ 16 ≤ W ∧ W ≤ 512 ∧ xgr = nI (2 ^ q) ∧ q < 5
/-- endpoints' measures, and the second item of a bridge -/
def rl_E (K : Nat → Int32) (cd : Nat → Nat) (sn an : Nat → Int32) : Prop := ∀ s, s < 16 → (K s = 1 → ∀ e, e < 2 → sn (2 * s + e) = nI (pm_sz (cd (2 * s + e))) ∧ an (2 * s + e) = nI (pm_sz (cd (2 * s + e)))) ∧ (K s = 2 → sn (2 * s + 1) = 0 ∧ an (2 * s + 1) = 0)
/-- the registers of a live slot -/
def rl_M (K : Nat → Int32) (cd ba sz se su : Nat → Nat) (as co pr xs xu xb xz yas yco yre : Nat → Int32) : Prop := ∀ s, s < 16 → K s ≠ 0 → (yas s = as s ∧ yco s = co s ∧ (as s = 0 ∨ as s = 1) ∧ (as s = 0 → co s = 0)) ∧ (∀ e, e < 2 → xb (2 * s + e) = nI (ba (2 * s + e)) ∧ xz (2 * s + e) = nI (sz (2 * s + e)) ∧ ba (2 * s + e) + sz (2 * s + e) ≤ 4000) ∧ (K s = 1 → ∀ e, e < 2 → sz (2 * s + e) = pm_sz (cd (2 * s + e)) ∧ yre (8 * s + 2 + e) = nI (ba (2 * s + e))) ∧ (K s = 2 → sz (2 * s + 1) = 0 ∧ xs s = nI (se s) ∧ xu s = nI (su s) ∧ yre (8 * s + 2) = pr s ∧ yre (8 * s + 3) = nI (se s) ∧ yre (8 * s + 4) = nI (su s) ∧ yre (8 * s + 5) = nI (ba (2 * s)) ∧ yre (8 * s + 6) = nI (sz (2 * s)))
/-- what is assigned: numbers and addresses nest, side by side they are disjoint -/
def rl_A (K : Nat → Int32) (pa ba sz se su : Nat → Nat) (as : Nat → Int32) : Prop :=
  (∀ s p, s < 16 → K s ≠ 0 → as s ≠ 0 → pa s = p + 1 → as p ≠ 0) ∧
  (∀ s, s < 16 → K s = 2 → as s ≠ 0 → 1 ≤ se s ∧ se s ≤ su s ∧ su s ≤ 31 ∧ ∀ p, pa s = p + 1 → se p < se s ∧ su s ≤ su p) ∧
  (∀ s s', s < 16 → s' < 16 → K s = 2 → K s' = 2 → as s ≠ 0 → as s' ≠ 0 → pa s = pa s' → s ≠ s' → su s < se s' ∨ su s' < se s) ∧
  (∀ s e p, s < 16 → K s ≠ 0 → as s ≠ 0 → e < 2 → 0 < sz (2 * s + e) → pa s = p + 1 → ba (2 * p) ≤ ba (2 * s + e) ∧ ba (2 * s + e) + sz (2 * s + e) ≤ ba (2 * p) + sz (2 * p)) ∧
  (∀ s e s' e', s < 16 → s' < 16 → K s ≠ 0 → K s' ≠ 0 → as s ≠ 0 → as s' ≠ 0 → e < 2 → e' < 2 → 0 < sz (2 * s + e) → 0 < sz (2 * s' + e') → pa s = pa s' → 2 * s + e ≠ 2 * s' + e' → ba (2 * s + e) + sz (2 * s + e) ≤ ba (2 * s' + e') ∨ ba (2 * s' + e') + sz (2 * s' + e') ≤ ba (2 * s + e))
/-! the pure values below t satisfy what the walks ask -/
section
variable {K : Nat → Int32} {pa de r cd sp al : Nat → Nat} {g t z st q : Nat}
theorem rl_K12 (T : pt_T K pa de r) {s : Nat} (hs : s < 16) (hK : K s ≠ 0) : K s = 1 ∨ K s = 2 := by
  rcases T.1 s hs with h | h | h
  · exact absurd h hK
  · exact Or.inl h
  · exact Or.inr h
theorem rl_H (T : pt_T K pa de r) (C : pm_CD K cd) (G : pm_G K pa de cd g sp al) (hq : q < 5) (hg : g = 2 ^ q) : pm_H K pa de r cd g sp al := by
  have hg0 : 0 < g := by rw [hg]; exact Nat.two_pow_pos q
  have hg16 : g ≤ 16 := by
    rw [hg]
    exact Nat.le_trans (Nat.pow_le_pow_right (by decide) (show q ≤ 4 by omega)) (by decide)
  have B : ∀ s, s < 16 → K s ≠ 0 → ∀ e, e < 2 → sp (2 * s + e) ≤ 1551 ∧ al (2 * s + e) ≤ 16 := fun s hs hK e he => pd_szb G C hg16 hg0 hs (rl_K12 T hs hK) he
  refine ⟨T, G, B, fun b st => Nat.le_trans pm_bd (Nat.add_le_add_left ?_ st)⟩
  refine Nat.le_trans (ps_le_n 3500 fun d hd => ?_) (by omega)
  unfold pm_v
  by_cases hF : pf_fd K pa de b d < 16
  · rw [if_pos hF]
    have b0 := (B _ hF (pf_i hF).1 0 (by omega)).1
    have b1 := (B _ hF (pf_i hF).1 1 (by omega)).1
    rw [Nat.add_zero] at b0
    omega
  · rw [if_neg hF]; omega
theorem rl_baB (T : pt_T K pa de r) (G : pm_G K pa de cd g sp al) (hg : g = 2 ^ q) : ∀ s, s < 16 → K s ≠ 0 → pt_ab pa t (s + 1) = true → ∀ e, e < 2 → 0 < sp (2 * s + e) → pd_ba K pa de sp al t st (2 * s + e) + sp (2 * s + e) ≤ pm_cur (pf_fd K pa de) sp al t st 80 := by
  refine pt_ind T (fun s hs hK h => ?_) (fun s p hs hK h hp h2 hpK ih => ?_)
  · intro ht e he h0
    have i := pd_baIn (t := t) (z := st) T G hg hs hK he ht h0
    rcases pd_up T hs hK ht with e2 | ⟨p, _, e2, _⟩
    · exact (i.1 e2).2
    · omega
  · intro ht e he h0
    have i := pd_baIn (t := t) (z := st) T G hg hs hK he ht h0
    by_cases e2 : pa s = t
    · exact (i.1 e2).2
    · rcases pd_up T hs hK ht with e3 | ⟨p', hp', e3, _, _, hpt⟩
      · exact absurd e3 e2
      · obtain rfl : p = p' := by omega
        have j := i.2 p h e2
        have k := ih hpt 0 (by omega) (by rw [Nat.add_zero]; exact j.1)
        rw [Nat.add_zero] at k
        omega
theorem rl_Q (H : pm_H K pa de r cd g sp al) (hg : g = 2 ^ q) (hst : st ≤ 30000) : px_Q K pa de cd sp al t z st (pd_nm K pa de (px_w1 K) t 0) (pd_nm K pa de (py_w K cd) t z) (fun s => pd_nm K pa de (py_w K cd) t z (s + 1) + pf_sb K pa (py_w K cd) (s + 1) + cd (2 * s)) (pd_ba K pa de sp al t st) := by
  have T := H.1
  have G := H.2.1
  have k0 : ∀ s, K s = 2 → K s ≠ 0 := fun s h => by rw [h]; decide
  refine ⟨pd_nmt, pd_nmt, fun s hs hK h => pd_nms T hs (k0 s hK) h, fun s hs hK h => pd_nms T hs (k0 s hK) h, fun s => rfl, fun c hc hcK hct e he => ⟨fun e1 => ?_, fun p e1 e2 => ?_⟩, fun s hs hK h => ?_⟩
  · rw [pd_baI he, e1, pd_stt]
  · rw [pd_baI he, e1]
    rcases pd_up T hc hcK hct with e3 | ⟨p', hp', e3, _, hpK, hpt⟩
    · exact absurd e3 e2
    · obtain rfl : p = p' := by omega
      rw [pd_sts T hp' hpK hpt]
  · by_cases h0 : 0 < sp (2 * s)
    · have i := rl_baB (st := st) T G hg s hs (k0 s hK) h 0 (by omega) (by rw [Nat.add_zero]; exact h0)
      have c := H.2.2.2 t st
      rw [Nat.add_zero] at i
      omega
    · have := pd_baI (K := K) (pa := pa) (de := de) (sp := sp) (al := al) (t := t) (z := st) (s := s) (e := 0) (by omega)
      rw [Nat.add_zero, if_neg h0] at this
      rw [this]; omega
end
end
section
/-! the relation holds again behind an assignment -/
def rl_if (K : Nat → Int32) (pa : Nat → Nat) (t : Nat) (f f0 : Nat → Nat) (s : Nat) : Nat := if K s ≠ 0 ∧ pt_ab pa t (s + 1) = true then f s else f0 s
def rl_i2 (K : Nat → Int32) (pa : Nat → Nat) (t : Nat) (f f0 : Nat → Nat) (i : Nat) : Nat := if K (i / 2) ≠ 0 ∧ pt_ab pa t (i / 2 + 1) = true then f i else f0 i
section
variable {K : Nat → Int32} {pa de r cd sp al ba sz se su f f0 : Nat → Nat} {g t z st q gb lim : Nat} {as co pr xs xu xb xz yas yco yre as' co' pr' xs' xu' xb' xz' yas' yco' yre' : Nat → Int32}
theorem rl_ifT {s : Nat} (hK : K s ≠ 0) (h : pt_ab pa t (s + 1) = true) : rl_if K pa t f f0 s = f s := if_pos ⟨hK, h⟩
theorem rl_ifF {s : Nat} (h : ¬ pt_ab pa t (s + 1) = true) : rl_if K pa t f f0 s = f0 s := if_neg fun z => h z.2
theorem rl_i2T {s e : Nat} (he : e < 2) (hK : K s ≠ 0) (h : pt_ab pa t (s + 1) = true) : rl_i2 K pa t f f0 (2 * s + e) = f (2 * s + e) := by
  unfold rl_i2
  rw [show (2 * s + e) / 2 = s by omega]
  exact if_pos ⟨hK, h⟩
theorem rl_i2F {s e : Nat} (he : e < 2) (h : ¬ pt_ab pa t (s + 1) = true) : rl_i2 K pa t f f0 (2 * s + e) = f0 (2 * s + e) := by
  unfold rl_i2
  rw [show (2 * s + e) / 2 = s by omega]
  exact if_neg fun z => h z.2
theorem rl_wB : pd_W K (py_w K cd) := fun s _ => ⟨fun h => by unfold py_w; rw [if_pos h]; omega, fun h => if_neg h⟩
theorem rl_Ma (H : pm_H K pa de r cd g sp al) (hg : g = 2 ^ q) (M : rl_M K cd ba sz se su as co pr xs xu xb xz yas yco yre) (IX : px_IN K pa (pd_nm K pa de (py_w K cd) t z) (fun s => pd_nm K pa de (py_w K cd) t z (s + 1) + pf_sb K pa (py_w K cd) (s + 1) + cd (2 * s)) (pd_ba K pa de sp al t st) sp t (fun _ => True) as co pr xs xu xb xz as' co' pr' xs' xu' xb' xz') (IY : py_IN K pa (pd_nm K pa de (py_w K cd) t z) (fun s => pd_nm K pa de (py_w K cd) t z (s + 1) + pf_sb K pa (py_w K cd) (s + 1) + cd (2 * s)) (pd_ba K pa de sp al t st) sp t (fun _ => True) yas yco yre yas' yco' yre') (hcur : pm_cur (pf_fd K pa de) sp al t st 80 ≤ lim) (hlim : lim ≤ 4000) : rl_M K cd (rl_i2 K pa t (pd_ba K pa de sp al t st) ba) (rl_i2 K pa t sp sz) (rl_if K pa t (fun s => pd_nm K pa de (py_w K cd) t z (s + 1)) se) (rl_if K pa t (fun s => pd_nm K pa de (py_w K cd) t z (s + 1) + pf_sb K pa (py_w K cd) (s + 1) + cd (2 * s)) su) as' co' pr' xs' xu' xb' xz' yas' yco' yre' := by
  intro s hs hK
  by_cases h : pt_ab pa t (s + 1) = true
  · obtain ⟨x1, x2, x3, x4⟩ := IX.1 s hs hK h True.intro
    obtain ⟨y1, y2, y3, y4⟩ := IY.1 s hs hK h True.intro
    have bI : ∀ e, e < 2 → rl_i2 K pa t (pd_ba K pa de sp al t st) ba (2 * s + e) = pd_ba K pa de sp al t st (2 * s + e) := fun e he => rl_i2T he hK h
    have sI : ∀ e, e < 2 → rl_i2 K pa t sp sz (2 * s + e) = sp (2 * s + e) := fun e he => rl_i2T he hK h
    have b0 := bI 0 (by omega)
    have s0 := sI 0 (by omega)
    rw [Nat.add_zero] at b0 s0
    refine ⟨⟨by rw [x1, y1], by rw [x2, y2], Or.inr x1, fun z => ?_⟩, fun e he => ?_, fun k1 e he => ?_, fun k2 => ?_⟩
    · rw [x1] at z; exact absurd z (by decide)
    · rw [bI e he, sI e he]
      refine ⟨(x3 e he).1, (x3 e he).2, ?_⟩
      by_cases h0 : 0 < sp (2 * s + e)
      · have := rl_baB (st := st) H.1 H.2.1 hg s hs hK h e he h0
        omega
      · rw [pd_baI he, if_neg h0]; omega
    · rw [bI e he, sI e he]
      refine ⟨(H.2.1.1 s hs k1 e he).1, ?_⟩
      have y5 := y4 (by rw [k1]; decide)
      rcases (by omega : e = 0 ∨ e = 1) with rfl | rfl
      · exact y5.1
      · exact y5.2
    · have x5 := x4 k2
      have y5 := y3 k2
      rw [sI 1 (by omega), b0, s0, rl_ifT hK h, rl_ifT hK h]
      exact ⟨(H.2.1.2.1 s hs k2).2.2.1, x5.2.1, x5.2.2, by rw [x5.1]; exact y5.1, y5.2.1, y5.2.2.1, y5.2.2.2.1, y5.2.2.2.2⟩
  · obtain ⟨x1, x2, x3, x4, x5, x6⟩ := IX.2 s hs fun z => h z.2
    obtain ⟨y1, y2, y3⟩ := IY.2 s hs fun z => h z.2
    have bI : ∀ e, e < 2 → rl_i2 K pa t (pd_ba K pa de sp al t st) ba (2 * s + e) = ba (2 * s + e) := fun e he => rl_i2F he h
    have sI : ∀ e, e < 2 → rl_i2 K pa t sp sz (2 * s + e) = sz (2 * s + e) := fun e he => rl_i2F he h
    have b0 := bI 0 (by omega)
    have s0 := sI 0 (by omega)
    rw [Nat.add_zero] at b0 s0
    obtain ⟨m1, m2, m3, m4⟩ := M s hs hK
    refine ⟨?_, fun e he => ?_, fun k1 e he => ?_, fun k2 => ?_⟩
    · rw [x1, x2, y1, y2]; exact m1
    · rw [bI e he, sI e he, (x6 e he).1, (x6 e he).2]; exact m2 e he
    · rw [bI e he, sI e he, Nat.add_assoc, y3 (2 + e) (by omega), ← Nat.add_assoc]; exact m3 k1 e he
    · rw [sI 1 (by omega), b0, s0, rl_ifF h, rl_ifF h, x3, x4, x5, y3 2 (by omega), y3 3 (by omega), y3 4 (by omega), y3 5 (by omega), y3 6 (by omega)]
      exact m4 k2
theorem rl_pb (T : pt_T K pa de r) {s p : Nat} (hs : s < 16) (hK : K s ≠ 0) (h : ¬ pt_ab pa t (s + 1) = true) (hp : pa s = p + 1) : ¬ pt_ab pa t (p + 1) = true := fun z => h ((pt_st T hs hK).mpr (Or.inr (by rw [hp]; exact z)))
theorem rl_Aa (H : pm_H K pa de r cd g sp al) (hg : g = 2 ^ q) (A : rl_A K pa ba sz se su as) (IX : px_IN K pa (pd_nm K pa de (py_w K cd) t z) (fun s => pd_nm K pa de (py_w K cd) t z (s + 1) + pf_sb K pa (py_w K cd) (s + 1) + cd (2 * s)) (pd_ba K pa de sp al t st) sp t (fun _ => True) as co pr xs xu xb xz as' co' pr' xs' xu' xb' xz') (hcur : pm_cur (pf_fd K pa de) sp al t st 80 ≤ lim) (hgb : z + pf_sb K pa (py_w K cd) t ≤ gb) (hgb31 : gb ≤ 31) (htop : ∀ p, t = p + 1 → p < 16 ∧ K p ≠ 0 ∧ as p ≠ 0 ∧ se p = z ∧ su p = gb ∧ ba (2 * p) = st ∧ ba (2 * p) + sz (2 * p) = lim) : rl_A K pa (rl_i2 K pa t (pd_ba K pa de sp al t st) ba) (rl_i2 K pa t sp sz) (rl_if K pa t (fun s => pd_nm K pa de (py_w K cd) t z (s + 1)) se) (rl_if K pa t (fun s => pd_nm K pa de (py_w K cd) t z (s + 1) + pf_sb K pa (py_w K cd) (s + 1) + cd (2 * s)) su) as' := by
  have T := H.1
  have asT : ∀ s, s < 16 → K s ≠ 0 → pt_ab pa t (s + 1) = true → as' s = 1 := fun s hs hK h => (IX.1 s hs hK h True.intro).1
  have asF : ∀ s, s < 16 → ¬ pt_ab pa t (s + 1) = true → as' s = as s := fun s hs h => (IX.2 s hs fun z => h z.2).1
  have k0 : ∀ s, K s = 2 → K s ≠ 0 := fun s h => by rw [h]; decide
  have top : ∀ p, t = p + 1 → ¬ pt_ab pa t (p + 1) = true := by
    intro p e
    rw [e]
    exact pt_irr T (htop p e).1 (htop p e).2.1
  have i0 : ∀ (f f0 : Nat → Nat) (p : Nat), (K p ≠ 0 → pt_ab pa t (p + 1) = true → rl_i2 K pa t f f0 (2 * p) = f (2 * p)) ∧ (¬ pt_ab pa t (p + 1) = true → rl_i2 K pa t f f0 (2 * p) = f0 (2 * p)) := by
    intro f f0 p
    exact ⟨fun a b => rl_i2T (e := 0) (by omega) a b, fun a => rl_i2F (e := 0) (by omega) a⟩
  refine ⟨fun s p hs hK ha hp => ?_, fun s hs hK ha => ?_, fun s s' hs hs' hK hK' ha ha' hp hne => ?_, fun s e p hs hK ha he h0 hp => ?_, fun s e s' e' hs hs' hK hK' ha ha' he he' h0 h0' hp hne => ?_⟩
  · by_cases h : pt_ab pa t (s + 1) = true
    · rcases pd_up T hs hK h with e | ⟨p', hp', e, _, hpK, hpt⟩
      · rw [hp] at e
        obtain ⟨a1, a2, a3, _⟩ := htop p e.symm
        rw [asF p a1 (top p e.symm)]; exact a3
      · obtain rfl : p = p' := by omega
        rw [asT p hp' hpK hpt]; decide
    · rcases pt_up2 T hs hK with e | ⟨p', hp', e, _, hpK⟩
      · omega
      · obtain rfl : p = p' := by omega
        rw [asF s hs h] at ha
        rw [asF p hp' (rl_pb T hs hK h hp)]
        exact A.1 s p hs hK ha hp
  · by_cases h : pt_ab pa t (s + 1) = true
    · rw [rl_ifT (k0 s hK) h, rl_ifT (k0 s hK) h]
      have t1 := pd_top (z := z) (w := py_w K cd) T rl_wB s hs (k0 s hK) h hK
      have t2 := pd_in (z := z) (w := py_w K cd) T hs (k0 s hK) h
      rw [show py_w K cd s = 1 + cd (2 * s) from if_pos hK] at t1 t2
      refine ⟨by omega, by omega, by omega, fun p hp => ?_⟩
      rcases pd_up T hs (k0 s hK) h with e | ⟨p', hp', e, hp2, hpK, hpt⟩
      · rw [hp] at e
        obtain ⟨a1, a2, a3, a4, a5, _⟩ := htop p e.symm
        rw [rl_ifF (top p e.symm), rl_ifF (top p e.symm), a4, a5]
        omega
      · obtain rfl : p = p' := by omega
        rw [rl_ifT hpK hpt, rl_ifT hpK hpt]
        rw [hp] at t2
        omega
    · rw [rl_ifF h, rl_ifF h]
      rw [asF s hs h] at ha
      obtain ⟨a1, a2, a3, a4⟩ := A.2.1 s hs hK ha
      refine ⟨a1, a2, a3, fun p hp => ?_⟩
      have := rl_pb T hs (k0 s hK) h hp
      rw [rl_ifF this, rl_ifF this]
      exact a4 p hp
  · have hiff : pt_ab pa t (s + 1) = true ↔ pt_ab pa t (s' + 1) = true := by
      rw [pt_st T hs (k0 s hK), pt_st T hs' (k0 s' hK'), hp]
    by_cases h : pt_ab pa t (s + 1) = true
    · have h' := hiff.mp h
      rw [rl_ifT (k0 s hK) h, rl_ifT (k0 s hK) h, rl_ifT (k0 s' hK') h', rl_ifT (k0 s' hK') h']
      have hd : de s ≠ de s' := fun e => hne (T.2.2.2.2 s s' hs hs' (k0 s hK) (k0 s' hK') hp e)
      have w1 : py_w K cd s = 1 + cd (2 * s) := if_pos hK
      have w2 : py_w K cd s' = 1 + cd (2 * s') := if_pos hK'
      by_cases hlt : de s < de s'
      · have := pd_sib (z := z) (w := py_w K cd) T hs (k0 s hK) h hs' (k0 s' hK') h' hp hlt
        exact Or.inl (by omega)
      · have := pd_sib (z := z) (w := py_w K cd) T hs' (k0 s' hK') h' hs (k0 s hK) h hp.symm (by omega)
        exact Or.inr (by omega)
    · have h' : ¬ pt_ab pa t (s' + 1) = true := fun x => h (hiff.mpr x)
      rw [rl_ifF h, rl_ifF h, rl_ifF h', rl_ifF h']
      rw [asF s hs h] at ha
      rw [asF s' hs' h'] at ha'
      exact A.2.2.1 s s' hs hs' hK hK' ha ha' hp hne
  · by_cases h : pt_ab pa t (s + 1) = true
    · rw [rl_i2T he hK h] at h0
      rw [rl_i2T he hK h, rl_i2T he hK h]
      have i := pd_baIn (t := t) (z := st) T H.2.1 hg hs hK he h h0
      rcases pd_up T hs hK h with e2 | ⟨p', hp', e2, hp2, hpK, hpt⟩
      · have e3 := e2
        rw [hp] at e3
        obtain ⟨a1, a2, a3, a4, a5, a6, a7⟩ := htop p e3.symm
        rw [(i0 _ _ p).2 (top p e3.symm), (i0 _ _ p).2 (top p e3.symm), a6]
        have := i.1 e2
        omega
      · obtain rfl : p = p' := by omega
        rw [(i0 _ _ p).1 hpK hpt, (i0 _ _ p).1 hpK hpt]
        refine (i.2 p hp fun e3 => ?_).2
        exact pd_ne T hp' hpK hpt (by rw [← hp, e3])
    · rw [rl_i2F he h] at h0
      have h2 := rl_pb T hs hK h hp
      rw [rl_i2F he h, rl_i2F he h, (i0 _ _ p).2 h2, (i0 _ _ p).2 h2]
      rw [asF s hs h] at ha
      exact A.2.2.2.1 s e p hs hK ha he h0 hp
  · have hiff : pt_ab pa t (s + 1) = true ↔ pt_ab pa t (s' + 1) = true := by
      rw [pt_st T hs hK, pt_st T hs' hK', hp]
    by_cases h : pt_ab pa t (s + 1) = true
    · have h' := hiff.mp h
      rw [rl_i2T he hK h] at h0
      rw [rl_i2T he' hK' h'] at h0'
      rw [rl_i2T he hK h, rl_i2T he hK h, rl_i2T he' hK' h', rl_i2T he' hK' h']
      exact pd_baDis T H.2.1 hs hK he h0 hs' hK' he' h0' hp hne
    · have h' : ¬ pt_ab pa t (s' + 1) = true := fun x => h (hiff.mpr x)
      rw [rl_i2F he h] at h0
      rw [rl_i2F he' h'] at h0'
      rw [rl_i2F he h, rl_i2F he h, rl_i2F he' h', rl_i2F he' h']
      rw [asF s hs h] at ha
      rw [asF s' hs' h'] at ha'
      exact A.2.2.2.2 s e s' e' hs hs' hK hK' ha ha' he he' h0 h0' hp hne
theorem rl_Eem (T : pt_T K pa de r) (G : pm_G K pa de cd g sp al) {sn an : Nat → Int32} (E : rl_E K cd sn an) : px_EM K sp al sn an := by
  intro s hs hK e he hor
  rcases rl_K12 T hs hK with h | h
  · have g1 := G.1 s hs h e he
    rw [g1.1, g1.2]
    exact (E s hs).1 h e he
  · rcases hor with x | x
    · rw [h] at x; exact absurd x (by decide)
    · subst x
      have g2 := G.2.1 s hs h
      rw [g2.2.2.1, g2.2.2.2]
      exact (E s hs).2 h
theorem rl_Eme (G : pm_G K pa de cd g sp al) {sn an : Nat → Int32} (E : px_EM K sp al sn an) : rl_E K cd sn an := by
  intro s hs
  refine ⟨fun h e he => ?_, fun h => ?_⟩
  · have g1 := G.1 s hs h e he
    have := E s hs (by rw [h]; decide) e he (Or.inl h)
    rw [g1.1, g1.2] at this
    exact this
  · have g2 := G.2.1 s hs h
    have := E s hs (by rw [h]; decide) 1 (by omega) (Or.inr rfl)
    rw [g2.2.2.1, g2.2.2.2] at this
    exact this
end
end
section
/-! the relation on the two states; enumerate and rescan -/
def rl_R (pa de r cd ba sz se su : Nat → Nat) (xbu xho xsp xgr xfo xla xde xcr : Int32) (xki xpa xdv xt0 xt1 xch xas xco xpr xse xsu xba xsz xce xsn xal xpl xns xnu xor xbt xnd xdo : Nat → Int32) (ycd yco yas yre : Nat → Int32) : Prop := rl_C xbu xho xsp xgr ∧ pt_T xki pa de r ∧ py_P pa de xpa xdv ∧ pc_C xki pa de xch ∧ pm_CD xki cd ∧ (∀ s, s < 16 → xki s ≠ 0 → xt0 s = nI (cd (2 * s)) ∧ xt1 s = nI (cd (2 * s + 1))) ∧ py_cd xki cd ycd ∧ rl_E xki cd xsn xal ∧ rl_M xki cd ba sz se su xas xco xpr xse xsu xba xsz yas yco yre ∧ rl_A xki pa ba sz se su xas
def rl_EQ (xbu xho xsp xgr xfo xla xde xcr : Int32) (xki xpa xdv xt0 xt1 xch xas xco xpr xse xsu xba xsz xce xsn xal xpl xns xnu xor xbt xnd xdo : Nat → Int32) (ybc yho yhw yg : Int32) (yki ypa ydv ycd yco yas yre yce ysn yal ypl : Nat → Int32) : Prop := ybc = xbu ∧ yho = xho ∧ yhw = xsp ∧ yg = xgr ∧ yki = xki ∧ ypa = xpa ∧ ydv = xdv ∧ yce = xce
def i_Rel (_ : Nat) (u : SX) (v : SY) : Prop := rl_EQ u.1 u.2.1 u.2.2.1 u.2.2.2.1 u.2.2.2.2.1 u.2.2.2.2.2.1 u.2.2.2.2.2.2.1 u.2.2.2.2.2.2.2.1 u.2.2.2.2.2.2.2.2.1 u.2.2.2.2.2.2.2.2.2.1 u.2.2.2.2.2.2.2.2.2.2.1 u.2.2.2.2.2.2.2.2.2.2.2.1 u.2.2.2.2.2.2.2.2.2.2.2.2.1 u.2.2.2.2.2.2.2.2.2.2.2.2.2.1 u.2.2.2.2.2.2.2.2.2.2.2.2.2.2.1 u.2.2.2.2.2.2.2.2.2.2.2.2.2.2.2.1 u.2.2.2.2.2.2.2.2.2.2.2.2.2.2.2.2.1 u.2.2.2.2.2.2.2.2.2.2.2.2.2.2.2.2.2.1 u.2.2.2.2.2.2.2.2.2.2.2.2.2.2.2.2.2.2.1 u.2.2.2.2.2.2.2.2.2.2.2.2.2.2.2.2.2.2.2.1 u.2.2.2.2.2.2.2.2.2.2.2.2.2.2.2.2.2.2.2.2.1 u.2.2.2.2.2.2.2.2.2.2.2.2.2.2.2.2.2.2.2.2.2.1 u.2.2.2.2.2.2.2.2.2.2.2.2.2.2.2.2.2.2.2.2.2.2.1 u.2.2.2.2.2.2.2.2.2.2.2.2.2.2.2.2.2.2.2.2.2.2.2.1 u.2.2.2.2.2.2.2.2.2.2.2.2.2.2.2.2.2.2.2.2.2.2.2.2.1 u.2.2.2.2.2.2.2.2.2.2.2.2.2.2.2.2.2.2.2.2.2.2.2.2.2.1 u.2.2.2.2.2.2.2.2.2.2.2.2.2.2.2.2.2.2.2.2.2.2.2.2.2.2.1 u.2.2.2.2.2.2.2.2.2.2.2.2.2.2.2.2.2.2.2.2.2.2.2.2.2.2.2.1 u.2.2.2.2.2.2.2.2.2.2.2.2.2.2.2.2.2.2.2.2.2.2.2.2.2.2.2.2.1 u.2.2.2.2.2.2.2.2.2.2.2.2.2.2.2.2.2.2.2.2.2.2.2.2.2.2.2.2.2.1 u.2.2.2.2.2.2.2.2.2.2.2.2.2.2.2.2.2.2.2.2.2.2.2.2.2.2.2.2.2.2 v.1 v.2.1 v.2.2.1 v.2.2.2.1 v.2.2.2.2.1 v.2.2.2.2.2.1 v.2.2.2.2.2.2.1 v.2.2.2.2.2.2.2.1 v.2.2.2.2.2.2.2.2.1 v.2.2.2.2.2.2.2.2.2.1 v.2.2.2.2.2.2.2.2.2.2.1 v.2.2.2.2.2.2.2.2.2.2.2.1 v.2.2.2.2.2.2.2.2.2.2.2.2.1 v.2.2.2.2.2.2.2.2.2.2.2.2.2.1 v.2.2.2.2.2.2.2.2.2.2.2.2.2.2 ∧ ∃ pa de r cd ba sz se su : Nat → Nat, rl_R pa de r cd ba sz se su u.1 u.2.1 u.2.2.1 u.2.2.2.1 u.2.2.2.2.1 u.2.2.2.2.2.1 u.2.2.2.2.2.2.1 u.2.2.2.2.2.2.2.1 u.2.2.2.2.2.2.2.2.1 u.2.2.2.2.2.2.2.2.2.1 u.2.2.2.2.2.2.2.2.2.2.1 u.2.2.2.2.2.2.2.2.2.2.2.1 u.2.2.2.2.2.2.2.2.2.2.2.2.1 u.2.2.2.2.2.2.2.2.2.2.2.2.2.1 u.2.2.2.2.2.2.2.2.2.2.2.2.2.2.1 u.2.2.2.2.2.2.2.2.2.2.2.2.2.2.2.1 u.2.2.2.2.2.2.2.2.2.2.2.2.2.2.2.2.1 u.2.2.2.2.2.2.2.2.2.2.2.2.2.2.2.2.2.1 u.2.2.2.2.2.2.2.2.2.2.2.2.2.2.2.2.2.2.1 u.2.2.2.2.2.2.2.2.2.2.2.2.2.2.2.2.2.2.2.1 u.2.2.2.2.2.2.2.2.2.2.2.2.2.2.2.2.2.2.2.2.1 u.2.2.2.2.2.2.2.2.2.2.2.2.2.2.2.2.2.2.2.2.2.1 u.2.2.2.2.2.2.2.2.2.2.2.2.2.2.2.2.2.2.2.2.2.2.1 u.2.2.2.2.2.2.2.2.2.2.2.2.2.2.2.2.2.2.2.2.2.2.2.1 u.2.2.2.2.2.2.2.2.2.2.2.2.2.2.2.2.2.2.2.2.2.2.2.2.1 u.2.2.2.2.2.2.2.2.2.2.2.2.2.2.2.2.2.2.2.2.2.2.2.2.2.1 u.2.2.2.2.2.2.2.2.2.2.2.2.2.2.2.2.2.2.2.2.2.2.2.2.2.2.1 u.2.2.2.2.2.2.2.2.2.2.2.2.2.2.2.2.2.2.2.2.2.2.2.2.2.2.2.1 u.2.2.2.2.2.2.2.2.2.2.2.2.2.2.2.2.2.2.2.2.2.2.2.2.2.2.2.2.1 u.2.2.2.2.2.2.2.2.2.2.2.2.2.2.2.2.2.2.2.2.2.2.2.2.2.2.2.2.2.1 u.2.2.2.2.2.2.2.2.2.2.2.2.2.2.2.2.2.2.2.2.2.2.2.2.2.2.2.2.2.2 v.2.2.2.2.2.2.2.1 v.2.2.2.2.2.2.2.2.1 v.2.2.2.2.2.2.2.2.2.1 v.2.2.2.2.2.2.2.2.2.2.1
theorem i_up {k : Nat} {u : SX} {v : SY} (h : i_Rel k u v) : i_Rel (k + 5) u v := h
theorem rl_el {k : Nat} {u : SX} {v : SY} {P : SX → SY → Prop} (h : ∀ (xbu xho xsp xgr xfo xla xde xcr : Int32) (xki xpa xdv xt0 xt1 xch xas xco xpr xse xsu xba xsz xce xsn xal xpl xns xnu xor xbt xnd xdo : Nat → Int32) (ycd yco yas yre ysn yal ypl : Nat → Int32) (pa de r cd ba sz se su : Nat → Nat), rl_R pa de r cd ba sz se su xbu xho xsp xgr xfo xla xde xcr xki xpa xdv xt0 xt1 xch xas xco xpr xse xsu xba xsz xce xsn xal xpl xns xnu xor xbt xnd xdo ycd yco yas yre → P (xbu, xho, xsp, xgr, xfo, xla, xde, xcr, xki, xpa, xdv, xt0, xt1, xch, xas, xco, xpr, xse, xsu, xba, xsz, xce, xsn, xal, xpl, xns, xnu, xor, xbt, xnd, xdo) (xbu, xho, xsp, xgr, xki, xpa, xdv, ycd, yco, yas, yre, xce, ysn, yal, ypl)) (I : i_Rel k u v) : P u v := by
  obtain ⟨xbu, xho, xsp, xgr, xfo, xla, xde, xcr, xki, xpa, xdv, xt0, xt1, xch, xas, xco, xpr, xse, xsu, xba, xsz, xce, xsn, xal, xpl, xns, xnu, xor, xbt, xnd, xdo⟩ := u
  obtain ⟨ybc, yho, yhw, yg, yki, ypa, ydv, ycd, yco, yas, yre, yce, ysn, yal, ypl⟩ := v
  obtain ⟨E, pa, de, r, cd, ba, sz, se, su, R⟩ := I
  obtain ⟨e1, e2, e3, e4, e5, e6, e7, e8⟩ := E
  have e1 : ybc = xbu := e1
  have e2 : yho = xho := e2
  have e3 : yhw = xsp := e3
  have e4 : yg = xgr := e4
  have e5 : yki = xki := e5
  have e6 : ypa = xpa := e6
  have e7 : ydv = xdv := e7
  have e8 : yce = xce := e8
  subst e1 e2 e3 e4 e5 e6 e7 e8
  exact h _ _ _ _ _ _ _ _ _ _ _ _ _ _ _ _ _ _ _ _ _ _ _ _ _ _ _ _ _ _ _ _ _ _ _ _ _ _ _ _ _ _ _ _ _ _ R
theorem rl_in {k : Nat} {xbu xho xsp xgr xfo xla xde xcr : Int32} {xki xpa xdv xt0 xt1 xch xas xco xpr xse xsu xba xsz xce xsn xal xpl xns xnu xor xbt xnd xdo : Nat → Int32} {ycd yco yas yre ysn yal ypl : Nat → Int32} {pa de r cd ba sz se su : Nat → Nat} (R : rl_R pa de r cd ba sz se su xbu xho xsp xgr xfo xla xde xcr xki xpa xdv xt0 xt1 xch xas xco xpr xse xsu xba xsz xce xsn xal xpl xns xnu xor xbt xnd xdo ycd yco yas yre) : i_Rel k (xbu, xho, xsp, xgr, xfo, xla, xde, xcr, xki, xpa, xdv, xt0, xt1, xch, xas, xco, xpr, xse, xsu, xba, xsz, xce, xsn, xal, xpl, xns, xnu, xor, xbt, xnd, xdo) (xbu, xho, xsp, xgr, xki, xpa, xdv, ycd, yco, yas, yre, xce, ysn, yal, ypl) := ⟨⟨rfl, rfl, rfl, rfl, rfl, rfl, rfl, rfl⟩, pa, de, r, cd, ba, sz, se, su, R⟩
end
section
/-! enumerate and rescan -/
section
variable {xbu xho xsp xgr xfo xla xde xcr : Int32} {xki xpa xdv xt0 xt1 xch xas xco xpr xse xsu xba xsz xce xsn xal xpl xns xnu xor xbt xnd xdo : Nat → Int32} {ycd yco yas yre ysn yal ypl : Nat → Int32} {pa de r cd ba sz se su : Nat → Nat} {t z st wo gb nb : Nat}
theorem rl_sb (T : pt_T xki pa de r) (C : pm_CD xki cd) (t : Nat) : pf_sb xki pa (py_w xki cd) t ≤ 64 := by
  refine Nat.le_trans (pf_sb_le _ t 4 fun s hs => ?_) (by omega)
  unfold py_w
  by_cases h : xki s = 2
  · rw [if_pos h]
    have := ((C s hs).2 h).1
    omega
  · rw [if_neg h]; omega
theorem rl_both {k : Nat} {PX : Int32 → SX → Prop} (R : rl_R pa de r cd ba sz se su xbu xho xsp xgr xfo xla xde xcr xki xpa xdv xt0 xt1 xch xas xco xpr xse xsu xba xsz xce xsn xal xpl xns xnu xor xbt xnd xdo ycd yco yas yre) (ht : t ≤ 16) (hst : st ≤ 4000) (hwo : st + wo ≤ 4000) (hgb : gb ≤ 31) (hz : z ≤ 31) (hnb : nb + z = gb + 1) (htz : t = 0 → z = 0) (htop : ∀ p, t = p + 1 → p < 16 ∧ xki p ≠ 0 ∧ xas p ≠ 0 ∧ xse p = nI z ∧ se p = z ∧ su p = gb ∧ ba (2 * p) = st ∧ ba (2 * p) + sz (2 * p) = st + wo) (h : ∀ rr u', (∀ PY : Int32 → SY → Prop, (∀ v', i_Rel k u' v' → PY rr v') → wpY_renew PY (xbu, xho, xsp, xgr, xki, xpa, xdv, ycd, yco, yas, yre, xce, ysn, yal, ypl) (pn_b t) (nI z) (nI nb) (nI st) (nI wo)) → PX rr u') : wpX_assignBelow PX (xbu, xho, xsp, xgr, xfo, xla, xde, xcr, xki, xpa, xdv, xt0, xt1, xch, xas, xco, xpr, xse, xsu, xba, xsz, xce, xsn, xal, xpl, xns, xnu, xor, xbt, xnd, xdo) (pn_b t) (nI st) (nI (st + wo)) (nI gb) := by
  obtain ⟨C, T, P, hC, CD, tr, cdY, E, M, A⟩ := R
  have C0 := C
  obtain ⟨B, hh, W, q, c1, c2, c3, c4, c5, c6, c7, c8, c9, c10, c11⟩ := C
  obtain ⟨sp, al, G⟩ := pm_ex T CD c11 (g := 2 ^ q) rfl
  have H := rl_H T CD G c11 rfl
  have Q := rl_Q (t := t) (z := z) (st := st) H rfl (by omega)
  have sb := rl_sb T CD t
  have k0 : ∀ s, xki s = 2 → xki s ≠ 0 := fun s h => by rw [h]; decide
  have YR := fun (PY : Int32 → SY → Prop) => yw_ren (ybc := xbu) (yho := xho) (yhw := xsp) (yg := xgr) (yki := xki) (ypa := xpa) (ydv := xdv) (yce := xce) (ycd := ycd) (yco := yco) (yas := yas) (yre := yre) (ysn := ysn) (yal := yal) (ypl := ypl) (post := PY) (nb := nb) (wo := wo) H CD P cdY Q c10 c11 rfl ht (by omega) (by omega) (by omega) (by omega)
  refine xw_asg H hC Q (rl_Eem T G E) c10 c11 rfl (fun s hs hK => (tr s hs (k0 s hK)).1) (fun s hs hK => (tr s hs (k0 s hK)).2) ht (by omega) (by omega) (by omega) (by omega) htz (fun s e => ⟨(htop s e).2.2.1, (htop s e).2.2.2.1⟩) (fun hlt fo la dq ns nu ord bt nd => h (-6) _ fun PY hPY => ?_) (fun hle hlt fo la dq ns nu ord bt nd sn an pl E' => h (-7) _ fun PY hPY => ?_) (fun hle hle2 fo la dq ns nu ord bt nd sn an pl as co pr xs xu xb xz E' IX => h 0 _ fun PY hPY => ?_)
  · exact YR PY (fun _ sn an pl => hPY _ (rl_in ⟨C0, T, P, hC, CD, tr, cdY, E, M, A⟩)) (fun x => by omega) (fun x => by omega)
  · exact YR PY (fun x => by omega) (fun _ _ sn' an' pl' => hPY _ (rl_in ⟨C0, T, P, hC, CD, tr, cdY, rl_Eme G E', M, A⟩)) (fun _ x => by omega)
  · exact YR PY (fun x => by omega) (fun _ x => by omega) (fun _ _ sn' an' pl' as' co' re' IY => hPY _ (rl_in ⟨C0, T, P, hC, CD, tr, cdY, rl_Eme G E', rl_Ma H rfl M IX IY hle2 hwo, rl_Aa H rfl A IX hle2 hle hgb (fun p e => ⟨(htop p e).1, (htop p e).2.1, (htop p e).2.2.1, (htop p e).2.2.2.2⟩)⟩))
end
theorem i_vc_enumerate {k : Nat} {u : SX} {v : SY} (I : i_Rel k u v) (hk : k + 5 ≤ 2564) : wpX_enumerate (fun r u' => wpY_enumerate (fun r' v' => r' = r ∧ i_Rel (k + 5) u' v') v) u := by
  refine rl_el (P := fun u v => wpX_enumerate (fun r u' => wpY_enumerate (fun r' v' => r' = r ∧ i_Rel (k + 5) u' v') v) u) ?_ I
  intro xbu xho xsp xgr xfo xla xde xcr xki xpa xdv xt0 xt1 xch xas xco xpr xse xsu xba xsz xce xsn xal xpl xns xnu xor xbt xnd xdo ycd yco yas yre ysn yal ypl pa de r cd ba sz se su R
  obtain ⟨B, hh, W, q, c1, c2, c3, c4, c5, c6, c7, c8, c9, c10, c11⟩ := R.1
  have e1 : xho + xsp = nI (64 * hh + W) := by rw [c4, c7, nI_add]
  have e2 : xbu - 1 = nI (B - 1) := by
    rw [c1]
    exact pk_sub (a := B) (b := 1) (by omega)
  unfold wpX_enumerate
  dsimp only
  rw [e1, e2]
  subst c1 c4 c7
  refine rl_both (ysn := ysn) (yal := yal) (ypl := ypl) (k := k + 5) (t := 0) (z := 0) (st := 64 * hh) (wo := W) (gb := B - 1) (nb := B) R (by omega) (by omega) (by omega) (by omega) (by omega) (by omega) (fun _ => rfl) (fun p e => by omega) (fun rr u' hY => ?_)
  unfold wpY_enumerate
  exact hY _ (fun v' I' => ⟨rfl, I'⟩)
theorem i_vc_rescan {k : Nat} {u : SX} {v : SY} (I : i_Rel k u v) (hk : k + 5 ≤ 2564) (v1 : Int32) : wpX_rescan (fun r u' => wpY_rescan (fun r' v' => r' = r ∧ i_Rel (k + 5) u' v') v v1) u v1 := by
  refine rl_el (P := fun u v => wpX_rescan (fun r u' => wpY_rescan (fun r' v' => r' = r ∧ i_Rel (k + 5) u' v') v v1) u v1) ?_ I
  intro xbu xho xsp xgr xfo xla xde xcr xki xpa xdv xt0 xt1 xch xas xco xpr xse xsu xba xsz xce xsn xal xpl xns xnu xor xbt xnd xdo ycd yco yas yre ysn yal ypl pa de r cd ba sz se su R
  have R0 := R
  obtain ⟨C, T, P, hC, CD, tr, cdY, E, M, A⟩ := R0
  unfold wpX_rescan
  refine xw_isKa (fun s hs e k2 => ?_) (fun hn => ?_)
  · subst e
    have hK : xki s ≠ 0 := by rw [k2]; decide
    obtain ⟨m1, m2, m3, m4⟩ := M s hs hK
    have m5 := m4 k2
    have b0 := m2 0 (by omega)
    rw [Nat.add_zero] at b0
    have hin : vp_in (nI s) 16 := vp_in_nI hs (by decide)
    have hcl : (nI s).toNatClampNeg = s := nI_clamp (by omega)
    have i2 := vp_in_nI (show 2 * s < 32 by omega) (by decide)
    refine br_f (by decide) ⟨hin, ?_⟩
    rw [hcl, pn_lit2, nI_clamp (show 2 * s < 2 ^ 31 by omega)]
    refine br_c (fun ha => ?_) (fun ha => ⟨i2, nm_r b0.1 ⟨i2, hin, ?_⟩⟩)
    · unfold wpY_rescan
      refine yw_kindOf (fun s' hs' e => ?_) (fun hn => absurd rfl (hn s hs))
      obtain rfl : s = s' := (nI_eq (by omega) (by omega)).mp e
      refine br_t k2 ⟨hin, ?_⟩
      rw [hcl, m1.1]
      exact br_t ha ⟨rfl, rl_in R⟩
    · rw [b0.2.1, nI_add, m5.2.2.1]
      obtain ⟨n1, n2, n3, n4⟩ := A.2.1 s hs k2 ha
      refine rl_both (ysn := ysn) (yal := yal) (ypl := ypl) (k := k + 5) (t := s + 1) (z := se s) (st := ba (2 * s)) (wo := sz (2 * s)) (gb := su s) (nb := su s + 1 - se s) R (by omega) (by omega) (by omega) (by omega) (by omega) (by omega) (fun e => by omega) (fun p e => ?_) (fun rr u' hY => ?_)
      · obtain rfl : s = p := by omega
        exact ⟨hs, hK, ha, m5.2.1, rfl, rfl, rfl, rfl⟩
      · show wpY_rescan _ _ (nI s)
        unfold wpY_rescan
        refine yw_kindOf (fun s' hs' e => ?_) (fun hn => absurd rfl (hn s hs))
        obtain rfl : s = s' := (nI_eq (by omega) (by omega)).mp e
        refine br_t k2 ⟨hin, ?_⟩
        rw [hcl, m1.1]
        refine br_f ha (nm_r (pn_lit8 s) ?_)
        have r3 : nI (8 * s) + 3 = nI (8 * s + 3) := nI_add _ _
        have r4 : nI (8 * s) + 4 = nI (8 * s + 4) := nI_add _ _
        have r5 : nI (8 * s) + 5 = nI (8 * s + 5) := nI_add _ _
        have r6 : nI (8 * s) + 6 = nI (8 * s + 6) := nI_add _ _
        rw [r3, r4, r5, r6, nI_clamp (show 8 * s + 3 < 2 ^ 31 by omega), nI_clamp (show 8 * s + 4 < 2 ^ 31 by omega), nI_clamp (show 8 * s + 5 < 2 ^ 31 by omega), nI_clamp (show 8 * s + 6 < 2 ^ 31 by omega), m5.2.2.2.2.1, m5.2.2.2.2.2.1, m5.2.2.2.2.2.2.1, m5.2.2.2.2.2.2.2]
        have e7 : nI (su s) - nI (se s) + 1 = nI (su s + 1 - se s) := by
          rw [pk_sub n2, nI_1]
          exact congrArg nI (by omega)
        rw [e7]
        have i3 := vp_in_nI (show 8 * s + 3 < 128 by omega) (by decide)
        refine ⟨i3, vp_in_nI (by omega) (by decide), i3, vp_in_nI (by omega) (by decide), vp_in_nI (by omega) (by decide), ?_⟩
        exact hY _ (fun v' I' => ⟨rfl, I'⟩)
  · refine br_t rfl ?_
    unfold wpY_rescan
    refine yw_kindOf (fun s hs e => ?_) (fun _ => br_f (by decide) ⟨rfl, rl_in R⟩)
    exact br_f (hn s hs e) ⟨rfl, rl_in R⟩
end
section
/-! resolving a bus number and a device -/
def rs_l (K as : Nat → Int32) (se : Nat → Nat) (v : Int32) : Nat → Nat
  | 0 => 16
  | n + 1 => if K n = 2 ∧ as n ≠ 0 ∧ nI (se n) = v then n else rs_l K as se v n
def rs_b (K as : Nat → Int32) (se : Nat → Nat) (v : Int32) : Nat := if v = 0 then 0 else if rs_l K as se v 16 < 16 then rs_l K as se v 16 + 1 else 17
def rs_s (K as : Nat → Int32) (pa de se : Nat → Nat) (v w : Int32) : Nat := if rs_b K as se v ≤ 16 ∧ ¬ w < 0 ∧ w ≤ 7 then pf_fd K pa de (rs_b K as se v) w.toNatClampNeg else 16
def rs_r (K as : Nat → Int32) (pa de se : Nat → Nat) (v w : Int32) : Int32 := if rs_s K as pa de se v w < 16 then nI (rs_s K as pa de se v w) else -2
section
variable {K as : Nat → Int32} {pa de r ba sz se su : Nat → Nat} {v w : Int32}
theorem rs_lc : ∀ n, n ≤ 16 → (rs_l K as se v n = 16 ∧ ∀ i, i < n → ¬ (K i = 2 ∧ as i ≠ 0 ∧ nI (se i) = v)) ∨ (rs_l K as se v n < n ∧ K (rs_l K as se v n) = 2 ∧ as (rs_l K as se v n) ≠ 0 ∧ nI (se (rs_l K as se v n)) = v) := by
  intro n
  induction n with
  | zero => intro _; exact Or.inl ⟨rfl, fun i hi => by omega⟩
  | succ n ih =>
    intro hn
    rw [rs_l]
    by_cases h : K n = 2 ∧ as n ≠ 0 ∧ nI (se n) = v
    · rw [if_pos h]; exact Or.inr ⟨by omega, h⟩
    · rw [if_neg h]
      rcases ih (by omega) with ⟨h1, h2⟩ | ⟨h1, h2⟩
      · refine Or.inl ⟨h1, fun i hi => ?_⟩
        by_cases e : i = n
        · rw [e]; exact h
        · exact h2 i (by omega)
      · exact Or.inr ⟨by omega, h2⟩
/-- all above an assigned node is assigned -/
theorem rs_as (T : pt_T K pa de r) (A : rl_A K pa ba sz se su as) {c : Nat} : ∀ s, s < 16 → K s ≠ 0 → as s ≠ 0 → pt_ab pa (c + 1) (s + 1) = true → as c ≠ 0 := by
  refine pt_ind T (fun s hs hK h => ?_) (fun s p hs hK h hp h2 hpK ih => ?_)
  · intro ha hc
    rcases (pt_st T hs hK).mp hc with e | e
    · omega
    · rw [h, pt_a0] at e; omega
  · intro ha hc
    have hap := A.1 s p hs hK ha h
    rcases (pt_st T hs hK).mp hc with e | e
    · rw [h] at e
      obtain rfl : c = p := by omega
      exact hap
    · rw [h] at e
      exact ih hap e
/-- numbers nest -/
theorem rs_ne (T : pt_T K pa de r) (A : rl_A K pa ba sz se su as) {c : Nat} : ∀ s, s < 16 → K s ≠ 0 → K s = 2 → as s ≠ 0 → pt_ab pa (c + 1) (s + 1) = true → se c < se s ∧ su s ≤ su c := by
  refine pt_ind T (fun s hs hK h => ?_) (fun s p hs hK h hp h2 hpK ih => ?_)
  · intro _ ha hc
    rcases (pt_st T hs hK).mp hc with e | e
    · omega
    · rw [h, pt_a0] at e; omega
  · intro hK2 ha hc
    have hap := A.1 s p hs hK ha h
    have hn := (A.2.1 s hs hK2 ha).2.2.2 p h
    rcases (pt_st T hs hK).mp hc with e | e
    · rw [h] at e
      obtain rfl : c = p := by omega
      exact hn
    · rw [h] at e
      have := ih h2 hap e
      omega
end
section
variable {xbu xho xsp xgr xfo xla xde xcr : Int32} {xki xpa xdv xt0 xt1 xch xas xco xpr xse xsu xba xsz xce xsn xal xpl xns xnu xor xbt xnd xdo : Nat → Int32} {pa de r ba sz se su : Nat → Nat} {v w : Int32}
theorem xw_bir {post : Int32 → Prop} {b : Nat} (T : pt_T xki pa de r) (hC : pc_C xki pa de xch) (hb : b ≤ 16) (hse : ∀ s, s < 16 → xki s = 2 → xse s = nI (se s) ∧ xsu s = nI (su s)) (h1 : ∀ s, s < 16 → xki s = 2 → pa s = b → xas s ≠ 0 → ¬ v < nI (se s) → ¬ nI (su s) < v → post (nI s)) (h2 : (∀ s, s < 16 → xki s = 2 → pa s = b → xas s ≠ 0 → ¬ v < nI (se s) → ¬ nI (su s) < v → False) → post (-1)) : wpX_bridgeInRange post (xbu, xho, xsp, xgr, xfo, xla, xde, xcr, xki, xpa, xdv, xt0, xt1, xch, xas, xco, xpr, xse, xsu, xba, xsz, xce, xsn, xal, xpl, xns, xnu, xor, xbt, xnd, xdo) (pn_b b) v := by
  have key : ∀ m d, d ≤ 8 → 8 - d < m → (∀ s, s < 16 → xki s = 2 → pa s = b → de s < d → xas s ≠ 0 → ¬ v < nI (se s) → ¬ nI (su s) < v → False) → wX_bridgeInRange_2 post (pn_b b) v xbu xho xsp xgr xfo xla xde xcr xki xpa xdv xt0 xt1 xch xas xco xpr xse xsu xba xsz xce xsn xal xpl xns xnu xor xbt xnd xdo m (nI d) := by
    intro m
    induction m with
    | zero => intro d a b; omega
    | succ m ih =>
      intro d hd hm hn
      by_cases h8 : d = 8
      · subst h8
        exact br_t (nI_le (a := 8) (b := 8) (by omega) (by decide)) (h2 fun s hs hK hp => hn s hs hK hp (T.2.2.1 s))
      · have no : (∀ s, s < 16 → xki s = 2 → pf_fd xki pa de b d = s → xas s ≠ 0 → ¬ v < nI (se s) → ¬ nI (su s) < v → False) → wX_bridgeInRange_2 post (pn_b b) v xbu xho xsp xgr xfo xla xde xcr xki xpa xdv xt0 xt1 xch xas xco xpr xse xsu xba xsz xce xsn xal xpl xns xnu xor xbt xnd xdo m (nI (d + 1)) := by
          intro hx
          refine ih (d + 1) (by omega) (by omega) fun s hs hK hp hds => ?_
          by_cases e : de s = d
          · exact hx s hs hK (pf_eq T hs (by rw [hK]; decide) hp e)
          · exact hn s hs hK hp (by omega)
        refine br_f (nI_ge (b := 8) (by omega) (by decide)) (xw_node hC hb (by omega) (fun s hs hf => ?_) (fun hf => xw_isKn (br_t rfl (nm_r (nI_1 d) (no fun s hs _ e => by omega)))))
        refine xw_isK hs (fun k2 => br_f (by decide) ⟨vp_in_nI hs (by decide), ?_⟩) (fun k2 => br_t rfl (nm_r (nI_1 d) (no fun s' hs' k e => by rw [← hf, e] at k2; exact absurd k k2)))
        have f := pf_i (K := xki) (pa := pa) (de := de) (b := b) (d := d) (by rw [hf]; exact hs)
        rw [hf] at f
        have hin : vp_in (nI s) 16 := vp_in_nI hs (by decide)
        have one : ∀ s', pf_fd xki pa de b d = s' → s' = s := fun s' e => by rw [← e, hf]
        rw [nI_clamp (by omega), (hse s hs k2).1, (hse s hs k2).2]
        refine br_c (fun y => nm_r (nI_1 d) (no fun s' _ _ e a => ?_)) (fun y => ⟨hin, br_c (fun y2 => nm_r (nI_1 d) (no fun s' _ _ e _ a => ?_)) (fun y2 => ⟨hin, br_c (fun y3 => nm_r (nI_1 d) (no fun s' _ _ e _ _ a => ?_)) (fun y3 => h1 s hs k2 f.2.1 y y2 y3)⟩)⟩)
        · rw [one s' e] at a; exact absurd y a
        · rw [one s' e] at a; exact absurd y2 a
        · rw [one s' e] at a; exact absurd y3 a
  exact ⟨9, key 9 0 (by omega) (by omega) (fun s _ _ _ h => by omega)⟩
/-- the bus depth -/
def rs_d (pa : Nat → Nat) : Nat → Nat
  | 0 => 0
  | s + 1 => pt_dp pa s + 1
theorem rs_dc (T : pt_T xki pa de r) {c b : Nat} (hc : c < 16) (hcK : xki c ≠ 0) (h : pa c = b) : rs_d pa (c + 1) = rs_d pa b + 1 := by
  show pt_dp pa c + 1 = _
  cases b with
  | zero => rw [pt_dp0 T hc hcK h]; rfl
  | succ p => rw [pt_dps T hc hcK h]; rfl
theorem xw_bon {post : Int32 → Prop} (T : pt_T xki pa de r) (hC : pc_C xki pa de xch) (A : rl_A xki pa ba sz se su xas) (hse : ∀ s, s < 16 → xki s = 2 → xse s = nI (se s) ∧ xsu s = nI (su s)) (h1 : ∀ s, s < 16 → xki s = 2 → xas s ≠ 0 → v = nI (se s) → (∀ s', s' < 16 → xki s' = 2 → xas s' ≠ 0 → v = nI (se s') → s' = s) → post (nI s)) (h2 : (∀ s, s < 16 → xki s = 2 → xas s ≠ 0 → v = nI (se s) → False) → post (-1)) : ∀ m b, (b = 0 ∨ ∃ p, p < 16 ∧ b = p + 1 ∧ xki p ≠ 0) → 16 - rs_d pa b < m → rs_d pa b ≤ 16 → (∀ s, s < 16 → xki s = 2 → xas s ≠ 0 → v = nI (se s) → pt_ab pa b (s + 1) = true) → wX_bridgeOfNumber_4 post v xbu xho xsp xgr xfo xla xde xcr xki xpa xdv xt0 xt1 xch xas xco xpr xse xsu xba xsz xce xsn xal xpl xns xnu xor xbt xnd xdo m (pn_b b) (nI (rs_d pa b)) := by
  intro m
  induction m with
  | zero => intro b _ h; omega
  | succ m ih =>
    intro b hb hm hl ht
    have hb16 : b ≤ 16 := by
      rcases hb with e | ⟨p, hp, e, _⟩
      · omega
      · omega
    by_cases h16 : rs_d pa b = 16
    · rw [h16]
      refine br_t (nI_le (a := 16) (b := 16) (by omega) (by decide)) (h2 fun s hs hK ha e => ?_)
      have hab := ht s hs hK ha e
      have hd := pt_dp15 T hs (by rw [hK]; decide)
      rcases hb with e2 | ⟨p, hp, e2, _⟩
      · rw [e2] at h16; exact absurd (show 0 = 16 from h16) (by decide)
      · subst e2
        have h3 : pt_dp pa p + 1 = 16 := h16
        have := pt_dp_ab T s hs (by rw [hK]; decide) hab
        omega
    · -- a target's child of b lies in range
      have hin : ∀ s, s < 16 → xki s = 2 → xas s ≠ 0 → v = nI (se s) → ∃ c, c < 16 ∧ xki c = 2 ∧ pa c = b ∧ xas c ≠ 0 ∧ ¬ v < nI (se c) ∧ ¬ nI (su c) < v ∧ (c = s ∨ pt_ab pa (c + 1) (s + 1) = true) := by
        intro s hs hK ha e
        have hK0 : xki s ≠ 0 := by rw [hK]; decide
        obtain ⟨c, hc, hcK, hcb, hcs⟩ := pf_path T s hs hK0 (ht s hs hK ha e)
        have a1 := A.2.1 s hs hK ha
        rcases hcs with e2 | e2
        · subst e2
          refine ⟨c, hc, hK, hcb, ha, ?_, ?_, Or.inl rfl⟩
          · rw [e]; exact nI_nlt (Nat.le_refl _) (by omega)
          · rw [e]; exact nI_nlt (by omega) (by omega)
        · have k2 := (pt_lt T hs hK0 e2).2.1
          have hac := rs_as T A s hs hK0 ha e2
          have hne := rs_ne T A s hs hK0 hK ha e2
          have a2 := A.2.1 c hc k2 hac
          refine ⟨c, hc, k2, hcb, hac, ?_, ?_, Or.inr e2⟩
          · rw [e]; exact nI_nlt (by omega) (by omega)
          · rw [e]; exact nI_nlt (by omega) (by omega)
      refine br_f (nI_ge (b := 16) (by omega) (by decide)) (xw_bir T hC hb16 hse (fun c hc hK hp ha y1 y2 => br_f (nI_pos (by omega)) ⟨vp_in_nI hc (by decide), ?_⟩) (fun hn => br_t pn_neg1 (h2 fun s hs hK ha e => ?_)))
      · rw [nI_clamp (by omega), (hse c hc hK).1]
        have hcK : xki c ≠ 0 := by rw [hK]; decide
        have hall : ∀ s, s < 16 → xki s = 2 → xas s ≠ 0 → v = nI (se s) → c = s ∨ pt_ab pa (c + 1) (s + 1) = true := by
          intro s hs hK' ha' e
          obtain ⟨c', hc', hcK', hcb', hac', z1, z2, hcs⟩ := hin s hs hK' ha' e
          have hcc : c = c' := by
            by_cases e3 : c = c'
            · exact e3
            · exfalso
              have a1 := A.2.1 c hc hK ha
              have a2 := A.2.1 c' hc' hcK' hac'
              have a3 := A.2.1 s hs hK' ha'
              have b1 := A.2.2.1 c c' hc hc' hK hcK' ha hac' (by rw [hp, hcb']) e3
              rw [e, nI_ltI (by omega) (by omega)] at y1 y2 z1 z2
              omega
          rw [hcc]; exact hcs
        refine br_c (fun y => h1 c hc hK ha y.symm fun s hs hK' ha' e => ?_) (fun y => nm_r (nI_1 _) ?_)
        · rcases hall s hs hK' ha' e with e3 | e3
          · exact e3.symm
          · exfalso
            have a1 := A.2.1 c hc hK ha
            have a3 := A.2.1 s hs hK' ha'
            have hne := rs_ne T A s hs (by rw [hK']; decide) hK' ha' e3
            rw [e] at y
            have := (nI_eq (by omega) (by omega)).mp y
            omega
        · have hd := rs_dc T hc hcK hp
          have hd15 := pt_dp15 T hc hcK
          have hd2 : rs_d pa (c + 1) = pt_dp pa c + 1 := rfl
          rw [← hd]
          refine ih (c + 1) (Or.inr ⟨c, hc, rfl, hcK⟩) (by omega) (by omega) fun s hs hK' ha' e => ?_
          rcases hall s hs hK' ha' e with e3 | e3
          · subst e3; exact absurd e.symm y
          · exact e3
      · obtain ⟨c, hc, hcK, hcb, hac, z1, z2, _⟩ := hin s hs hK ha e
        exact hn c hc hcK hcb hac z1 z2
theorem xw_res {post : Int32 → Prop} (T : pt_T xki pa de r) (hC : pc_C xki pa de xch) (A : rl_A xki pa ba sz se su xas) (hse : ∀ s, s < 16 → xki s = 2 → xse s = nI (se s) ∧ xsu s = nI (su s)) (h : post (rs_r xki xas pa de se v w)) : wpX_resolve post (xbu, xho, xsp, xgr, xfo, xla, xde, xcr, xki, xpa, xdv, xt0, xt1, xch, xas, xco, xpr, xse, xsu, xba, xsz, xce, xsn, xal, xpl, xns, xnu, xor, xbt, xnd, xdo) v w := by
  unfold wpX_resolve
  refine xw_out (m := 7) (by decide) (fun d hd e => br_t rfl ?_) (fun hn => br_f (by decide) ?_)
  · subst e
    have hw0 : ¬ nI d < 0 := nI_pos (by omega)
    have hw7 : nI d ≤ 7 := nI_le (b := 7) hd (by decide)
    have hcl : (nI d).toNatClampNeg = d := nI_clamp (by omega)
    have fin : ∀ b, b ≤ 16 → rs_b xki xas se v = b → wX_resolve_32 post (nI d) (pn_b b) xbu xho xsp xgr xfo xla xde xcr xki xpa xdv xt0 xt1 xch xas xco xpr xse xsu xba xsz xce xsn xal xpl xns xnu xor xbt xnd xdo := by
      intro b hb hrb
      have hs : rs_s xki xas pa de se v (nI d) = pf_fd xki pa de b d := by
        unfold rs_s
        rw [hrb, if_pos ⟨hb, hw0, hw7⟩, hcl]
      unfold rs_r at h
      rw [hs] at h
      unfold wX_resolve_32
      refine xw_node hC hb (by omega) (fun s hs hf => br_t (nI_pos' (by omega)) ?_) (fun hf => br_f (by decide) ?_)
      · rw [hf, if_pos hs] at h; exact h
      · rw [hf, if_neg (by omega)] at h; exact h
    refine br_c (fun e => fin 0 (by omega) (by unfold rs_b; rw [if_pos e])) (fun e => ?_)
    have hrl := rs_lc (K := xki) (as := xas) (se := se) (v := v) 16 (by omega)
    refine ⟨17, ?_⟩
    refine xw_bon T hC A hse (fun s hs hK ha e2 hu => br_t (nI_pos' (by omega)) ?_) (fun hn => br_f (by decide) ?_) 17 0 (Or.inl rfl) (by show 16 - 0 < 17; omega) (by show 0 ≤ 16; omega) (fun s hs hK _ _ => pt_root T s hs (by rw [hK]; decide))
    · refine fin (s + 1) (by omega) ?_
      unfold rs_b
      rw [if_neg e]
      rcases hrl with ⟨e1, e3⟩ | ⟨e1, e3, e4, e5⟩
      · exact absurd ⟨hK, ha, e2.symm⟩ (e3 s hs)
      · rw [hu _ e1 e3 e4 e5.symm, if_pos hs]
    · have hb : rs_b xki xas se v = 17 := by
        unfold rs_b
        rw [if_neg e]
        rcases hrl with ⟨e1, _⟩ | ⟨e1, e2, e3, e4⟩
        · rw [e1]; rfl
        · exact (hn _ e1 e2 e3 e4.symm).elim
      have hs16 : rs_s xki xas pa de se v (nI d) = 16 := by
        unfold rs_s
        rw [hb]
        exact if_neg fun z => by omega
      unfold rs_r at h
      rw [hs16] at h
      exact h
  · have hb : rs_s xki xas pa de se v w = 16 := by
      unfold rs_s
      refine if_neg fun z => ?_
      obtain ⟨j, hj, e⟩ := nI_of2 (M := 7) (n := 7) (by decide) z.2.1 z.2.2
      exact hn j hj e
    unfold rs_r at h
    rw [hb] at h
    exact h
end
section
variable {ybc yho yhw yg : Int32} {yki ypa ydv ycd yco yas yre yce ysn yal ypl : Nat → Int32} {pa de r ba sz se su : Nat → Nat} {v w : Int32} {as : Nat → Int32}
def rs_x (n : Nat) : Int32 := if n < 16 then nI n else -2
theorem yw_res14 {post : Int32 → Prop} {x0 : Int32} (has : ∀ s, s < 16 → yki s ≠ 0 → yas s = as s) (hse : ∀ s, s < 16 → yki s = 2 → yre (8 * s + 3) = nI (se s)) (h0 : v = 0 → wpY_find post (ybc, yho, yhw, yg, yki, ypa, ydv, ycd, yco, yas, yre, yce, ysn, yal, ypl) x0 w) (h1 : ¬ v = 0 → wpY_find post (ybc, yho, yhw, yg, yki, ypa, ydv, ycd, yco, yas, yre, yce, ysn, yal, ypl) (rs_x (rs_l yki as se v 16)) w) : ∀ m i, i ≤ 16 → 16 - i < m → wY_resolve_14 post v w ybc yho yhw yg yki ypa ydv ycd yco yas yre yce ysn yal ypl m (if v = 0 then x0 else rs_x (rs_l yki as se v i)) (nI i) := by
  intro m
  induction m with
  | zero => intro i a b; omega
  | succ m ih =>
    intro i hi hm
    by_cases h16 : i = 16
    · subst h16
      refine br_t (nI_le (a := 16) (b := 16) (by omega) (by decide)) ?_
      by_cases e : v = 0
      · rw [if_pos e]; exact h0 e
      · rw [if_neg e]; exact h1 e
    · have I := ih (i + 1) (by omega) (by omega)
      refine br_f (nI_ge (b := 16) (by omega) (by decide)) (br_c (fun e => nm_r (nI_1 i) ?_) (fun e => ⟨vp_in_nI (by omega) (by decide), ?_⟩))
      · rw [if_pos e] at I ⊢; exact I
      · rw [if_neg e] at I ⊢
        rw [rs_l] at I
        have r3 : nI (8 * i) + 3 = nI (8 * i + 3) := nI_add _ _
        rw [nI_clamp (by omega), pn_lit8, r3, nI_clamp (show 8 * i + 3 < 2 ^ 31 by omega)]
        refine br_c (fun k2 => ⟨vp_in_nI (by omega) (by decide), ?_⟩) (fun k2 => nm_r (nI_1 i) ?_)
        · have hK : yki i ≠ 0 := by rw [k2]; decide
          rw [has i (by omega) hK, hse i (by omega) k2]
          refine br_c (fun y => nm_r (nI_1 i) ?_) (fun y => ⟨vp_in_nI (by omega) (by decide), br_c (fun y2 => nm_r (nI_1 i) ?_) (fun y2 => nm_r (nI_1 i) ?_)⟩)
          · rw [if_neg (fun z => z.2.1 y)] at I; exact I
          · rw [if_pos ⟨k2, y, y2⟩] at I
            unfold rs_x at I
            rw [if_pos (by omega)] at I
            exact I
          · rw [if_neg (fun z => y2 z.2.2)] at I; exact I
        · rw [if_neg (fun z => k2 z.1)] at I; exact I
theorem yw_res {post : Int32 → Prop} (T : pt_T yki pa de r) (hP : py_P pa de ypa ydv) (has : ∀ s, s < 16 → yki s ≠ 0 → yas s = as s) (hse : ∀ s, s < 16 → yki s = 2 → yre (8 * s + 3) = nI (se s)) (h : post (rs_r yki as pa de se v w)) : wpY_resolve post (ybc, yho, yhw, yg, yki, ypa, ydv, ycd, yco, yas, yre, yce, ysn, yal, ypl) v w := by
  have nof : ∀ x, (∀ s, s < 16 → ¬ (yki s ≠ 0 ∧ ypa s = x ∧ ydv s = w)) → rs_s yki as pa de se v w = 16 → wpY_find post (ybc, yho, yhw, yg, yki, ypa, ydv, ycd, yco, yas, yre, yce, ysn, yal, ypl) x w := by
    intro x hn h16
    unfold rs_r at h
    rw [h16] at h
    exact yw_findG (fun s hs a b c => absurd ⟨a, b, c⟩ (hn s hs)) (fun _ => h)
  have fin : ∀ b, b ≤ 16 → rs_b yki as se v = b → wpY_find post (ybc, yho, yhw, yg, yki, ypa, ydv, ycd, yco, yas, yre, yce, ysn, yal, ypl) (pn_b b) w := by
    intro b hb hrb
    by_cases hw : ¬ w < 0 ∧ w ≤ 7
    · obtain ⟨d, hd, e⟩ := nI_of2 (M := 7) (n := 7) (by decide) hw.1 hw.2
      subst e
      have hcl : (nI d).toNatClampNeg = d := nI_clamp (by omega)
      have hs : rs_s yki as pa de se v (nI d) = pf_fd yki pa de b d := by
        unfold rs_s
        rw [hrb, if_pos ⟨hb, hw⟩, hcl]
      unfold rs_r at h
      rw [hs] at h
      refine yw_find T hP hb (by omega) (fun s hs hf => ?_) (fun hf => ?_)
      · rw [hf, if_pos hs] at h; exact h
      · rw [hf, if_neg (by omega)] at h; exact h
    · refine nof _ (fun s hs z => hw ?_) ?_
      · rw [← z.2.2, (hP.2.2 s hs).2]
        have := hP.2.1 s
        exact ⟨nI_pos (by omega), nI_le (b := 7) (by omega) (by decide)⟩
      · unfold rs_s
        exact if_neg fun z => hw z.2
  have key : ∀ x0, (v = 0 → wpY_find post (ybc, yho, yhw, yg, yki, ypa, ydv, ycd, yco, yas, yre, yce, ysn, yal, ypl) x0 w) → ∃ n, wY_resolve_14 post v w ybc yho yhw yg yki ypa ydv ycd yco yas yre yce ysn yal ypl n (if v = 0 then x0 else -2) 0 := by
    intro x0 h0
    refine ⟨17, yw_res14 has hse h0 (fun e => ?_) 17 0 (by omega) (by omega)⟩
    unfold rs_x
    by_cases h16 : rs_l yki as se v 16 < 16
    · rw [if_pos h16]
      exact fin (rs_l yki as se v 16 + 1) (by omega) (by unfold rs_b; rw [if_neg e, if_pos h16])
    · rw [if_neg h16]
      refine nof _ (fun s hs z => ?_) ?_
      · have := hP.1 s
        have z2 := z.2.1
        rw [(hP.2.2 s hs).1] at z2
        exact pn_b_m2 (by omega) z2
      · have hb : rs_b yki as se v = 17 := by unfold rs_b; rw [if_neg e, if_neg h16]
        unfold rs_s
        rw [hb]
        exact if_neg fun z => by omega
  refine br_c (fun e => ?_) (fun e => ?_)
  · have := key (-1) (fun _ => fin 0 (by omega) (by unfold rs_b; rw [if_pos e]))
    rw [if_pos e] at this
    exact this
  · have := key (-1) (fun z => absurd z e)
    rw [if_neg e] at this
    exact this
end
theorem rs_rc (K as : Nat → Int32) (pa de se : Nat → Nat) (v w : Int32) : rs_r K as pa de se v w = -2 ∨ ∃ s, s < 16 ∧ K s ≠ 0 ∧ rs_r K as pa de se v w = nI s := by
  unfold rs_r
  by_cases h : rs_s K as pa de se v w < 16
  · rw [if_pos h]
    refine Or.inr ⟨_, h, ?_, rfl⟩
    unfold rs_s at h ⊢
    by_cases c : rs_b K as se v ≤ 16 ∧ ¬ w < 0 ∧ w ≤ 7
    · rw [if_pos c] at h ⊢
      exact (pf_i h).1
    · rw [if_neg c] at h; omega
  · rw [if_neg h]; exact Or.inl rfl
end
section
/-! resolve, cfgRead, setCommand, info, peek -/
section
variable {K : Nat → Int32} {cd ba sz se su : Nat → Nat} {as co pr xs xu xb xz yas yco yre : Nat → Int32}
theorem rl_Mse (M : rl_M K cd ba sz se su as co pr xs xu xb xz yas yco yre) : ∀ s, s < 16 → K s = 2 → xs s = nI (se s) ∧ xu s = nI (su s) := fun s hs h => ⟨((M s hs (by rw [h]; decide)).2.2.2 h).2.1, ((M s hs (by rw [h]; decide)).2.2.2 h).2.2.1⟩
theorem rl_Myse (M : rl_M K cd ba sz se su as co pr xs xu xb xz yas yco yre) : ∀ s, s < 16 → K s = 2 → yre (8 * s + 3) = nI (se s) := fun s hs h => ((M s hs (by rw [h]; decide)).2.2.2 h).2.2.2.2.1
theorem rl_Mas (M : rl_M K cd ba sz se su as co pr xs xu xb xz yas yco yre) : ∀ s, s < 16 → K s ≠ 0 → yas s = as s := fun s hs h => (M s hs h).1.1
theorem rl_Mco (M : rl_M K cd ba sz se su as co pr xs xu xb xz yas yco yre) {c : Nat} {x : Int32} (ha : as c ≠ 0) : rl_M K cd ba sz se su as (upd co c x) pr xs xu xb xz yas (upd yco c x) yre := by
  intro s hs hK
  obtain ⟨⟨a1, a2, a3, a4⟩, m2, m3, m4⟩ := M s hs hK
  refine ⟨⟨a1, ?_, a3, fun z => ?_⟩, m2, m3, m4⟩
  · by_cases e : s = c
    · rw [e, pk_us, pk_us]
    · rw [pk_un e, pk_un e]; exact a2
  · by_cases e : s = c
    · rw [e] at z; exact absurd z ha
    · rw [pk_un e]; exact a4 z
end
theorem i_vc_resolve {k : Nat} {u : SX} {v : SY} (I : i_Rel k u v) (hk : k + 5 ≤ 2564) (v1 : Int32) (v2 : Int32) : wpX_resolve (fun r => wpY_resolve (fun r' => r' = r ∧ i_Rel (k + 5) u v) v v1 v2) u v1 v2 := by
  refine rl_el (P := fun u v => wpX_resolve (fun r => wpY_resolve (fun r' => r' = r ∧ i_Rel (k + 5) u v) v v1 v2) u v1 v2) ?_ I
  intro xbu xho xsp xgr xfo xla xde xcr xki xpa xdv xt0 xt1 xch xas xco xpr xse xsu xba xsz xce xsn xal xpl xns xnu xor xbt xnd xdo ycd yco yas yre ysn yal ypl pa de r cd ba sz se su R
  have R0 := R
  obtain ⟨C, T, P, hC, CD, tr, cdY, E, M, A⟩ := R0
  exact xw_res T hC A (rl_Mse M) (yw_res T P (rl_Mas M) (rl_Myse M) ⟨rfl, rl_in R⟩)
theorem i_vc_setCommand {k : Nat} {u : SX} {v : SY} (I : i_Rel k u v) (hk : k + 5 ≤ 2564) (v1 : Int32) (v2 : Int32) (v3 : Int32) : wpX_setCommand (fun r u' => wpY_setCommand (fun r' v' => r' = r ∧ i_Rel (k + 5) u' v') v v1 v2 v3) u v1 v2 v3 := by
  refine rl_el (P := fun u v => wpX_setCommand (fun r u' => wpY_setCommand (fun r' v' => r' = r ∧ i_Rel (k + 5) u' v') v v1 v2 v3) u v1 v2 v3) ?_ I
  intro xbu xho xsp xgr xfo xla xde xcr xki xpa xdv xt0 xt1 xch xas xco xpr xse xsu xba xsz xce xsn xal xpl xns xnu xor xbt xnd xdo ycd yco yas yre ysn yal ypl pa de r cd ba sz se su R
  have R0 := R
  obtain ⟨C, T, P, hC, CD, tr, cdY, E, M, A⟩ := R0
  unfold wpX_setCommand
  refine xw_out (m := 3) (by decide) (fun j hj e => br_t rfl ?_) (fun hn => br_f (by decide) ?_)
  · subst e
    have y0 : ¬ nI j < 0 := nI_pos (by omega)
    have y3 : nI j ≤ 3 := nI_le (b := 3) hj (by decide)
    refine xw_res T hC A (rl_Mse M) ?_
    rcases rs_rc xki xas pa de se v1 v2 with e | ⟨s, hs, hK, e⟩
    · rw [e]
      refine br_f (by decide) ?_
      unfold wpY_setCommand
      refine br_f y0 (br_t y3 (yw_res T P (rl_Mas M) (rl_Myse M) ?_))
      rw [e]
      exact br_f (by decide) ⟨rfl, rl_in R⟩
    · have hin : vp_in (nI s) 16 := vp_in_nI hs (by decide)
      have hcl : (nI s).toNatClampNeg = s := nI_clamp (by omega)
      have m1 := (M s hs hK).1.1
      rw [e]
      refine br_t (nI_pos' (by omega)) ⟨hin, ?_⟩
      rw [hcl]
      refine br_c (fun ha => ?_) (fun ha => ⟨hin, nm_e ?_⟩)
      · unfold wpY_setCommand
        refine br_f y0 (br_t y3 (yw_res T P (rl_Mas M) (rl_Myse M) ?_))
        rw [e, hcl, m1]
        exact br_t (nI_pos' (by omega)) ⟨hin, br_t ha ⟨rfl, rl_in R⟩⟩
      · unfold wpY_setCommand
        refine br_f y0 (br_t y3 (yw_res T P (rl_Mas M) (rl_Myse M) ?_))
        rw [e, hcl, m1]
        exact br_t (nI_pos' (by omega)) ⟨hin, br_f ha ⟨hin, nm_e ⟨rfl, rl_in ⟨C, T, P, hC, CD, tr, cdY, E, rl_Mco M ha, A⟩⟩⟩⟩
  · unfold wpY_setCommand
    by_cases h0 : v3 < 0
    · exact br_t h0 ⟨rfl, rl_in R⟩
    · refine br_f h0 (br_f (fun h3 => ?_) ⟨rfl, rl_in R⟩)
      obtain ⟨j, hj, e⟩ := nI_of2 (M := 3) (n := 3) (by decide) h0 h3
      exact hn j hj e
theorem rl_65 {n : Nat} (h : n ≤ 16) : (65536 : Int32) - nI n = nI (65536 - n) := pk_sub (a := 65536) (by omega)
/-- the register of a slot -/
def cf_v (K co as re : Nat → Int32) (cd : Nat → Nat) (s j : Nat) : Int32 := if j = 0 then K s else if j = 1 then co s else if K s = 2 then re (8 * s + j) else if j < 4 then re (8 * s + j) else if j = 6 then (if as s = 0 then 0 else 1) else if pm_sz (cd (2 * s + (j - 4))) = 0 then 0 else nI (65536 - pm_sz (cd (2 * s + (j - 4))))
section
variable {ybc yho yhw yg : Int32} {yki ypa ydv ycd yco yas yre yce ysn yal ypl : Nat → Int32} {pa de r cd se : Nat → Nat} {v w : Int32} {as : Nat → Int32}
theorem yw_cfg {post : Int32 → Prop} {s j : Nat} (T : pt_T yki pa de r) (hP : py_P pa de ypa ydv) (hc : py_cd yki cd ycd) (hr : pm_CD yki cd) (has : ∀ s, s < 16 → yki s ≠ 0 → yas s = as s) (hse : ∀ s, s < 16 → yki s = 2 → yre (8 * s + 3) = nI (se s)) (hs : s < 16) (hK : yki s ≠ 0) (e : rs_r yki as pa de se v w = nI s) (hj : j ≤ 6) (h : post (cf_v yki yco yas yre cd s j)) : wpY_cfgRead post (ybc, yho, yhw, yg, yki, ypa, ydv, ycd, yco, yas, yre, yce, ysn, yal, ypl) v w (nI j) := by
  have hin : vp_in (nI s) 16 := vp_in_nI hs (by decide)
  have hcl : (nI s).toNatClampNeg = s := nI_clamp (by omega)
  unfold cf_v at h
  unfold wpY_cfgRead
  refine br_f (nI_pos (by omega)) (br_t (nI_le (b := 6) hj (by decide)) (yw_res T hP has hse ?_))
  rw [e, hcl]
  have Y70 : post (yre (8 * s + j)) → wY_cfgRead_70 post (nI j) (nI s) ybc yho yhw yg yki ypa ydv ycd yco yas yre yce ysn yal ypl := by
    intro hh
    unfold wY_cfgRead_70
    rw [pn_lit8, nI_add, nI_clamp (show 8 * s + j < 2 ^ 31 by omega)]
    exact ⟨vp_in_nI (by omega) (by decide), hh⟩
  refine br_t (nI_pos' (by omega)) (pk_eq j 0 (fun z => ⟨hin, ?_⟩) (fun z0 => pk_eq j 1 (fun z => ⟨hin, ?_⟩) (fun z1 => ⟨hin, br_c (fun k2 => Y70 ?_) (fun k2 => pk_le 4 j (fun z4 => pk_eq j 6 (fun z6 => ⟨hin, ?_⟩) (fun z6 => ?_)) (fun z4 => Y70 ?_))⟩)))
  · rw [if_pos z] at h; exact h
  · rw [if_neg (by omega), if_pos z] at h; exact h
  · rw [if_neg z0, if_neg z1, if_pos k2] at h; exact h
  · rw [if_neg z0, if_neg z1, if_neg k2, if_neg (by omega), if_pos z6] at h
    exact br_c (fun ha => by rw [if_pos ha] at h; exact h) (fun ha => by rw [if_neg ha] at h; exact h)
  · rw [if_neg z0, if_neg z1, if_neg k2, if_neg (by omega), if_neg z6] at h
    have k1 : yki s = 1 := (rl_K12 T hs hK).resolve_right k2
    have c5 := (hr s hs).1 k1
    have eb : (2 * nI s + nI j) - 4 = nI (2 * s + (j - 4)) := by
      rw [pn_lit2, nI_add]
      exact (pk_sub (a := 2 * s + j) (b := 4) (by omega)).trans (congrArg nI (by omega))
    have z8 : pm_sz (cd (2 * s + (j - 4))) ≤ 8 := by
      rcases (by omega : j = 4 ∨ j = 5) with rfl | rfl
      · exact (pm_sz_p c5.1).1
      · exact (pm_sz_p c5.2).1
    rw [eb]
    refine yw_size hc hr (by omega) ?_
    rw [show (2 * s + (j - 4)) / 2 = s by omega, if_pos k1]
    refine pk_le (pm_sz (cd (2 * s + (j - 4)))) 0 (fun z => ?_) (fun z => ?_)
    · rw [if_pos (by omega)] at h; exact h
    · rw [if_neg (by omega)] at h
      rw [rl_65 (by omega)]; exact h
  · rw [if_neg z0, if_neg z1, if_neg k2, if_pos z4] at h; exact h
end
theorem i_vc_cfgRead {k : Nat} {u : SX} {v : SY} (I : i_Rel k u v) (hk : k + 5 ≤ 2564) (v1 : Int32) (v2 : Int32) (v3 : Int32) : wpX_cfgRead (fun r => wpY_cfgRead (fun r' => r' = r ∧ i_Rel (k + 5) u v) v v1 v2 v3) u v1 v2 v3 := by
  refine rl_el (P := fun u v => wpX_cfgRead (fun r => wpY_cfgRead (fun r' => r' = r ∧ i_Rel (k + 5) u v) v v1 v2 v3) u v1 v2 v3) ?_ I
  intro xbu xho xsp xgr xfo xla xde xcr xki xpa xdv xt0 xt1 xch xas xco xpr xse xsu xba xsz xce xsn xal xpl xns xnu xor xbt xnd xdo ycd yco yas yre ysn yal ypl pa de r cd ba sz se su R
  have R0 := R
  obtain ⟨C, T, P, hC, CD, tr, cdY, E, M, A⟩ := R0
  have IR : i_Rel (k + 5) (xbu, xho, xsp, xgr, xfo, xla, xde, xcr, xki, xpa, xdv, xt0, xt1, xch, xas, xco, xpr, xse, xsu, xba, xsz, xce, xsn, xal, xpl, xns, xnu, xor, xbt, xnd, xdo) (xbu, xho, xsp, xgr, xki, xpa, xdv, ycd, yco, yas, yre, xce, ysn, yal, ypl) := rl_in R
  generalize i_Rel (k + 5) (xbu, xho, xsp, xgr, xfo, xla, xde, xcr, xki, xpa, xdv, xt0, xt1, xch, xas, xco, xpr, xse, xsu, xba, xsz, xce, xsn, xal, xpl, xns, xnu, xor, xbt, xnd, xdo) (xbu, xho, xsp, xgr, xki, xpa, xdv, ycd, yco, yas, yre, xce, ysn, yal, ypl) = QQ at IR ⊢
  unfold wpX_cfgRead
  refine xw_out (m := 6) (by decide) (fun j hj e => br_t rfl ?_) (fun hn => br_f (by decide) ?_)
  · subst e
    refine xw_res T hC A (rl_Mse M) ?_
    rcases rs_rc xki xas pa de se v1 v2 with e | ⟨s, hs, hK, e⟩
    · rw [e]
      refine br_f (by decide) ?_
      unfold wpY_cfgRead
      refine br_f (nI_pos (by omega)) (br_t (nI_le (b := 6) hj (by decide)) (yw_res T P (rl_Mas M) (rl_Myse M) ?_))
      rw [e]
      exact br_f (by decide) ⟨rfl, IR⟩
    · have hin : vp_in (nI s) 16 := vp_in_nI hs (by decide)
      have hcl : (nI s).toNatClampNeg = s := nI_clamp (by omega)
      obtain ⟨m1, m2, m3, m4⟩ := M s hs hK
      have go : ∀ rr : Int32, cf_v xki yco yas yre cd s j = rr → wpY_cfgRead (fun r' => r' = rr ∧ QQ) (xbu, xho, xsp, xgr, xki, xpa, xdv, ycd, yco, yas, yre, xce, ysn, yal, ypl) v1 v2 (nI j) := fun rr hh => yw_cfg T P cdY CD (rl_Mas M) (rl_Myse M) hs hK e hj ⟨hh, IR⟩
      have i2 := vp_in_nI (show 2 * s < 32 by omega) (by decide)
      have b0 := m2 0 (by omega)
      rw [Nat.add_zero] at b0
      rw [e]
      refine br_t (nI_pos' (by omega)) ?_
      rw [hcl]
      unfold cf_v at go
      refine pk_eq j 0 (fun z => ⟨hin, go _ (if_pos z)⟩) (fun z0 => pk_eq j 1 (fun z => ⟨hin, go _ ?_⟩) (fun z1 => ⟨hin, br_c (fun k2 => ?_) (fun k2 => ?_)⟩))
      · rw [if_neg z0, if_pos z]; exact m1.2.1
      · rw [if_neg z0, if_neg z1, if_pos k2] at go
        have m5 := m4 k2
        unfold wpX_bridgeRegister
        dsimp only
        rw [hcl, pn_lit2, nI_clamp (show 2 * s < 2 ^ 31 by omega)]
        rcases (by omega : j = 2 ∨ j = 3 ∨ j = 4 ∨ j = 5 ∨ j = 6) with rfl | rfl | rfl | rfl | rfl
        · exact br_f (by decide) (br_f (by decide) (br_t rfl ⟨hin, go _ m5.2.2.2.1⟩))
        · exact br_f (by decide) (br_f (by decide) (br_f (by decide) (br_t rfl ⟨hin, go _ (by rw [m5.2.2.2.2.1, m5.2.1])⟩)))
        · exact br_f (by decide) (br_f (by decide) (br_f (by decide) (br_f (by decide) (br_t rfl ⟨hin, go _ (by rw [m5.2.2.2.2.2.1, m5.2.2.1])⟩))))
        · exact br_f (by decide) (br_f (by decide) (br_f (by decide) (br_f (by decide) (br_f (by decide) (br_t rfl ⟨i2, go _ (by rw [m5.2.2.2.2.2.2.1, b0.1])⟩)))))
        · exact br_f (by decide) (br_t (by decide) ⟨i2, go _ (by rw [m5.2.2.2.2.2.2.2, b0.2.1])⟩)
      · rw [if_neg z0, if_neg z1, if_neg k2] at go
        have k1 : xki s = 1 := (rl_K12 T hs hK).resolve_right k2
        have m5 := m3 k1
        have c5 := (CD s hs).1 k1
        unfold wpX_endpointRegister
        dsimp only
        rw [hcl, pn_lit2]
        refine pk_eq j 6 (fun z6 => ⟨hin, ?_⟩) (fun z6 => ?_)
        · rw [if_neg (by omega), if_pos z6, m1.1] at go
          exact br_c (fun ha => go _ (if_pos ha)) (fun ha => go _ (if_neg ha))
        · have e2 : j - 2 < 2 ∨ j - 4 < 2 := by omega
          refine nm_e (pk_le 4 j (fun z4 => ?_) (fun z4 => ?_))
          · rw [if_neg (by omega), if_neg z6] at go
            have ea : nI j &&& 1 = nI (j - 4) := by
              rw [pk_andN (by omega) 1 (by decide)]
              exact congrArg nI (by omega)
            rw [ea, nI_add]
            have i3 := vp_in_nI (show 2 * s + (j - 4) < 32 by omega) (by decide)
            have zz := (m5 (j - 4) (by omega)).1
            have z8 : pm_sz (cd (2 * s + (j - 4))) ≤ 8 := by
              rcases (by omega : j = 4 ∨ j = 5) with rfl | rfl
              · exact (pm_sz_p c5.1).1
              · exact (pm_sz_p c5.2).1
            rw [nI_clamp (by omega), (m2 (j - 4) (by omega)).2.1, zz]
            refine ⟨i3, pk_eq (pm_sz (cd (2 * s + (j - 4)))) 0 (fun hz => go _ (if_pos hz)) (fun hz => ⟨i3, go _ ?_⟩)⟩
            rw [if_neg hz, rl_65 (by omega)]
          · rw [if_pos z4] at go
            have ea : nI j &&& 1 = nI (j - 2) := by
              rw [pk_andN (by omega) 1 (by decide)]
              exact congrArg nI (by omega)
            rw [ea, nI_add]
            have i3 := vp_in_nI (show 2 * s + (j - 2) < 32 by omega) (by decide)
            refine ⟨i3, go _ ?_⟩
            rw [nI_clamp (by omega), (m2 (j - 2) (by omega)).1, ← (m5 (j - 2) (by omega)).2]
            exact congrArg yre (by omega)
  · unfold wpY_cfgRead
    by_cases h0 : v3 < 0
    · exact br_t h0 ⟨rfl, IR⟩
    · refine br_f h0 (br_f (fun h3 => ?_) ⟨rfl, IR⟩)
      obtain ⟨j, hj, e⟩ := nI_of2 (M := 6) (n := 6) (by decide) h0 h3
      exact hn j hj e
def if_v (K pv dv cv as re : Nat → Int32) (pa : Nat → Nat) (s j : Nat) : Int32 := if j = 0 then K s else if j = 1 then pv s else if j = 2 then dv s else if j < 5 then cv (2 * s + (j - 3)) else if pa s = 0 then 0 else if as (pa s - 1) = 0 then -1 else re (8 * (pa s - 1) + 3)
section
variable {ybc yho yhw yg : Int32} {yki ypa ydv ycd yco yas yre yce ysn yal ypl : Nat → Int32} {pa de : Nat → Nat}
theorem yw_info {post : Int32 → Prop} {s j : Nat} (hP : py_P pa de ypa ydv) (hs : s < 16) (hK : yki s ≠ 0) (hj : j ≤ 5) (h : post (if_v yki ypa ydv ycd yas yre pa s j)) : wpY_info post (ybc, yho, yhw, yg, yki, ypa, ydv, ycd, yco, yas, yre, yce, ysn, yal, ypl) (nI s) (nI j) := by
  have hin : vp_in (nI s) 16 := vp_in_nI hs (by decide)
  have hcl : (nI s).toNatClampNeg = s := nI_clamp (by omega)
  have hp := (hP.2.2 s hs).1
  have hpl := hP.1 s
  unfold if_v at h
  unfold wpY_info
  dsimp only
  rw [hcl]
  refine br_f (nI_pos (by omega)) (br_f (nI_nlt (b := s) (a := 15) (by omega) (by decide)) (br_f (nI_pos (by omega)) (br_t (nI_le (b := 5) hj (by decide)) ⟨hin, br_f hK ⟨hin, nm_e (pk_eq j 0 (fun z => ⟨hin, ?_⟩) (fun z0 => pk_eq j 1 (fun z => ?_) (fun z1 => pk_eq j 2 (fun z => ⟨hin, ?_⟩) (fun z2 => pk_le 5 j (fun z5 => ?_) (fun z5 => ?_)))))⟩⟩)))
  · rw [if_pos z] at h; exact h
  · rw [if_neg z0, if_pos z] at h; exact h
  · rw [if_neg z0, if_neg z1, if_pos z] at h; exact h
  · rw [if_neg z0, if_neg z1, if_neg z2, if_neg (by omega)] at h
    rw [hp]
    generalize pa s = b at h hpl
    cases b with
    | zero => rw [if_pos rfl] at h; exact br_f (by decide) h
    | succ p =>
      have r3 : nI (8 * p) + 3 = nI (8 * p + 3) := nI_add _ _
      rw [if_neg (by omega), show p + 1 - 1 = p by omega] at h
      rw [pn_bs, nI_clamp (by omega), pn_lit8, r3, nI_clamp (by omega)]
      refine br_t (nI_pos' (by omega)) ⟨vp_in_nI (by omega) (by decide), br_c (fun ha => ?_) (fun ha => ⟨vp_in_nI (by omega) (by decide), ?_⟩)⟩
      · rw [if_pos ha] at h; exact h
      · rw [if_neg ha] at h; exact h
  · rw [if_neg z0, if_neg z1, if_neg z2, if_pos z5] at h
    have eb : (2 * nI s + nI j) - 3 = nI (2 * s + (j - 3)) := by
      rw [pn_lit2, nI_add]
      exact (pk_sub (a := 2 * s + j) (b := 3) (by omega)).trans (congrArg nI (by omega))
    rw [eb, nI_clamp (by omega)]
    exact ⟨vp_in_nI (by omega) (by decide), h⟩
end
theorem i_vc_info {k : Nat} {u : SX} {v : SY} (I : i_Rel k u v) (hk : k + 5 ≤ 2564) (v1 : Int32) (v2 : Int32) : wpX_info (fun r => wpY_info (fun r' => r' = r ∧ i_Rel (k + 5) u v) v v1 v2) u v1 v2 := by
  refine rl_el (P := fun u v => wpX_info (fun r => wpY_info (fun r' => r' = r ∧ i_Rel (k + 5) u v) v v1 v2) u v1 v2) ?_ I
  intro xbu xho xsp xgr xfo xla xde xcr xki xpa xdv xt0 xt1 xch xas xco xpr xse xsu xba xsz xce xsn xal xpl xns xnu xor xbt xnd xdo ycd yco yas yre ysn yal ypl pa de r cd ba sz se su R
  have R0 := R
  obtain ⟨C, T, P, hC, CD, tr, cdY, E, M, A⟩ := R0
  have IR : i_Rel (k + 5) (xbu, xho, xsp, xgr, xfo, xla, xde, xcr, xki, xpa, xdv, xt0, xt1, xch, xas, xco, xpr, xse, xsu, xba, xsz, xce, xsn, xal, xpl, xns, xnu, xor, xbt, xnd, xdo) (xbu, xho, xsp, xgr, xki, xpa, xdv, ycd, yco, yas, yre, xce, ysn, yal, ypl) := rl_in R
  generalize i_Rel (k + 5) (xbu, xho, xsp, xgr, xfo, xla, xde, xcr, xki, xpa, xdv, xt0, xt1, xch, xas, xco, xpr, xse, xsu, xba, xsz, xce, xsn, xal, xpl, xns, xnu, xor, xbt, xnd, xdo) (xbu, xho, xsp, xgr, xki, xpa, xdv, ycd, yco, yas, yre, xce, ysn, yal, ypl) = QQ at IR ⊢
  unfold wpX_info
  refine xw_out (m := 15) (by decide) (fun s hs e => br_t rfl ?_) (fun hn => br_f (by decide) ?_)
  · subst e
    have s16 : s < 16 := by omega
    have hin : vp_in (nI s) 16 := vp_in_nI s16 (by decide)
    have hcl : (nI s).toNatClampNeg = s := nI_clamp (by omega)
    have y0 : ¬ nI s < 0 := nI_pos (by omega)
    have y15 : ¬ 15 < nI s := nI_nlt (b := s) (a := 15) (by omega) (by decide)
    refine xw_out (m := 5) (by decide) (fun j hj e => br_t rfl ?_) (fun hn => br_f (by decide) ?_)
    · subst e
      have p0 : ¬ nI j < 0 := nI_pos (by omega)
      have p5 : nI j ≤ 5 := nI_le (b := 5) hj (by decide)
      rw [hcl]
      refine ⟨hin, br_c (fun hK => ?_) (fun hK => ?_)⟩
      · unfold wpY_info
        dsimp only
        rw [hcl]
        exact br_f y0 (br_f y15 (br_f p0 (br_t p5 ⟨hin, br_t hK ⟨rfl, IR⟩⟩)))
      · have t1 := tr s s16 hK
        have c1 := cdY s s16 hK
        have hp := P.2.2 s s16
        have hpl := P.1 s
        have go : ∀ rr : Int32, if_v xki xpa xdv ycd yas yre pa s j = rr → wpY_info (fun r' => r' = rr ∧ QQ) (xbu, xho, xsp, xgr, xki, xpa, xdv, ycd, yco, yas, yre, xce, ysn, yal, ypl) (nI s) (nI j) := fun rr hh => yw_info P s16 hK hj ⟨hh, IR⟩
        unfold if_v at go
        refine br_f p0 ?_
        rcases (by omega : j = 0 ∨ j = 1 ∨ j = 2 ∨ j = 3 ∨ j = 4 ∨ j = 5) with rfl | rfl | rfl | rfl | rfl | rfl
        · exact br_f (by decide) (br_t rfl ⟨hin, go _ rfl⟩)
        · exact br_f (by decide) (br_f (by decide) (br_t rfl ⟨hin, go _ rfl⟩))
        · exact br_f (by decide) (br_f (by decide) (br_f (by decide) (br_t rfl ⟨hin, go _ rfl⟩)))
        · exact br_f (by decide) (br_f (by decide) (br_f (by decide) (br_f (by decide) (br_t rfl ⟨hin, go _ (c1.1.trans t1.1.symm)⟩))))
        · exact br_f (by decide) (br_f (by decide) (br_f (by decide) (br_f (by decide) (br_f (by decide) (br_t rfl ⟨hin, go _ (c1.2.trans t1.2.symm)⟩)))))
        · have go2 : ∀ rr, (if pa s = 0 then 0 else if yas (pa s - 1) = 0 then -1 else yre (8 * (pa s - 1) + 3)) = rr → wpY_info (fun r' => r' = rr ∧ QQ) (xbu, xho, xsp, xgr, xki, xpa, xdv, ycd, yco, yas, yre, xce, ysn, yal, ypl) (nI s) (nI 5) := fun rr hh => go rr hh
          refine br_t (by decide) ⟨hin, ?_⟩
          rw [hp.1]
          refine xw_num hpl (fun e => go2 _ (if_pos e)) (fun p e ha => go2 _ ?_) (fun p e ha => go2 _ ?_)
          · rcases pt_up2 T s16 hK with e2 | ⟨p2, hp2, e2, k2, hpK⟩
            · omega
            · obtain rfl : p = p2 := by omega
              rw [if_neg (by omega), e, show p + 1 - 1 = p by omega, (M p hp2 hpK).1.1, if_pos ha]
          · rcases pt_up2 T s16 hK with e2 | ⟨p2, hp2, e2, k2, hpK⟩
            · omega
            · obtain rfl : p = p2 := by omega
              rw [if_neg (by omega), e, show p + 1 - 1 = p by omega, (M p hp2 hpK).1.1, if_neg ha, rl_Myse M p hp2 k2, (rl_Mse M p hp2 k2).1]
    · unfold wpY_info
      by_cases h0 : v2 < 0
      · exact br_f y0 (br_f y15 (br_t h0 ⟨rfl, IR⟩))
      · refine br_f y0 (br_f y15 (br_f h0 (br_f (fun h3 => ?_) ⟨rfl, IR⟩)))
        obtain ⟨j, hj, e⟩ := nI_of2 (M := 5) (n := 5) (by decide) h0 h3
        exact hn j hj e
  · unfold wpY_info
    by_cases h0 : v1 < 0
    · exact br_t h0 ⟨rfl, IR⟩
    · by_cases h15 : 15 < v1
      · exact br_f h0 (br_t h15 ⟨rfl, IR⟩)
      · obtain ⟨j, hj, e⟩ := nI_of2 (M := 15) (n := 15) (by decide) h0 (Int32.not_lt.mp h15)
        exact absurd e (hn j hj)
theorem i_vc_peek {k : Nat} {u : SX} {v : SY} (I : i_Rel k u v) (hk : k + 5 ≤ 2564) (v1 : Int32) (v2 : Int32) (v3 : Int32) : wpX_peek (fun r => wpY_peek (fun r' => r' = r ∧ i_Rel (k + 5) u v) v v1 v2 v3) u v1 v2 v3 := by
  refine rl_el (P := fun u v => wpX_peek (fun r => wpY_peek (fun r' => r' = r ∧ i_Rel (k + 5) u v) v v1 v2 v3) u v1 v2 v3) ?_ I
  intro xbu xho xsp xgr xfo xla xde xcr xki xpa xdv xt0 xt1 xch xas xco xpr xse xsu xba xsz xce xsn xal xpl xns xnu xor xbt xnd xdo ycd yco yas yre ysn yal ypl pa de r cd ba sz se su R
  have R0 := R
  obtain ⟨C, T, P, hC, CD, tr, cdY, E, M, A⟩ := R0
  have IR : i_Rel (k + 5) (xbu, xho, xsp, xgr, xfo, xla, xde, xcr, xki, xpa, xdv, xt0, xt1, xch, xas, xco, xpr, xse, xsu, xba, xsz, xce, xsn, xal, xpl, xns, xnu, xor, xbt, xnd, xdo) (xbu, xho, xsp, xgr, xki, xpa, xdv, ycd, yco, yas, yre, xce, ysn, yal, ypl) := rl_in R
  generalize i_Rel (k + 5) (xbu, xho, xsp, xgr, xfo, xla, xde, xcr, xki, xpa, xdv, xt0, xt1, xch, xas, xco, xpr, xse, xsu, xba, xsz, xce, xsn, xal, xpl, xns, xnu, xor, xbt, xnd, xdo) (xbu, xho, xsp, xgr, xki, xpa, xdv, ycd, yco, yas, yre, xce, ysn, yal, ypl) = QQ at IR ⊢
  unfold wpX_peek
  refine xw_out (m := 15) (by decide) (fun s hs e => br_t rfl ?_) (fun hn => br_f (by decide) ?_)
  · subst e
    have s16 : s < 16 := by omega
    have hin : vp_in (nI s) 16 := vp_in_nI s16 (by decide)
    have hcl : (nI s).toNatClampNeg = s := nI_clamp (by omega)
    have y0 : ¬ nI s < 0 := nI_pos (by omega)
    have y15 : ¬ 15 < nI s := nI_nlt (b := s) (a := 15) (by omega) (by decide)
    refine xw_out (m := 1) (by decide) (fun j hj e => br_t rfl ?_) (fun hn => br_f (by decide) ?_)
    · subst e
      have p0 : ¬ nI j < 0 := nI_pos (by omega)
      have p1 : nI j ≤ 1 := nI_le (b := 1) hj (by decide)
      have ei : 2 * nI s + nI j = nI (2 * s + j) := by rw [pn_lit2, nI_add]
      have i3 := vp_in_nI (show 2 * s + j < 32 by omega) (by decide)
      have z8 : (if xki s = 1 then pm_sz (cd (2 * s + j)) else 0) ≤ 8 := by
        by_cases k1 : xki s = 1
        · rw [if_pos k1]
          have c5 := (CD s s16).1 k1
          rcases (by omega : j = 0 ∨ j = 1) with rfl | rfl
          · exact (pm_sz_p c5.1).1
          · exact (pm_sz_p c5.2).1
        · rw [if_neg k1]; omega
      have go : ∀ rr : Int32, (v3 < 0 → (-2 : Int32) = rr) → (∀ n, v3 = nI n → n < 2 ^ 31 → (n < (if xki s = 1 then pm_sz (cd (2 * s + j)) else 0) → xce (8 * (2 * s + j) + n) = rr) ∧ (¬ n < (if xki s = 1 then pm_sz (cd (2 * s + j)) else 0) → (-2 : Int32) = rr)) → wpY_peek (fun r' => r' = rr ∧ QQ) (xbu, xho, xsp, xgr, xki, xpa, xdv, ycd, yco, yas, yre, xce, ysn, yal, ypl) (nI s) (nI j) v3 := by
        intro rr g1 g2
        unfold wpY_peek
        refine br_f y0 (br_f y15 (br_f p0 (br_t p1 (nm_r ei (br_c (fun hv => ⟨g1 hv, IR⟩) (fun hv => ?_))))))
        obtain ⟨n, hn, e⟩ := nI_of hv
        subst e
        refine yw_size cdY CD (by omega) ?_
        rw [show (2 * s + j) / 2 = s by omega]
        refine pk_lt n (if xki s = 1 then pm_sz (cd (2 * s + j)) else 0) (fun hlt => ?_) (fun hge => ⟨(g2 n rfl hn).2 (by omega), IR⟩)
        have := (g2 n rfl hn).1 hlt
        rw [pn_lit8, nI_add, nI_clamp (show 8 * (2 * s + j) + n < 2 ^ 31 by omega)]
        exact ⟨vp_in_nI (by omega) (by decide), this, IR⟩
      refine nm_r ei ⟨hin, ?_⟩
      rw [hcl]
      refine br_c (fun k1 => br_c (fun hv => go _ (fun _ => rfl) (fun n e _ => by rw [e] at hv; exact absurd hv (nI_pos (by omega)))) (fun hv => ⟨i3, ?_⟩)) (fun k1 => go _ (fun _ => rfl) (fun n e _ => ⟨fun z => by rw [if_neg k1] at z; omega, fun _ => rfl⟩))
      rw [if_pos k1] at go z8
      have hK : xki s ≠ 0 := by rw [k1]; decide
      obtain ⟨m1, m2, m3, m4⟩ := M s s16 hK
      obtain ⟨n, hn, e⟩ := nI_of hv
      subst e
      rw [nI_clamp (show 2 * s + j < 2 ^ 31 by omega), (m2 j (by omega)).2.1, (m3 k1 j (by omega)).1]
      refine pk_lt n (pm_sz (cd (2 * s + j))) (fun hlt => ?_) (fun hge => go _ (fun _ => rfl) (fun n' e _ => ⟨fun z => ?_, fun _ => rfl⟩))
      · rw [pn_mul8, nI_add, nI_clamp (by omega)]
        refine ⟨vp_in_nI (by omega) (by decide), go _ (fun z => absurd z (nI_pos (by omega))) (fun n' e h' => ⟨fun _ => ?_, fun z => ?_⟩)⟩
        · obtain rfl : n = n' := (nI_eq (by omega) (by omega)).mp e
          exact congrArg xce (by omega)
        · obtain rfl : n = n' := (nI_eq (by omega) (by omega)).mp e
          omega
      · obtain rfl : n = n' := (nI_eq (by omega) (by omega)).mp e
        omega
    · unfold wpY_peek
      by_cases h0 : v2 < 0
      · exact br_f y0 (br_f y15 (br_t h0 ⟨rfl, IR⟩))
      · refine br_f y0 (br_f y15 (br_f h0 (br_f (fun h3 => ?_) ⟨rfl, IR⟩)))
        obtain ⟨j, hj, e⟩ := nI_of2 (M := 1) (n := 1) (by decide) h0 h3
        exact hn j hj e
  · unfold wpY_peek
    by_cases h0 : v1 < 0
    · exact br_t h0 ⟨rfl, IR⟩
    · by_cases h15 : 15 < v1
      · exact br_f h0 (br_t h15 ⟨rfl, IR⟩)
      · obtain ⟨j, hj, e⟩ := nI_of2 (M := 15) (n := 15) (by decide) h0 (Int32.not_lt.mp h15)
        exact absurd e (hn j hj)
end
section
/-! routing: the pure part -/
def rt_cv (ba sz : Nat → Nat) (a : Int32) (i : Nat) : Prop := ¬ a < 0 ∧ ba i ≤ a.toNatClampNeg ∧ a.toNatClampNeg < ba i + sz i
def rt_TG (K as : Nat → Int32) (ba sz : Nat → Nat) (a : Int32) (i : Nat) : Prop := i < 32 ∧ K (i / 2) = 1 ∧ as (i / 2) ≠ 0 ∧ rt_cv ba sz a i
def rt_up (pa : Nat → Nat) (b c : Nat) : Bool := (c + 1 == b) || pt_ab pa (c + 1) b
def rt_dn (pa : Nat → Nat) (i c : Nat) : Bool := pt_ab pa (c + 1) (i / 2 + 1)
def rt_GO (K as co : Nat → Int32) (pa ba sz : Nat → Nat) (a : Int32) (b i : Nat) : Prop := rt_TG K as ba sz a i ∧ ¬ co (i / 2) &&& 1 = 0 ∧ ∀ c, c < 16 → (rt_up pa b c = true → ¬ rt_dn pa i c = true → ¬ co c &&& 2 = 0) ∧ (rt_dn pa i c = true → ¬ rt_up pa b c = true → ¬ co c &&& 1 = 0)
def rt_GD (K as co : Nat → Int32) (pa ba sz : Nat → Nat) (a : Int32) (b i : Nat) : Prop := rt_TG K as ba sz a i ∧ pt_ab pa b (i / 2 + 1) = true ∧ ∀ c, c < 16 → (c = i / 2 ∨ pt_ab pa (c + 1) (i / 2 + 1) = true) → pt_ab pa b (c + 1) = true → ¬ co c &&& 1 = 0
def rt_n (pa : Nat → Nat) (b i : Nat) : Nat := ps_sm 16 (fun c => if rt_up pa b c = rt_dn pa i c then 0 else 1)
def rt_m (pa : Nat → Nat) (b i : Nat) : Nat := ps_sm 16 (fun c => if (rt_dn pa i c && pt_ab pa b (c + 1)) = true then 1 else 0)
section
variable {K as co : Nat → Int32} {pa de r ba sz se su : Nat → Nat} {a : Int32} {b i : Nat}
theorem rt_pos (h : rt_cv ba sz a i) : 0 < sz i := by
  have := h.2.1
  have := h.2.2
  omega
/-- windows above a covering item cover -/
theorem rt_L1 (T : pt_T K pa de r) (A : rl_A K pa ba sz se su as) {c : Nat} : ∀ s, s < 16 → K s ≠ 0 → as s ≠ 0 → (∃ e, e < 2 ∧ rt_cv ba sz a (2 * s + e)) → pt_ab pa (c + 1) (s + 1) = true → rt_cv ba sz a (2 * c) := by
  have step : ∀ s p, s < 16 → K s ≠ 0 → as s ≠ 0 → pa s = p + 1 → (∃ e, e < 2 ∧ rt_cv ba sz a (2 * s + e)) → rt_cv ba sz a (2 * p) := by
    intro s p hs hK ha hp ⟨e, he, hc⟩
    have := A.2.2.2.1 s e p hs hK ha he (rt_pos hc) hp
    exact ⟨hc.1, by have := hc.2.1; omega, by have := hc.2.2; omega⟩
  refine pt_ind T (fun s hs hK h => ?_) (fun s p hs hK h hp h2 hpK ih => ?_)
  · intro ha _ hc
    rcases (pt_st T hs hK).mp hc with e | e
    · omega
    · rw [h, pt_a0] at e; omega
  · intro ha hcv hc
    have w := step s p hs hK ha h hcv
    rcases (pt_st T hs hK).mp hc with e | e
    · rw [h] at e
      obtain rfl : c = p := by omega
      exact w
    · rw [h] at e
      exact ih (A.1 s p hs hK ha h) ⟨0, by omega, by rw [Nat.add_zero]; exact w⟩ e
/-- side by side only one item covers -/
theorem rt_L2 (A : rl_A K pa ba sz se su as) {s e s' e' : Nat} (hs : s < 16) (hK : K s ≠ 0) (ha : as s ≠ 0) (he : e < 2) (hc : rt_cv ba sz a (2 * s + e)) (hs' : s' < 16) (hK' : K s' ≠ 0) (ha' : as s' ≠ 0) (he' : e' < 2) (hc' : rt_cv ba sz a (2 * s' + e')) (hp : pa s = pa s') : 2 * s + e = 2 * s' + e' := by
  by_cases h : 2 * s + e = 2 * s' + e'
  · exact h
  · exfalso
    have := A.2.2.2.2 s e s' e' hs hs' hK hK' ha ha' he he' (rt_pos hc) (rt_pos hc') hp h
    have := hc.2.1
    have := hc.2.2
    have := hc'.2.1
    have := hc'.2.2
    omega
/-- the child of a bus on the way to a target covers -/
theorem rt_pc (T : pt_T K pa de r) (A : rl_A K pa ba sz se su as) (h : rt_TG K as ba sz a i) (hb : pt_ab pa b (i / 2 + 1) = true) : ∃ c e, c < 16 ∧ K c ≠ 0 ∧ as c ≠ 0 ∧ pa c = b ∧ e < 2 ∧ rt_cv ba sz a (2 * c + e) ∧ ((c = i / 2 ∧ 2 * c + e = i) ∨ (K c = 2 ∧ pt_ab pa (c + 1) (i / 2 + 1) = true)) := by
  obtain ⟨h32, k1, ha, hcv⟩ := h
  have hs : i / 2 < 16 := by omega
  have hK : K (i / 2) ≠ 0 := by rw [k1]; decide
  have hi : 2 * (i / 2) + i % 2 = i := by omega
  obtain ⟨c, hc, hcK, hcb, hcs⟩ := pf_path T (i / 2) hs hK hb
  rcases hcs with e | e
  · exact ⟨c, i % 2, hc, hcK, by rw [e]; exact ha, hcb, by omega, by rw [e, hi]; exact hcv, Or.inl ⟨e, by rw [e, hi]⟩⟩
  · exact ⟨c, 0, hc, hcK, rs_as T A _ hs hK ha e, hcb, by omega, rt_L1 T A _ hs hK ha ⟨i % 2, by omega, by rw [hi]; exact hcv⟩ e, Or.inr ⟨(pt_lt T hs hK e).2.1, e⟩⟩
theorem rt_L3 (T : pt_T K pa de r) (A : rl_A K pa ba sz se su as) (h : rt_TG K as ba sz a i) : ∀ c, c < 16 → K c ≠ 0 → as c ≠ 0 → ∀ e, e < 2 → rt_cv ba sz a (2 * c + e) → 2 * c + e = i ∨ pt_ab pa (c + 1) (i / 2 + 1) = true := by
  have hs : i / 2 < 16 := by have := h.1; omega
  have hK : K (i / 2) ≠ 0 := by rw [h.2.1]; decide
  refine pt_ind T (fun c hc hcK hp => ?_) (fun c p hc hcK hp hp16 h2 hpK ih => ?_)
  · intro ha e he hcv
    obtain ⟨c', e', hc', hcK', ha', hcb', he', hcv', hor⟩ := rt_pc T A h (pt_root T _ hs hK)
    have := rt_L2 A hc hcK ha he hcv hc' hcK' ha' he' hcv' (by rw [hp, hcb'])
    rcases hor with ⟨_, e2⟩ | ⟨_, e2⟩
    · exact Or.inl (by omega)
    · refine Or.inr ?_
      rw [show c = c' by omega]; exact e2
  · intro ha e he hcv
    have hap := A.1 c p hc hcK ha hp
    have w : rt_cv ba sz a (2 * p) := rt_L1 T A c hc hcK ha ⟨e, he, hcv⟩ ((pt_st T hc hcK).mpr (Or.inl hp.symm))
    have hab : pt_ab pa (p + 1) (i / 2 + 1) = true := by
      rcases ih hap 0 (by omega) (by rw [Nat.add_zero]; exact w) with e2 | e2
      · exfalso
        have := h.2.1
        rw [show i / 2 = p by omega, h2] at this
        exact absurd this (by decide)
      · exact e2
    obtain ⟨c', e', hc', hcK', ha', hcb', he', hcv', hor⟩ := rt_pc T A h hab
    have := rt_L2 A hc hcK ha he hcv hc' hcK' ha' he' hcv' (by rw [hp, hcb'])
    rcases hor with ⟨_, e2⟩ | ⟨_, e2⟩
    · exact Or.inl (by omega)
    · refine Or.inr ?_
      rw [show c = c' by omega]; exact e2
theorem rt_uni (T : pt_T K pa de r) (A : rl_A K pa ba sz se su as) {j : Nat} (h : rt_TG K as ba sz a i) (h' : rt_TG K as ba sz a j) : j = i := by
  have hi : 2 * (j / 2) + j % 2 = j := by omega
  have hj := h'.1
  rcases rt_L3 T A h (j / 2) (by omega) (by rw [h'.2.1]; decide) h'.2.2.1 (j % 2) (by omega) (by rw [hi]; exact h'.2.2.2) with e | e
  · omega
  · exfalso
    have hs : i / 2 < 16 := by have := h.1; omega
    have := (pt_lt T hs (by rw [h.2.1]; decide) e).2.1
    rw [h'.2.1] at this
    exact absurd this (by decide)
/-- a bus: the root, or below a live slot -/
def rt_B (K : Nat → Int32) (b : Nat) : Prop := b = 0 ∨ ∃ p, p < 16 ∧ b = p + 1 ∧ K p ≠ 0
theorem rt_cyc (T : pt_T K pa de r) (hB : rt_B K b) {c : Nat} (h : pt_ab pa b (c + 1) = true) : ¬ rt_up pa b c = true := by
  intro hu
  unfold rt_up at hu
  rw [Bool.or_eq_true, beq_iff_eq] at hu
  rcases hB with e | ⟨p, hp, e, hpK⟩
  · subst e
    rcases hu with e | e
    · omega
    · rw [pt_a0] at e; omega
  · subst e
    rcases hu with e | e
    · rw [e] at h; exact pt_irr T hp hpK h
    · exact pt_irr T hp hpK (pt_tr T h p hp hpK e)
theorem rt_upb {c : Nat} (h : rt_up pa b c = true) : c + 1 = b ∨ pt_ab pa (c + 1) b = true := by
  unfold rt_up at h
  rw [Bool.or_eq_true, beq_iff_eq] at h
  exact h
theorem rt_upI {c : Nat} (h : c + 1 = b ∨ pt_ab pa (c + 1) b = true) : rt_up pa b c = true := by
  unfold rt_up
  rw [Bool.or_eq_true, beq_iff_eq]
  exact h
/-- where the target lies below b: up and down are complementary on the way -/
theorem rt_L4 (T : pt_T K pa de r) (hB : rt_B K b) (hs : i / 2 < 16) (hK : K (i / 2) ≠ 0) (hb : pt_ab pa b (i / 2 + 1) = true) (c : Nat) : (rt_up pa b c = true → rt_dn pa i c = true) ∧ (rt_dn pa i c = true → ¬ rt_up pa b c = true → pt_ab pa b (c + 1) = true) := by
  constructor
  · intro hu
    rcases rt_upb hu with e | e
    · unfold rt_dn; rw [e]; exact hb
    · exact pt_tr T e _ hs hK hb
  · intro hd hu
    rcases pt_cmp T _ hs hK hd hb with e | e | e
    · exact absurd (rt_upI (Or.inl e)) hu
    · exact absurd (rt_upI (Or.inr e)) hu
    · exact e
theorem rt_GOD (T : pt_T K pa de r) (hB : rt_B K b) (hb : pt_ab pa b (i / 2 + 1) = true) : rt_GO K as co pa ba sz a b i ↔ rt_GD K as co pa ba sz a b i := by
  constructor
  · rintro ⟨h1, h2, h3⟩
    have hs : i / 2 < 16 := by have := h1.1; omega
    have hK : K (i / 2) ≠ 0 := by rw [h1.2.1]; decide
    refine ⟨h1, hb, fun c hc hor hbc => ?_⟩
    rcases hor with e | e
    · rw [e]; exact h2
    · exact (h3 c hc).2 e (rt_cyc T hB hbc)
  · rintro ⟨h1, h2, h3⟩
    have hs : i / 2 < 16 := by have := h1.1; omega
    have hK : K (i / 2) ≠ 0 := by rw [h1.2.1]; decide
    refine ⟨h1, h3 _ hs (Or.inl rfl) hb, fun c hc => ⟨fun hu hd => absurd ((rt_L4 T hB hs hK hb c).1 hu) hd, fun hd hu => ?_⟩⟩
    exact h3 c hc (Or.inr hd) ((rt_L4 T hB hs hK hb c).2 hd hu)
theorem rt_nm (T : pt_T K pa de r) (hB : rt_B K b) (hs : i / 2 < 16) (hK : K (i / 2) ≠ 0) (hb : pt_ab pa b (i / 2 + 1) = true) : rt_n pa b i = rt_m pa b i := by
  refine ps_congr fun c _ => ?_
  obtain ⟨l1, l2⟩ := rt_L4 T hB hs hK hb c
  by_cases hd : rt_dn pa i c = true
  · by_cases hu : rt_up pa b c = true
    · have : ¬ pt_ab pa b (c + 1) = true := fun z => rt_cyc T hB z hu
      rw [if_pos (by rw [hu, hd]), if_neg]
      rw [Bool.and_eq_true]
      exact fun z => this z.2
    · rw [if_neg (fun z => hu (by rw [z]; exact hd)), if_pos]
      rw [Bool.and_eq_true]
      exact ⟨hd, l2 hd hu⟩
  · have hu : ¬ rt_up pa b c = true := fun z => hd (l1 z)
    rw [if_pos (by rw [Bool.eq_false_iff.mpr hd, Bool.eq_false_iff.mpr hu]), if_neg]
    rw [Bool.and_eq_true]
    exact fun z => hd z.1
/-- one step down -/
theorem rt_dc (T : pt_T K pa de r) (hB : rt_B K b) {c x : Nat} (hc : c < 16) (hcK : K c ≠ 0) (hp : pa c = b) (hx : pt_ab pa b (x + 1) = true) : ¬ pt_ab pa (x + 1) (c + 1) = true := by
  intro h
  rcases (pt_st T hc hcK).mp h with e | e
  · exact rt_cyc T hB hx (rt_upI (Or.inl (by rw [e, hp])))
  · rw [hp] at e
    exact rt_cyc T hB hx (rt_upI (Or.inr e))
theorem rt_down (T : pt_T K pa de r) (hB : rt_B K b) {c : Nat} (hc : c < 16) (hcK : K c ≠ 0) (hp : pa c = b) (hs : i / 2 < 16) (hK : K (i / 2) ≠ 0) (hci : pt_ab pa (c + 1) (i / 2 + 1) = true) (hco : ¬ co c &&& 1 = 0) : (rt_GD K as co pa ba sz a (c + 1) i ↔ rt_GD K as co pa ba sz a b i) ∧ rt_m pa b i = rt_m pa (c + 1) i + 1 := by
  have hbc : pt_ab pa b (c + 1) = true := (pt_st T hc hcK).mpr (Or.inl hp.symm)
  have hbi : pt_ab pa b (i / 2 + 1) = true := pt_tr T hbc _ hs hK hci
  -- on the way to i, what is below b and not c is below c
  have way : ∀ x, x < 16 → (x = i / 2 ∨ pt_ab pa (x + 1) (i / 2 + 1) = true) → x ≠ c → pt_ab pa b (x + 1) = true → pt_ab pa (c + 1) (x + 1) = true := by
    intro x hx hor hne hbx
    rcases hor with e | e
    · rw [e]; exact hci
    · rcases pt_cmp T _ hs hK e hci with e2 | e2 | e2
      · omega
      · exact absurd e2 (rt_dc T hB hc hcK hp hbx)
      · exact e2
  have back : ∀ x, x < 16 → K x ≠ 0 → pt_ab pa (c + 1) (x + 1) = true → pt_ab pa b (x + 1) = true := fun x hx hxK h => pt_tr T hbc x hx hxK h
  refine ⟨⟨fun ⟨h1, h2, h3⟩ => ⟨h1, hbi, fun x hx hor hbx => ?_⟩, fun ⟨h1, h2, h3⟩ => ⟨h1, hci, fun x hx hor hcx => ?_⟩⟩, ?_⟩
  · by_cases e : x = c
    · rw [e]; exact hco
    · exact h3 x hx hor (way x hx hor e hbx)
  · refine h3 x hx hor (back x hx ?_ hcx)
    rcases hor with e | e
    · rw [e]; exact hK
    · exact (pt_lt T hs hK e).2.2.1
  · unfold rt_m
    rw [ps_split _ hc, ps_split (fun x => if (rt_dn pa i x && pt_ab pa (c + 1) (x + 1)) = true then 1 else 0) hc]
    have e1 : (if (rt_dn pa i c && pt_ab pa b (c + 1)) = true then 1 else 0) = 1 := if_pos (by rw [Bool.and_eq_true]; exact ⟨hci, hbc⟩)
    have e2 : (if (rt_dn pa i c && pt_ab pa (c + 1) (c + 1)) = true then 1 else 0) = 0 := if_neg (by rw [Bool.and_eq_true]; exact fun z => pt_irr T hc hcK z.2)
    have e3 : ps_sm 16 (fun x => if x = c then 0 else if (rt_dn pa i x && pt_ab pa b (x + 1)) = true then 1 else 0) = ps_sm 16 (fun x => if x = c then 0 else if (rt_dn pa i x && pt_ab pa (c + 1) (x + 1)) = true then 1 else 0) := by
      refine ps_congr fun x hx => ?_
      by_cases e : x = c
      · rw [if_pos e, if_pos e]
      · rw [if_neg e, if_neg e]
        by_cases hd : rt_dn pa i x = true
        · have hxK := (pt_lt T hs hK hd).2.2.1
          by_cases hb : pt_ab pa b (x + 1) = true
          · rw [if_pos (by rw [Bool.and_eq_true]; exact ⟨hd, hb⟩), if_pos (by rw [Bool.and_eq_true]; exact ⟨hd, way x hx (Or.inr hd) e hb⟩)]
          · rw [if_neg (by rw [Bool.and_eq_true]; exact fun z => hb z.2), if_neg (by rw [Bool.and_eq_true]; exact fun z => hb (back x hx hxK z.2))]
        · rw [if_neg (by rw [Bool.and_eq_true]; exact fun z => hd z.1), if_neg (by rw [Bool.and_eq_true]; exact fun z => hd z.1)]
    rw [e1, e2, e3]
    omega
/-- one step up -/
theorem rt_upstep (T : pt_T K pa de r) {p : Nat} (hp : p < 16) (hpK : K p ≠ 0) (x : Nat) : rt_up pa (p + 1) x = true ↔ x = p ∨ rt_up pa (pa p) x = true := by
  constructor
  · intro h
    rcases rt_upb h with e | e
    · exact Or.inl (by omega)
    · exact Or.inr (rt_upI ((pt_st T hp hpK).mp e))
  · rintro (e | e)
    · exact rt_upI (Or.inl (by rw [e]))
    · exact rt_upI (Or.inr ((pt_st T hp hpK).mpr (rt_upb e)))
theorem rt_upself (T : pt_T K pa de r) {p : Nat} (hp : p < 16) (hpK : K p ≠ 0) : ¬ rt_up pa (pa p) p = true := fun h => pt_irr T hp hpK ((pt_st T hp hpK).mpr (rt_upb h))
theorem rt_ups (T : pt_T K pa de r) {p : Nat} (hp : p < 16) (hpK : K p ≠ 0) (hd : ¬ rt_dn pa i p = true) (hco : ¬ co p &&& 2 = 0) : (rt_GO K as co pa ba sz a (pa p) i ↔ rt_GO K as co pa ba sz a (p + 1) i) ∧ rt_n pa (p + 1) i = rt_n pa (pa p) i + 1 := by
  refine ⟨⟨fun ⟨h1, h2, h3⟩ => ⟨h1, h2, fun x hx => ⟨fun hu hdx => ?_, fun hdx hu => ?_⟩⟩, fun ⟨h1, h2, h3⟩ => ⟨h1, h2, fun x hx => ⟨fun hu hdx => ?_, fun hdx hu => ?_⟩⟩⟩, ?_⟩
  · rcases (rt_upstep T hp hpK x).mp hu with e | e
    · rw [e]; exact hco
    · exact (h3 x hx).1 e hdx
  · exact (h3 x hx).2 hdx fun z => hu ((rt_upstep T hp hpK x).mpr (Or.inr z))
  · exact (h3 x hx).1 ((rt_upstep T hp hpK x).mpr (Or.inr hu)) hdx
  · refine (h3 x hx).2 hdx fun z => ?_
    rcases (rt_upstep T hp hpK x).mp z with e | e
    · rw [e] at hdx; exact hd hdx
    · exact hu e
  · unfold rt_n
    rw [ps_split _ hp, ps_split (fun x => if rt_up pa (pa p) x = rt_dn pa i x then 0 else 1) hp]
    have e1 : (if rt_up pa (p + 1) p = rt_dn pa i p then 0 else 1) = 1 := if_neg fun z => hd (by rw [← z]; exact (rt_upstep T hp hpK p).mpr (Or.inl rfl))
    have e2 : (if rt_up pa (pa p) p = rt_dn pa i p then 0 else 1) = 0 := if_pos (by rw [Bool.eq_false_iff.mpr hd, Bool.eq_false_iff.mpr (rt_upself T hp hpK)])
    have e3 : ps_sm 16 (fun x => if x = p then 0 else if rt_up pa (p + 1) x = rt_dn pa i x then 0 else 1) = ps_sm 16 (fun x => if x = p then 0 else if rt_up pa (pa p) x = rt_dn pa i x then 0 else 1) := by
      refine ps_congr fun x _ => ?_
      by_cases e : x = p
      · rw [if_pos e, if_pos e]
      · rw [if_neg e, if_neg e]
        have : rt_up pa (p + 1) x = rt_up pa (pa p) x := by
          by_cases h : rt_up pa (pa p) x = true
          · rw [h]; exact (rt_upstep T hp hpK x).mpr (Or.inr h)
          · rw [Bool.eq_false_iff.mpr h]
            refine Bool.eq_false_iff.mpr fun z => ?_
            rcases (rt_upstep T hp hpK x).mp z with e2 | e2
            · exact e e2
            · exact h e2
        rw [this]
    rw [e1, e2, e3]
    omega
end
end
section
/-! routing, the component -/
section
variable {xbu xho xsp xgr xfo xla xde xcr : Int32} {xki xpa xdv xt0 xt1 xch xas xco xpr xse xsu xba xsz xce xsn xal xpl xns xnu xor xbt xnd xdo : Nat → Int32} {pa de r ba sz se su : Nat → Nat} {a : Int32}
theorem xw_cov {post : Int32 → Prop} {i : Nat} (hi : i < 32) (hb : xba i = nI (ba i)) (hz : xsz i = nI (sz i)) (hB : ba i + sz i ≤ 4000) (h1 : rt_cv ba sz a i → post 1) (h0 : ¬ rt_cv ba sz a i → post 0) : wpX_covers post (xbu, xho, xsp, xgr, xfo, xla, xde, xcr, xki, xpa, xdv, xt0, xt1, xch, xas, xco, xpr, xse, xsu, xba, xsz, xce, xsn, xal, xpl, xns, xnu, xor, xbt, xnd, xdo) (nI i) a := by
  have hin : vp_in (nI i) 32 := vp_in_nI hi (by decide)
  unfold wpX_covers
  dsimp only
  rw [nI_clamp (by omega), hb, hz]
  by_cases hn : a < 0
  · exact ⟨hin, br_t (Int32.lt_of_lt_of_le hn (nI_pos' (by omega))) (h0 fun z => z.1 hn)⟩
  · obtain ⟨n, hn', rfl⟩ := nI_of hn
    have hcl : (nI n).toNatClampNeg = n := nI_clamp hn'
    refine ⟨hin, pk_lt n (ba i) (fun hlt => h0 fun z => ?_) (fun hge => ⟨hin, hin, ?_⟩)⟩
    · have := z.2.1
      omega
    · rw [pk_sub hge]
      refine pk_le (sz i) (n - ba i) (fun h => h0 fun z => ?_) (fun h => h1 ⟨hn, by omega, by omega⟩)
      have := z.2.2
      omega
theorem xw_claim {post : Int32 → Prop} {b : Nat} (T : pt_T xki pa de r) (hC : pc_C xki pa de xch) (hb : b ≤ 16) (hI : ∀ s, s < 16 → xki s ≠ 0 → ∀ e, e < 2 → xba (2 * s + e) = nI (ba (2 * s + e)) ∧ xsz (2 * s + e) = nI (sz (2 * s + e)) ∧ ba (2 * s + e) + sz (2 * s + e) ≤ 4000) (h1 : ∀ c e, c < 16 → xki c ≠ 0 → xas c ≠ 0 → pa c = b → e < 2 → rt_cv ba sz a (2 * c + e) → post (nI (2 * c + e))) (h2 : (∀ c e, c < 16 → xki c ≠ 0 → xas c ≠ 0 → pa c = b → e < 2 → rt_cv ba sz a (2 * c + e) → False) → post (-1)) : wpX_claimant post (xbu, xho, xsp, xgr, xfo, xla, xde, xcr, xki, xpa, xdv, xt0, xt1, xch, xas, xco, xpr, xse, xsu, xba, xsz, xce, xsn, xal, xpl, xns, xnu, xor, xbt, xnd, xdo) (pn_b b) a := by
  have key : ∀ m d, d ≤ 8 → 8 - d < m → (∀ c e, c < 16 → xki c ≠ 0 → xas c ≠ 0 → pa c = b → de c < d → e < 2 → rt_cv ba sz a (2 * c + e) → False) → wX_claimant_2 post (pn_b b) a xbu xho xsp xgr xfo xla xde xcr xki xpa xdv xt0 xt1 xch xas xco xpr xse xsu xba xsz xce xsn xal xpl xns xnu xor xbt xnd xdo m (nI d) := by
    intro m
    induction m with
    | zero => intro d a b; omega
    | succ m ih =>
      intro d hd hm hn
      by_cases h8 : d = 8
      · subst h8
        exact br_t (nI_le (a := 8) (b := 8) (by omega) (by decide)) (h2 fun c e hc hcK ha hp => hn c e hc hcK ha hp (T.2.2.1 c))
      · have no : (∀ c e, c < 16 → xki c ≠ 0 → xas c ≠ 0 → pf_fd xki pa de b d = c → e < 2 → rt_cv ba sz a (2 * c + e) → False) → wX_claimant_2 post (pn_b b) a xbu xho xsp xgr xfo xla xde xcr xki xpa xdv xt0 xt1 xch xas xco xpr xse xsu xba xsz xce xsn xal xpl xns xnu xor xbt xnd xdo m (nI (d + 1)) := by
          intro hx
          refine ih (d + 1) (by omega) (by omega) fun c e hc hcK ha hp hdc => ?_
          by_cases e2 : de c = d
          · exact hx c e hc hcK ha (pf_eq T hc hcK hp e2)
          · exact hn c e hc hcK ha hp (by omega)
        refine br_f (nI_ge (b := 8) (by omega) (by decide)) (xw_node hC hb (by omega) (fun c hc hf => br_f (nI_pos (by omega)) ⟨vp_in_nI hc (by decide), ?_⟩) (fun hf => br_t pn_neg1 (nm_r (nI_1 d) (no fun c e hc _ _ e2 => by omega))))
        have f := pf_i (K := xki) (pa := pa) (de := de) (b := b) (d := d) (by rw [hf]; exact hc)
        rw [hf] at f
        have one : ∀ c', pf_fd xki pa de b d = c' → c' = c := fun c' e => by rw [← e, hf]
        have i0 := hI c hc f.1 0 (by omega)
        have i1 := hI c hc f.1 1 (by omega)
        rw [Nat.add_zero] at i0
        rw [nI_clamp (by omega), pn_lit2, nI_1 (2 * c)]
        refine br_c (fun ha => nm_r (nI_1 d) (no fun c' e _ _ ha' e2 => ?_)) (fun ha => ?_)
        · rw [one c' e2] at ha'; exact absurd ha ha'
        · refine xw_cov (by omega) i0.1 i0.2.1 i0.2.2 (fun c0 => br_f (by decide) (h1 c 0 hc f.1 ha f.2.1 (by omega) c0)) (fun c0 => br_t rfl ?_)
          refine xw_cov (by omega) i1.1 i1.2.1 i1.2.2 (fun c1 => br_f (by decide) (h1 c 1 hc f.1 ha f.2.1 (by omega) c1)) (fun c1 => br_t rfl (nm_r (nI_1 d) (no fun c' e _ _ _ e2 he hcv => ?_)))
          rw [one c' e2] at hcv
          rcases (by omega : e = 0 ∨ e = 1) with rfl | rfl
          · exact c0 hcv
          · exact c1 hcv
  exact ⟨9, key 9 0 (by omega) (by omega) (fun c e _ _ _ _ h => by omega)⟩
theorem xw_down {post : Int32 → SX → Prop} (T : pt_T xki pa de r) (hC : pc_C xki pa de xch) (A : rl_A xki pa ba sz se su xas) (hI : ∀ s, s < 16 → xki s ≠ 0 → ∀ e, e < 2 → xba (2 * s + e) = nI (ba (2 * s + e)) ∧ xsz (2 * s + e) = nI (sz (2 * s + e)) ∧ ba (2 * s + e) + sz (2 * s + e) ≤ 4000) : ∀ m b l x, rt_B xki b → b ≤ 16 → l ≤ rs_d pa b → rs_d pa b ≤ 16 → 17 - rs_d pa b < m → (∀ i, rt_GD xki xas xco pa ba sz a b i → post (nI i) (xbu, xho, xsp, xgr, xfo, xla, xde, nI (x + rt_m pa b i), xki, xpa, xdv, xt0, xt1, xch, xas, xco, xpr, xse, xsu, xba, xsz, xce, xsn, xal, xpl, xns, xnu, xor, xbt, xnd, xdo)) → ((∀ i, ¬ rt_GD xki xas xco pa ba sz a b i) → ∀ y, post (-1) (xbu, xho, xsp, xgr, xfo, xla, xde, y, xki, xpa, xdv, xt0, xt1, xch, xas, xco, xpr, xse, xsu, xba, xsz, xce, xsn, xal, xpl, xns, xnu, xor, xbt, xnd, xdo)) → wX_carryDown_5 post a xbu xho xsp xgr xfo xla xde xki xpa xdv xt0 xt1 xch xas xco xpr xse xsu xba xsz xce xsn xal xpl xns xnu xor xbt xnd xdo m (pn_b b) (nI l) (nI x) := by
  intro m
  induction m with
  | zero => intro b l x _ _ _ _ h; omega
  | succ m ih =>
    intro b l x hB hb hl hd hm h1 h2
    -- the claiming child of a target's bus
    have same : ∀ i c e, rt_GD xki xas xco pa ba sz a b i → c < 16 → xki c ≠ 0 → xas c ≠ 0 → pa c = b → e < 2 → rt_cv ba sz a (2 * c + e) → (c = i / 2 ∧ 2 * c + e = i) ∨ (xki c = 2 ∧ pt_ab pa (c + 1) (i / 2 + 1) = true) := by
      intro i c e g hc hcK ha hp he hcv
      obtain ⟨c', e', hc', hcK', ha', hcb', he', hcv', hor⟩ := rt_pc T A g.1 g.2.1
      have e2 := rt_L2 A hc hcK ha he hcv hc' hcK' ha' he' hcv' (by rw [hp, hcb'])
      obtain rfl : c = c' := by omega
      obtain rfl : e = e' := by omega
      exact hor
    refine br_f (nI_ge (b := 17) (by omega) (by decide)) (xw_claim T hC hb hI (fun c e hc hcK ha hp he hcv => br_t (nI_pos' (by omega)) (nm_r (e' := nI c) ((pk_shrN (by omega) _ 1 (by decide)).trans (congrArg nI (by omega))) ⟨vp_in_nI hc (by decide), ?_⟩)) (fun hn => br_f (by decide) (h2 (fun i g => ?_) _)))
    · have hin : vp_in (nI c) 16 := vp_in_nI hc (by decide)
      have hbc : pt_ab pa b (c + 1) = true := (pt_st T hc hcK).mpr (Or.inl hp.symm)
      rw [nI_clamp (by omega)]
      refine br_c (fun hco => h2 (fun i g => ?_) _) (fun hco => ⟨hin, br_c (fun k1 => ?_) (fun k1 => nm_r (nI_1 x) (nm_r (nI_1 l) ?_))⟩)
      · refine g.2.2 c hc ?_ hbc hco
        rcases same i c e g hc hcK ha hp he hcv with z | z
        · exact Or.inl z.1
        · exact Or.inr z.2
      · have hi2 : (2 * c + e) / 2 = c := by omega
        have g : rt_GD xki xas xco pa ba sz a b (2 * c + e) := by
          refine ⟨⟨by omega, by rw [hi2]; exact k1, by rw [hi2]; exact ha, hcv⟩, by rw [hi2]; exact hbc, fun x hx hor hbx => ?_⟩
          rw [hi2] at hor
          rcases hor with z | z
          · rw [z]; exact hco
          · exact absurd z (rt_dc T hB hc hcK hp hbx)
        have m0 : rt_m pa b (2 * c + e) = 0 := by
          refine ps_z fun x _ => if_neg ?_
          rw [Bool.and_eq_true]
          rintro ⟨z1, z2⟩
          unfold rt_dn at z1
          rw [hi2] at z1
          exact rt_dc T hB hc hcK hp z2 z1
        have := h1 _ g
        rw [m0] at this
        exact this
      · have k2 : xki c = 2 := (rl_K12 T hc hcK).resolve_left k1
        have hd1 := rs_dc T hc hcK hp
        have hd15 := pt_dp15 T hc hcK
        have hd2 : rs_d pa (c + 1) = pt_dp pa c + 1 := rfl
        refine ih (c + 1) (l + 1) (x + 1) (Or.inr ⟨c, hc, rfl, hcK⟩) (by omega) (by omega) (by omega) (by omega) (fun i g => ?_) (fun hno => h2 fun i g => ?_)
        · have hs : i / 2 < 16 := by have := g.1.1; omega
          have hK : xki (i / 2) ≠ 0 := by rw [g.1.2.1]; decide
          have dd := rt_down (as := xas) (co := xco) (ba := ba) (sz := sz) (a := a) T hB hc hcK hp hs hK g.2.1 hco
          have := h1 i (dd.1.mp g)
          rw [dd.2, show x + (rt_m pa (c + 1) i + 1) = x + 1 + rt_m pa (c + 1) i by omega] at this
          exact this
        · have hs : i / 2 < 16 := by have := g.1.1; omega
          have hK : xki (i / 2) ≠ 0 := by rw [g.1.2.1]; decide
          rcases same i c e g hc hcK ha hp he hcv with z | z
          · have := g.1.2.1
            rw [← z.1] at this
            exact k1 this
          · have dd := rt_down (as := xas) (co := xco) (ba := ba) (sz := sz) (a := a) T hB hc hcK hp hs hK z.2 hco
            exact hno i (dd.1.mpr g)
    · obtain ⟨c', e', hc', hcK', ha', hcb', he', hcv', _⟩ := rt_pc T A g.1 g.2.1
      exact hn c' e' hc' hcK' ha' hcb' he' hcv'
theorem xw_up {post : Int32 → SX → Prop} (T : pt_T xki pa de r) (hC : pc_C xki pa de xch) (hP : ∀ s, s < 16 → xpa s = pn_b (pa s)) (A : rl_A xki pa ba sz se su xas) (hI : ∀ s, s < 16 → xki s ≠ 0 → ∀ e, e < 2 → xba (2 * s + e) = nI (ba (2 * s + e)) ∧ xsz (2 * s + e) = nI (sz (2 * s + e)) ∧ ba (2 * s + e) + sz (2 * s + e) ≤ 4000) : ∀ m b l x, (b = 0 ∨ ∃ p, p < 16 ∧ b = p + 1 ∧ xki p = 2 ∧ xas p ≠ 0) → l + rs_d pa b ≤ 15 → rs_d pa b < m → (∀ i, rt_GO xki xas xco pa ba sz a b i → post (nI i) (xbu, xho, xsp, xgr, xfo, xla, xde, nI (x + rt_n pa b i), xki, xpa, xdv, xt0, xt1, xch, xas, xco, xpr, xse, xsu, xba, xsz, xce, xsn, xal, xpl, xns, xnu, xor, xbt, xnd, xdo)) → ((∀ i, ¬ rt_GO xki xas xco pa ba sz a b i) → ∀ y, post (-1) (xbu, xho, xsp, xgr, xfo, xla, xde, y, xki, xpa, xdv, xt0, xt1, xch, xas, xco, xpr, xse, xsu, xba, xsz, xce, xsn, xal, xpl, xns, xnu, xor, xbt, xnd, xdo)) → wX_carryUp_5 post a xbu xho xsp xgr xfo xla xde xki xpa xdv xt0 xt1 xch xas xco xpr xse xsu xba xsz xce xsn xal xpl xns xnu xor xbt xnd xdo m (pn_b b) (nI l) (nI x) := by
  intro m
  induction m with
  | zero => intro b l x _ _ h; omega
  | succ m ih =>
    intro b l x hb hl hm h1 h2
    have hB : rt_B xki b := by
      rcases hb with e | ⟨p, hp, e, k2, _⟩
      · exact Or.inl e
      · exact Or.inr ⟨p, hp, e, by rw [k2]; decide⟩
    have hb16 : b ≤ 16 := by
      rcases hb with e | ⟨p, hp, e, _⟩
      · omega
      · omega
    have fin : (∀ i, rt_TG xki xas ba sz a i → pt_ab pa b (i / 2 + 1) = true) → wX_carryUp_64 post a (pn_b b) xbu xho xsp xgr xfo xla xde (nI x) xki xpa xdv xt0 xt1 xch xas xco xpr xse xsu xba xsz xce xsn xal xpl xns xnu xor xbt xnd xdo := by
      intro hall
      unfold wX_carryUp_64
      refine ⟨18, ?_⟩
      refine xw_down T hC A hI 18 b 0 x hB hb16 (by omega) (by omega) (by omega) (fun i g => ?_) (fun hno y => ?_)
      · have hs : i / 2 < 16 := by have := g.1.1; omega
        have hK : xki (i / 2) ≠ 0 := by rw [g.1.2.1]; decide
        have := h1 i ((rt_GOD T hB g.2.1).mpr g)
        rw [rt_nm T hB hs hK g.2.1] at this
        exact this
      · exact h2 (fun i g => hno i ((rt_GOD T hB (hall i g.1)).mp g)) y
    refine br_f (nI_ge (b := 16) (by omega) (by decide)) ?_
    rcases hb with e | ⟨p, hp, e, k2, ha⟩
    · subst e
      refine br_t rfl (fin fun i g => pt_root T _ ?_ ?_)
      · have := g.1; omega
      · rw [g.2.1]; decide
    · subst e
      have hpK : xki p ≠ 0 := by rw [k2]; decide
      have i0 := hI p hp hpK 0 (by omega)
      rw [Nat.add_zero] at i0
      have hin : vp_in (nI p) 16 := vp_in_nI hp (by decide)
      have hcl : (nI p).toNatClampNeg = p := nI_clamp (by omega)
      refine br_f (pn_ne1 (by omega)) ?_
      show wpX_covers _ _ (2 * nI p) a
      rw [pn_lit2]
      refine xw_cov (by omega) i0.1 i0.2.1 i0.2.2 (fun hcv => br_f (by decide) (fin fun i g => ?_)) (fun hcv => br_t rfl ⟨hin, ?_⟩)
      · rcases rt_L3 T A g p hp hpK ha 0 (by omega) (by rw [Nat.add_zero]; exact hcv) with z | z
        · exfalso
          have := g.2.1
          rw [show i / 2 = p by omega, k2] at this
          exact absurd this (by decide)
        · exact z
      · have nd : ∀ i, rt_TG xki xas ba sz a i → ¬ rt_dn pa i p = true := by
          intro i g hd
          have hs : i / 2 < 16 := by have := g.1; omega
          refine hcv (rt_L1 T A (i / 2) hs (by rw [g.2.1]; decide) g.2.2.1 ⟨i % 2, by omega, ?_⟩ hd)
          rw [show 2 * (i / 2) + i % 2 = i by omega]
          exact g.2.2.2
        show ((xco (nI p).toNatClampNeg) &&& 2 = 0 → _) ∧ (¬ (xco (nI p).toNatClampNeg) &&& 2 = 0 → _)
        rw [hcl]
        refine br_c (fun hco => h2 (fun i g => (g.2.2 p hp).1 (rt_upI (Or.inl rfl)) (nd i g.1) hco) _) (fun hco => ⟨hin, nm_r (e' := pn_b (pa p)) ?_ (nm_r (nI_1 x) (nm_r (nI_1 l) ?_))⟩)
        · show xpa (nI p).toNatClampNeg = _
          rw [hcl]; exact hP p hp
        · have hd1 := rs_dc T hp hpK (b := pa p) rfl
          have ups := fun i (g : rt_TG xki xas ba sz a i) => rt_ups (as := xas) (ba := ba) (sz := sz) (a := a) T hp hpK (nd i g) hco
          refine ih (pa p) (l + 1) (x + 1) ?_ (by omega) (by omega) (fun i g => ?_) (fun hno => h2 fun i g => hno i ((ups i g.1).1.mpr g))
          · rcases pt_up2 T hp hpK with e | ⟨q, hq, e, q2, _⟩
            · exact Or.inl e
            · exact Or.inr ⟨q, hq, e, q2, A.1 p q hp hpK ha e⟩
          · have := h1 i ((ups i g.1).1.mp g)
            rw [(ups i g.1).2, show x + (rt_n pa (pa p) i + 1) = x + 1 + rt_n pa (pa p) i by omega] at this
            exact this
/-- where an access starts -/
def rt_F (K co : Nat → Int32) (pa : Nat → Nat) (v : Int32) (b : Nat) : Prop := (v = -1 ∧ b = 0) ∨ ∃ f, f < 16 ∧ v = nI f ∧ K f = 1 ∧ ¬ co f &&& 2 = 0 ∧ pa f = b
theorem xw_route {post : Int32 → SX → Prop} {v : Int32} (T : pt_T xki pa de r) (hC : pc_C xki pa de xch) (hP : ∀ s, s < 16 → xpa s = pn_b (pa s)) (A : rl_A xki pa ba sz se su xas) (hI : ∀ s, s < 16 → xki s ≠ 0 → ∀ e, e < 2 → xba (2 * s + e) = nI (ba (2 * s + e)) ∧ xsz (2 * s + e) = nI (sz (2 * s + e)) ∧ ba (2 * s + e) + sz (2 * s + e) ≤ 4000) (hco : ∀ s, s < 16 → xki s ≠ 0 → xas s = 0 → xco s = 0) (hB : ¬ v = -1 → (∀ s, s < 16 → v = nI s → ¬ xki s = 1) → post (-3) (xbu, xho, xsp, xgr, xfo, xla, xde, xcr, xki, xpa, xdv, xt0, xt1, xch, xas, xco, xpr, xse, xsu, xba, xsz, xce, xsn, xal, xpl, xns, xnu, xor, xbt, xnd, xdo)) (hN : ∀ f, f < 16 → v = nI f → xki f = 1 → xco f &&& 2 = 0 → post (-9) (xbu, xho, xsp, xgr, xfo, xla, xde, xcr, xki, xpa, xdv, xt0, xt1, xch, xas, xco, xpr, xse, xsu, xba, xsz, xce, xsn, xal, xpl, xns, xnu, xor, xbt, xnd, xdo)) (h1 : ∀ b i, rt_F xki xco pa v b → rt_GO xki xas xco pa ba sz a b i → post (nI i) (xbu, xho, xsp, xgr, xfo, xla, xde, nI (rt_n pa b i), xki, xpa, xdv, xt0, xt1, xch, xas, xco, xpr, xse, xsu, xba, xsz, xce, xsn, xal, xpl, xns, xnu, xor, xbt, xnd, xdo)) (h2 : ∀ b, rt_F xki xco pa v b → (∀ i, ¬ rt_GO xki xas xco pa ba sz a b i) → ∀ y, post (-1) (xbu, xho, xsp, xgr, xfo, xla, xde, y, xki, xpa, xdv, xt0, xt1, xch, xas, xco, xpr, xse, xsu, xba, xsz, xce, xsn, xal, xpl, xns, xnu, xor, xbt, xnd, xdo)) : wpX_route post (xbu, xho, xsp, xgr, xfo, xla, xde, xcr, xki, xpa, xdv, xt0, xt1, xch, xas, xco, xpr, xse, xsu, xba, xsz, xce, xsn, xal, xpl, xns, xnu, xor, xbt, xnd, xdo) v a := by
  have fin : ∀ b, rt_F xki xco pa v b → (b = 0 ∨ ∃ p, p < 16 ∧ b = p + 1 ∧ xki p = 2 ∧ xas p ≠ 0) → rs_d pa b ≤ 15 → wX_route_40 post a (pn_b b) xbu xho xsp xgr xfo xla xde xcr xki xpa xdv xt0 xt1 xch xas xco xpr xse xsu xba xsz xce xsn xal xpl xns xnu xor xbt xnd xdo := by
    intro b hF hb hd
    unfold wX_route_40
    refine ⟨16, ?_⟩
    refine xw_up T hC hP A hI 16 b 0 0 hb (by omega) (by omega) (fun i g => ?_) (fun hno y => h2 b hF hno y)
    have := h1 b i hF g
    rw [Nat.zero_add]
    exact this
  unfold wpX_route
  refine br_c (fun e => fin 0 (Or.inl ⟨e, rfl⟩) (Or.inl rfl) (by show 0 ≤ 15; omega)) (fun e => ?_)
  refine xw_isKa (fun f hf ef k1 => br_f (by decide) ?_) (fun hn => br_t rfl (hB e hn))
  subst ef
  have hin : vp_in (nI f) 16 := vp_in_nI hf (by decide)
  have hcl : (nI f).toNatClampNeg = f := nI_clamp (by omega)
  have hK : xki f ≠ 0 := by rw [k1]; decide
  rw [hcl]
  refine ⟨hin, br_c (fun hc => hN f hf rfl k1 hc) (fun hc => ⟨hin, nm_r (hP f hf) (fin (pa f) (Or.inr ⟨f, hf, rfl, k1, hc, rfl⟩) ?_ ?_)⟩)⟩
  · have ha : xas f ≠ 0 := fun z => hc (by rw [hco f hf hK z]; decide)
    rcases pt_up2 T hf hK with e2 | ⟨q, hq, e2, q2, _⟩
    · exact Or.inl e2
    · exact Or.inr ⟨q, hq, e2, q2, A.1 f q hf hK ha e2⟩
  · have hd1 := rs_dc T hf hK (b := pa f) rfl
    have hd15 := pt_dp15 T hf hK
    have hd2 : rs_d pa (f + 1) = pt_dp pa f + 1 := rfl
    omega
end
end
section
/-! routing, the reference -/
theorem py_off {a : Int32} {b z : Nat} (h : b + z ≤ 4000) : (¬ (a - nI b) < 0 ∧ ¬ nI z ≤ a - nI b) ↔ (¬ a < 0 ∧ b ≤ a.toNatClampNeg ∧ a.toNatClampNeg < b + z) := by
  by_cases hn : a < 0
  · constructor
    · rintro ⟨h1, h2⟩
      exfalso
      rw [Int32.lt_iff_toInt_lt] at hn h1
      rw [Int32.le_iff_toInt_le] at h2
      have z0 : (0 : Int32).toInt = 0 := by decide
      have hlo := a.le_toInt
      have hb : (nI b).toInt = (b : Int) := nI_toInt (by omega)
      have hz : (nI z).toInt = (z : Int) := nI_toInt (by omega)
      rw [z0] at hn h1
      rw [Int32.toInt_sub, hb] at h1 h2
      rw [hz] at h2
      by_cases hd : -2147483648 ≤ a.toInt - b
      · rw [Int.bmod_eq_of_le (by omega) (by omega)] at h1
        omega
      · rw [← Int.add_bmod_right, Int.bmod_eq_of_le (by omega) (by omega)] at h2
        omega
    · exact fun x => absurd hn x.1
  · obtain ⟨n, hn', rfl⟩ := nI_of hn
    have hcl : (nI n).toNatClampNeg = n := nI_clamp hn'
    rw [hcl]
    by_cases hlt : n < b
    · constructor
      · exact fun x => absurd (pk_sneg (by omega) hlt) x.1
      · intro x; omega
    · rw [pk_sub (by omega)]
      constructor
      · rintro ⟨_, x⟩
        refine ⟨hn, by omega, ?_⟩
        rw [nI_leI (by omega) (by omega)] at x
        omega
      · rintro ⟨_, _, x⟩
        refine ⟨nI_pos (by omega), ?_⟩
        rw [nI_leI (by omega) (by omega)]
        omega
section
variable {ybc yho yhw yg : Int32} {yki ypa ydv ycd yco yas yre yce ysn yal ypl : Nat → Int32} {pa de r cd ba sz se su : Nat → Nat} {a v : Int32} {as co : Nat → Int32}
theorem rt_Fu {K : Nat → Int32} {b : Nat} (T : pt_T K pa de r) (h : rt_F K co pa v b) : ∃ fb, fb ≤ 16 ∧ v = pn_b fb ∧ ∀ c, pt_ab pa (c + 1) fb = rt_up pa b c := by
  rcases h with ⟨e, e2⟩ | ⟨f, hf, e, k1, _, e2⟩
  · refine ⟨0, by omega, e, fun c => ?_⟩
    subst e2
    unfold rt_up
    rw [show (c + 1 == 0) = false from rfl, Bool.false_or]
  · refine ⟨f + 1, by omega, e, fun c => ?_⟩
    have hK : K f ≠ 0 := by rw [k1]; decide
    by_cases hu : rt_up pa b c = true
    · rw [hu]
      refine (pt_st T hf hK).mpr ?_
      rw [e2]; exact rt_upb hu
    · rw [Bool.eq_false_iff.mpr hu]
      refine Bool.eq_false_iff.mpr fun z => hu ?_
      have := (pt_st T hf hK).mp z
      rw [e2] at this
      exact rt_upI this
theorem yw_bar {post : Int32 → Prop} {i : Nat} (hi : i < 32) (h : post (yre (8 * (i / 2) + 2 + i % 2))) : wpY_barAddress post (ybc, yho, yhw, yg, yki, ypa, ydv, ycd, yco, yas, yre, yce, ysn, yal, ypl) (nI i) := by
  unfold wpY_barAddress
  dsimp only
  have r2 : nI (8 * (i / 2)) + 2 = nI (8 * (i / 2) + 2) := nI_add _ _
  rw [pn_div2 (by omega), pn_rem2 (by omega), pn_lit8, r2, nI_add, nI_clamp (by omega)]
  exact ⟨py_n2, py_n2, vp_in_nI (by omega) (by decide), h⟩
theorem yw_r117 {post : Int32 → Prop} {b fb t : Nat} (T : pt_T yki pa de r) (hP : py_P pa de ypa ydv) (hco : ∀ s, s < 16 → yki s ≠ 0 → yco s = co s) (hfb : fb ≤ 16) (hlive : ∀ c, c < 16 → rt_up pa b c = true → yki c ≠ 0) (hu : ∀ c, pt_ab pa (c + 1) fb = rt_up pa b c) (ht : rt_TG yki as ba sz a t) (hc1 : ¬ co (t / 2) &&& 1 = 0) (h1 : rt_GO yki as co pa ba sz a b t → post (nI t)) (h2 : ¬ rt_GO yki as co pa ba sz a b t → post (-1)) : ∀ m i, i ≤ 16 → 16 - i < m → (∀ c, c < i → (rt_up pa b c = true → ¬ rt_dn pa t c = true → ¬ co c &&& 2 = 0) ∧ (rt_dn pa t c = true → ¬ rt_up pa b c = true → ¬ co c &&& 1 = 0)) → wY_route_117 post (pn_b fb) (nI t) ybc yho yhw yg yki ypa ydv ycd yco yas yre yce ysn yal ypl m (nI i) := by
  have h32 := ht.1
  have hs : t / 2 < 16 := by omega
  have hK : yki (t / 2) ≠ 0 := by rw [ht.2.1]; decide
  intro m
  induction m with
  | zero => intro i a b; omega
  | succ m ih =>
    intro i hi hm hA
    by_cases h16 : i = 16
    · subst h16
      exact br_t (nI_le (a := 16) (b := 16) (by omega) (by decide)) (h1 ⟨ht, hc1, hA⟩)
    · have hin : vp_in (nI i) 16 := vp_in_nI (by omega) (by decide)
      have hcl : (nI i).toNatClampNeg = i := nI_clamp (by omega)
      have nx : (rt_up pa b i = true → ¬ rt_dn pa t i = true → ¬ co i &&& 2 = 0) → (rt_dn pa t i = true → ¬ rt_up pa b i = true → ¬ co i &&& 1 = 0) → wY_route_117 post (pn_b fb) (nI t) ybc yho yhw yg yki ypa ydv ycd yco yas yre yce ysn yal ypl m (nI (i + 1)) := fun x1 x2 => ih (i + 1) (by omega) (by omega) fun c hc => by
        by_cases e : c = i
        · rw [e]; exact ⟨x1, x2⟩
        · exact hA c (by omega)
      refine br_f (nI_ge (b := 16) (by omega) (by decide)) ?_
      rw [pn_div2 (by omega)]
      refine yw_aboveC (b := i + 1) (c := fb) hP (by omega) hfb (fun z9 => ⟨py_n2, ?_⟩) (fun z9 => ⟨py_n2, ?_⟩)
      · rw [hu] at z9
        refine yw_aboveC (b := i + 1) (c := t / 2 + 1) hP (by omega) (by omega) (fun z26 => br_f (by decide) (br_f (by decide) ?_)) (fun z26 => br_f (by decide) (br_t rfl ⟨hin, ?_⟩))
        · exact br_f (by decide) (br_f (by decide) (nm_r (nI_1 i) (nx (fun _ x => absurd z26 x) (fun _ x => absurd z9 x))))
        · rw [hcl, hco i (by omega) (hlive i (by omega) z9)]
          refine br_c (fun hc => h2 fun g => (g.2.2 i (by omega)).1 z9 z26 hc) (fun hc => br_t rfl (nm_r (nI_1 i) (nx (fun _ _ => hc) (fun x => absurd x z26))))
      · rw [hu] at z9
        refine yw_aboveC (b := i + 1) (c := t / 2 + 1) hP (by omega) (by omega) (fun z26 => br_t rfl (br_f (by decide) (br_t rfl ⟨hin, ?_⟩))) (fun z26 => br_t rfl (br_t rfl (nm_r (nI_1 i) (nx (fun x => absurd x z9) (fun x => absurd x z26)))))
        rw [hcl, hco i (by omega) (pt_lt T hs hK z26).2.2.1]
        refine br_c (fun hc => h2 fun g => (g.2.2 i (by omega)).2 z26 z9 hc) (fun hc => nm_r (nI_1 i) (nx (fun x => absurd x z9) (fun _ _ => hc)))
theorem yw_r41 {post : Int32 → Prop} {b fb : Nat} (T : pt_T yki pa de r) (A : rl_A yki pa ba sz se su as) (hP : py_P pa de ypa ydv) (hcd : py_cd yki cd ycd) (hr : pm_CD yki cd) (hco : ∀ s, s < 16 → yki s ≠ 0 → yco s = co s) (has : ∀ s, s < 16 → yki s ≠ 0 → yas s = as s) (hR : ∀ s, s < 16 → yki s = 1 → ∀ e, e < 2 → yre (8 * s + 2 + e) = nI (ba (2 * s + e)) ∧ sz (2 * s + e) = pm_sz (cd (2 * s + e)) ∧ ba (2 * s + e) + sz (2 * s + e) ≤ 4000) (hfb : fb ≤ 16) (hlive : ∀ c, c < 16 → rt_up pa b c = true → yki c ≠ 0) (hu : ∀ c, pt_ab pa (c + 1) fb = rt_up pa b c) (h1 : ∀ i, rt_GO yki as co pa ba sz a b i → post (nI i)) (h2 : (∀ i, ¬ rt_GO yki as co pa ba sz a b i) → post (-1)) : ∀ m i x, i ≤ 32 → 32 - i < m → ((x = -1 ∧ ∀ t, t < i → ¬ rt_TG yki as ba sz a t) ∨ ∃ t, rt_TG yki as ba sz a t ∧ x = nI t) → wY_route_41 post (pn_b fb) a ybc yho yhw yg yki ypa ydv ycd yco yas yre yce ysn yal ypl m x (nI i) := by
  intro m
  induction m with
  | zero => intro i x a b; omega
  | succ m ih =>
    intro i x hi hm hx
    by_cases h32 : i = 32
    · subst h32
      refine br_t (nI_le (a := 32) (b := 32) (by omega) (by decide)) ?_
      rcases hx with ⟨e, hn⟩ | ⟨t, ht, e⟩
      · subst e
        exact br_t (by decide) (h2 fun i g => hn i g.1.1 g.1)
      · subst e
        have t32 := ht.1
        have hK : yki (t / 2) ≠ 0 := by rw [ht.2.1]; decide
        refine br_f (nI_pos (by omega)) ⟨py_n2, ?_⟩
        rw [pn_div2 (by omega), nI_clamp (by omega), hco (t / 2) (by omega) hK]
        refine ⟨vp_in_nI (by omega) (by decide), br_c (fun hc => h2 fun i g => ?_) (fun hc => ⟨17, ?_⟩)⟩
        · rw [rt_uni T A ht g.1] at g
          exact g.2.1 hc
        · refine yw_r117 T hP hco hfb hlive hu ht hc (h1 t) (fun hn => h2 fun i g => ?_) 17 0 (by omega) (by omega) (fun c hc => by omega)
          rw [rt_uni T A ht g.1] at g
          exact hn g
    · have hin2 : vp_in (nI (i / 2)) 16 := vp_in_nI (by omega) (by decide)
      have no : ¬ rt_TG yki as ba sz a i → wY_route_41 post (pn_b fb) a ybc yho yhw yg yki ypa ydv ycd yco yas yre yce ysn yal ypl m x (nI (i + 1)) := fun hn => ih (i + 1) x (by omega) (by omega) (hx.imp (fun z => ⟨z.1, fun t ht => by
        by_cases e : t = i
        · rw [e]; exact hn
        · exact z.2 t (by omega)⟩) id)
      refine br_f (nI_ge (b := 32) (by omega) (by decide)) (yw_bar (by omega) (nm_e ⟨py_n2, ?_⟩))
      rw [pn_div2 (by omega), nI_clamp (by omega)]
      refine ⟨hin2, br_c (fun ha => nm_r (nI_1 i) (no fun g => ?_)) (fun ha => ?_)⟩
      · have hK : yki (i / 2) ≠ 0 := by rw [g.2.1]; decide
        rw [has (i / 2) (by omega) hK] at ha
        exact g.2.2.1 ha
      · have hi2 : 2 * (i / 2) + i % 2 = i := by omega
        by_cases k1 : yki (i / 2) = 1
        · have hK : yki (i / 2) ≠ 0 := by rw [k1]; decide
          obtain ⟨r1, r2, r3⟩ := hR (i / 2) (by omega) k1 (i % 2) (by omega)
          rw [hi2] at r1 r2 r3
          have po := py_off (a := a) r3
          rw [r1]
          rw [has (i / 2) (by omega) hK] at ha
          refine br_c (fun z => nm_r (nI_1 i) (no fun g => (po.mpr g.2.2.2).1 z)) (fun z => yw_size hcd hr (by omega) ?_)
          rw [if_pos k1, ← r2]
          refine br_c (fun z2 => nm_r (nI_1 i) (no fun g => (po.mpr g.2.2.2).2 z2)) (fun z2 => nm_r (nI_1 i) (ih (i + 1) (nI i) (by omega) (by omega) (Or.inr ⟨i, ⟨by omega, k1, ha, po.mp ⟨z, z2⟩⟩, rfl⟩)))
        · have ng : ¬ rt_TG yki as ba sz a i := fun g => k1 g.2.1
          refine br_c (fun z => nm_r (nI_1 i) (no ng)) (fun z => yw_size hcd hr (by omega) ?_)
          rw [if_neg k1]
          exact br_t (Int32.not_lt.mp z) (nm_r (nI_1 i) (no ng))
theorem yw_route {post : Int32 → Prop} (T : pt_T yki pa de r) (A : rl_A yki pa ba sz se su as) (hP : py_P pa de ypa ydv) (hcd : py_cd yki cd ycd) (hr : pm_CD yki cd) (hco : ∀ s, s < 16 → yki s ≠ 0 → yco s = co s) (has : ∀ s, s < 16 → yki s ≠ 0 → yas s = as s) (hR : ∀ s, s < 16 → yki s = 1 → ∀ e, e < 2 → yre (8 * s + 2 + e) = nI (ba (2 * s + e)) ∧ sz (2 * s + e) = pm_sz (cd (2 * s + e)) ∧ ba (2 * s + e) + sz (2 * s + e) ≤ 4000) (hB : ¬ v = -1 → (∀ s, s < 16 → v = nI s → ¬ yki s = 1) → post (-3)) (hN : ∀ f, f < 16 → v = nI f → yki f = 1 → co f &&& 2 = 0 → post (-9)) (h1 : ∀ b i, rt_F yki co pa v b → rt_GO yki as co pa ba sz a b i → post (nI i)) (h2 : ∀ b, rt_F yki co pa v b → (∀ i, ¬ rt_GO yki as co pa ba sz a b i) → post (-1)) : wpY_route post (ybc, yho, yhw, yg, yki, ypa, ydv, ycd, yco, yas, yre, yce, ysn, yal, ypl) v a := by
  have fin : ∀ b, rt_F yki co pa v b → ∃ n41, wY_route_41 post v a ybc yho yhw yg yki ypa ydv ycd yco yas yre yce ysn yal ypl n41 (-1) 0 := by
    intro b hF
    obtain ⟨fb, hfb, e, hu⟩ := rt_Fu T hF
    rw [e]
    refine ⟨33, yw_r41 T A hP hcd hr hco has hR hfb (fun c hc hup => ?_) hu (fun i => h1 b i hF) (h2 b hF) 33 0 (-1) (by omega) (by omega) (Or.inl ⟨rfl, fun t ht => by omega⟩)⟩
    rw [← hu] at hup
    rcases hF with ⟨e1, e2⟩ | ⟨f, hf, e1, k1, _, e2⟩
    · exfalso
      rw [e1, ← pn_b0, pn_b_eq (by omega) (by omega)] at e
      rw [← e, pt_a0] at hup
      omega
    · rw [e1, ← pn_bs, pn_b_eq (by omega) (by omega)] at e
      rw [← e] at hup
      exact (pt_lt T hf (by rw [k1]; decide) hup).2.2.1
  unfold wpY_route
  refine br_c (fun e => br_t e (fin 0 (Or.inl ⟨e, rfl⟩))) (fun e => ?_)
  refine yw_kindOf (fun f hf ef => ?_) (fun hn => br_f (by decide) (hB e fun s hs es => absurd es (hn s hs)))
  refine br_c (fun k1 => ?_) (fun k1 => hB e fun s hs es => ?_)
  · have hK : yki f ≠ 0 := by rw [k1]; decide
    refine br_f e ?_
    rw [ef, nI_clamp (by omega), hco f hf hK]
    refine ⟨vp_in_nI hf (by decide), br_c (fun hc => hN f hf ef k1 hc) (fun hc => ?_)⟩
    rw [← ef]
    exact fin (pa f) (Or.inr ⟨f, hf, ef, k1, hc, rfl⟩)
  · rw [ef] at es
    obtain rfl : f = s := (nI_eq (by omega) (by omega)).mp es
    exact k1
end
end
section
/-! route, hops, read, write -/
section
variable {xbu xho xsp xgr xfo xla xde xcr : Int32} {xki xpa xdv xt0 xt1 xch xas xco xpr xse xsu xba xsz xce xsn xal xpl xns xnu xor xbt xnd xdo : Nat → Int32} {ycd yco yas yre ysn yal ypl : Nat → Int32} {pa de r cd ba sz se su : Nat → Nat} {v a : Int32}
theorem rl_route (R : rl_R pa de r cd ba sz se su xbu xho xsp xgr xfo xla xde xcr xki xpa xdv xt0 xt1 xch xas xco xpr xse xsu xba xsz xce xsn xal xpl xns xnu xor xbt xnd xdo ycd yco yas yre) : (∃ rr : Int32, ¬ 0 ≤ rr ∧ (∀ post : Int32 → SX → Prop, (∀ y, post rr (xbu, xho, xsp, xgr, xfo, xla, xde, y, xki, xpa, xdv, xt0, xt1, xch, xas, xco, xpr, xse, xsu, xba, xsz, xce, xsn, xal, xpl, xns, xnu, xor, xbt, xnd, xdo)) → wpX_route post (xbu, xho, xsp, xgr, xfo, xla, xde, xcr, xki, xpa, xdv, xt0, xt1, xch, xas, xco, xpr, xse, xsu, xba, xsz, xce, xsn, xal, xpl, xns, xnu, xor, xbt, xnd, xdo) v a) ∧ (∀ post : Int32 → Prop, post rr → wpY_route post (xbu, xho, xsp, xgr, xki, xpa, xdv, ycd, yco, yas, yre, xce, ysn, yal, ypl) v a)) ∨ (∃ b i, rt_F xki xco pa v b ∧ rt_GO xki xas xco pa ba sz a b i ∧ (∀ post : Int32 → SX → Prop, post (nI i) (xbu, xho, xsp, xgr, xfo, xla, xde, nI (rt_n pa b i), xki, xpa, xdv, xt0, xt1, xch, xas, xco, xpr, xse, xsu, xba, xsz, xce, xsn, xal, xpl, xns, xnu, xor, xbt, xnd, xdo) → wpX_route post (xbu, xho, xsp, xgr, xfo, xla, xde, xcr, xki, xpa, xdv, xt0, xt1, xch, xas, xco, xpr, xse, xsu, xba, xsz, xce, xsn, xal, xpl, xns, xnu, xor, xbt, xnd, xdo) v a) ∧ (∀ post : Int32 → Prop, post (nI i) → wpY_route post (xbu, xho, xsp, xgr, xki, xpa, xdv, ycd, yco, yas, yre, xce, ysn, yal, ypl) v a)) := by
  obtain ⟨C, T, P, hC, CD, tr, cdY, E, M, A⟩ := R
  have hP : ∀ s, s < 16 → xpa s = pn_b (pa s) := fun s hs => (P.2.2 s hs).1
  have hI := fun s hs hK => (M s hs hK).2.1
  have hco := fun s hs hK => (M s hs hK).1.2.2.2
  have yc := fun s hs hK => (M s hs hK).1.2.1
  have ya := rl_Mas M
  have hR : ∀ s, s < 16 → xki s = 1 → ∀ e, e < 2 → yre (8 * s + 2 + e) = nI (ba (2 * s + e)) ∧ sz (2 * s + e) = pm_sz (cd (2 * s + e)) ∧ ba (2 * s + e) + sz (2 * s + e) ≤ 4000 := fun s hs k1 e he => by
    obtain ⟨_, m2, m3, _⟩ := M s hs (by rw [k1]; decide)
    exact ⟨(m3 k1 e he).2, (m3 k1 e he).1, (m2 e he).2.2⟩
  have XR := fun (post : Int32 → SX → Prop) => xw_route (xbu := xbu) (xho := xho) (xsp := xsp) (xgr := xgr) (xfo := xfo) (xla := xla) (xde := xde) (xcr := xcr) (xdv := xdv) (xt0 := xt0) (xt1 := xt1) (xpr := xpr) (xse := xse) (xsu := xsu) (xce := xce) (xsn := xsn) (xal := xal) (xpl := xpl) (xns := xns) (xnu := xnu) (xor := xor) (xbt := xbt) (xnd := xnd) (xdo := xdo) (v := v) (a := a) (post := post) T hC hP A hI hco
  have YR := fun (post : Int32 → Prop) => yw_route (ybc := xbu) (yho := xho) (yhw := xsp) (yg := xgr) (yce := xce) (ysn := ysn) (yal := yal) (ypl := ypl) (v := v) (a := a) (post := post) T A P cdY CD yc ya hR
  have one : ∀ b b', rt_F xki xco pa v b → rt_F xki xco pa v b' → b = b' := by
    rintro b b' (⟨e1, e2⟩ | ⟨f, hf, e1, _, _, e2⟩) (⟨e1', e2'⟩ | ⟨f', hf', e1', _, _, e2'⟩)
    · rw [e2, e2']
    · rw [e1] at e1'; exact absurd e1'.symm (pn_ne1 (by omega))
    · rw [e1'] at e1; exact absurd e1.symm (pn_ne1 (by omega))
    · rw [e1] at e1'
      obtain rfl : f = f' := (nI_eq (by omega) (by omega)).mp e1'
      rw [← e2, ← e2']
  have full : ∀ b, rt_F xki xco pa v b → (¬ v = -1 → (∀ s, s < 16 → v = nI s → ¬ xki s = 1) → False) → (∀ f, f < 16 → v = nI f → xki f = 1 → xco f &&& 2 = 0 → False) → ((∃ rr : Int32, ¬ 0 ≤ rr ∧ (∀ post : Int32 → SX → Prop, (∀ y, post rr (xbu, xho, xsp, xgr, xfo, xla, xde, y, xki, xpa, xdv, xt0, xt1, xch, xas, xco, xpr, xse, xsu, xba, xsz, xce, xsn, xal, xpl, xns, xnu, xor, xbt, xnd, xdo)) → wpX_route post (xbu, xho, xsp, xgr, xfo, xla, xde, xcr, xki, xpa, xdv, xt0, xt1, xch, xas, xco, xpr, xse, xsu, xba, xsz, xce, xsn, xal, xpl, xns, xnu, xor, xbt, xnd, xdo) v a) ∧ (∀ post : Int32 → Prop, post rr → wpY_route post (xbu, xho, xsp, xgr, xki, xpa, xdv, ycd, yco, yas, yre, xce, ysn, yal, ypl) v a)) ∨ (∃ b i, rt_F xki xco pa v b ∧ rt_GO xki xas xco pa ba sz a b i ∧ (∀ post : Int32 → SX → Prop, post (nI i) (xbu, xho, xsp, xgr, xfo, xla, xde, nI (rt_n pa b i), xki, xpa, xdv, xt0, xt1, xch, xas, xco, xpr, xse, xsu, xba, xsz, xce, xsn, xal, xpl, xns, xnu, xor, xbt, xnd, xdo) → wpX_route post (xbu, xho, xsp, xgr, xfo, xla, xde, xcr, xki, xpa, xdv, xt0, xt1, xch, xas, xco, xpr, xse, xsu, xba, xsz, xce, xsn, xal, xpl, xns, xnu, xor, xbt, xnd, xdo) v a) ∧ (∀ post : Int32 → Prop, post (nI i) → wpY_route post (xbu, xho, xsp, xgr, xki, xpa, xdv, ycd, yco, yas, yre, xce, ysn, yal, ypl) v a))) := by
    intro b hF nB nN
    by_cases hg : ∃ i, rt_GO xki xas xco pa ba sz a b i
    · obtain ⟨i, g⟩ := hg
      have oneI : ∀ b' i', rt_F xki xco pa v b' → rt_GO xki xas xco pa ba sz a b' i' → b' = b ∧ i' = i := fun b' i' h g' => ⟨(one b b' hF h).symm, rt_uni T A g.1 g'.1⟩
      refine Or.inr ⟨b, i, hF, g, fun post hp => XR post (fun x y => (nB x y).elim) (fun f x y z w => (nN f x y z w).elim) (fun b' i' h g' => ?_) (fun b' h hn => ?_), fun post hp => YR post (fun x y => (nB x y).elim) (fun f x y z w => (nN f x y z w).elim) (fun b' i' h g' => ?_) (fun b' h hn => ?_)⟩
      · obtain ⟨rfl, rfl⟩ := oneI b' i' h g'; exact hp
      · obtain rfl := one b b' hF h; exact absurd g (hn i)
      · obtain ⟨rfl, rfl⟩ := oneI b' i' h g'; exact hp
      · obtain rfl := one b b' hF h; exact absurd g (hn i)
    · refine Or.inl ⟨-1, by decide, fun post hp => XR post (fun x y => (nB x y).elim) (fun f x y z w => (nN f x y z w).elim) (fun b' i' h g' => ?_) (fun b' h hn y => hp y), fun post hp => YR post (fun x y => (nB x y).elim) (fun f x y z w => (nN f x y z w).elim) (fun b' i' h g' => ?_) (fun b' h hn => hp)⟩
      · obtain rfl := one b b' hF h; exact absurd ⟨i', g'⟩ hg
      · obtain rfl := one b b' hF h; exact absurd ⟨i', g'⟩ hg
  by_cases hv : v = -1
  · refine full 0 (Or.inl ⟨hv, rfl⟩) (fun x _ => x hv) (fun f hf e => ?_)
    rw [hv] at e
    exact absurd e.symm (pn_ne1 (by omega))
  · by_cases hf : ∃ f, f < 16 ∧ v = nI f ∧ xki f = 1
    · obtain ⟨f, hf, e, k1⟩ := hf
      have onef : ∀ f', f' < 16 → v = nI f' → f' = f := fun f' h e' => by
        rw [e] at e'
        exact ((nI_eq (by omega) (by omega)).mp e').symm
      by_cases hc : xco f &&& 2 = 0
      · have nF : ∀ b, ¬ rt_F xki xco pa v b := by
          rintro b (⟨e1, _⟩ | ⟨f', hf', e1, _, c1, _⟩)
          · exact hv e1
          · rw [onef f' hf' e1] at c1; exact c1 hc
        refine Or.inl ⟨-9, by decide, fun post hp => XR post (fun x y => absurd k1 (y f hf e)) (fun f' _ _ _ _ => hp xcr) (fun b i h => absurd h (nF b)) (fun b h => absurd h (nF b)), fun post hp => YR post (fun x y => absurd k1 (y f hf e)) (fun f' _ _ _ _ => hp) (fun b i h => absurd h (nF b)) (fun b h => absurd h (nF b))⟩
      · refine full (pa f) (Or.inr ⟨f, hf, e, k1, hc, rfl⟩) (fun _ y => y f hf e k1) (fun f' hf' e' _ c' => ?_)
        rw [onef f' hf' e'] at c'; exact hc c'
    · have nF : ∀ b, ¬ rt_F xki xco pa v b := by
        rintro b (⟨e1, _⟩ | ⟨f', hf', e1, k1, _, _⟩)
        · exact hv e1
        · exact hf ⟨f', hf', e1, k1⟩
      exact Or.inl ⟨-3, by decide, fun post hp => XR post (fun _ _ => hp xcr) (fun f' h1 h2 h3 _ => absurd ⟨f', h1, h2, h3⟩ hf) (fun b i h => absurd h (nF b)) (fun b h => absurd h (nF b)), fun post hp => YR post (fun _ _ => hp) (fun f' h1 h2 h3 _ => absurd ⟨f', h1, h2, h3⟩ hf) (fun b i h => absurd h (nF b)) (fun b h => absurd h (nF b))⟩
end
theorem i_vc_route {k : Nat} {u : SX} {v : SY} (I : i_Rel k u v) (hk : k + 5 ≤ 2564) (v1 : Int32) (v2 : Int32) : wpX_route (fun r u' => wpY_route (fun r' => r' = r ∧ i_Rel (k + 5) u' v) v v1 v2) u v1 v2 := by
  refine rl_el (P := fun u v => wpX_route (fun r u' => wpY_route (fun r' => r' = r ∧ i_Rel (k + 5) u' v) v v1 v2) u v1 v2) ?_ I
  intro xbu xho xsp xgr xfo xla xde xcr xki xpa xdv xt0 xt1 xch xas xco xpr xse xsu xba xsz xce xsn xal xpl xns xnu xor xbt xnd xdo ycd yco yas yre ysn yal ypl pa de r cd ba sz se su R
  rcases rl_route (ysn := ysn) (yal := yal) (ypl := ypl) (v := v1) (a := v2) R with ⟨rr, _, hX, hY⟩ | ⟨b, i, hF, g, hX, hY⟩
  · exact hX _ fun y => hY _ ⟨rfl, rl_in R⟩
  · exact hX _ (hY _ ⟨rfl, rl_in R⟩)
section
variable {ybc yho yhw yg : Int32} {yki ypa ydv ycd yco yas yre yce ysn yal ypl : Nat → Int32} {pa de r cd ba sz se su : Nat → Nat} {a v : Int32} {as co : Nat → Int32}
theorem yw_h19 {post : Int32 → Prop} {b fb t : Nat} (hP : py_P pa de ypa ydv) (hfb : fb ≤ 16) (hu : ∀ c, pt_ab pa (c + 1) fb = rt_up pa b c) (ht : t < 32) (h : post (nI (rt_n pa b t))) : ∀ m i, i ≤ 16 → 16 - i < m → wY_hops_19 post (pn_b fb) (nI t) ybc yho yhw yg yki ypa ydv ycd yco yas yre yce ysn yal ypl m (nI (ps_sm i (fun c => if rt_up pa b c = rt_dn pa t c then 0 else 1))) (nI i) := by
  intro m
  induction m with
  | zero => intro i a b; omega
  | succ m ih =>
    intro i hi hm
    by_cases h16 : i = 16
    · subst h16
      exact br_t (nI_le (a := 16) (b := 16) (by omega) (by decide)) h
    · have I := ih (i + 1) (by omega) (by omega)
      rw [ps_s] at I
      refine br_f (nI_ge (b := 16) (by omega) (by decide)) ?_
      rw [pn_div2 (by omega)]
      refine yw_aboveC (b := i + 1) (c := fb) hP (by omega) hfb (fun z9 => ⟨py_n2, ?_⟩) (fun z9 => ⟨py_n2, ?_⟩)
      · rw [hu] at z9
        refine yw_aboveC (b := i + 1) (c := t / 2 + 1) hP (by omega) (by omega) (fun z26 => br_t rfl (nm_r (nI_1 i) ?_)) (fun z26 => br_f (by decide) (nm_r (nI_1 _) (nm_r (nI_1 i) ?_)))
        · rw [if_pos (z9.trans (show rt_dn pa t i = true from z26).symm)] at I; exact I
        · rw [if_neg (fun z : rt_up pa b i = rt_dn pa t i => z26 (z.symm.trans z9))] at I; exact I
      · rw [hu] at z9
        refine yw_aboveC (b := i + 1) (c := t / 2 + 1) hP (by omega) (by omega) (fun z26 => br_f (by decide) (nm_r (nI_1 _) (nm_r (nI_1 i) ?_))) (fun z26 => br_t rfl (nm_r (nI_1 i) ?_))
        · rw [if_neg (fun z : rt_up pa b i = rt_dn pa t i => z9 (z.trans z26))] at I; exact I
        · have e : rt_up pa b i = rt_dn pa t i := by
            rw [Bool.eq_false_iff.mpr z9]
            exact (Bool.eq_false_iff.mpr z26).symm
          rw [if_pos e] at I; exact I
theorem yw_peekI {post : Int32 → Prop} {s j o : Nat} (hc : py_cd yki cd ycd) (hr : pm_CD yki cd) (hs : s < 16) (k1 : yki s = 1) (hj : j < 2) (ho : o < pm_sz (cd (2 * s + j))) (h : post (yce (8 * (2 * s + j) + o))) : wpY_peek post (ybc, yho, yhw, yg, yki, ypa, ydv, ycd, yco, yas, yre, yce, ysn, yal, ypl) (nI s) (nI j) (nI o) := by
  have ei : 2 * nI s + nI j = nI (2 * s + j) := by rw [pn_lit2, nI_add]
  have c5 := (hr s hs).1 k1
  have z8 : pm_sz (cd (2 * s + j)) ≤ 8 := by
    rcases (by omega : j = 0 ∨ j = 1) with rfl | rfl
    · exact (pm_sz_p c5.1).1
    · exact (pm_sz_p c5.2).1
  unfold wpY_peek
  refine br_f (nI_pos (by omega)) (br_f (nI_nlt (b := s) (a := 15) (by omega) (by decide)) (br_f (nI_pos (by omega)) (br_t (nI_le (b := 1) (by omega) (by decide)) (nm_r ei (br_f (nI_pos (by omega)) (yw_size hc hr (by omega) ?_))))))
  rw [show (2 * s + j) / 2 = s by omega, if_pos k1]
  refine br_t (nI_lt ho (by omega)) ?_
  rw [pn_lit8, nI_add, nI_clamp (by omega)]
  exact ⟨vp_in_nI (by omega) (by decide), h⟩
end
theorem i_vc_hops {k : Nat} {u : SX} {v : SY} (I : i_Rel k u v) (hk : k + 5 ≤ 2564) (v1 : Int32) (v2 : Int32) : wpX_hops (fun r u' => wpY_hops (fun r' => r' = r ∧ i_Rel (k + 5) u' v) v v1 v2) u v1 v2 := by
  refine rl_el (P := fun u v => wpX_hops (fun r u' => wpY_hops (fun r' => r' = r ∧ i_Rel (k + 5) u' v) v v1 v2) u v1 v2) ?_ I
  intro xbu xho xsp xgr xfo xla xde xcr xki xpa xdv xt0 xt1 xch xas xco xpr xse xsu xba xsz xce xsn xal xpl xns xnu xor xbt xnd xdo ycd yco yas yre ysn yal ypl pa de r cd ba sz se su R
  unfold wpX_hops
  rcases rl_route (ysn := ysn) (yal := yal) (ypl := ypl) (v := v1) (a := v2) R with ⟨rr, hn, hX, hY⟩ | ⟨b, i, hF, g, hX, hY⟩
  · refine hX _ fun y => br_f hn ?_
    unfold wpY_hops
    exact hY _ (br_f hn ⟨rfl, rl_in R⟩)
  · have i32 := g.1.1
    have p0 : 0 ≤ nI i := nI_pos' (by omega)
    refine hX _ (br_t p0 ?_)
    obtain ⟨fb, hfb, e, hu⟩ := rt_Fu R.2.1 hF
    unfold wpY_hops
    refine hY _ (br_t p0 ⟨17, ?_⟩)
    rw [e]
    exact yw_h19 R.2.2.1 hfb hu i32 ⟨rfl, rl_in R⟩ 17 0 (by omega) (by omega)
/-- a hit, in numbers -/
theorem rl_hit {K as : Nat → Int32} {ba sz cd : Nat → Nat} {a : Int32} {i : Nat} (g : rt_TG K as ba sz a i) (hz : ∀ s, s < 16 → K s = 1 → ∀ e, e < 2 → sz (2 * s + e) = pm_sz (cd (2 * s + e)) ∧ ba (2 * s + e) + sz (2 * s + e) ≤ 4000) (CD : pm_CD K cd) : ∃ o, o < pm_sz (cd (2 * (i / 2) + i % 2)) ∧ o < 8 ∧ ba i ≤ 4000 ∧ a = nI (ba i + o) := by
  obtain ⟨h32, k1, _, hc⟩ := g
  have hi : 2 * (i / 2) + i % 2 = i := by omega
  have h1 := hz (i / 2) (by omega) k1 (i % 2) (by omega)
  have c5 := (CD (i / 2) (by omega)).1 k1
  have z8 : pm_sz (cd (2 * (i / 2) + i % 2)) ≤ 8 := by
    rcases (by omega : i % 2 = 0 ∨ i % 2 = 1) with e | e
    · rw [e]; exact (pm_sz_p c5.1).1
    · rw [e]; exact (pm_sz_p c5.2).1
  obtain ⟨n, hn, e⟩ := nI_of hc.1
  have hcl : a.toNatClampNeg = n := by rw [e]; exact nI_clamp hn
  have a1 := hc.2.1
  have a2 := hc.2.2
  rw [hi] at h1
  rw [hi] at z8 ⊢
  rw [hcl] at a1 a2
  refine ⟨n - ba i, by omega, by omega, by omega, ?_⟩
  rw [e]
  exact congrArg nI (by omega)
theorem i_vc_read {k : Nat} {u : SX} {v : SY} (I : i_Rel k u v) (hk : k + 5 ≤ 2564) (v1 : Int32) (v2 : Int32) : wpX_read (fun r u' => wpY_read (fun r' => r' = r ∧ i_Rel (k + 5) u' v) v v1 v2) u v1 v2 := by
  refine rl_el (P := fun u v => wpX_read (fun r u' => wpY_read (fun r' => r' = r ∧ i_Rel (k + 5) u' v) v v1 v2) u v1 v2) ?_ I
  intro xbu xho xsp xgr xfo xla xde xcr xki xpa xdv xt0 xt1 xch xas xco xpr xse xsu xba xsz xce xsn xal xpl xns xnu xor xbt xnd xdo ycd yco yas yre ysn yal ypl pa de r cd ba sz se su R
  have R0 := R
  obtain ⟨C, T, P, hC, CD, tr, cdY, E, M, A⟩ := R0
  unfold wpX_read
  rcases rl_route (ysn := ysn) (yal := yal) (ypl := ypl) (v := v1) (a := v2) R with ⟨rr, hn, hX, hY⟩ | ⟨b, i, hF, g, hX, hY⟩
  · refine hX _ fun y => br_f hn ?_
    unfold wpY_read
    exact hY _ (br_f hn ⟨rfl, rl_in R⟩)
  · have i32 := g.1.1
    have k1 := g.1.2.1
    have p0 : 0 ≤ nI i := nI_pos' (by omega)
    have hi : 2 * (i / 2) + i % 2 = i := by omega
    have hK : xki (i / 2) ≠ 0 := by rw [k1]; decide
    obtain ⟨m1, m2, m3, m4⟩ := M (i / 2) (by omega) hK
    have b1 := (m2 (i % 2) (by omega)).1
    have b2 := (m3 k1 (i % 2) (by omega)).2
    rw [hi] at b1 b2
    obtain ⟨o, ho, o8, hb4, ea⟩ := rl_hit g.1 (fun s hs k e he => ⟨((M s hs (by rw [k]; decide)).2.2.1 k e he).1, ((M s hs (by rw [k]; decide)).2.1 e he).2.2⟩) CD
    refine hX _ (br_t p0 ?_)
    have e1 : ((nI i * 8) + v2) - xba (nI i).toNatClampNeg = nI (8 * i + o) := by
      rw [nI_clamp (by omega), b1, ea, pn_mul8, nI_add, pk_sub (by omega)]
      exact congrArg nI (by omega)
    rw [e1, nI_clamp (by omega)]
    refine ⟨vp_in_nI i32 (by decide), vp_in_nI (by omega) (by decide), ?_⟩
    unfold wpY_read
    refine hY _ (br_t p0 (yw_bar i32 ?_))
    rw [b2]
    refine nm_r (e' := nI o) ?_ ⟨py_n2, py_n2, ?_⟩
    · rw [ea, pk_sub (by omega)]
      exact congrArg nI (by omega)
    · rw [pn_div2 (by omega), pn_rem2 (by omega)]
      refine yw_peekI cdY CD (by omega) k1 (by omega) ho ?_
      rw [hi]
      exact ⟨rfl, rl_in R⟩
theorem i_vc_write {k : Nat} {u : SX} {v : SY} (I : i_Rel k u v) (hk : k + 5 ≤ 2564) (v1 : Int32) (v2 : Int32) (v3 : Int32) : wpX_write (fun r u' => wpY_write (fun r' v' => r' = r ∧ i_Rel (k + 5) u' v') v v1 v2 v3) u v1 v2 v3 := by
  refine rl_el (P := fun u v => wpX_write (fun r u' => wpY_write (fun r' v' => r' = r ∧ i_Rel (k + 5) u' v') v v1 v2 v3) u v1 v2 v3) ?_ I
  intro xbu xho xsp xgr xfo xla xde xcr xki xpa xdv xt0 xt1 xch xas xco xpr xse xsu xba xsz xce xsn xal xpl xns xnu xor xbt xnd xdo ycd yco yas yre ysn yal ypl pa de r cd ba sz se su R
  have R0 := R
  obtain ⟨C, T, P, hC, CD, tr, cdY, E, M, A⟩ := R0
  unfold wpX_write
  rcases rl_route (ysn := ysn) (yal := yal) (ypl := ypl) (v := v1) (a := v2) R with ⟨rr, hn, hX, hY⟩ | ⟨b, i, hF, g, hX, hY⟩
  · refine hX _ fun y => br_f hn ?_
    unfold wpY_write
    exact hY _ (br_f hn ⟨rfl, rl_in R⟩)
  · have i32 := g.1.1
    have k1 := g.1.2.1
    have p0 : 0 ≤ nI i := nI_pos' (by omega)
    have hi : 2 * (i / 2) + i % 2 = i := by omega
    have hK : xki (i / 2) ≠ 0 := by rw [k1]; decide
    obtain ⟨m1, m2, m3, m4⟩ := M (i / 2) (by omega) hK
    have b1 := (m2 (i % 2) (by omega)).1
    have b2 := (m3 k1 (i % 2) (by omega)).2
    rw [hi] at b1 b2
    obtain ⟨o, ho, o8, hb4, ea⟩ := rl_hit g.1 (fun s hs k e he => ⟨((M s hs (by rw [k]; decide)).2.2.1 k e he).1, ((M s hs (by rw [k]; decide)).2.1 e he).2.2⟩) CD
    refine hX _ (br_t p0 ?_)
    have e1 : ((nI i * 8) + v2) - xba (nI i).toNatClampNeg = nI (8 * i + o) := by
      rw [nI_clamp (by omega), b1, ea, pn_mul8, nI_add, pk_sub (by omega)]
      exact congrArg nI (by omega)
    rw [e1, nI_clamp (by omega)]
    refine ⟨vp_in_nI i32 (by decide), vp_in_nI (by omega) (by decide), nm_e ?_⟩
    unfold wpY_write
    refine hY _ (br_t p0 (yw_bar i32 ?_))
    rw [b2]
    refine nm_r (e' := nI o) ?_ (br_f (nI_pos (by omega)) (br_f (nI_ge (b := 8) o8 (by decide)) ?_))
    · rw [ea, pk_sub (by omega)]
      exact congrArg nI (by omega)
    · rw [pn_lit8, nI_add, nI_clamp (by omega)]
      exact ⟨vp_in_nI (by omega) (by decide), nm_e ⟨rfl, rl_in ⟨C, T, P, hC, CD, tr, cdY, E, M, A⟩⟩⟩
end
section
/-! attaching: the walks -/
def pa_B (K : Nat → Int32) (b : Nat) : Prop := b = 0 ∨ ∃ p, p < 16 ∧ b = p + 1 ∧ K p = 2
def pa_cl (ce : Nat → Int32) (s i : Nat) : Nat → Int32 := fun j => if 16 * s ≤ j ∧ j < 16 * s + i then 0 else ce j
theorem pa_cl0 (ce : Nat → Int32) (s : Nat) : pa_cl ce s 0 = ce := by
  funext j
  exact if_neg (by omega)
theorem pa_cls (ce : Nat → Int32) (s i : Nat) : upd (pa_cl ce s i) (16 * s + i) 0 = pa_cl ce s (i + 1) := by
  funext j
  unfold pa_cl
  by_cases e : j = 16 * s + i
  · rw [e, pk_us, if_pos (by omega)]
  · rw [pk_un e]
    by_cases h : 16 * s ≤ j ∧ j < 16 * s + i
    · rw [if_pos h, if_pos (by omega)]
    · rw [if_neg h, if_neg (by omega)]
theorem pa_sh : ∀ c, c < 5 → ((1 : Int32) <<< (nI c &&& 31)) >>> ((1 : Int32) &&& 31) = nI (pm_sz c) := by decide
theorem pa_free (K : Nat → Int32) : ∀ n, (∀ s, s < n → K s ≠ 0) ∨ ∃ s, s < n ∧ K s = 0 ∧ ∀ j, j < s → K j ≠ 0 := by
  intro n
  induction n with
  | zero => exact Or.inl fun s hs => by omega
  | succ n ih =>
    rcases ih with h | ⟨s, hs, h⟩
    · by_cases e : K n = 0
      · exact Or.inr ⟨n, by omega, e, h⟩
      · refine Or.inl fun s hs => ?_
        by_cases e2 : s = n
        · rw [e2]; exact e
        · exact h s (by omega)
    · exact Or.inr ⟨s, by omega, h⟩
section
variable {xbu xho xsp xgr xfo xla xde xcr : Int32} {xki xpa xdv xt0 xt1 xch xas xco xpr xse xsu xba xsz xce xsn xal xpl xns xnu xor xbt xnd xdo : Nat → Int32} {pa de : Nat → Nat} {b d s : Nat} {kk : Int32}
theorem xw_setBar {post : SX → Prop} {i c : Nat} (hi : i < 32) (hc : c < 5) (h : post (xbu, xho, xsp, xgr, xfo, xla, xde, xcr, xki, xpa, xdv, xt0, xt1, xch, xas, xco, xpr, xse, xsu, upd xba i 0, upd xsz i (nI (pm_sz c)), xce, upd xsn i (nI (pm_sz c)), upd xal i (nI (pm_sz c)), xpl, xns, xnu, xor, xbt, xnd, xdo)) : wpX_setBar post (xbu, xho, xsp, xgr, xfo, xla, xde, xcr, xki, xpa, xdv, xt0, xt1, xch, xas, xco, xpr, xse, xsu, xba, xsz, xce, xsn, xal, xpl, xns, xnu, xor, xbt, xnd, xdo) (nI i) (nI c) := by
  have hin : vp_in (nI i) 32 := vp_in_nI hi (by decide)
  unfold wpX_setBar
  dsimp only
  rw [nI_clamp (by omega)]
  exact nm_r (pa_sh c hc) ⟨hin, nm_e ⟨hin, nm_e ⟨hin, nm_e ⟨hin, nm_e h⟩⟩⟩⟩
theorem xw_clear55 {post : SX → Prop} (hs : s < 16) (h : post (xbu, xho, xsp, xgr, xfo, xla, xde, xcr, xki, xpa, xdv, xt0, xt1, xch, xas, xco, xpr, xse, xsu, xba, xsz, pa_cl xce s 16, xsn, xal, xpl, xns, xnu, xor, xbt, xnd, xdo)) : ∀ m i, i ≤ 16 → 16 - i < m → wX_clear_55 post (nI s) xbu xho xsp xgr xfo xla xde xcr m (nI i) xki xpa xdv xt0 xt1 xch xas xco xpr xse xsu xba xsz (pa_cl xce s i) xsn xal xpl xns xnu xor xbt xnd xdo := by
  intro m
  induction m with
  | zero => intro i a b; omega
  | succ m ih =>
    intro i hi hm
    by_cases h16 : i = 16
    · subst h16
      exact br_t (nI_le (a := 16) (b := 16) (by omega) (by decide)) h
    · refine br_f (nI_ge (b := 16) (by omega) (by decide)) ?_
      rw [pn_mul16, nI_add, nI_clamp (by omega), Nat.mul_comm s 16]
      exact ⟨vp_in_nI (by omega) (by decide), nm_r (pa_cls xce s i) (nm_r (nI_1 i) (ih (i + 1) (by omega) (by omega)))⟩
theorem xw_clear {post : SX → Prop} (hs : s < 16) (h : post (xbu, xho, xsp, xgr, xfo, xla, xde, xcr, xki, xpa, xdv, xt0, xt1, xch, upd xas s 0, upd xco s 0, upd xpr s 0, upd xse s 0, upd xsu s 0, upd (upd xba (2 * s) 0) (2 * s + 1) 0, upd (upd xsz (2 * s) 0) (2 * s + 1) 0, pa_cl xce s 16, upd (upd xsn (2 * s) 0) (2 * s + 1) 0, upd (upd xal (2 * s) 0) (2 * s + 1) 0, xpl, xns, xnu, xor, xbt, xnd, xdo)) : wpX_clear post (xbu, xho, xsp, xgr, xfo, xla, xde, xcr, xki, xpa, xdv, xt0, xt1, xch, xas, xco, xpr, xse, xsu, xba, xsz, xce, xsn, xal, xpl, xns, xnu, xor, xbt, xnd, xdo) (nI s) := by
  have hin : vp_in (nI s) 16 := vp_in_nI hs (by decide)
  unfold wpX_clear
  dsimp only
  rw [nI_clamp (by omega), pn_lit2, nI_1 (2 * s), pn_vb0]
  refine ⟨hin, nm_e ⟨hin, nm_e ⟨hin, nm_e ⟨hin, nm_e ⟨hin, nm_e ?_⟩⟩⟩⟩⟩
  refine xw_setBar (c := 0) (by omega) (by omega) ?_
  dsimp only
  refine xw_setBar (c := 0) (by omega) (by omega) ?_
  dsimp only
  refine ⟨17, ?_⟩
  have k := xw_clear55 (xbu := xbu) (xho := xho) (xsp := xsp) (xgr := xgr) (xfo := xfo) (xla := xla) (xde := xde) (xcr := xcr) (xki := xki) (xpa := xpa) (xdv := xdv) (xt0 := xt0) (xt1 := xt1) (xch := xch) (xpl := xpl) (xns := xns) (xnu := xnu) (xor := xor) (xbt := xbt) (xnd := xnd) (xdo := xdo) hs h 17 0 (by omega) (by omega)
  rw [pa_cl0] at k
  exact k
theorem xw_free {post : Int32 → Prop} (h : (∀ s, s < 16 → xki s ≠ 0) → post (-1)) (h1 : ∀ s, s < 16 → xki s = 0 → (∀ j, j < s → xki j ≠ 0) → post (nI s)) : wpX_freeSlot post (xbu, xho, xsp, xgr, xfo, xla, xde, xcr, xki, xpa, xdv, xt0, xt1, xch, xas, xco, xpr, xse, xsu, xba, xsz, xce, xsn, xal, xpl, xns, xnu, xor, xbt, xnd, xdo) := by
  have key : ∀ m i, i ≤ 16 → 16 - i < m → (∀ j, j < i → xki j ≠ 0) → wX_freeSlot_2 post xbu xho xsp xgr xfo xla xde xcr xki xpa xdv xt0 xt1 xch xas xco xpr xse xsu xba xsz xce xsn xal xpl xns xnu xor xbt xnd xdo m (nI i) := by
    intro m
    induction m with
    | zero => intro i a b; omega
    | succ m ih =>
      intro i hi hm hj
      by_cases h16 : i = 16
      · subst h16
        exact br_t (nI_le (a := 16) (b := 16) (by omega) (by decide)) (h hj)
      · refine br_f (nI_ge (b := 16) (by omega) (by decide)) ⟨vp_in_nI (by omega) (by decide), ?_⟩
        rw [nI_clamp (by omega)]
        refine br_c (fun z => h1 i (by omega) z hj) (fun z => nm_r (nI_1 i) (ih (i + 1) (by omega) (by omega) fun j hj2 => ?_))
        by_cases e : j = i
        · rw [e]; exact z
        · exact hj j (by omega)
  exact ⟨17, key 17 0 (by omega) (by omega) (fun j hj => by omega)⟩
theorem xw_plugbad {post : Int32 → SX → Prop} {v1 v2 : Int32} (hn : ¬ ∃ b d, v1 = pn_b b ∧ v2 = nI d ∧ d < 8 ∧ pa_B xki b) (h : post (-3) (xbu, xho, xsp, xgr, xfo, xla, xde, xcr, xki, xpa, xdv, xt0, xt1, xch, xas, xco, xpr, xse, xsu, xba, xsz, xce, xsn, xal, xpl, xns, xnu, xor, xbt, xnd, xdo)) : wpX_plug post (xbu, xho, xsp, xgr, xfo, xla, xde, xcr, xki, xpa, xdv, xt0, xt1, xch, xas, xco, xpr, xse, xsu, xba, xsz, xce, xsn, xal, xpl, xns, xnu, xor, xbt, xnd, xdo) kk v1 v2 := by
  unfold wpX_plug
  refine xw_out (m := 7) (by decide) (fun d hd e => br_t rfl ?_) (fun _ => br_f (by decide) h)
  refine br_f (fun e1 => hn ⟨0, d, e1, e, by omega, Or.inl rfl⟩) ?_
  exact xw_isKa (fun p hp e1 k2 => absurd ⟨p + 1, d, e1, e, by omega, Or.inr ⟨p, hp, rfl, k2⟩⟩ hn) (fun _ => br_t rfl h)
theorem pa_b16 {K : Nat → Int32} (h : pa_B K b) : b ≤ 16 := by
  rcases h with e | ⟨p, hp, e, _⟩
  · omega
  · omega
theorem xw_plug27 {post : Int32 → SX → Prop} (hb : pa_B xki b) (hd : d < 8) (h : wX_plug_27 post kk (pn_b b) (nI d) xbu xho xsp xgr xfo xla xde xcr xki xpa xdv xt0 xt1 xch xas xco xpr xse xsu xba xsz xce xsn xal xpl xns xnu xor xbt xnd xdo) : wpX_plug post (xbu, xho, xsp, xgr, xfo, xla, xde, xcr, xki, xpa, xdv, xt0, xt1, xch, xas, xco, xpr, xse, xsu, xba, xsz, xce, xsn, xal, xpl, xns, xnu, xor, xbt, xnd, xdo) kk (pn_b b) (nI d) := by
  unfold wpX_plug
  refine xw_out (m := 7) (by decide) (fun _ _ _ => br_t rfl ?_) (fun hn => absurd rfl (hn d (by omega)))
  rcases hb with e | ⟨p, hp, e, k2⟩
  · subst e
    exact br_t rfl h
  · subst e
    exact br_f (pn_ne1 (by omega)) (xw_isK hp (fun _ => br_f (by decide) h) (fun z => absurd k2 z))
theorem xw_plugbusy {post : Int32 → SX → Prop} (hC : pc_C xki pa de xch) (hb : pa_B xki b) (hd : d < 8) (hf : pf_fd xki pa de b d < 16) (h : post (-4) (xbu, xho, xsp, xgr, xfo, xla, xde, xcr, xki, xpa, xdv, xt0, xt1, xch, xas, xco, xpr, xse, xsu, xba, xsz, xce, xsn, xal, xpl, xns, xnu, xor, xbt, xnd, xdo)) : wpX_plug post (xbu, xho, xsp, xgr, xfo, xla, xde, xcr, xki, xpa, xdv, xt0, xt1, xch, xas, xco, xpr, xse, xsu, xba, xsz, xce, xsn, xal, xpl, xns, xnu, xor, xbt, xnd, xdo) kk (pn_b b) (nI d) := by
  refine xw_plug27 hb hd ?_
  unfold wX_plug_27
  exact xw_node hC (pa_b16 hb) hd (fun s hs _ => br_f (nI_pos (by omega)) h) (fun e => by omega)
theorem xw_plugfull {post : Int32 → SX → Prop} (hC : pc_C xki pa de xch) (hb : pa_B xki b) (hd : d < 8) (hf : pf_fd xki pa de b d = 16) (hK : ∀ s, s < 16 → xki s ≠ 0) (h : post (-5) (xbu, xho, xsp, xgr, xfo, xla, xde, xcr, xki, xpa, xdv, xt0, xt1, xch, xas, xco, xpr, xse, xsu, xba, xsz, xce, xsn, xal, xpl, xns, xnu, xor, xbt, xnd, xdo)) : wpX_plug post (xbu, xho, xsp, xgr, xfo, xla, xde, xcr, xki, xpa, xdv, xt0, xt1, xch, xas, xco, xpr, xse, xsu, xba, xsz, xce, xsn, xal, xpl, xns, xnu, xor, xbt, xnd, xdo) kk (pn_b b) (nI d) := by
  refine xw_plug27 hb hd ?_
  unfold wX_plug_27
  exact xw_node hC (pa_b16 hb) hd (fun s hs e => by omega) (fun _ => br_t pn_neg1 (xw_free (fun _ => br_f (by decide) h) (fun s hs z => absurd z (hK s hs))))
theorem xw_plugok {post : Int32 → SX → Prop} (hC : pc_C xki pa de xch) (hb : pa_B xki b) (hd : d < 8) (hf : pf_fd xki pa de b d = 16) (hs : s < 16) (hKs : xki s = 0) (hj : ∀ j, j < s → xki j ≠ 0) (h : post (nI s) (xbu, xho, xsp, xgr, xfo, xla, xde, xcr, upd xki s kk, upd xpa s (pn_b b), upd xdv s (nI d), xt0, xt1, upd xch (8 * b + d) (nI s), upd xas s 0, upd xco s 0, upd xpr s 0, upd xse s 0, upd xsu s 0, upd (upd xba (2 * s) 0) (2 * s + 1) 0, upd (upd xsz (2 * s) 0) (2 * s + 1) 0, pa_cl xce s 16, upd (upd xsn (2 * s) 0) (2 * s + 1) 0, upd (upd xal (2 * s) 0) (2 * s + 1) 0, xpl, xns, xnu, xor, xbt, xnd, xdo)) : wpX_plug post (xbu, xho, xsp, xgr, xfo, xla, xde, xcr, xki, xpa, xdv, xt0, xt1, xch, xas, xco, xpr, xse, xsu, xba, xsz, xce, xsn, xal, xpl, xns, xnu, xor, xbt, xnd, xdo) kk (pn_b b) (nI d) := by
  refine xw_plug27 hb hd ?_
  have hb16 := pa_b16 hb
  unfold wX_plug_27
  refine xw_node hC hb16 hd (fun s hs e => by omega) (fun _ => br_t pn_neg1 (xw_free (fun z => absurd hKs (z s hs)) (fun s' hs' z hj' => br_t (nI_pos' (by omega)) ?_)))
  obtain rfl : s = s' := by
    rcases Nat.lt_trichotomy s s' with e | e | e
    · exact absurd hKs (hj' s e)
    · exact e
    · exact absurd z (hj s' e)
  have hin : vp_in (nI s) 16 := vp_in_nI hs (by decide)
  refine xw_clear hs ?_
  dsimp only
  rw [nI_clamp (by omega), pn_node, nI_clamp (show 8 * b + d < 2 ^ 31 by omega)]
  exact ⟨hin, nm_e ⟨hin, nm_e ⟨hin, nm_e ⟨vp_in_nI (by omega) (by decide), nm_e h⟩⟩⟩⟩
theorem xw_traits {post : SX → Prop} {x y : Int32} (hs : s < 16) (h : post (xbu, xho, xsp, xgr, xfo, xla, xde, xcr, xki, xpa, xdv, upd xt0 s x, upd xt1 s y, xch, xas, xco, xpr, xse, xsu, xba, xsz, xce, xsn, xal, xpl, xns, xnu, xor, xbt, xnd, xdo)) : wpX_setTraits post (xbu, xho, xsp, xgr, xfo, xla, xde, xcr, xki, xpa, xdv, xt0, xt1, xch, xas, xco, xpr, xse, xsu, xba, xsz, xce, xsn, xal, xpl, xns, xnu, xor, xbt, xnd, xdo) (nI s) x y := by
  have hin : vp_in (nI s) 16 := vp_in_nI hs (by decide)
  unfold wpX_setTraits
  dsimp only
  rw [nI_clamp (by omega)]
  exact ⟨hin, nm_e ⟨hin, nm_e h⟩⟩
end
section
variable {ybc yho yhw yg : Int32} {yki ypa ydv ycd yco yas yre yce ysn yal ypl : Nat → Int32} {pa de r : Nat → Nat} {b d s c0 c1 mo : Nat} {kk : Int32}
def pa_rc (re : Nat → Int32) (s i : Nat) : Nat → Int32 := fun j => if 8 * s ≤ j ∧ j < 8 * s + i then 0 else re j
theorem pa_rc0 (re : Nat → Int32) (s : Nat) : pa_rc re s 0 = re := by
  funext j
  exact if_neg (by omega)
theorem pa_rcs (re : Nat → Int32) (s i : Nat) : upd (pa_rc re s i) (8 * s + i) 0 = pa_rc re s (i + 1) := by
  funext j
  unfold pa_rc
  by_cases e : j = 8 * s + i
  · rw [e, pk_us, if_pos (by omega)]
  · rw [pk_un e]
    by_cases h : 8 * s ≤ j ∧ j < 8 * s + i
    · rw [if_pos h, if_pos (by omega)]
    · rw [if_neg h, if_neg (by omega)]
theorem yw_at203 {post : Int32 → SY → Prop} (hs : s < 16) (h : post (nI s) (ybc, yho, yhw, yg, yki, ypa, ydv, ycd, yco, yas, yre, pa_cl yce s 16, ysn, yal, ypl)) : ∀ m i, i ≤ 16 → 16 - i < m → wY_attach_203 post (nI s) ybc yho yhw yg m (nI i) yki ypa ydv ycd yco yas yre (pa_cl yce s i) ysn yal ypl := by
  intro m
  induction m with
  | zero => intro i a b; omega
  | succ m ih =>
    intro i hi hm
    by_cases h16 : i = 16
    · subst h16
      exact br_t (nI_le (a := 16) (b := 16) (by omega) (by decide)) h
    · refine br_f (nI_ge (b := 16) (by omega) (by decide)) ?_
      rw [pn_lit16, nI_add, nI_clamp (by omega)]
      exact ⟨vp_in_nI (by omega) (by decide), nm_r (pa_cls yce s i) (nm_r (nI_1 i) (ih (i + 1) (by omega) (by omega)))⟩
theorem yw_at173 {post : Int32 → SY → Prop} (hs : s < 16) (h : post (nI s) (ybc, yho, yhw, yg, yki, ypa, ydv, ycd, yco, yas, pa_rc yre s 8, pa_cl yce s 16, ysn, yal, ypl)) : ∀ m i, i ≤ 8 → 8 - i < m → wY_attach_173 post (nI s) ybc yho yhw yg m (nI i) yki ypa ydv ycd yco yas (pa_rc yre s i) yce ysn yal ypl := by
  intro m
  induction m with
  | zero => intro i a b; omega
  | succ m ih =>
    intro i hi hm
    by_cases h8 : i = 8
    · subst h8
      refine br_t (nI_le (a := 8) (b := 8) (by omega) (by decide)) ⟨17, ?_⟩
      have k := yw_at203 (yre := pa_rc yre s 8) hs h 17 0 (by omega) (by omega)
      rw [pa_cl0] at k
      exact k
    · refine br_f (nI_ge (b := 8) (by omega) (by decide)) ?_
      rw [pn_lit8, nI_add, nI_clamp (by omega)]
      exact ⟨vp_in_nI (by omega) (by decide), nm_r (pa_rcs yre s i) (nm_r (nI_1 i) (ih (i + 1) (by omega) (by omega)))⟩
theorem yw_at73 {post : Int32 → SY → Prop} {x2 x3 x4 x5 : Int32} (hF : (∀ s, s < 16 → yki s ≠ 0) → post (-5) (ybc, yho, yhw, yg, yki, ypa, ydv, ycd, yco, yas, yre, yce, ysn, yal, ypl)) (h : ∀ s, s < 16 → yki s = 0 → (∀ j, j < s → yki j ≠ 0) → post (nI s) (ybc, yho, yhw, yg, upd yki s kk, upd ypa s x2, upd ydv s x3, upd (upd ycd (2 * s) x4) (2 * s + 1) x5, upd yco s 0, upd yas s 0, pa_rc yre s 8, pa_cl yce s 16, ysn, yal, ypl)) : ∀ m i x, i ≤ 16 → i < m → ((x = -1 ∧ ∀ j, i ≤ j → j < 16 → yki j ≠ 0) ∨ ∃ s, s < 16 ∧ x = nI s ∧ yki s = 0 ∧ ∀ j, i ≤ j → j < s → yki j ≠ 0) → wY_attach_73 post kk x2 x3 x4 x5 ybc yho yhw yg yki ypa ydv ycd yco yas yre yce ysn yal ypl m x (pn_b i) := by
  intro m
  induction m with
  | zero => intro i x a b; omega
  | succ m ih =>
    intro i x hi hm hx
    cases i with
    | zero =>
      refine br_t pn_neg1 ?_
      rcases hx with ⟨e, hn⟩ | ⟨s, hs, e, hK, hn⟩
      · subst e
        exact br_f (by decide) (hF fun s hs => hn s (by omega) hs)
      · subst e
        have hin : vp_in (nI s) 16 := vp_in_nI hs (by decide)
        rw [nI_clamp (by omega), pn_lit2, nI_1 (2 * s), nI_clamp (show 2 * s < 2 ^ 31 by omega), nI_clamp (show 2 * s + 1 < 2 ^ 31 by omega), pn_vb0]
        refine br_t (nI_pos' (by omega)) ⟨hin, nm_e ⟨hin, nm_e ⟨hin, nm_e ⟨vp_in_nI (by omega) (by decide), nm_e ⟨vp_in_nI (by omega) (by decide), nm_e ⟨hin, nm_e ⟨hin, nm_e ⟨9, ?_⟩⟩⟩⟩⟩⟩⟩⟩
        have k := yw_at173 (ybc := ybc) (yho := yho) (yhw := yhw) (yg := yg) (yre := yre) (yce := yce) (ysn := ysn) (yal := yal) (ypl := ypl) hs (h s hs hK fun j hj => hn j (by omega) hj) 9 0 (by omega) (by omega)
        rw [pa_rc0] at k
        exact k
    | succ i =>
      refine br_f (nI_pos (by omega)) ⟨vp_in_nI (show i < 16 by omega) (by decide), ?_⟩
      show (yki (nI i).toNatClampNeg = 0 → _) ∧ (¬ yki (nI i).toNatClampNeg = 0 → _)
      rw [nI_clamp (by omega)]
      refine br_c (fun z => nm_r (py_m1 i) (ih i (nI i) (by omega) (by omega) (Or.inr ⟨i, by omega, rfl, z, fun j h1 h2 => by omega⟩))) (fun z => nm_r (py_m1 i) (ih i x (by omega) (by omega) ?_))
      rcases hx with ⟨e, hn⟩ | ⟨s, hs, e, hK, hn⟩
      · refine Or.inl ⟨e, fun j h1 h2 => ?_⟩
        by_cases e2 : j = i
        · rw [e2]; exact z
        · exact hn j (by omega) h2
      · refine Or.inr ⟨s, hs, e, hK, fun j h1 h2 => ?_⟩
        by_cases e2 : j = i
        · rw [e2]; exact z
        · exact hn j (by omega) h2
/-- arguments that are refused -/
theorem yw_atbad {post : Int32 → SY → Prop} {v1 v2 v3 v4 : Int32} (hn : ¬ ∃ b d c0 c1, v1 = pn_b b ∧ v2 = nI d ∧ d < 8 ∧ pa_B yki b ∧ v3 = nI c0 ∧ c0 ≤ mo ∧ v4 = nI c1 ∧ c1 ≤ mo) (hmo : mo < 100) (h : post (-3) (ybc, yho, yhw, yg, yki, ypa, ydv, ycd, yco, yas, yre, yce, ysn, yal, ypl)) : wpY_attach post (ybc, yho, yhw, yg, yki, ypa, ydv, ycd, yco, yas, yre, yce, ysn, yal, ypl) kk v1 v2 v3 v4 (nI mo) := by
  unfold wpY_attach
  by_cases a1 : v2 < 0
  · exact br_t a1 h
  · by_cases a2 : 7 < v2
    · exact br_f a1 (br_t a2 h)
    · by_cases a3 : v3 < 0
      · exact br_f a1 (br_f a2 (br_t a3 h))
      · by_cases a4 : nI mo < v3
        · exact br_f a1 (br_f a2 (br_f a3 (br_t a4 h)))
        · by_cases a5 : v4 < 0
          · exact br_f a1 (br_f a2 (br_f a3 (br_f a4 (br_t a5 h))))
          · refine br_f a1 (br_f a2 (br_f a3 (br_f a4 (br_f a5 (br_c (fun a6 => ?_) (fun _ => h))))))
            obtain ⟨d, hd, e2⟩ := nI_of2 (M := 7) (n := 7) (by decide) a1 (Int32.not_lt.mp a2)
            obtain ⟨c0, hc0, e3⟩ := nI_of a3
            obtain ⟨c1, hc1, e4⟩ := nI_of a5
            have l3 : c0 ≤ mo := by
              rw [e3, nI_ltI (by omega) (by omega)] at a4
              omega
            have l4 : c1 ≤ mo := by
              rw [e4, nI_leI (by omega) (by omega)] at a6
              exact a6
            refine br_f (fun e1 => hn ⟨0, d, c0, c1, e1, e2, by omega, Or.inl rfl, e3, l3, e4, l4⟩) ?_
            refine yw_kindOf (fun p hp e1 => br_f (fun k2 => hn ⟨p + 1, d, c0, c1, e1, e2, by omega, Or.inr ⟨p, hp, rfl, k2⟩, e3, l3, e4, l4⟩) h) (fun _ => br_f (by decide) h)
theorem yw_at54 {post : Int32 → SY → Prop} (hb : pa_B yki b) (hd : d < 8) (h0 : c0 ≤ mo) (h1 : c1 ≤ mo) (hmo : mo < 100) (h : wY_attach_54 post kk (pn_b b) (nI d) (nI c0) (nI c1) ybc yho yhw yg yki ypa ydv ycd yco yas yre yce ysn yal ypl) : wpY_attach post (ybc, yho, yhw, yg, yki, ypa, ydv, ycd, yco, yas, yre, yce, ysn, yal, ypl) kk (pn_b b) (nI d) (nI c0) (nI c1) (nI mo) := by
  unfold wpY_attach
  refine br_f (nI_pos (by omega)) (br_f (nI_nlt (b := d) (a := 7) (by omega) (by decide)) (br_f (nI_pos (by omega)) (br_f (nI_nlt h0 (by omega)) (br_f (nI_pos (by omega)) (br_t (nI_le h1 (by omega)) ?_)))))
  rcases hb with e | ⟨p, hp, e, k2⟩
  · subst e
    exact br_t rfl h
  · subst e
    refine br_f (pn_ne1 (by omega)) (yw_kindOf (fun p' hp' e => ?_) (fun hn => absurd rfl (hn p hp)))
    obtain rfl : p = p' := (nI_eq (by omega) (by omega)).mp e
    exact br_t k2 h
theorem yw_atbusy {post : Int32 → SY → Prop} (T : pt_T yki pa de r) (hP : py_P pa de ypa ydv) (hb : pa_B yki b) (hd : d < 8) (h0 : c0 ≤ mo) (h1 : c1 ≤ mo) (hmo : mo < 100) (hf : pf_fd yki pa de b d < 16) (h : post (-4) (ybc, yho, yhw, yg, yki, ypa, ydv, ycd, yco, yas, yre, yce, ysn, yal, ypl)) : wpY_attach post (ybc, yho, yhw, yg, yki, ypa, ydv, ycd, yco, yas, yre, yce, ysn, yal, ypl) kk (pn_b b) (nI d) (nI c0) (nI c1) (nI mo) := by
  refine yw_at54 hb hd h0 h1 hmo ?_
  unfold wY_attach_54
  exact yw_find T hP (pa_b16 hb) hd (fun s hs _ => br_f (nI_pos (by omega)) h) (fun e => by omega)
theorem yw_atok {post : Int32 → SY → Prop} (T : pt_T yki pa de r) (hP : py_P pa de ypa ydv) (hb : pa_B yki b) (hd : d < 8) (h0 : c0 ≤ mo) (h1 : c1 ≤ mo) (hmo : mo < 100) (hf : pf_fd yki pa de b d = 16) (hF : (∀ s, s < 16 → yki s ≠ 0) → post (-5) (ybc, yho, yhw, yg, yki, ypa, ydv, ycd, yco, yas, yre, yce, ysn, yal, ypl)) (h : ∀ s, s < 16 → yki s = 0 → (∀ j, j < s → yki j ≠ 0) → post (nI s) (ybc, yho, yhw, yg, upd yki s kk, upd ypa s (pn_b b), upd ydv s (nI d), upd (upd ycd (2 * s) (nI c0)) (2 * s + 1) (nI c1), upd yco s 0, upd yas s 0, pa_rc yre s 8, pa_cl yce s 16, ysn, yal, ypl)) : wpY_attach post (ybc, yho, yhw, yg, yki, ypa, ydv, ycd, yco, yas, yre, yce, ysn, yal, ypl) kk (pn_b b) (nI d) (nI c0) (nI c1) (nI mo) := by
  refine yw_at54 hb hd h0 h1 hmo ?_
  unfold wY_attach_54
  exact yw_find T hP (pa_b16 hb) hd (fun s hs e => by omega) (fun _ => br_t (by decide) ⟨17, yw_at73 hF h 17 16 (-1) (by omega) (by omega) (Or.inl ⟨rfl, fun j h1 h2 => by omega⟩)⟩)
end
end
section
/-! attaching: the relation again -/
def pa_u (f : Nat → Nat) (k x : Nat) : Nat → Nat := fun j => if j = k then x else f j
theorem pa_us {f : Nat → Nat} {k x : Nat} : pa_u f k x k = x := if_pos rfl
theorem pa_un {f : Nat → Nat} {k x j : Nat} (h : j ≠ k) : pa_u f k x j = f j := if_neg h
/-- an item's value, zero or w at slot s -/
def pa_i (f : Nat → Nat) (s w0 w1 : Nat) : Nat → Nat := fun i => if i = 2 * s then w0 else if i = 2 * s + 1 then w1 else f i
theorem pa_i0 {f : Nat → Nat} {s w0 w1 : Nat} : pa_i f s w0 w1 (2 * s) = w0 := if_pos rfl
theorem pa_i1 {f : Nat → Nat} {s w0 w1 : Nat} : pa_i f s w0 w1 (2 * s + 1) = w1 := by
  unfold pa_i
  rw [if_neg (by omega), if_pos rfl]
theorem pa_in {f : Nat → Nat} {s w0 w1 x e : Nat} (h : x ≠ s) (he : e < 2) : pa_i f s w0 w1 (2 * x + e) = f (2 * x + e) := by
  unfold pa_i
  rw [if_neg (by omega), if_neg (by omega)]
/-- the rank of the new slot -/
def pa_r (r : Nat → Nat) : Nat → Nat
  | 0 => 0
  | p + 1 => r p + 1
section
variable {K : Nat → Int32} {pa de r cd ba sz se su : Nat → Nat} {s b d : Nat} {kk : Int32}
theorem pa_T (T : pt_T K pa de r) (hs : s < 16) (hKs : K s = 0) (hb : pa_B K b) (hd : d < 8) (hf : pf_fd K pa de b d = 16) (hkk : kk = 1 ∨ kk = 2) : pt_T (upd K s kk) (pa_u pa s b) (pa_u de s d) (pa_u r s (pa_r r b)) := by
  have nf : ∀ j, j < 16 → K j ≠ 0 → pa j = b → de j = d → False := by
    intro j hj hK hp hd
    have := pf_eq T hj hK hp hd
    omega
  have lv : ∀ j, j ≠ s → upd K s kk j ≠ 0 → K j ≠ 0 := fun j hj h => by rw [pk_un hj] at h; exact h
  refine ⟨fun j hj => ?_, fun j => ?_, fun j => ?_, fun j hj hK => ?_, fun j j' hj hj' hK hK' hp hd' => ?_⟩
  · by_cases e : j = s
    · rw [e, pk_us]; exact Or.inr hkk
    · rw [pk_un e]; exact T.1 j hj
  · by_cases e : j = s
    · rw [e, pa_us]; exact pa_b16 hb
    · rw [pa_un e]; exact T.2.1 j
  · by_cases e : j = s
    · rw [e, pa_us]; exact hd
    · rw [pa_un e]; exact T.2.2.1 j
  · by_cases e : j = s
    · rw [e, pa_us, pa_us]
      rcases hb with e2 | ⟨p, hp, e2, k2⟩
      · exact Or.inl e2
      · have hps : p ≠ s := fun z => by rw [z, hKs] at k2; exact absurd k2 (by decide)
        refine Or.inr ⟨p, hp, e2, by rw [pk_un hps]; exact k2, ?_⟩
        rw [pa_un hps, e2]
        show r p < r p + 1
        omega
    · have hKj := lv j e hK
      rw [pa_un e, pa_un e]
      rcases T.2.2.2.1 j hj hKj with h | ⟨p, hp, h1, h2, h3⟩
      · exact Or.inl h
      · have hps : p ≠ s := fun z => by rw [z, hKs] at h2; exact absurd h2 (by decide)
        exact Or.inr ⟨p, hp, h1, by rw [pk_un hps]; exact h2, by rw [pa_un hps]; exact h3⟩
  · by_cases e : j = s
    · by_cases e' : j' = s
      · rw [e, e']
      · exfalso
        rw [e, pa_us, pa_un e'] at hp
        rw [e, pa_us, pa_un e'] at hd'
        exact nf j' hj' (lv j' e' hK') hp.symm hd'.symm
    · by_cases e' : j' = s
      · exfalso
        rw [e', pa_us, pa_un e] at hp
        rw [e', pa_us, pa_un e] at hd'
        exact nf j hj (lv j e hK) hp hd'
      · rw [pa_un e, pa_un e'] at hp
        rw [pa_un e, pa_un e'] at hd'
        exact T.2.2.2.2 j j' hj hj' (lv j e hK) (lv j' e' hK') hp hd'
theorem pa_C {ch : Nat → Int32} (T : pt_T K pa de r) (hC : pc_C K pa de ch) (hs : s < 16) (hKs : K s = 0) (hb : pa_B K b) (hd : d < 8) (hf : pf_fd K pa de b d = 16) (hkk : kk = 1 ∨ kk = 2) : pc_C (upd K s kk) (pa_u pa s b) (pa_u de s d) (upd ch (8 * b + d) (nI s)) := by
  have T' := pa_T T hs hKs hb hd hf hkk
  have hk0 : kk ≠ 0 := by
    rcases hkk with e | e
    · rw [e]; decide
    · rw [e]; decide
  intro b' d' hb' hd'
  by_cases e : 8 * b' + d' = 8 * b + d
  · have eb : b' = b := by omega
    have ed : d' = d := by omega
    subst eb
    subst ed
    rw [pk_us]
    have : pf_fd (upd K s kk) (pa_u pa s b') (pa_u de s d') b' d' = s := pf_eq T' hs (by rw [pk_us]; exact hk0) pa_us pa_us
    unfold pc_v
    rw [this, if_pos hs]
  · rw [pk_un e, hC b' d' hb' hd']
    have : pf_fd (upd K s kk) (pa_u pa s b) (pa_u de s d) b' d' = pf_fd K pa de b' d' := by
      rcases pf_c K pa de b' d' with ⟨h16, hn⟩ | ⟨hlt, g1, g2, g3⟩
      · rw [h16]
        rcases pf_c (upd K s kk) (pa_u pa s b) (pa_u de s d) b' d' with ⟨h, _⟩ | ⟨hlt, g1, g2, g3⟩
        · exact h
        · exfalso
          generalize pf_fd (upd K s kk) (pa_u pa s b) (pa_u de s d) b' d' = j at hlt g1 g2 g3
          by_cases ej : j = s
          · rw [ej, pa_us] at g2 g3
            omega
          · rw [pk_un ej] at g1
            rw [pa_un ej] at g2 g3
            exact hn j hlt ⟨g1, g2, g3⟩
      · generalize pf_fd K pa de b' d' = j at hlt g1 g2 g3
        have ej : j ≠ s := fun z => by rw [z, hKs] at g1; exact g1 rfl
        exact pf_eq T' hlt (by rw [pk_un ej]; exact g1) (by rw [pa_un ej]; exact g2) (by rw [pa_un ej]; exact g3)
    unfold pc_v
    rw [this]
end
section
variable {xbu xho xsp xgr xfo xla xde xcr : Int32} {xki xpa xdv xt0 xt1 xch xas xco xpr xse xsu xba xsz xce xsn xal xpl xns xnu xor xbt xnd xdo : Nat → Int32} {ycd yco yas yre ysn yal ypl : Nat → Int32} {pa de r cd ba sz se su : Nat → Nat} {s b d c0 c1 w0 w1 : Nat} {kk : Int32} {ba' sz' sn' an' ce' : Nat → Int32}
theorem rl_att (R : rl_R pa de r cd ba sz se su xbu xho xsp xgr xfo xla xde xcr xki xpa xdv xt0 xt1 xch xas xco xpr xse xsu xba xsz xce xsn xal xpl xns xnu xor xbt xnd xdo ycd yco yas yre) (hs : s < 16) (hKs : xki s = 0) (hb : pa_B xki b) (hd : d < 8) (hf : pf_fd xki pa de b d = 16) (hkk : (kk = 1 ∧ c0 ≤ 4 ∧ c1 ≤ 4 ∧ w0 = pm_sz c0 ∧ w1 = pm_sz c1) ∨ (kk = 2 ∧ c0 ≤ 3 ∧ c1 ≤ 3 ∧ w0 = 0 ∧ w1 = 0)) (hN : ∀ x, x ≠ s → ∀ e, e < 2 → ba' (2 * x + e) = xba (2 * x + e) ∧ sz' (2 * x + e) = xsz (2 * x + e) ∧ sn' (2 * x + e) = xsn (2 * x + e) ∧ an' (2 * x + e) = xal (2 * x + e)) (hba : ba' (2 * s) = 0 ∧ ba' (2 * s + 1) = 0) (hsz : sz' (2 * s) = nI w0 ∧ sz' (2 * s + 1) = nI w1) (hsn : sn' (2 * s) = nI w0 ∧ sn' (2 * s + 1) = nI w1) (han : an' (2 * s) = nI w0 ∧ an' (2 * s + 1) = nI w1) : rl_R (pa_u pa s b) (pa_u de s d) (pa_u r s (pa_r r b)) (pa_i cd s c0 c1) (pa_i ba s 0 0) (pa_i sz s w0 w1) (pa_u se s 0) (pa_u su s 0) xbu xho xsp xgr xfo xla xde xcr (upd xki s kk) (upd xpa s (pn_b b)) (upd xdv s (nI d)) (upd xt0 s (nI c0)) (upd xt1 s (nI c1)) (upd xch (8 * b + d) (nI s)) (upd xas s 0) (upd xco s 0) (upd xpr s 0) (upd xse s 0) (upd xsu s 0) ba' sz' ce' sn' an' xpl xns xnu xor xbt xnd xdo (upd (upd ycd (2 * s) (nI c0)) (2 * s + 1) (nI c1)) (upd yco s 0) (upd yas s 0) (pa_rc yre s 8) := by
  obtain ⟨C, T, P, hC, CD, tr, cdY, E, M, A⟩ := R
  have hk12 : kk = 1 ∨ kk = 2 := hkk.imp (fun z => z.1) (fun z => z.1)
  have w8 : w0 ≤ 8 ∧ w1 ≤ 8 := by
    rcases hkk with ⟨_, a1, a2, a3, a4⟩ | ⟨_, a1, a2, a3, a4⟩
    · rw [a3, a4]; exact ⟨(pm_sz_p a1).1, (pm_sz_p a2).1⟩
    · omega
  have lv : ∀ j, j ≠ s → upd xki s kk j ≠ 0 → xki j ≠ 0 := fun j hj h => by rw [pk_un hj] at h; exact h
  have ns : ∀ j, xki j ≠ 0 → j ≠ s := fun j h z => h (by rw [z]; exact hKs)
  have up : ∀ j p, j < 16 → xki j ≠ 0 → pa j = p + 1 → p ≠ s := fun j p hj hK hp => by
    rcases pt_up2 T hj hK with e | ⟨q, _, e, _, hqK⟩
    · omega
    · obtain rfl : p = q := by omega
      exact ns p hqK
  refine ⟨C, pa_T T hs hKs hb hd hf hk12, ⟨fun j => ?_, fun j => ?_, fun j hj => ?_⟩, pa_C T hC hs hKs hb hd hf hk12, fun j hj => ?_, fun j hj hK => ?_, fun j hj hK => ?_, fun j hj => ?_, fun j hj hK => ?_, ?_⟩
  · by_cases e : j = s
    · rw [e, pa_us]; exact pa_b16 hb
    · rw [pa_un e]; exact P.1 j
  · by_cases e : j = s
    · rw [e, pa_us]; exact hd
    · rw [pa_un e]; exact P.2.1 j
  · by_cases e : j = s
    · rw [e, pk_us, pk_us, pa_us, pa_us]; exact ⟨rfl, rfl⟩
    · rw [pk_un e, pk_un e, pa_un e, pa_un e]; exact P.2.2 j hj
  · by_cases e : j = s
    · rw [e, pk_us, pa_i0, pa_i1]
      rcases hkk with ⟨a0, a1, a2, _⟩ | ⟨a0, a1, a2, _⟩
      · exact ⟨fun _ => ⟨a1, a2⟩, fun z => by rw [a0] at z; exact absurd z (by decide)⟩
      · exact ⟨fun z => by rw [a0] at z; exact absurd z (by decide), fun _ => ⟨a1, a2⟩⟩
    · have i0 := pa_in (f := cd) (w0 := c0) (w1 := c1) e (show 0 < 2 by omega)
      rw [Nat.add_zero] at i0
      rw [pk_un e, i0, pa_in e (by omega)]
      exact CD j hj
  · by_cases e : j = s
    · rw [e, pk_us, pk_us, pa_i0, pa_i1]; exact ⟨rfl, rfl⟩
    · have i0 := pa_in (f := cd) (w0 := c0) (w1 := c1) e (show 0 < 2 by omega)
      rw [Nat.add_zero] at i0
      rw [pk_un e, pk_un e, i0, pa_in e (by omega)]
      exact tr j hj (lv j e hK)
  · by_cases e : j = s
    · rw [e, pk_us, pk_un (by omega), pk_us, pa_i0, pa_i1]; exact ⟨rfl, rfl⟩
    · have i0 := pa_in (f := cd) (w0 := c0) (w1 := c1) e (show 0 < 2 by omega)
      rw [Nat.add_zero] at i0
      rw [pk_un (by omega), pk_un (by omega), pk_un (by omega), pk_un (by omega), i0, pa_in e (by omega)]
      exact cdY j hj (lv j e hK)
  · by_cases e : j = s
    · rw [e, pk_us]
      rcases hkk with ⟨a0, a1, a2, a3, a4⟩ | ⟨a0, a1, a2, a3, a4⟩
      · refine ⟨fun _ e2 he => ?_, fun z => by rw [a0] at z; exact absurd z (by decide)⟩
        rcases (by omega : e2 = 0 ∨ e2 = 1) with rfl | rfl
        · rw [Nat.add_zero, pa_i0, ← a3]; exact ⟨hsn.1, han.1⟩
        · rw [pa_i1, ← a4]; exact ⟨hsn.2, han.2⟩
      · refine ⟨fun z => by rw [a0] at z; exact absurd z (by decide), fun _ => ?_⟩
        rw [hsn.2, han.2, a4]; exact ⟨rfl, rfl⟩
    · rw [pk_un e]
      refine ⟨fun z e2 he => ?_, fun z => ?_⟩
      · rw [(hN j e e2 he).2.2.1, (hN j e e2 he).2.2.2, pa_in e he]; exact (E j hj).1 z e2 he
      · rw [(hN j e 1 (by omega)).2.2.1, (hN j e 1 (by omega)).2.2.2]; exact (E j hj).2 z
  · by_cases e : j = s
    · subst e
      have rz : ∀ i, i < 8 → pa_rc yre j 8 (8 * j + i) = 0 := fun i hi => if_pos (by omega)
      refine ⟨⟨by rw [pk_us, pk_us], by rw [pk_us, pk_us], by rw [pk_us]; exact Or.inl rfl, fun _ => by rw [pk_us]⟩, fun e2 he => ?_, fun z e2 he => ?_, fun z => ?_⟩
      · rcases (by omega : e2 = 0 ∨ e2 = 1) with rfl | rfl
        · rw [Nat.add_zero, pa_i0, pa_i0]; exact ⟨hba.1, hsz.1, by omega⟩
        · rw [pa_i1, pa_i1]; exact ⟨hba.2, hsz.2, by omega⟩
      · rw [pk_us] at z
        have r0 : pa_rc yre j 8 (8 * j + 2 + e2) = 0 := by rw [Nat.add_assoc]; exact rz (2 + e2) (by omega)
        rw [r0]
        rcases hkk with ⟨_, _, _, a3, a4⟩ | ⟨a0, _⟩
        · rcases (by omega : e2 = 0 ∨ e2 = 1) with rfl | rfl
          · rw [Nat.add_zero, pa_i0, pa_i0, pa_i0]; exact ⟨a3, rfl⟩
          · rw [pa_i1, pa_i1, pa_i1]; exact ⟨a4, rfl⟩
        · rw [a0] at z; exact absurd z (by decide)
      · rw [pk_us] at z
        rcases hkk with ⟨a0, _⟩ | ⟨_, _, _, a3, a4⟩
        · rw [a0] at z; exact absurd z (by decide)
        · rw [pa_i1, pa_i0, pa_i0, pk_us, pk_us, pk_us, pa_us, pa_us, rz 2 (by omega), rz 3 (by omega), rz 4 (by omega), rz 5 (by omega), rz 6 (by omega), a3, a4]
          exact ⟨rfl, rfl, rfl, rfl, rfl, rfl, rfl, rfl⟩
    · have hKj := lv j e hK
      obtain ⟨m1, m2, m3, m4⟩ := M j hj hKj
      have rk : ∀ i, i < 8 → pa_rc yre s 8 (8 * j + i) = yre (8 * j + i) := fun i hi => if_neg (by omega)
      have b0 := pa_in (f := ba) (w0 := 0) (w1 := 0) e (show 0 < 2 by omega)
      have s0 := pa_in (f := sz) (w0 := w0) (w1 := w1) e (show 0 < 2 by omega)
      rw [Nat.add_zero] at b0 s0
      refine ⟨?_, fun e2 he => ?_, fun z e2 he => ?_, fun z => ?_⟩
      · rw [pk_un e, pk_un e, pk_un e, pk_un e]; exact m1
      · rw [(hN j e e2 he).1, (hN j e e2 he).2.1, pa_in e he, pa_in e he]; exact m2 e2 he
      · rw [pk_un e] at z
        rw [pa_in e he, pa_in e he, pa_in e he, Nat.add_assoc, rk (2 + e2) (by omega), ← Nat.add_assoc]; exact m3 z e2 he
      · rw [pk_un e] at z
        rw [pa_in e (by omega), b0, s0, pk_un e, pk_un e, pk_un e, pa_un e, pa_un e, rk 2 (by omega), rk 3 (by omega), rk 4 (by omega), rk 5 (by omega), rk 6 (by omega)]
        exact m4 z
  · have na : ∀ j, upd xas s 0 j ≠ 0 → j ≠ s := fun j h z => h (by rw [z]; exact pk_us)
    have aj : ∀ j, upd xas s 0 j ≠ 0 → xas j ≠ 0 := fun j h => by rw [pk_un (na j h)] at h; exact h
    have p0 : ∀ (f : Nat → Nat) (x0 x1 p : Nat), p ≠ s → pa_i f s x0 x1 (2 * p) = f (2 * p) := fun f x0 x1 p hp => pa_in (e := 0) hp (by omega)
    refine ⟨fun j p hj hK ha hp => ?_, fun j hj hK ha => ?_, fun j j' hj hj' hK hK' ha ha' hp hne => ?_, fun j e p hj hK ha he h0 hp => ?_, fun j e j' e' hj hj' hK hK' ha ha' he he' h0 h0' hp hne => ?_⟩
    · have nj := na j ha
      rw [pa_un nj] at hp
      rw [pk_un (up j p hj (lv j nj hK) hp)]
      exact A.1 j p hj (lv j nj hK) (aj j ha) hp
    · have nj := na j ha
      rw [pk_un nj] at hK
      rw [pa_un nj, pa_un nj]
      obtain ⟨a1, a2, a3, a4⟩ := A.2.1 j hj hK (aj j ha)
      refine ⟨a1, a2, a3, fun p hp => ?_⟩
      rw [pa_un nj] at hp
      have np := up j p hj (by rw [hK]; decide) hp
      rw [pa_un np, pa_un np]
      exact a4 p hp
    · have nj := na j ha
      have nj' := na j' ha'
      rw [pk_un nj] at hK
      rw [pk_un nj'] at hK'
      rw [pa_un nj, pa_un nj'] at hp
      rw [pa_un nj, pa_un nj, pa_un nj', pa_un nj']
      exact A.2.2.1 j j' hj hj' hK hK' (aj j ha) (aj j' ha') hp hne
    · have nj := na j ha
      rw [pa_un nj] at hp
      rw [pa_in nj he] at h0
      have np := up j p hj (lv j nj hK) hp
      rw [pa_in nj he, pa_in nj he, p0 _ _ _ p np, p0 _ _ _ p np]
      exact A.2.2.2.1 j e p hj (lv j nj hK) (aj j ha) he h0 hp
    · have nj := na j ha
      have nj' := na j' ha'
      rw [pa_un nj, pa_un nj'] at hp
      rw [pa_in nj he] at h0
      rw [pa_in nj' he'] at h0'
      rw [pa_in nj he, pa_in nj he, pa_in nj' he', pa_in nj' he']
      exact A.2.2.2.2 j e j' e' hj hj' (lv j nj hK) (lv j' nj' hK') (aj j ha) (aj j' ha') he he' h0 h0' hp hne
end
end
section
/-! attachEndpoint, attachBridge -/
theorem i_vc_attachEndpoint {k : Nat} {u : SX} {v : SY} (I : i_Rel k u v) (hk : k + 5 ≤ 2564) (v1 : Int32) (v2 : Int32) (v3 : Int32) (v4 : Int32) : wpX_attachEndpoint (fun r u' => wpY_attachEndpoint (fun r' v' => r' = r ∧ i_Rel (k + 5) u' v') v v1 v2 v3 v4) u v1 v2 v3 v4 := by
  refine rl_el (P := fun u v => wpX_attachEndpoint (fun r u' => wpY_attachEndpoint (fun r' v' => r' = r ∧ i_Rel (k + 5) u' v') v v1 v2 v3 v4) u v1 v2 v3 v4) ?_ I
  intro xbu xho xsp xgr xfo xla xde xcr xki xpa xdv xt0 xt1 xch xas xco xpr xse xsu xba xsz xce xsn xal xpl xns xnu xor xbt xnd xdo ycd yco yas yre ysn yal ypl pa de r cd ba sz se su R
  have R0 := R
  obtain ⟨C, T, P, hC, CD, tr, cdY, E, M, A⟩ := R0
  by_cases hg : ∃ b d c0 c1, v1 = pn_b b ∧ v2 = nI d ∧ d < 8 ∧ pa_B xki b ∧ v3 = nI c0 ∧ c0 ≤ 4 ∧ v4 = nI c1 ∧ c1 ≤ 4
  · obtain ⟨b, d, c0, c1, e1, e2, hd, hb, e3, h0, e4, h1⟩ := hg
    subst e1 e2 e3 e4
    unfold wpX_attachEndpoint
    refine xw_out (m := 4) (by decide) (fun _ _ _ => br_t rfl (xw_out (m := 4) (by decide) (fun _ _ _ => br_t rfl ?_) (fun hn => absurd rfl (hn c1 h1)))) (fun hn => absurd rfl (hn c0 h0))
    by_cases hf : pf_fd xki pa de b d < 16
    · refine xw_plugbusy hC hb hd hf (br_t (by decide) ?_)
      unfold wpY_attachEndpoint
      exact yw_atbusy (mo := 4) T P hb hd h0 h1 (by omega) hf ⟨rfl, rl_in R⟩
    have hf16 : pf_fd xki pa de b d = 16 := by
      have := pf_le (K := xki) (pa := pa) (de := de) b d
      omega
    rcases pa_free xki 16 with hfull | ⟨s, hs, hKs, hj⟩
    · refine xw_plugfull hC hb hd hf16 hfull (br_t (by decide) ?_)
      unfold wpY_attachEndpoint
      exact yw_atok (mo := 4) T P hb hd h0 h1 (by omega) hf16 (fun _ => ⟨rfl, rl_in R⟩) (fun s hs z => absurd z (hfull s hs))
    · refine xw_plugok hC hb hd hf16 hs hKs hj ?_
      refine br_f (nI_pos (by omega)) (xw_traits hs ?_)
      dsimp only
      rw [pn_lit2, nI_1 (2 * s)]
      refine xw_setBar (by omega) (by omega) ?_
      dsimp only
      refine xw_setBar (by omega) (by omega) ?_
      dsimp only
      have gen : ∀ (f : Nat → Int32) (x0 x1 y0 y1 : Int32), (∀ x, x ≠ s → ∀ e, e < 2 → upd (upd (upd (upd f (2 * s) x0) (2 * s + 1) x1) (2 * s) y0) (2 * s + 1) y1 (2 * x + e) = f (2 * x + e)) ∧ upd (upd (upd (upd f (2 * s) x0) (2 * s + 1) x1) (2 * s) y0) (2 * s + 1) y1 (2 * s) = y0 ∧ upd (upd (upd (upd f (2 * s) x0) (2 * s + 1) x1) (2 * s) y0) (2 * s + 1) y1 (2 * s + 1) = y1 := fun f x0 x1 y0 y1 => ⟨fun x hx e he => by rw [pk_un (by omega), pk_un (by omega), pk_un (by omega), pk_un (by omega)], by rw [pk_un (by omega), pk_us], pk_us⟩
      unfold wpY_attachEndpoint
      refine yw_atok (mo := 4) T P hb hd h0 h1 (by omega) hf16 (fun z => absurd hKs (z s hs)) (fun s' hs' hK' hj' => ?_)
      obtain rfl : s = s' := by
        rcases Nat.lt_trichotomy s s' with e | e | e
        · exact absurd hKs (hj' s e)
        · exact e
        · exact absurd hK' (hj s' e)
      exact ⟨rfl, rl_in (rl_att (w0 := pm_sz c0) (w1 := pm_sz c1) R hs hKs hb hd hf16 (Or.inl ⟨rfl, h0, h1, rfl, rfl⟩) (fun x hx e he => ⟨(gen xba 0 0 0 0).1 x hx e he, (gen xsz 0 0 _ _).1 x hx e he, (gen xsn 0 0 _ _).1 x hx e he, (gen xal 0 0 _ _).1 x hx e he⟩) (gen xba 0 0 0 0).2 (gen xsz 0 0 _ _).2 (gen xsn 0 0 _ _).2 (gen xal 0 0 _ _).2)⟩
  · have yb : wpY_attachEndpoint (fun r' v' => r' = -3 ∧ i_Rel (k + 5) (xbu, xho, xsp, xgr, xfo, xla, xde, xcr, xki, xpa, xdv, xt0, xt1, xch, xas, xco, xpr, xse, xsu, xba, xsz, xce, xsn, xal, xpl, xns, xnu, xor, xbt, xnd, xdo) v') (xbu, xho, xsp, xgr, xki, xpa, xdv, ycd, yco, yas, yre, xce, ysn, yal, ypl) v1 v2 v3 v4 := by
      unfold wpY_attachEndpoint
      exact yw_atbad (mo := 4) hg (by omega) ⟨rfl, rl_in R⟩
    unfold wpX_attachEndpoint
    refine xw_out (m := 4) (by decide) (fun c0 hc0 e3 => br_t rfl (xw_out (m := 4) (by decide) (fun c1 hc1 e4 => br_t rfl ?_) (fun _ => br_f (by decide) yb))) (fun _ => br_f (by decide) yb)
    refine xw_plugbad (fun ⟨b, d, e1, e2, hd, hb⟩ => hg ⟨b, d, c0, c1, e1, e2, hd, hb, e3, hc0, e4, hc1⟩) (br_t (by decide) yb)
theorem i_vc_attachBridge {k : Nat} {u : SX} {v : SY} (I : i_Rel k u v) (hk : k + 5 ≤ 2564) (v1 : Int32) (v2 : Int32) (v3 : Int32) (v4 : Int32) : wpX_attachBridge (fun r u' => wpY_attachBridge (fun r' v' => r' = r ∧ i_Rel (k + 5) u' v') v v1 v2 v3 v4) u v1 v2 v3 v4 := by
  refine rl_el (P := fun u v => wpX_attachBridge (fun r u' => wpY_attachBridge (fun r' v' => r' = r ∧ i_Rel (k + 5) u' v') v v1 v2 v3 v4) u v1 v2 v3 v4) ?_ I
  intro xbu xho xsp xgr xfo xla xde xcr xki xpa xdv xt0 xt1 xch xas xco xpr xse xsu xba xsz xce xsn xal xpl xns xnu xor xbt xnd xdo ycd yco yas yre ysn yal ypl pa de r cd ba sz se su R
  have R0 := R
  obtain ⟨C, T, P, hC, CD, tr, cdY, E, M, A⟩ := R0
  by_cases hg : ∃ b d c0 c1, v1 = pn_b b ∧ v2 = nI d ∧ d < 8 ∧ pa_B xki b ∧ v3 = nI c0 ∧ c0 ≤ 3 ∧ v4 = nI c1 ∧ c1 ≤ 3
  · obtain ⟨b, d, c0, c1, e1, e2, hd, hb, e3, h0, e4, h1⟩ := hg
    subst e1 e2 e3 e4
    unfold wpX_attachBridge
    refine xw_out (m := 3) (by decide) (fun _ _ _ => br_t rfl (xw_out (m := 3) (by decide) (fun _ _ _ => br_t rfl ?_) (fun hn => absurd rfl (hn c1 h1)))) (fun hn => absurd rfl (hn c0 h0))
    by_cases hf : pf_fd xki pa de b d < 16
    · refine xw_plugbusy hC hb hd hf (br_t (by decide) ?_)
      unfold wpY_attachBridge
      exact yw_atbusy (mo := 3) T P hb hd h0 h1 (by omega) hf ⟨rfl, rl_in R⟩
    have hf16 : pf_fd xki pa de b d = 16 := by
      have := pf_le (K := xki) (pa := pa) (de := de) b d
      omega
    rcases pa_free xki 16 with hfull | ⟨s, hs, hKs, hj⟩
    · refine xw_plugfull hC hb hd hf16 hfull (br_t (by decide) ?_)
      unfold wpY_attachBridge
      exact yw_atok (mo := 3) T P hb hd h0 h1 (by omega) hf16 (fun _ => ⟨rfl, rl_in R⟩) (fun s hs z => absurd z (hfull s hs))
    · refine xw_plugok hC hb hd hf16 hs hKs hj ?_
      refine br_f (nI_pos (by omega)) (xw_traits hs ?_)
      dsimp only
      have gen : ∀ (f : Nat → Int32) (x0 x1 : Int32), (∀ x, x ≠ s → ∀ e, e < 2 → upd (upd f (2 * s) x0) (2 * s + 1) x1 (2 * x + e) = f (2 * x + e)) ∧ upd (upd f (2 * s) x0) (2 * s + 1) x1 (2 * s) = x0 ∧ upd (upd f (2 * s) x0) (2 * s + 1) x1 (2 * s + 1) = x1 := fun f x0 x1 => ⟨fun x hx e he => by rw [pk_un (by omega), pk_un (by omega)], by rw [pk_un (by omega), pk_us], pk_us⟩
      unfold wpY_attachBridge
      refine yw_atok (mo := 3) T P hb hd h0 h1 (by omega) hf16 (fun z => absurd hKs (z s hs)) (fun s' hs' hK' hj' => ?_)
      obtain rfl : s = s' := by
        rcases Nat.lt_trichotomy s s' with e | e | e
        · exact absurd hKs (hj' s e)
        · exact e
        · exact absurd hK' (hj s' e)
      exact ⟨rfl, rl_in (rl_att (w0 := 0) (w1 := 0) R hs hKs hb hd hf16 (Or.inr ⟨rfl, h0, h1, rfl, rfl⟩) (fun x hx e he => ⟨(gen xba 0 0).1 x hx e he, (gen xsz 0 0).1 x hx e he, (gen xsn 0 0).1 x hx e he, (gen xal 0 0).1 x hx e he⟩) (gen xba 0 0).2 (gen xsz 0 0).2 (gen xsn 0 0).2 (gen xal 0 0).2)⟩
  · have yb : wpY_attachBridge (fun r' v' => r' = -3 ∧ i_Rel (k + 5) (xbu, xho, xsp, xgr, xfo, xla, xde, xcr, xki, xpa, xdv, xt0, xt1, xch, xas, xco, xpr, xse, xsu, xba, xsz, xce, xsn, xal, xpl, xns, xnu, xor, xbt, xnd, xdo) v') (xbu, xho, xsp, xgr, xki, xpa, xdv, ycd, yco, yas, yre, xce, ysn, yal, ypl) v1 v2 v3 v4 := by
      unfold wpY_attachBridge
      exact yw_atbad (mo := 3) hg (by omega) ⟨rfl, rl_in R⟩
    unfold wpX_attachBridge
    refine xw_out (m := 3) (by decide) (fun c0 hc0 e3 => br_t rfl (xw_out (m := 3) (by decide) (fun c1 hc1 e4 => br_t rfl ?_) (fun _ => br_f (by decide) yb))) (fun _ => br_f (by decide) yb)
    refine xw_plugbad (fun ⟨b, d, e1, e2, hd, hb⟩ => hg ⟨b, d, c0, c1, e1, e2, hd, hb, e3, hc0, e4, hc1⟩) (br_t (by decide) yb)
end
section
/-! removing -/
def pq_m (q : Nat → Int32) : Nat → Nat → Bool
  | 0, _ => false
  | n + 1, c => (q n == nI c) || pq_m q n c
def pq_S (pa : Nat → Nat) (t c : Nat) : Prop := c = t ∨ pt_ab pa (t + 1) (c + 1) = true
def pq_K (K : Nat → Int32) (pa : Nat → Nat) (t : Nat) : Nat → Int32 := fun c => if c < 16 ∧ K c ≠ 0 ∧ (c = t ∨ pt_ab pa (t + 1) (c + 1) = true) then 0 else K c
def pq_n (K : Nat → Int32) (pa : Nat → Nat) (t n : Nat) : Nat := ps_sm n (fun c => if K c ≠ 0 ∧ (c = t ∨ pt_ab pa (t + 1) (c + 1) = true) then 1 else 0)
def pq_I (K : Nat → Int32) (pa de : Nat → Nat) (t i n d : Nat) (q : Nat → Int32) : Prop := 1 ≤ n ∧ q 0 = nI t ∧ (∀ j, j < n → ∃ c, c < 16 ∧ q j = nI c ∧ K c ≠ 0 ∧ pq_S pa t c) ∧ (∀ j j', j < n → j' < n → q j = q j' → j = j') ∧ (∀ c p, c < 16 → K c ≠ 0 → c ≠ t → pa c = p + 1 → ((∃ j, j < n ∧ q j = nI c) ↔ (∃ j, j < i ∧ q j = nI p) ∨ (q i = nI p ∧ de c < d)))
section
variable {K : Nat → Int32} {pa de r : Nat → Nat} {t i n d : Nat} {q : Nat → Int32}
theorem pq_iff (q : Nat → Int32) (c : Nat) : ∀ n, pq_m q n c = true ↔ ∃ j, j < n ∧ q j = nI c := by
  intro n
  induction n with
  | zero => exact ⟨fun h => by simp [pq_m] at h, fun ⟨j, hj, _⟩ => by omega⟩
  | succ n ih =>
    rw [pq_m, Bool.or_eq_true, beq_iff_eq, ih]
    constructor
    · rintro (h | ⟨j, hj, h⟩)
      · exact ⟨n, by omega, h⟩
      · exact ⟨j, by omega, h⟩
    · rintro ⟨j, hj, h⟩
      by_cases e : j = n
      · rw [e] at h; exact Or.inl h
      · exact Or.inr ⟨j, by omega, h⟩
theorem pq_cnt (q : Nat → Int32) : ∀ n, (∀ j, j < n → ∃ c, c < 16 ∧ q j = nI c) → (∀ j j', j < n → j' < n → q j = q j' → j = j') → ps_sm 16 (fun c => if pq_m q n c = true then 1 else 0) = n := by
  intro n
  induction n with
  | zero => intro _ _; exact ps_z fun c _ => if_neg (by simp [pq_m])
  | succ n ih =>
    intro h1 h2
    have I := ih (fun j hj => h1 j (by omega)) (fun j j' hj hj' => h2 j j' (by omega) (by omega))
    obtain ⟨c, hc, e⟩ := h1 n (by omega)
    have nn : ¬ pq_m q n c = true := by
      rw [pq_iff]
      rintro ⟨j, hj, e2⟩
      have := h2 j n (by omega) (by omega) (by rw [e, e2])
      omega
    rw [ps_split _ hc] at I ⊢
    have e1 : (if pq_m q n c = true then 1 else 0) = 0 := if_neg nn
    have e2 : (if pq_m q (n + 1) c = true then 1 else 0) = 1 := if_pos ((pq_iff q c (n + 1)).mpr ⟨n, by omega, e⟩)
    have e3 : ps_sm 16 (fun x => if x = c then 0 else if pq_m q (n + 1) x = true then 1 else 0) = ps_sm 16 (fun x => if x = c then 0 else if pq_m q n x = true then 1 else 0) := by
      refine ps_congr fun x hx => ?_
      by_cases ex : x = c
      · rw [if_pos ex, if_pos ex]
      · rw [if_neg ex, if_neg ex, pq_m]
        have : (q n == nI x) = false := by
          rw [e]
          refine beq_eq_false_iff_ne.mpr fun z => ex ?_
          exact ((nI_eq (by omega) (by omega)).mp z).symm
        rw [this, Bool.false_or]
    rw [e1] at I
    rw [e2, e3]
    omega
theorem pq_le (I : pq_I K pa de t i n d q) : n ≤ 16 := by
  have := pq_cnt q n (fun j hj => by
    obtain ⟨c, hc, e, _⟩ := I.2.2.1 j hj
    exact ⟨c, hc, e⟩) I.2.2.2.1
  rw [← this]
  exact Nat.le_trans (ps_le_n 1 fun c _ => by
    by_cases h : pq_m q n c = true
    · rw [if_pos h]; exact Nat.le_refl _
    · rw [if_neg h]; omega) (by omega)
theorem pq_lt (I : pq_I K pa de t i n d q) {c : Nat} (hc : c < 16) (hn : ¬ ∃ j, j < n ∧ q j = nI c) : n < 16 := by
  have := pq_cnt q n (fun j hj => by
    obtain ⟨c, hc, e, _⟩ := I.2.2.1 j hj
    exact ⟨c, hc, e⟩) I.2.2.2.1
  rw [ps_split _ hc] at this
  have e1 : (if pq_m q n c = true then 1 else 0) = 0 := if_neg fun z => hn ((pq_iff q c n).mp z)
  rw [e1] at this
  have h1 := ps_split (fun _ => 1) hc
  rw [ps_const] at h1
  have h2 : ps_sm 16 (fun x => if x = c then 0 else if pq_m q n x = true then 1 else 0) ≤ ps_sm 16 (fun x => if x = c then 0 else 1) := by
    refine ps_le fun x _ => ?_
    by_cases ex : x = c
    · rw [if_pos ex, if_pos ex]; exact Nat.le_refl _
    · rw [if_neg ex, if_neg ex]
      by_cases hb : pq_m q n x = true
      · rw [if_pos hb]; exact Nat.le_refl _
      · rw [if_neg hb]; omega
  omega
/-- a child of the queue's bus is new -/
theorem pq_new (T : pt_T K pa de r) (ht : t < 16) (htK : K t ≠ 0) (I : pq_I K pa de t i n d q) (hi : i < n) {c p : Nat} (hp : q i = nI p) (hp16 : p < 16) (hc : c < 16) (hcK : K c ≠ 0) (hcp : pa c = p + 1) (hd : de c = d) : c ≠ t ∧ pq_S pa t c ∧ ¬ ∃ j, j < n ∧ q j = nI c := by
  obtain ⟨p', hp', e, hpK, hS⟩ := I.2.2.1 i hi
  obtain rfl : p = p' := (nI_eq (by omega) (by omega)).mp (hp.symm.trans e)
  have hpc : pt_ab pa (p + 1) (c + 1) = true := (pt_st T hc hcK).mpr (Or.inl hcp.symm)
  have hSc : pt_ab pa (t + 1) (c + 1) = true := by
    rcases hS with e2 | e2
    · rw [← e2]; exact hpc
    · exact pt_tr T e2 c hc hcK hpc
  have hct : c ≠ t := fun z => by
    rw [z] at hSc
    exact pt_irr T ht htK hSc
  refine ⟨hct, Or.inr hSc, fun h => ?_⟩
  rcases (I.2.2.2.2 c p hc hcK hct hcp).mp h with ⟨j, hj, e2⟩ | ⟨_, e2⟩
  · have := I.2.2.2.1 j i (by omega) hi (by rw [e2, hp])
    omega
  · omega
theorem pq_add (T : pt_T K pa de r) (ht : t < 16) (htK : K t ≠ 0) (I : pq_I K pa de t i n d q) (hi : i < n) {c p : Nat} (hp : q i = nI p) (hp16 : p < 16) (hc : c < 16) (hcK : K c ≠ 0) (hcp : pa c = p + 1) (hd : de c = d) : pq_I K pa de t i (n + 1) (d + 1) (upd q n (nI c)) := by
  obtain ⟨hct, hS, hnew⟩ := pq_new T ht htK I hi hp hp16 hc hcK hcp hd
  obtain ⟨i1, i2, i3, i4, i5⟩ := I
  have old : ∀ j, j < n → upd q n (nI c) j = q j := fun j hj => pk_un (by omega)
  refine ⟨by omega, by rw [old 0 (by omega)]; exact i2, fun j hj => ?_, fun j j' hj hj' e => ?_, fun c' p' hc' hcK' hct' hcp' => ?_⟩
  · by_cases e : j = n
    · rw [e, pk_us]; exact ⟨c, hc, rfl, hcK, hS⟩
    · rw [old j (by omega)]; exact i3 j (by omega)
  · by_cases e1 : j = n
    · by_cases e2 : j' = n
      · rw [e1, e2]
      · exfalso
        rw [e1, pk_us, old j' (by omega)] at e
        exact hnew ⟨j', by omega, e.symm⟩
    · by_cases e2 : j' = n
      · exfalso
        rw [e2, pk_us, old j (by omega)] at e
        exact hnew ⟨j, by omega, e⟩
      · rw [old j (by omega), old j' (by omega)] at e
        exact i4 j j' (by omega) (by omega) e
  · have L : (∃ j, j < n + 1 ∧ upd q n (nI c) j = nI c') ↔ c' = c ∨ ∃ j, j < n ∧ q j = nI c' := by
      constructor
      · rintro ⟨j, hj, e⟩
        by_cases ej : j = n
        · rw [ej, pk_us] at e
          exact Or.inl ((nI_eq (by omega) (by omega)).mp e).symm
        · rw [old j (by omega)] at e
          exact Or.inr ⟨j, by omega, e⟩
      · rintro (e | ⟨j, hj, e⟩)
        · exact ⟨n, by omega, by rw [pk_us, e]⟩
        · exact ⟨j, by omega, by rw [old j hj]; exact e⟩
    have Rr : (∃ j, j < i ∧ upd q n (nI c) j = nI p') ↔ ∃ j, j < i ∧ q j = nI p' := by
      constructor
      · rintro ⟨j, hj, e⟩
        exact ⟨j, hj, by rw [old j (by omega)] at e; exact e⟩
      · rintro ⟨j, hj, e⟩
        exact ⟨j, hj, by rw [old j (by omega)]; exact e⟩
    rw [L, Rr, old i hi, i5 c' p' hc' hcK' hct' hcp']
    constructor
    · rintro (e | e | ⟨e1, e2⟩)
      · subst e
        obtain rfl : p = p' := by omega
        exact Or.inr ⟨hp, by omega⟩
      · exact Or.inl e
      · exact Or.inr ⟨e1, by omega⟩
    · rintro (e | ⟨e1, e2⟩)
      · exact Or.inr (Or.inl e)
      · by_cases ed : de c' = d
        · left
          have hp' : p' < 16 := by
            rcases pt_up2 T hc' hcK' with x | ⟨y, hy, x, _⟩
            · omega
            · omega
          obtain rfl : p = p' := (nI_eq (by omega) (by omega)).mp (hp.symm.trans e1)
          exact T.2.2.2.2 c' c hc' hc hcK' hcK (by rw [hcp, hcp']) (by rw [hd, ed])
        · exact Or.inr (Or.inr ⟨e1, by omega⟩)
theorem pq_skip (T : pt_T K pa de r) (I : pq_I K pa de t i n d q) {p : Nat} (hp : q i = nI p) (hp16 : p < 16) (hf : pf_fd K pa de (p + 1) d = 16) : pq_I K pa de t i n (d + 1) q := by
  obtain ⟨i1, i2, i3, i4, i5⟩ := I
  refine ⟨i1, i2, i3, i4, fun c' p' hc' hcK' hct' hcp' => ?_⟩
  rw [i5 c' p' hc' hcK' hct' hcp']
  constructor
  · rintro (e | ⟨e1, e2⟩)
    · exact Or.inl e
    · exact Or.inr ⟨e1, by omega⟩
  · rintro (e | ⟨e1, e2⟩)
    · exact Or.inl e
    · refine Or.inr ⟨e1, ?_⟩
      by_cases ed : de c' = d
      · exfalso
        have hp' : p' < 16 := by
          rcases pt_up2 T hc' hcK' with x | ⟨y, hy, x, _⟩
          · omega
          · omega
        obtain rfl : p = p' := (nI_eq (by omega) (by omega)).mp (hp.symm.trans e1)
        have := pf_eq T hc' hcK' hcp' ed
        omega
      · omega
theorem pq_next (T : pt_T K pa de r) (I : pq_I K pa de t i n 8 q) : pq_I K pa de t (i + 1) n 0 q := by
  obtain ⟨i1, i2, i3, i4, i5⟩ := I
  refine ⟨i1, i2, i3, i4, fun c p hc hcK hct hcp => ?_⟩
  rw [i5 c p hc hcK hct hcp]
  have := T.2.2.1 c
  constructor
  · rintro (⟨j, hj, e⟩ | ⟨e1, _⟩)
    · exact Or.inl ⟨j, by omega, e⟩
    · exact Or.inl ⟨i, by omega, e1⟩
  · rintro (⟨j, hj, e⟩ | ⟨_, e2⟩)
    · by_cases ej : j = i
      · rw [ej] at e; exact Or.inr ⟨e, this⟩
      · exact Or.inl ⟨j, by omega, e⟩
    · omega
/-- the finished queue holds exactly what goes -/
theorem pq_all (T : pt_T K pa de r) (I : pq_I K pa de t n n 0 q) {c : Nat} (hc : c < 16) (hcK : K c ≠ 0) : pq_m q n c = true ↔ pq_S pa t c := by
  rw [pq_iff]
  obtain ⟨i1, i2, i3, i4, i5⟩ := I
  constructor
  · rintro ⟨j, hj, e⟩
    obtain ⟨c', hc', e', _, hS⟩ := i3 j hj
    obtain rfl : c = c' := (nI_eq (by omega) (by omega)).mp (e.symm.trans e')
    exact hS
  · have key : ∀ s, s < 16 → K s ≠ 0 → pq_S pa t s → ∃ j, j < n ∧ q j = nI s := by
      refine pt_ind T (fun s hs hK h => ?_) (fun s p hs hK h hp h2 hpK ih => ?_)
      · rintro (e | e)
        · exact ⟨0, by omega, by rw [e]; exact i2⟩
        · exfalso
          rcases (pt_st T hs hK).mp e with x | x
          · omega
          · rw [h, pt_a0] at x; omega
      · intro hS
        by_cases est : s = t
        · exact ⟨0, by omega, by rw [est]; exact i2⟩
        · rw [i5 s p hs hK est h]
          rcases hS with e | e
          · exact absurd e est
          · refine Or.inl (ih ?_)
            rcases (pt_st T hs hK).mp e with x | x
            · rw [h] at x; exact Or.inl (by omega)
            · rw [h] at x; exact Or.inr x
    exact key c hc hcK
theorem pq_num (T : pt_T K pa de r) (I : pq_I K pa de t n n 0 q) : pq_n K pa t 16 = n := by
  have := pq_cnt q n (fun j hj => by
    obtain ⟨c, hc, e, _⟩ := I.2.2.1 j hj
    exact ⟨c, hc, e⟩) I.2.2.2.1
  rw [← this]
  unfold pq_n
  refine ps_congr fun c hc => ?_
  by_cases hK : K c ≠ 0
  · by_cases h : pq_m q n c = true
    · rw [if_pos h, if_pos ⟨hK, (pq_all T I hc hK).mp h⟩]
    · rw [if_neg h, if_neg fun z => h ((pq_all T I hc hK).mpr z.2)]
  · rw [if_neg fun z => hK z.1, if_neg]
    intro z
    obtain ⟨j, hj, e⟩ := (pq_iff q c n).mp z
    obtain ⟨c', hc', e', hK', _⟩ := I.2.2.1 j hj
    obtain rfl : c = c' := (nI_eq (by omega) (by omega)).mp (e.symm.trans e')
    exact hK hK'
/-- kinds after j of the queue are gone -/
def pq_kj (K q : Nat → Int32) (j : Nat) : Nat → Int32 := fun c => if c < 16 ∧ pq_m q j c = true then 0 else K c
theorem pq_kj0 (K q : Nat → Int32) : pq_kj K q 0 = K := by
  funext c
  exact if_neg fun z => by simp [pq_m] at z
theorem pq_kjs (K q : Nat → Int32) {j c : Nat} (hc : c < 16) (h : q j = nI c) : upd (pq_kj K q j) c 0 = pq_kj K q (j + 1) := by
  funext x
  unfold pq_kj
  by_cases e : x = c
  · rw [e, pk_us, if_pos ⟨hc, (pq_iff q c (j + 1)).mpr ⟨j, by omega, h⟩⟩]
  · rw [pk_un e]
    by_cases hx : x < 16
    · have : pq_m q (j + 1) x = pq_m q j x := by
        rw [pq_m, h]
        have : (nI c == nI x) = false := beq_eq_false_iff_ne.mpr fun z => e ((nI_eq (by omega) (by omega)).mp z).symm
        rw [this, Bool.false_or]
      rw [this]
    · rw [if_neg fun z => hx z.1, if_neg fun z => hx z.1]
theorem pq_kjn (T : pt_T K pa de r) (I : pq_I K pa de t n n 0 q) : pq_kj K q n = pq_K K pa t := by
  funext c
  unfold pq_kj pq_K
  by_cases hc : c < 16
  · by_cases hK : K c ≠ 0
    · by_cases h : pq_m q n c = true
      · rw [if_pos ⟨hc, h⟩, if_pos ⟨hc, hK, (pq_all T I hc hK).mp h⟩]
      · rw [if_neg fun z => h z.2, if_neg fun z => h ((pq_all T I hc hK).mpr z.2.2)]
    · have hK0 : K c = 0 := Decidable.of_not_not hK
      by_cases h : c < 16 ∧ pq_m q n c = true
      · rw [if_pos h, if_neg (fun z => hK z.2.1), hK0]
      · rw [if_neg h, if_neg (fun z => hK z.2.1)]
  · rw [if_neg fun z => hc z.1, if_neg fun z => hc z.1]
end
end
section
/-! remove: the walks, the relation -/
section
variable {xbu xho xsp xgr xfo xla xde xcr : Int32} {xki xpa xdv xt0 xt1 xch xas xco xpr xse xsu xba xsz xce xsn xal xpl xns xnu xor xbt xnd xdo : Nat → Int32} {pa de r : Nat → Nat} {t : Nat}
theorem xw_qc {post : Int32 → SX → Prop} {i p : Nat} (T : pt_T xki pa de r) (hC : pc_C xki pa de xch) (ht : t < 16) (htK : xki t ≠ 0) (hp16 : p < 16) : ∀ m d n q, d ≤ 8 → 8 - d < m → i < n → q i = nI p → pq_I xki pa de t i n d q → (∀ n' q', i < n' → pq_I xki pa de t i n' 8 q' → post (nI n') (xbu, xho, xsp, xgr, xfo, xla, xde, xcr, xki, xpa, xdv, xt0, xt1, xch, xas, xco, xpr, xse, xsu, xba, xsz, xce, xsn, xal, xpl, xns, xnu, xor, xbt, xnd, q')) → wX_queueChildren_5 post (nI p) xbu xho xsp xgr xfo xla xde xcr m (nI n) (nI d) xki xpa xdv xt0 xt1 xch xas xco xpr xse xsu xba xsz xce xsn xal xpl xns xnu xor xbt xnd q := by
  intro m
  induction m with
  | zero => intro d n q a b; omega
  | succ m ih =>
    intro d n q hd hm hi hp I h
    have hn := pq_le I
    by_cases h8 : d = 8
    · subst h8
      exact br_t (nI_le (a := 8) (b := 8) (by omega) (by decide)) (h n q hi I)
    · refine br_f (nI_ge (b := 8) (by omega) (by decide)) (xw_node (b := p + 1) hC (by omega) (by omega) (fun c hc hf => br_f (nI_pos (by omega)) ?_) (fun hf => br_t pn_neg1 (nm_r (nI_1 d) (ih (d + 1) n q (by omega) (by omega) hi hp (pq_skip T I hp hp16 hf) h))))
      have f := pf_i (K := xki) (pa := pa) (de := de) (b := p + 1) (d := d) (by rw [hf]; exact hc)
      rw [hf] at f
      have nw := pq_new T ht htK I hi hp hp16 hc f.1 f.2.1 f.2.2
      have n16 := pq_lt I hc nw.2.2
      refine br_f (nI_ge (b := 16) (by omega) (by decide)) ⟨vp_in_nI n16 (by decide), nm_r (e' := upd q n (nI c)) (by rw [nI_clamp (by omega)]) (nm_r (nI_1 n) (nm_r (nI_1 d) (ih (d + 1) (n + 1) _ (by omega) (by omega) (by omega) ?_ (pq_add T ht htK I hi hp hp16 hc f.1 f.2.1 f.2.2) h)))⟩
      rw [pk_un (by omega)]; exact hp
theorem xw_rm64 {post : Int32 → SX → Prop} {n : Nat} {q : Nat → Int32} (T : pt_T xki pa de r) (hP : py_P pa de xpa xdv) (hC : pc_C xki pa de xch) (hn : n ≤ 16) (hq : ∀ j, j < n → ∃ c, c < 16 ∧ q j = nI c ∧ xki c ≠ 0) (h : ∀ ch', (∀ b d, b ≤ 16 → d < 8 → ch' (8 * b + d) = if pf_fd xki pa de b d < 16 ∧ pq_m q n (pf_fd xki pa de b d) = true then -1 else pc_v xki pa de b d) → post (nI n) (xbu, xho, xsp, xgr, xfo, xla, xde, xcr, pq_kj xki q n, xpa, xdv, xt0, xt1, ch', xas, xco, xpr, xse, xsu, xba, xsz, xce, xsn, xal, xpl, xns, xnu, xor, xbt, xnd, q)) : ∀ m j ch', j ≤ n → n - j < m → (∀ b d, b ≤ 16 → d < 8 → ch' (8 * b + d) = if pf_fd xki pa de b d < 16 ∧ pq_m q j (pf_fd xki pa de b d) = true then -1 else pc_v xki pa de b d) → wX_remove_64 post (nI n) m (nI j) xbu xho xsp xgr xfo xla xde xcr (pq_kj xki q j) xpa xdv xt0 xt1 ch' xas xco xpr xse xsu xba xsz xce xsn xal xpl xns xnu xor xbt xnd q := by
  intro m
  induction m with
  | zero => intro j ch' a b; omega
  | succ m ih =>
    intro j ch' hj hm hch
    by_cases e : j = n
    · subst e
      exact br_t (nI_le (Nat.le_refl _) (by omega)) (h ch' hch)
    · obtain ⟨c, hc, hqc, hcK⟩ := hq j (by omega)
      have hcl : (nI c).toNatClampNeg = c := nI_clamp (by omega)
      have hin : vp_in (nI c) 16 := vp_in_nI hc (by decide)
      have hpc := hP.2.2 c hc
      have hp16 := hP.1 c
      have hd8 := hP.2.1 c
      refine br_f (nI_ge (by omega) (by omega)) ⟨vp_in_nI (by omega) (by decide), ?_⟩
      rw [nI_clamp (by omega), hqc]
      unfold wpX_unplug
      dsimp only
      rw [hcl, hpc.1, hpc.2, pn_node, nI_clamp (show 8 * pa c + de c < 2 ^ 31 by omega)]
      refine ⟨hin, hin, vp_in_nI (by omega) (by decide), nm_e ⟨hin, nm_r (pq_kjs xki q hc hqc) (nm_r (nI_1 j) (ih (j + 1) _ (by omega) (by omega) fun b d hb hd => ?_))⟩⟩
      have hfc := pf_at T hc hcK
      by_cases e2 : 8 * b + d = 8 * pa c + de c
      · obtain rfl : b = pa c := by omega
        obtain rfl : d = de c := by omega
        rw [pk_us, hfc, if_pos ⟨hc, (pq_iff q c (j + 1)).mpr ⟨j, by omega, hqc⟩⟩]
      · rw [pk_un e2, hch b d hb hd]
        by_cases hF : pf_fd xki pa de b d < 16
        · have f := pf_i hF
          have hne : pf_fd xki pa de b d ≠ c := fun z => by
            rw [z] at f
            rw [f.2.1, f.2.2] at e2
            exact e2 rfl
          have : pq_m q (j + 1) (pf_fd xki pa de b d) = pq_m q j (pf_fd xki pa de b d) := by
            rw [pq_m, hqc]
            have : (nI c == nI (pf_fd xki pa de b d)) = false := beq_eq_false_iff_ne.mpr fun z => hne ((nI_eq (by omega) (by omega)).mp z).symm
            rw [this, Bool.false_or]
          rw [this]
        · rw [if_neg fun z => hF z.1, if_neg fun z => hF z.1]
theorem xw_rm33 {post : Int32 → SX → Prop} (T : pt_T xki pa de r) (hC : pc_C xki pa de xch) (ht : t < 16) (htK : xki t ≠ 0) (h : ∀ n q, pq_I xki pa de t n n 0 q → ∃ n64, wX_remove_64 post (nI n) n64 0 xbu xho xsp xgr xfo xla xde xcr xki xpa xdv xt0 xt1 xch xas xco xpr xse xsu xba xsz xce xsn xal xpl xns xnu xor xbt xnd q) : ∀ m i n q, i ≤ n → 16 - i < m → i ≤ 16 → pq_I xki pa de t i n 0 q → wX_remove_33 post m (nI n) (nI i) xbu xho xsp xgr xfo xla xde xcr xki xpa xdv xt0 xt1 xch xas xco xpr xse xsu xba xsz xce xsn xal xpl xns xnu xor xbt xnd q := by
  intro m
  induction m with
  | zero => intro i n q a b; omega
  | succ m ih =>
    intro i n q hi hm hi16 I
    have hn := pq_le I
    by_cases h16 : i = 16
    · obtain rfl : n = i := by omega
      refine br_t (nI_le (a := 16) (by omega) (by omega)) (h n q I)
    · refine br_f (nI_ge (b := 16) (by omega) (by decide)) ?_
      by_cases hin : i = n
      · subst hin
        exact br_t (nI_le (Nat.le_refl _) (by omega)) (h i q I)
      · refine br_f (nI_ge (by omega) (by omega)) ⟨vp_in_nI (by omega) (by decide), ?_⟩
        obtain ⟨p, hp, e, _⟩ := I.2.2.1 i (by omega)
        rw [nI_clamp (by omega), e]
        unfold wpX_queueChildren
        refine ⟨9, ?_⟩
        exact xw_qc T hC ht htK hp 9 0 n q (by omega) (by omega) (by omega) e I (fun n' q' hi' I' => nm_r (nI_1 i) (ih (i + 1) n' q' (by omega) (by omega) (by omega) (pq_next T I')))
end
section
variable {ybc yho yhw yg : Int32} {yki ypa ydv ycd yco yas yre yce ysn yal ypl : Nat → Int32} {pa de r : Nat → Nat} {t : Nat}
def pq_ki (K : Nat → Int32) (pa : Nat → Nat) (t i : Nat) : Nat → Int32 := fun c => if c < i ∧ K c ≠ 0 ∧ (c = t ∨ pt_ab pa (t + 1) (c + 1) = true) then 0 else K c
theorem pq_kis {K : Nat → Int32} {pa : Nat → Nat} {t i : Nat} (h : K i ≠ 0 ∧ (i = t ∨ pt_ab pa (t + 1) (i + 1) = true)) : upd (pq_ki K pa t i) i 0 = pq_ki K pa t (i + 1) := by
  funext c
  unfold pq_ki
  by_cases e : c = i
  · rw [e, pk_us, if_pos ⟨by omega, h⟩]
  · rw [pk_un e]
    by_cases hc : c < i
    · have hc1 : c < i + 1 := by omega
      simp only [hc, hc1, true_and]
    · rw [if_neg fun z => hc z.1, if_neg fun z => hc (by omega)]
theorem pq_kin {K : Nat → Int32} {pa : Nat → Nat} {t i : Nat} (h : ¬ (K i ≠ 0 ∧ (i = t ∨ pt_ab pa (t + 1) (i + 1) = true))) : pq_ki K pa t i = pq_ki K pa t (i + 1) := by
  funext c
  unfold pq_ki
  by_cases e : c = i
  · rw [e, if_neg fun z => h z.2, if_neg fun z => h z.2]
  · by_cases hc : c < i
    · have hc1 : c < i + 1 := by omega
      simp only [hc, hc1, true_and]
    · rw [if_neg fun z => hc z.1, if_neg fun z => hc (by omega)]
theorem yw_rm15 {post : Int32 → SY → Prop} (hP : py_P pa de ypa ydv) (ht : t < 16) (h : post (nI (pq_n yki pa t 16)) (ybc, yho, yhw, yg, pq_ki yki pa t 16, ypa, ydv, ycd, yco, yas, yre, yce, ysn, yal, ypl)) : ∀ m i, i ≤ 16 → 16 - i < m → wY_remove_15 post (nI t) ybc yho yhw yg m (nI (pq_n yki pa t i)) (nI i) (pq_ki yki pa t i) ypa ydv ycd yco yas yre yce ysn yal ypl := by
  intro m
  induction m with
  | zero => intro i a b; omega
  | succ m ih =>
    intro i hi hm
    by_cases h16 : i = 16
    · subst h16
      exact br_t (nI_le (a := 16) (b := 16) (by omega) (by decide)) h
    · have I := ih (i + 1) (by omega) (by omega)
      have hin : vp_in (nI i) 16 := vp_in_nI (by omega) (by decide)
      have hki : pq_ki yki pa t i i = yki i := if_neg fun z => by omega
      unfold pq_n at I ⊢
      rw [ps_s] at I
      refine br_f (nI_ge (b := 16) (by omega) (by decide)) ⟨hin, ?_⟩
      rw [nI_clamp (by omega), hki]
      refine br_c (fun hK => nm_r (nI_1 i) ?_) (fun hK => br_c (fun e => ?_) (fun e => ?_))
      · have hn : ¬ (yki i ≠ 0 ∧ (i = t ∨ pt_ab pa (t + 1) (i + 1) = true)) := fun z => z.1 hK
        rw [if_neg hn, ← pq_kin hn] at I
        exact I
      · have e2 : i = t := (nI_eq (by omega) (by omega)).mp e
        have hy : yki i ≠ 0 ∧ (i = t ∨ pt_ab pa (t + 1) (i + 1) = true) := ⟨hK, Or.inl e2⟩
        rw [if_pos hy] at I
        unfold wY_remove_44
        rw [nI_clamp (by omega)]
        exact ⟨hin, nm_r (pq_kis hy) (nm_r (nI_1 _) (nm_r (nI_1 i) I))⟩
      · have ne : ¬ i = t := fun z => e (by rw [z])
        refine yw_aboveC (b := t + 1) (c := i + 1) hP (by omega) (by omega) (fun z => br_f (by decide) ?_) (fun z => br_t rfl (nm_r (nI_1 i) ?_))
        · have hy : yki i ≠ 0 ∧ (i = t ∨ pt_ab pa (t + 1) (i + 1) = true) := ⟨hK, Or.inr z⟩
          rw [if_pos hy] at I
          unfold wY_remove_44
          rw [nI_clamp (by omega)]
          exact ⟨hin, nm_r (pq_kis hy) (nm_r (nI_1 _) (nm_r (nI_1 i) I))⟩
        · have hn : ¬ (yki i ≠ 0 ∧ (i = t ∨ pt_ab pa (t + 1) (i + 1) = true)) := fun y => y.2.elim ne z
          rw [if_neg hn, ← pq_kin hn] at I
          exact I
end
section
variable {K K' : Nat → Int32} {pa de r cd ba sz se su : Nat → Nat} {t : Nat}
theorem pq_Kc (c : Nat) : pq_K K pa t c = K c ∨ pq_K K pa t c = 0 := by
  unfold pq_K
  by_cases h : c < 16 ∧ K c ≠ 0 ∧ (c = t ∨ pt_ab pa (t + 1) (c + 1) = true)
  · rw [if_pos h]; exact Or.inr rfl
  · rw [if_neg h]; exact Or.inl rfl
theorem pq_Kl {c : Nat} (h : pq_K K pa t c ≠ 0) : pq_K K pa t c = K c := (pq_Kc c).resolve_right h
theorem pq_Kn {c : Nat} (hc : c < 16) (h : pq_K K pa t c ≠ 0) : ¬ pq_S pa t c := by
  intro hS
  have e := pq_Kl h
  refine h ?_
  unfold pq_K
  exact if_pos ⟨hc, by rw [← e]; exact h, hS⟩
theorem pq_Ky {c : Nat} (h : ¬ pq_S pa t c) : pq_K K pa t c = K c := if_neg fun z => h z.2.2
theorem pq_up (T : pt_T K pa de r) {c p : Nat} (hc : c < 16) (h : pq_K K pa t c ≠ 0) (hp : pa c = p + 1) : ¬ pq_S pa t p := by
  intro hS
  have hK : K c ≠ 0 := by rw [← pq_Kl h]; exact h
  refine pq_Kn hc h (Or.inr ((pt_st T hc hK).mpr ?_))
  rw [hp]
  rcases hS with e | e
  · exact Or.inl (by rw [e])
  · exact Or.inr e
theorem pq_T (T : pt_T K pa de r) : pt_T (pq_K K pa t) pa de r := by
  refine ⟨fun s hs => ?_, T.2.1, T.2.2.1, fun s hs hK => ?_, fun s s' hs hs' hK hK' => ?_⟩
  · rcases pq_Kc (K := K) (pa := pa) (t := t) s with e | e
    · rw [e]; exact T.1 s hs
    · exact Or.inl e
  · have hK0 : K s ≠ 0 := by rw [← pq_Kl hK]; exact hK
    rcases T.2.2.2.1 s hs hK0 with h | ⟨p, hp, h1, h2, h3⟩
    · exact Or.inl h
    · exact Or.inr ⟨p, hp, h1, by rw [pq_Ky (pq_up T hs hK h1)]; exact h2, h3⟩
  · exact T.2.2.2.2 s s' hs hs' (by rw [← pq_Kl hK]; exact hK) (by rw [← pq_Kl hK']; exact hK')
theorem pq_C {ch' q : Nat → Int32} {n : Nat} (T : pt_T K pa de r) (I : pq_I K pa de t n n 0 q) (h : ∀ b d, b ≤ 16 → d < 8 → ch' (8 * b + d) = if pf_fd K pa de b d < 16 ∧ pq_m q n (pf_fd K pa de b d) = true then -1 else pc_v K pa de b d) : pc_C (pq_K K pa t) pa de ch' := by
  intro b d hb hd
  rw [h b d hb hd]
  have T' := pq_T (t := t) T
  unfold pc_v
  rcases pf_c K pa de b d with ⟨h16, hn⟩ | ⟨hlt, g1, g2, g3⟩
  · have e : pf_fd (pq_K K pa t) pa de b d = 16 := by
      rcases pf_c (pq_K K pa t) pa de b d with ⟨x, _⟩ | ⟨x, y1, y2, y3⟩
      · exact x
      · exact absurd ⟨by rw [← pq_Kl y1]; exact y1, y2, y3⟩ (hn _ x)
    rw [h16, e, if_neg (by omega)]
  · by_cases hq : pq_m q n (pf_fd K pa de b d) = true
    · rw [if_pos ⟨hlt, hq⟩]
      have hS := (pq_all T I hlt g1).mp hq
      have e : ¬ pf_fd (pq_K K pa t) pa de b d < 16 := by
        intro x
        obtain ⟨y1, y2, y3⟩ := pf_i x
        have y1' := y1
        rw [pq_Kl y1] at y1'
        have := pf_eq T x y1' y2 y3
        rw [this] at hS
        exact pq_Kn x y1 hS
      rw [if_neg e]
    · have hS : ¬ pq_S pa t (pf_fd K pa de b d) := fun z => hq ((pq_all T I hlt g1).mpr z)
      have e : pf_fd (pq_K K pa t) pa de b d = pf_fd K pa de b d := pf_eq T' hlt (by rw [pq_Ky hS]; exact g1) g2 g3
      rw [if_neg fun z => hq z.2, e]
end
theorem rl_rem {pa de r cd ba sz se su : Nat → Nat} {xbu xho xsp xgr xfo xla xde xcr : Int32} {xki xpa xdv xt0 xt1 xch xas xco xpr xse xsu xba xsz xce xsn xal xpl xns xnu xor xbt xnd xdo : Nat → Int32} {ycd yco yas yre q ch' : Nat → Int32} {t n : Nat} (R : rl_R pa de r cd ba sz se su xbu xho xsp xgr xfo xla xde xcr xki xpa xdv xt0 xt1 xch xas xco xpr xse xsu xba xsz xce xsn xal xpl xns xnu xor xbt xnd xdo ycd yco yas yre) (I : pq_I xki pa de t n n 0 q) (h : ∀ b d, b ≤ 16 → d < 8 → ch' (8 * b + d) = if pf_fd xki pa de b d < 16 ∧ pq_m q n (pf_fd xki pa de b d) = true then -1 else pc_v xki pa de b d) : rl_R pa de r cd ba sz se su xbu xho xsp xgr xfo xla xde xcr (pq_K xki pa t) xpa xdv xt0 xt1 ch' xas xco xpr xse xsu xba xsz xce xsn xal xpl xns xnu xor xbt xnd q ycd yco yas yre := by
  obtain ⟨C, T, P, hC, CD, tr, cdY, E, M, A⟩ := R
  have l0 : ∀ s, pq_K xki pa t s ≠ 0 → xki s ≠ 0 := fun s h => by rw [← pq_Kl h]; exact h
  have l1 : ∀ s, pq_K xki pa t s = 1 → xki s = 1 := fun s h => (pq_Kl (K := xki) (pa := pa) (t := t) (c := s) (by rw [h]; decide)).symm.trans h
  have l2 : ∀ s, pq_K xki pa t s = 2 → xki s = 2 := fun s h => (pq_Kl (K := xki) (pa := pa) (t := t) (c := s) (by rw [h]; decide)).symm.trans h
  refine ⟨C, pq_T T, P, pq_C T I h, fun s hs => ⟨fun k => (CD s hs).1 (l1 s k), fun k => (CD s hs).2 (l2 s k)⟩, fun s hs k => tr s hs (l0 s k), fun s hs k => cdY s hs (l0 s k), fun s hs => ⟨fun k => (E s hs).1 (l1 s k), fun k => (E s hs).2 (l2 s k)⟩, fun s hs k => ?_, ?_⟩
  · obtain ⟨m1, m2, m3, m4⟩ := M s hs (l0 s k)
    exact ⟨m1, m2, fun k1 => m3 (l1 s k1), fun k2 => m4 (l2 s k2)⟩
  · exact ⟨fun s p hs hK => A.1 s p hs (l0 s hK), fun s hs hK => A.2.1 s hs (l2 s hK), fun s s' hs hs' hK hK' => A.2.2.1 s s' hs hs' (l2 s hK) (l2 s' hK'), fun s e p hs hK => A.2.2.2.1 s e p hs (l0 s hK), fun s e s' e' hs hs' hK hK' => A.2.2.2.2 s e s' e' hs hs' (l0 s hK) (l0 s' hK')⟩
theorem i_vc_remove {k : Nat} {u : SX} {v : SY} (I : i_Rel k u v) (hk : k + 5 ≤ 2564) (v1 : Int32) : wpX_remove (fun r u' => wpY_remove (fun r' v' => r' = r ∧ i_Rel (k + 5) u' v') v v1) u v1 := by
  refine rl_el (P := fun u v => wpX_remove (fun r u' => wpY_remove (fun r' v' => r' = r ∧ i_Rel (k + 5) u' v') v v1) u v1) ?_ I
  intro xbu xho xsp xgr xfo xla xde xcr xki xpa xdv xt0 xt1 xch xas xco xpr xse xsu xba xsz xce xsn xal xpl xns xnu xor xbt xnd xdo ycd yco yas yre ysn yal ypl pa de r cd ba sz se su R
  have R0 := R
  obtain ⟨C, T, P, hC, CD, tr, cdY, E, M, A⟩ := R0
  unfold wpX_remove
  refine xw_out (m := 15) (by decide) (fun t ht e => br_t rfl ?_) (fun hn => br_f (by decide) ?_)
  · subst e
    have t16 : t < 16 := by omega
    rw [nI_clamp (by omega)]
    refine ⟨vp_in_nI t16 (by decide), br_c (fun hK => ?_) (fun hK => nm_e ⟨17, ?_⟩)⟩
    · unfold wpY_remove
      refine yw_kindOf (fun s hs e => ?_) (fun hn => absurd rfl (hn t t16))
      obtain rfl : t = s := (nI_eq (by omega) (by omega)).mp e
      exact br_t hK ⟨rfl, rl_in R⟩
    · refine xw_rm33 (t := t) (pa := pa) (de := de) T hC t16 hK (fun n q I => ?_) 17 0 1 (upd xdo 0 (nI t)) (by omega) (by omega) (by omega) ⟨by omega, pk_us, fun j hj => ?_, fun j j' hj hj' _ => by omega, fun c p hc hcK hct hcp => ?_⟩
      · have hn := pq_le I
        refine ⟨n + 1, ?_⟩
        have key := xw_rm64 (xbu := xbu) (xho := xho) (xsp := xsp) (xgr := xgr) (xfo := xfo) (xla := xla) (xde := xde) (xcr := xcr) (xt0 := xt0) (xt1 := xt1) (xas := xas) (xco := xco) (xpr := xpr) (xse := xse) (xsu := xsu) (xba := xba) (xsz := xsz) (xce := xce) (xsn := xsn) (xal := xal) (xpl := xpl) (xns := xns) (xnu := xnu) (xor := xor) (xbt := xbt) (xnd := xnd) (post := fun rr u' => wpY_remove (fun r' v' => r' = rr ∧ i_Rel (k + 5) u' v') (xbu, xho, xsp, xgr, xki, xpa, xdv, ycd, yco, yas, yre, xce, ysn, yal, ypl) (nI t)) T P hC hn (fun j hj => by
          obtain ⟨c, hc, e, hcK, _⟩ := I.2.2.1 j hj
          exact ⟨c, hc, e, hcK⟩) (fun ch' hch => ?_) (n + 1) 0 xch (by omega) (by omega) (fun b d hb hd => ?_)
        · rw [pq_kj0] at key
          exact key
        · rw [pq_kjn T I]
          unfold wpY_remove
          refine yw_kindOf (fun s hs e => ?_) (fun hn => absurd rfl (hn t t16))
          obtain rfl : t = s := (nI_eq (by omega) (by omega)).mp e
          refine br_f hK ⟨17, ?_⟩
          have k2 := yw_rm15 (ybc := xbu) (yho := xho) (yhw := xsp) (yg := xgr) (yki := xki) (ycd := ycd) (yco := yco) (yas := yas) (yre := yre) (yce := xce) (ysn := ysn) (yal := yal) (ypl := ypl) (post := fun r' v' => r' = nI n ∧ i_Rel (k + 5) (xbu, xho, xsp, xgr, xfo, xla, xde, xcr, pq_K xki pa t, xpa, xdv, xt0, xt1, ch', xas, xco, xpr, xse, xsu, xba, xsz, xce, xsn, xal, xpl, xns, xnu, xor, xbt, xnd, q) v') P t16 ⟨by rw [pq_num T I], rl_in (rl_rem R I hch)⟩ 17 0 (by omega) (by omega)
          have e0 : pq_ki xki pa t 0 = xki := by
            funext c
            exact if_neg fun z => by omega
          rw [e0] at k2
          exact k2
        · rw [hC b d hb hd, if_neg fun z => by simp [pq_m] at z]
      · obtain rfl : j = 0 := by omega
        exact ⟨t, t16, pk_us, hK, Or.inl rfl⟩
      · constructor
        · rintro ⟨j, hj, e⟩
          exfalso
          obtain rfl : j = 0 := by omega
          rw [pk_us] at e
          exact hct ((nI_eq (by omega) (by omega)).mp e).symm
        · rintro (⟨j, hj, _⟩ | ⟨_, h⟩)
          · omega
          · omega
  · unfold wpY_remove
    refine yw_kindOf (fun s hs e => absurd e (hn s (by omega))) (fun _ => br_t rfl ⟨rfl, rl_in R⟩)
end
section
/-! the constructors -/
section
variable {xbu xho xsp xgr xfo xla xde xcr : Int32} {xki xpa xdv xt0 xt1 xch xas xco xpr xse xsu xba xsz xce xsn xal xpl xns xnu xor xbt xnd xdo : Nat → Int32}
theorem xw_clamp {post : Int32 → Prop} {v : Int32} {lo hi : Nat} (hlo : lo ≤ hi) (hhi : hi < 2 ^ 31) (h : ∀ n, lo ≤ n → n ≤ hi → (∀ u : SY, ∀ P : Int32 → Prop, P (nI n) → wpY_clamp P u v (nI lo) (nI hi)) → post (nI n)) : wpX_clamp post (xbu, xho, xsp, xgr, xfo, xla, xde, xcr, xki, xpa, xdv, xt0, xt1, xch, xas, xco, xpr, xse, xsu, xba, xsz, xce, xsn, xal, xpl, xns, xnu, xor, xbt, xnd, xdo) v (nI lo) (nI hi) := by
  refine br_c (fun h1 => br_c (fun h2 => ?_) (fun h2 => h hi (by omega) (by omega) fun u P hP => br_t h1 (br_f h2 hP))) (fun h1 => h lo (by omega) (by omega) fun u P hP => br_f h1 hP)
  have h0 : ¬ v < 0 := fun z => by
    have := Int32.lt_of_lt_of_le z (nI_pos' (n := lo) (by omega))
    exact Int32.not_lt.mpr h1 this
  obtain ⟨n, hn, rfl⟩ := nI_of h0
  have a1 := (nI_leI (by omega) hn).mp h1
  have a2 := (nI_leI hn hhi).mp h2
  exact h n a1 a2 fun u P hP => br_t h1 (br_t h2 hP)
theorem xw_init {post : SX → Prop} (h : ∀ ch', (∀ j, j < 136 → ch' j = -1) → post (xbu, xho, xsp, xgr, xfo, xla, xde, xcr, xki, xpa, xdv, xt0, xt1, ch', xas, xco, xpr, xse, xsu, xba, xsz, xce, xsn, xal, xpl, xns, xnu, xor, xbt, xnd, xdo)) : ∀ m i ch', i ≤ 136 → 136 - i < m → (∀ j, j < i → ch' j = -1) → wX_init_248 post xbu xho xsp xgr xfo xla xde xcr m (nI i) xki xpa xdv xt0 xt1 ch' xas xco xpr xse xsu xba xsz xce xsn xal xpl xns xnu xor xbt xnd xdo := by
  intro m
  induction m with
  | zero => intro i ch' a b; omega
  | succ m ih =>
    intro i ch' hi hm hj
    by_cases e : i = 136
    · subst e
      exact br_t (nI_le (a := 136) (b := 136) (by omega) (by decide)) (h ch' hj)
    · refine br_f (nI_ge (b := 136) (by omega) (by decide)) ⟨vp_in_nI (by omega) (by decide), nm_r (e' := upd ch' i (-1)) (by rw [nI_clamp (by omega)]) (nm_r (nI_1 i) (ih (i + 1) _ (by omega) (by omega) fun j hj2 => ?_))⟩
      by_cases e2 : j = i
      · rw [e2]; exact pk_us
      · rw [pk_un e2]; exact hj j (by omega)
end
theorem pi_sh : ∀ q, q < 5 → (1 : Int32) <<< (nI q &&& 31) = nI (2 ^ q) := py_shl
theorem pi_b1 : pn_b 1 = 0 := by rw [pn_bs, nI_0]
theorem pi_01 : ¬ (0 : Int32) = 1 := by decide
theorem pi_02 : ¬ (0 : Int32) = 2 := by decide
theorem pi_le : 1 ≤ 16 := by decide
theorem pi_lt : 0 < 8 := by decide
theorem i_vc0 (k0 : Int32) (k1 : Int32) (k2 : Int32) (k3 : Int32) : wpX_init (fun u => wpY_init (fun v => i_Rel 4 u v) k0 k1 k2 k3) k0 k1 k2 k3 := by
  unfold wpX_init
  refine xw_clamp (lo := 2) (hi := 32) (by omega) (by decide) (fun B b1 b2 yB => ?_)
  refine xw_clamp (lo := 1) (hi := 16) (by omega) (by decide) (fun hh h1 h2 yh => ?_)
  refine nm_r (e' := nI (64 * hh)) (pk_mul 64 hh) ?_
  refine xw_clamp (lo := 16) (hi := 512) (by omega) (by decide) (fun W w1 w2 yW => ?_)
  refine xw_clamp (lo := 0) (hi := 4) (by omega) (by decide) (fun q q1 q2 yq => ?_)
  refine nm_r (pi_sh q (by omega)) ⟨137, ?_⟩
  refine xw_init (fun ch' hch => ?_) 137 0 (fun _ => 0) (by omega) (by omega) (fun j hj => by omega)
  unfold wpY_init
  refine yB _ _ (yh _ _ ?_)
  refine nm_r (e' := nI (64 * hh)) (pk_mul 64 hh) ?_
  refine yW _ _ (yq _ _ ?_)
  refine nm_r (pi_sh q (by omega)) ?_
  refine rl_in (pa := fun _ => 1) (de := fun _ => 0) (r := fun _ => 0) (cd := fun _ => 0) (ba := fun _ => 0) (sz := fun _ => 0) (se := fun _ => 0) (su := fun _ => 0) ⟨⟨B, hh, W, q, rfl, b1, b2, rfl, h1, h2, rfl, w1, w2, rfl, by omega⟩, ⟨fun s _ => Or.inl rfl, fun _ => pi_le, fun _ => pi_lt, fun s _ h => absurd rfl h, fun s s' _ _ h => absurd rfl h⟩, ⟨fun _ => pi_le, fun _ => pi_lt, fun s _ => ⟨pi_b1.symm, rfl⟩⟩, fun b d hb hd => ?_, fun s _ => ⟨fun h => absurd h pi_01, fun h => absurd h pi_02⟩, fun s _ h => absurd rfl h, fun s _ h => absurd rfl h, fun s _ => ⟨fun h => absurd h pi_01, fun h => absurd h pi_02⟩, fun s _ h => absurd rfl h, ?_⟩
  · rw [hch _ (by omega)]
    unfold pc_v
    rw [if_neg]
    intro z
    exact (pf_i z).1 rfl
  · exact ⟨fun s p _ h => absurd rfl h, fun s _ h => absurd h pi_02, fun s s' _ _ h => absurd h pi_02, fun s e p _ h => absurd rfl h, fun s e s' e' _ _ h => absurd rfl h⟩
end
