section
/-! rows of PURE-ROWS (a starting text) -/
theorem pk_us {f : Nat → Int32} {k : Nat} {x : Int32} : upd f k x k = x := if_pos rfl
theorem pk_un {f : Nat → Int32} {k j : Nat} {x : Int32} (h : j ≠ k) : upd f k x j = f j := if_neg h
theorem pk_sub {a b : Nat} (h : b ≤ a) : nI a - nI b = nI (a - b) := by
  obtain ⟨c, rfl⟩ : ∃ c, a = c + b := ⟨a - b, by omega⟩
  rw [← nI_add, Int32.add_sub_cancel, Nat.add_sub_cancel]
theorem pk_m1 (n : Nat) : nI (n + 1) + (-1) = nI n := by
  rw [← nI_1, Int32.add_assoc, show (1 : Int32) + (-1) = 0 from rfl, Int32.add_zero]
theorem pk_mul (a b : Nat) : nI a * nI b = nI (a * b) := (Int32.ofNat_mul a b).symm
theorem pk_div {a d : Nat} (ha : a < 2 ^ 31) (h0 : 0 < d) (hd : d < 2 ^ 31) : nI a / nI d = nI (a / d) := by
  apply Int32.toInt_inj.mp
  rw [lg_idiv_nonneg (by rw [nI_toInt ha]; omega) (by rw [nI_toInt hd]; omega), nI_toInt ha, nI_toInt hd, nI_toInt (Nat.lt_of_le_of_lt (Nat.div_le_self a d) ha)]
  first | rfl | exact (Int.natCast_ediv _ _).symm
theorem pk_sub_toInt {a b : Nat} (ha : a < 2 ^ 30) (hb : b < 2 ^ 30) : (nI a - nI b).toInt = (a : Int) - b := by
  rw [Int32.toInt_sub, nI_toInt (by omega), nI_toInt (by omega)]
  exact Int.bmod_eq_of_le (by omega) (by omega)
theorem pk_ix (x : Int32) {n : Nat} (hn : n < 2 ^ 31) : x < 0 ∨ nI n ≤ x ∨ ∃ j : Nat, j < n ∧ x = nI j := by
  by_cases h : x < 0
  · exact Or.inl h
  · obtain ⟨j, hj, rfl⟩ := nI_of h
    by_cases h2 : j < n
    · exact Or.inr (Or.inr ⟨j, h2, rfl⟩)
    · exact Or.inr (Or.inl (nI_le (by omega) hj))
theorem pk_le {x y : Int32} {A B : Prop} (a b : Nat) (f : a ≤ b → A) (g : b < a → B) (hx : x = nI a := by rfl) (hy : y = nI b := by rfl) (ha : a < 2 ^ 31 := by omega) (hb : b < 2 ^ 31 := by omega) : (x ≤ y → A) ∧ (¬ x ≤ y → B) := by
  subst hx hy
  rw [nI_leI ha hb]
  exact ⟨f, fun z => g (by omega)⟩
theorem pk_lt {x y : Int32} {A B : Prop} (a b : Nat) (f : a < b → A) (g : b ≤ a → B) (hx : x = nI a := by rfl) (hy : y = nI b := by rfl) (ha : a < 2 ^ 31 := by omega) (hb : b < 2 ^ 31 := by omega) : (x < y → A) ∧ (¬ x < y → B) := by
  subst hx hy
  rw [nI_ltI ha hb]
  exact ⟨f, fun z => g (by omega)⟩
theorem pk_eq {x y : Int32} {A B : Prop} (a b : Nat) (f : a = b → A) (g : a ≠ b → B) (hx : x = nI a := by rfl) (hy : y = nI b := by rfl) (ha : a < 2 ^ 31 := by omega) (hb : b < 2 ^ 31 := by omega) : (x = y → A) ∧ (¬ x = y → B) := by
  subst hx hy
  rw [nI_eq ha hb]
  exact ⟨f, g⟩
theorem pk_in {x : Int32} (n N : Nat) (h : n < N) (hx : x = nI n := by rfl) (hN : N < 2 ^ 31 := by omega) : vp_in x N := by
  subst hx
  exact vp_in_nI h hN
theorem pk_cl {x : Int32} (n : Nat) (hx : x = nI n := by rfl) (h : n < 2 ^ 31 := by omega) : x.toNatClampNeg = n := by
  subst hx
  exact nI_clamp h
theorem pk_tn {n : Nat} (h : n < 2 ^ 32) : (nI n).toBitVec.toNat = n := Nat.mod_eq_of_lt h
theorem pk_charN {q : Nat} (hq : q < 65536) : narrow .char (.int (nI q)) = .int (nI q) ∧ fits .char (.int (nI q)) = true := by
  constructor
  · have e : (nI q).toUInt32.toUInt16.toUInt32.toInt32 = nI q := by
      apply Int32.toBitVec_inj.mp
      apply BitVec.eq_of_toNat_eq
      show (nI q).toUInt32.toUInt16.toUInt32.toNat = q % 2 ^ 32
      rw [UInt16.toNat_toUInt32, UInt32.toNat_toUInt16, show (nI q).toUInt32.toNat = q % 2 ^ 32 from rfl]
      omega
    exact congrArg Value.int e
  · have a : (0 : Int32) ≤ nI q := nI_pos' (by omega)
    have b : nI q ≤ 65535 := nI_le (b := 65535) (by omega) (by decide)
    show (decide ((0 : Int32) ≤ nI q) && decide (nI q ≤ 65535)) = true
    rw [decide_eq_true a, decide_eq_true b]
    rfl
theorem pk_char (x : Int32) : (x.toUInt32 % 65536).toInt32 = nI (x.toBitVec.toNat % 65536) := by
  apply Int32.toBitVec_inj.mp
  apply BitVec.eq_of_toNat_eq
  rw [pk_tn (by omega)]
  show (x.toUInt32 % 65536).toNat = _
  rw [UInt32.toNat_mod]
  rfl
theorem pk_nc (x : Int32) : narrow .char (.int (x.toUInt32 % 65536).toInt32) = .int (x.toUInt32 % 65536).toInt32 := by
  rw [pk_char]
  exact (pk_charN (Nat.mod_lt _ (by decide))).1
theorem pk_vc (z : Int32) : vp_nar .char (z.toUInt32 % 65536).toInt32 = (z.toUInt32 % 65536).toInt32 := Value.int.inj (pk_nc z)
theorem sb_m1 {p : Nat} (h : 0 < p) : nI p + (-1) = nI (p - 1) := by
  obtain ⟨q, rfl⟩ : ∃ q, p = q + 1 := ⟨p - 1, by omega⟩
  exact pk_m1 q
end
section
/-! arrays of naturals and of marks, counting, rows of stretches -/
def sr_A (f : Nat → Nat) : Nat → Int32 := fun j => nI (f j)
def sr_u (f : Nat → Nat) (k x : Nat) : Nat → Nat := fun j => if j = k then x else f j
def sr_b (b : Bool) : Int32 := if b = true then 1 else 0
def sr_B (m : Nat → Bool) : Nat → Int32 := fun j => sr_b (m j)
def sr_ub (m : Nat → Bool) (k : Nat) (b : Bool) : Nat → Bool := fun j => if j = k then b else m j
theorem sr_Ar {f : Nat → Nat} {j : Nat} (h : j < 2 ^ 31) : sr_A f (nI j).toNatClampNeg = nI (f j) := by
  rw [nI_clamp h]; rfl
theorem sr_Br {m : Nat → Bool} {j : Nat} (h : j < 2 ^ 31) : sr_B m (nI j).toNatClampNeg = sr_b (m j) := by
  rw [nI_clamp h]; rfl
theorem sr_up {f : Nat → Nat} {i y : Int32} (k x : Nat) (hi : i = nI k) (hk : k < 2 ^ 31) (hy : y = nI x) : upd (sr_A f) i.toNatClampNeg y = sr_A (sr_u f k x) := by
  subst hi; subst hy
  rw [nI_clamp hk]
  funext j
  show (if j = k then nI x else nI (f j)) = nI (if j = k then x else f j)
  split <;> rfl
theorem sr_upB {m : Nat → Bool} {i y : Int32} (k : Nat) (b : Bool) (hi : i = nI k) (hk : k < 2 ^ 31) (hy : y = sr_b b) : upd (sr_B m) i.toNatClampNeg y = sr_B (sr_ub m k b) := by
  subst hi; subst hy
  rw [nI_clamp hk]
  funext j
  show (if j = k then sr_b b else sr_b (m j)) = sr_b (if j = k then b else m j)
  split <;> rfl
theorem sr_us {f : Nat → Nat} {k x : Nat} : sr_u f k x k = x := if_pos rfl
theorem sr_un {f : Nat → Nat} {k x j : Nat} (h : j ≠ k) : sr_u f k x j = f j := if_neg h
theorem sr_ubs {m : Nat → Bool} {k : Nat} {x : Bool} : sr_ub m k x k = x := if_pos rfl
theorem sr_ubn {m : Nat → Bool} {k : Nat} {x : Bool} {j : Nat} (h : j ≠ k) : sr_ub m k x j = m j := if_neg h
theorem sr_s16 : ∀ n, n < 1000 → (nI n).toInt16.toInt32 = nI n := by decide +kernel
theorem sr_i8 : ∀ n, n < 128 → (nI n).toInt8.toInt32 = nI n := by decide +kernel
theorem sr_ns {n : Nat} (h : n ≤ 999) : vp_nar .short (nI n) = nI n := by rw [vp_nar_short, sr_s16 n (by omega)]
theorem sr_nss {n : Nat} (h : n ≤ 999) : vp_nar .short (nI n).toInt16.toInt32 = nI n := by rw [sr_s16 n (by omega), sr_ns h]
theorem sr_nb {n : Nat} (h : n ≤ 99) : vp_nar .byte (nI n).toInt8.toInt32 = nI n := by rw [vp_nar_byte, sr_i8 n (by omega), sr_i8 n (by omega)]
theorem sr_nbool (b : Bool) : vp_nar .boolean (sr_b b) = sr_b b := by cases b <;> rfl
theorem sr_b0 (b : Bool) : sr_b b = 0 ↔ b = false := by cases b <;> decide
theorem sr_bt {b : Bool} (h : b = true) : ¬ sr_b b = 0 := by subst h; decide
theorem sr_bf {b : Bool} (h : b = false) : sr_b b = 0 := by subst h; rfl
/-- a branch on a mark -/
theorem sr_br {x : Int32} {A B : Prop} (b : Bool) (hx : x = sr_b b) (f : b = false → A) (g : b = true → B) : (x = 0 → A) ∧ (¬ x = 0 → B) := by
  subst hx
  cases b with
  | false => exact br_t rfl (f rfl)
  | true => exact br_f (by decide) (g rfl)
theorem sr_24 (r : Nat) : (24 : Int32) * nI r = nI (24 * r) := pk_mul 24 r
theorem sr_1000 (r : Nat) : (1000 : Int32) * nI r = nI (1000 * r) := pk_mul 1000 r
theorem sr_24i (r i : Nat) : (24 : Int32) * nI r + nI i = nI (24 * r + i) := by rw [sr_24, nI_add]
theorem sr_1000i (r i : Nat) : (1000 : Int32) * nI r + nI i = nI (1000 * r + i) := by rw [sr_1000, nI_add]
theorem sr_24c {c : Nat → Nat} {r : Nat} (hr : r < 4) : (24 : Int32) * nI r + sr_A c (nI r).toNatClampNeg = nI (24 * r + c r) := by
  rw [sr_Ar (by omega), sr_24i]
/-! counting -/
def sr_cn (S : Nat → Bool) : Nat → Nat
  | 0 => 0
  | n + 1 => sr_cn S n + (if S n = true then 1 else 0)
theorem sr_cn_t {S : Nat → Bool} {n : Nat} (h : S n = true) : sr_cn S (n + 1) = sr_cn S n + 1 := by
  show sr_cn S n + (if S n = true then 1 else 0) = _
  rw [if_pos h]
theorem sr_cn_f {S : Nat → Bool} {n : Nat} (h : S n = false) : sr_cn S (n + 1) = sr_cn S n := by
  show sr_cn S n + (if S n = true then 1 else 0) = _
  rw [if_neg (by rw [h]; decide)]; rfl
theorem sr_cn_gap {S : Nat → Bool} {a b : Nat} (hab : a ≤ b) (h : ∀ v, a ≤ v → v < b → S v = false) : sr_cn S b = sr_cn S a := by
  induction b with
  | zero => rw [show a = 0 by omega]
  | succ b ih =>
    by_cases e : a = b + 1
    · rw [e]
    · rw [sr_cn_f (h b (by omega) (by omega)), ih (by omega) (fun v h1 h2 => h v h1 (by omega))]
theorem sr_cn_full {S : Nat → Bool} {a b : Nat} (hab : a ≤ b) (h : ∀ v, a ≤ v → v < b → S v = true) : sr_cn S b = sr_cn S a + (b - a) := by
  induction b with
  | zero => rw [show a = 0 by omega]; rfl
  | succ b ih =>
    by_cases e : a = b + 1
    · rw [e, Nat.sub_self]; rfl
    · rw [sr_cn_t (h b (by omega) (by omega)), ih (by omega) (fun v h1 h2 => h v h1 (by omega))]
      omega
theorem sr_cn_le (S : Nat → Bool) (n : Nat) : sr_cn S n ≤ n := by
  induction n with
  | zero => exact Nat.le_refl 0
  | succ n ih =>
    cases h : S n with
    | true => rw [sr_cn_t h]; omega
    | false => rw [sr_cn_f h]; omega
/-! rows of stretches: ascending, never two that touch -/
def sr_T (n : Nat) (lo hi : Nat → Nat) : Prop := (∀ i, i < n → lo i ≤ hi i ∧ hi i ≤ 999) ∧ (∀ i, i + 1 < n → hi i + 1 < lo (i + 1))
def sr_M (n : Nat) (lo hi : Nat → Nat) (v : Nat) : Prop := ∃ i, i < n ∧ lo i ≤ v ∧ v ≤ hi i
theorem sr_T0 (lo hi : Nat → Nat) : sr_T 0 lo hi := ⟨fun i h => absurd h (by omega), fun i h => absurd h (by omega)⟩
theorem sr_M0 (lo hi : Nat → Nat) (v : Nat) : ¬ sr_M 0 lo hi v := fun ⟨i, h, _⟩ => absurd h (by omega)
theorem sr_T_d {n : Nat} {lo hi : Nat → Nat} (T : sr_T n lo hi) (i : Nat) : ∀ d, i + d + 1 < n → hi i + 1 < lo (i + d + 1) := by
  intro d
  induction d with
  | zero => intro h; exact T.2 i h
  | succ d ih =>
    intro h
    have h1 := ih (by omega)
    have h2 := T.1 (i + d + 1) (by omega)
    have h3 := T.2 (i + d + 1) h
    show hi i + 1 < lo (i + d + 1 + 1)
    omega
theorem sr_T_lt {n : Nat} {lo hi : Nat → Nat} (T : sr_T n lo hi) {i j : Nat} (h : i < j) (hj : j < n) : hi i + 1 < lo j := by
  obtain ⟨d, rfl⟩ : ∃ d, j = i + d + 1 := ⟨j - i - 1, by omega⟩
  exact sr_T_d T i d hj
theorem sr_T_le {n : Nat} {lo hi : Nat → Nat} (T : sr_T n lo hi) {i j : Nat} (h : i ≤ j) (hj : j < n) : hi i ≤ hi j := by
  by_cases e : i = j
  · rw [e]; exact Nat.le_refl _
  · have h1 := sr_T_lt T (show i < j by omega) hj
    have h2 := T.1 j hj
    omega
theorem sr_T_sub {n m : Nat} {lo hi : Nat → Nat} (T : sr_T n lo hi) (h : m ≤ n) : sr_T m lo hi :=
  ⟨fun i hi' => T.1 i (by omega), fun i hi' => T.2 i (by omega)⟩
theorem sr_T_cong {n : Nat} {lo hi lo' hi' : Nat → Nat} (T : sr_T n lo hi) (h1 : ∀ i, i < n → lo' i = lo i) (h2 : ∀ i, i < n → hi' i = hi i) : sr_T n lo' hi' := by
  refine ⟨fun i h => ?_, fun i h => ?_⟩
  · rw [h1 i h, h2 i h]; exact T.1 i h
  · rw [h1 (i + 1) h, h2 i (by omega)]; exact T.2 i h
theorem sr_M_cong {n : Nat} {lo hi lo' hi' : Nat → Nat} (h1 : ∀ i, i < n → lo' i = lo i) (h2 : ∀ i, i < n → hi' i = hi i) (v : Nat) : sr_M n lo' hi' v ↔ sr_M n lo hi v := by
  constructor
  · intro ⟨i, h, a, b⟩
    rw [h1 i h] at a; rw [h2 i h] at b
    exact ⟨i, h, a, b⟩
  · intro ⟨i, h, a, b⟩
    refine ⟨i, h, ?_, ?_⟩
    · rw [h1 i h]; exact a
    · rw [h2 i h]; exact b
theorem sr_M_succ {n : Nat} {lo hi : Nat → Nat} (v : Nat) : sr_M (n + 1) lo hi v ↔ sr_M n lo hi v ∨ (lo n ≤ v ∧ v ≤ hi n) := by
  constructor
  · intro ⟨i, h, a, b⟩
    by_cases e : i = n
    · subst e; exact Or.inr ⟨a, b⟩
    · exact Or.inl ⟨i, by omega, a, b⟩
  · intro h
    rcases h with ⟨i, h, a, b⟩ | ⟨a, b⟩
    · exact ⟨i, by omega, a, b⟩
    · exact ⟨n, by omega, a, b⟩
theorem sr_T_snoc {n : Nat} {lo hi : Nat → Nat} {a b : Nat} (T : sr_T n lo hi) (h : ∀ j, j < n → hi j + 1 < a) (hab : a ≤ b) (hb : b ≤ 999) : sr_T (n + 1) (sr_u lo n a) (sr_u hi n b) := by
  refine ⟨fun i hi' => ?_, fun i hi' => ?_⟩
  · by_cases e : i = n
    · rw [e, sr_us, sr_us]; exact ⟨hab, hb⟩
    · rw [sr_un e, sr_un e]; exact T.1 i (by omega)
  · rw [sr_un (f := hi) (show i ≠ n by omega)]
    by_cases e : i + 1 = n
    · rw [e, sr_us]; exact h i (by omega)
    · rw [sr_un e]; exact T.2 i (by omega)
theorem sr_M_snoc {n : Nat} {lo hi : Nat → Nat} {a b : Nat} (v : Nat) : sr_M (n + 1) (sr_u lo n a) (sr_u hi n b) v ↔ sr_M n lo hi v ∨ (a ≤ v ∧ v ≤ b) := by
  rw [sr_M_succ, sr_us, sr_us]
  rw [sr_M_cong (lo := lo) (hi := hi) (fun i h => sr_un (by omega)) (fun i h => sr_un (by omega))]
theorem sr_all_snoc {n : Nat} {hi : Nat → Nat} {b x : Nat} (h : ∀ j, j < n → hi j + 1 < x) (hb : b + 1 < x) : ∀ j, j < n + 1 → sr_u hi n b j + 1 < x := by
  intro j hj
  by_cases e : j = n
  · rw [e, sr_us]; exact hb
  · rw [sr_un e]; exact h j (by omega)
/-- the end of the stretches ahead of the i-th -/
def sr_E (hi : Nat → Nat) : Nat → Nat
  | 0 => 0
  | i + 1 => hi i + 1
theorem sr_E_lt {n : Nat} {lo hi : Nat → Nat} (T : sr_T n lo hi) {i : Nat} (h : i < n) : sr_E hi i ≤ lo i ∧ (0 < i → sr_E hi i < lo i) := by
  cases i with
  | zero => exact ⟨Nat.zero_le _, fun h => absurd h (by omega)⟩
  | succ i =>
    have h1 := T.2 i h
    show hi i + 1 ≤ lo (i + 1) ∧ (0 < i + 1 → hi i + 1 < lo (i + 1))
    omega
theorem sr_E_b {n : Nat} {lo hi : Nat → Nat} (T : sr_T n lo hi) : ∀ i, i ≤ n → sr_E hi i ≤ 1000 := by
  intro i h
  cases i with
  | zero => exact Nat.zero_le _
  | succ i =>
    have h1 := T.1 i (by omega)
    show hi i + 1 ≤ 1000
    omega
theorem sr_E_j {n : Nat} {lo hi : Nat → Nat} (T : sr_T n lo hi) {i j : Nat} (h : j < i) (hi' : i ≤ n) : hi j < sr_E hi i := by
  cases i with
  | zero => exact absurd h (by omega)
  | succ i =>
    have h1 := sr_T_le T (show j ≤ i by omega) (by omega)
    show hi j < hi i + 1
    omega
def sr_S (S : Nat → Bool) (n : Nat) (lo hi : Nat → Nat) : Prop := ∀ v, v < 1000 → (S v = true ↔ sr_M n lo hi v)
theorem sr_gap {S : Nat → Bool} {n : Nat} {lo hi : Nat → Nat} (T : sr_T n lo hi) (hS : sr_S S n lo hi) {i v : Nat} (h : i < n) (h1 : sr_E hi i ≤ v) (h2 : v < lo i) : S v = false := by
  have hb := T.1 i h
  cases e : S v with
  | false => rfl
  | true =>
    obtain ⟨j, hj, a, b⟩ := (hS v (by omega)).mp e
    by_cases c : j < i
    · have := sr_E_j T c (by omega); omega
    · by_cases c2 : j = i
      · subst c2; omega
      · have := sr_T_lt T (show i < j by omega) hj; omega
theorem sr_gapE {S : Nat → Bool} {n : Nat} {lo hi : Nat → Nat} (T : sr_T n lo hi) (hS : sr_S S n lo hi) {v : Nat} (h1 : sr_E hi n ≤ v) (h2 : v < 1000) : S v = false := by
  cases e : S v with
  | false => rfl
  | true =>
    obtain ⟨j, hj, a, b⟩ := (hS v h2).mp e
    have := sr_E_j T hj (Nat.le_refl n)
    omega
theorem sr_has {S : Nat → Bool} {n : Nat} {lo hi : Nat → Nat} (T : sr_T n lo hi) (hS : sr_S S n lo hi) {i v : Nat} (h : i < n) (h1 : lo i ≤ v) (h2 : v ≤ hi i) : S v = true := by
  have hb := T.1 i h
  exact (hS v (by omega)).mpr ⟨i, h, h1, h2⟩
theorem sr_cnE {S : Nat → Bool} {n : Nat} {lo hi : Nat → Nat} (T : sr_T n lo hi) (hS : sr_S S n lo hi) {i : Nat} (h : i < n) : sr_cn S (sr_E hi (i + 1)) = sr_cn S (sr_E hi i) + (hi i - lo i + 1) := by
  have hb := T.1 i h
  have he := sr_E_lt T h
  show sr_cn S (hi i + 1) = _
  rw [sr_cn_full (S := S) (show lo i ≤ hi i + 1 by omega) (fun v h1 h2 => sr_has T hS h h1 (by omega)), sr_cn_gap (S := S) he.1 (fun v h1 h2 => sr_gap T hS h h1 h2)]
  omega
theorem sr_cnN {S : Nat → Bool} {n : Nat} {lo hi : Nat → Nat} (T : sr_T n lo hi) (hS : sr_S S n lo hi) : sr_cn S 1000 = sr_cn S (sr_E hi n) :=
  sr_cn_gap (sr_E_b T n (Nat.le_refl n)) (fun v h1 h2 => sr_gapE T hS h1 h2)
/-- a version that begins a stretch -/
def sr_st (S : Nat → Bool) (v : Nat) : Bool := S v && (v == 0 || !S (v - 1))
theorem sr_st_f {S : Nat → Bool} {v : Nat} (h : S v = false) : sr_st S v = false := by
  unfold sr_st; rw [h]; rfl
theorem sr_st_p {S : Nat → Bool} {v : Nat} (h0 : 0 < v) (h : S (v - 1) = true) : sr_st S v = false := by
  unfold sr_st
  rw [h, show (v == 0) = false from by rw [beq_eq_false_iff_ne]; omega]
  simp
theorem sr_st_t {S : Nat → Bool} {v : Nat} (h : S v = true) (h' : v = 0 ∨ S (v - 1) = false) : sr_st S v = true := by
  unfold sr_st
  rcases h' with e | e
  · subst e; rw [h]; rfl
  · rw [h, e]; simp
theorem sr_stE {S : Nat → Bool} {n : Nat} {lo hi : Nat → Nat} (T : sr_T n lo hi) (hS : sr_S S n lo hi) {i : Nat} (h : i < n) : sr_cn (sr_st S) (sr_E hi (i + 1)) = sr_cn (sr_st S) (sr_E hi i) + 1 := by
  have hb := T.1 i h
  have he := sr_E_lt T h
  have h1 : sr_st S (lo i) = true := by
    refine sr_st_t (sr_has T hS h (Nat.le_refl _) hb.1) ?_
    by_cases e : lo i = 0
    · exact Or.inl e
    · refine Or.inr (sr_gap T hS h ?_ (by omega))
      by_cases e0 : i = 0
      · subst e0; exact Nat.zero_le _
      · have := he.2 (by omega); omega
  show sr_cn (sr_st S) (hi i + 1) = _
  rw [sr_cn_gap (S := sr_st S) (show lo i + 1 ≤ hi i + 1 by omega) (fun v h1 h2 => sr_st_p (by omega) (sr_has T hS h (by omega) (by omega))), sr_cn_t h1, sr_cn_gap (S := sr_st S) he.1 (fun v h1 h2 => sr_st_f (sr_gap T hS h h1 h2))]
theorem sr_stI {S : Nat → Bool} {n : Nat} {lo hi : Nat → Nat} (T : sr_T n lo hi) (hS : sr_S S n lo hi) : ∀ i, i ≤ n → sr_cn (sr_st S) (sr_E hi i) = i := by
  intro i
  induction i with
  | zero => intro _; rfl
  | succ i ih => intro h; rw [sr_stE T hS (by omega), ih (by omega)]
theorem sr_stN {S : Nat → Bool} {n : Nat} {lo hi : Nat → Nat} (T : sr_T n lo hi) (hS : sr_S S n lo hi) : sr_cn (sr_st S) 1000 = n := by
  rw [sr_cn_gap (S := sr_st S) (sr_E_b T n (Nat.le_refl n)) (fun v h1 h2 => sr_st_f (sr_gapE T hS h1 h2)), sr_stI T hS n (Nat.le_refl n)]
end
section
/-! the component's questions -/
section
variable {fT fA fMa fMi fD fL fH fIL fIH fC : Int32} {aT aC aL aH aML aMH aNL aNH : Nat → Int32}
variable {post : Int32 → Prop}
theorem sr_rc (p : Int32) : (p < 0 ∨ 3 < p) ∨ ∃ r, r < 4 ∧ p = nI r := by
  rcases pk_ix p (n := 4) (by decide) with h | h | h
  · exact Or.inl (Or.inl h)
  · refine Or.inl (Or.inr ?_)
    rw [Int32.le_iff_toInt_le, nI_toInt (by decide)] at h
    rw [Int32.lt_iff_toInt_lt, show (3 : Int32).toInt = 3 from by decide]
    omega
  · exact Or.inr h
theorem sr_xr1 {u : SX} {r : Nat} (hr : r < 4) (h : post 1) : wpX_isRange post u (nI r) := by
  obtain ⟨fT, fA, fMa, fMi, fD, fL, fH, fIL, fIH, fC, aT, aC, aL, aH, aML, aMH, aNL, aNH⟩ := u
  exact br_f (nI_pos (by omega)) (br_f (nI_nlt (a := 3) (b := r) (by omega) (by decide)) h)
theorem sr_xr0 {u : SX} {p : Int32} (hp : p < 0 ∨ 3 < p) (h : post 0) : wpX_isRange post u p := by
  obtain ⟨fT, fA, fMa, fMi, fD, fL, fH, fIL, fIH, fC, aT, aC, aL, aH, aML, aMH, aNL, aNH⟩ := u
  by_cases h0 : p < 0
  · exact br_t h0 h
  · rcases hp with h1 | h1
    · exact absurd h1 h0
    · exact br_f h0 (br_t h1 h)
theorem sr_yr1 {u : SY} {r : Nat} (hr : r < 4) (h : post 1) : wpY_isRange post u (nI r) := by
  obtain ⟨gN, gA, gL, gH, bT, bM, bR⟩ := u
  exact br_f (nI_pos (by omega)) (br_f (nI_nlt (a := 3) (b := r) (by omega) (by decide)) h)
theorem sr_yr0 {u : SY} {p : Int32} (hp : p < 0 ∨ 3 < p) (h : post 0) : wpY_isRange post u p := by
  obtain ⟨gN, gA, gL, gH, bT, bM, bR⟩ := u
  by_cases h0 : p < 0
  · exact br_t h0 h
  · rcases hp with h1 | h1
    · exact absurd h1 h0
    · exact br_f h0 (br_t h1 h)
/-! stretchAround -/
theorem sr_mid (r a b : Nat) (h : r < 4) (ha : a ≤ 100) (hb : b ≤ 100) : (nI (24 * r + a) + nI (24 * r + b)) / 2 = nI (24 * r + (a + b) / 2) := by
  rw [nI_add]
  exact (pk_div (a := 24 * r + a + (24 * r + b)) (d := 2) (by omega) (by decide) (by decide)).trans (congrArg nI (by omega))
theorem sr_xsa15 {c lo hi : Nat → Nat} {r : Nat} (hr : r < 4) (hc : c r ≤ 24) (T : sr_T (c r) (fun i => lo (24 * r + i)) (fun i => hi (24 * r + i))) {v : Nat} (hv : v < 2 ^ 31)
    (h1 : ∀ i, i < c r → lo (24 * r + i) ≤ v → v ≤ hi (24 * r + i) → post (nI (24 * r + i)))
    (h0 : (∀ i, i < c r → ¬ (lo (24 * r + i) ≤ v ∧ v ≤ hi (24 * r + i))) → post (-1)) :
    ∀ n a b, a ≤ b → b ≤ c r → b - a < n → (∀ i, i < a → hi (24 * r + i) < v) → (∀ i, b ≤ i → i < c r → v ≤ hi (24 * r + i)) →
      wX_stretchAround_15 post (nI r) (nI v) fT fA fMa fMi fD fL fH fIL fIH fC aT (sr_A c) (sr_A lo) (sr_A hi) aML aMH aNL aNH n (nI (24 * r + a)) (nI (24 * r + b)) := by
  intro n
  induction n with
  | zero => intro a b _ _ h; exact absurd h (by omega)
  | succ n ih =>
    intro a b hab hb hn hA hB
    refine pk_le (24 * r + b) (24 * r + a) (fun h => ?_) (fun h => ?_)
    · have e : a = b := by omega
      subst e
      refine ⟨vp_in_nI hr (by decide), pk_eq (24 * r + a) (24 * r + c r) (fun e => h0 (fun i hi' z => ?_)) (fun e => ⟨vp_in_nI (by omega) (by decide), ?_⟩) rfl (sr_24c hr)⟩
      · have := hA i (by omega); omega
      · have hT : lo (24 * r + a) ≤ hi (24 * r + a) ∧ hi (24 * r + a) ≤ 999 := T.1 a (by omega)
        refine pk_le (lo (24 * r + a)) v (fun h => h1 a (by omega) h (hB a (Nat.le_refl _) (by omega))) (fun h => h0 (fun i hi' z => ?_)) (sr_Ar (by omega)) rfl (by omega) hv
        by_cases q : i < a
        · have := hA i q; omega
        · by_cases q2 : i = a
          · subst q2; omega
          · have : hi (24 * r + a) + 1 < lo (24 * r + i) := sr_T_lt T (show a < i by omega) hi'
            omega
    · have hT : lo (24 * r + (a + b) / 2) ≤ hi (24 * r + (a + b) / 2) ∧ hi (24 * r + (a + b) / 2) ≤ 999 := T.1 ((a + b) / 2) (by omega)
      refine ⟨by decide, nm_r (sr_mid r a b hr (by omega) (by omega)) ⟨vp_in_nI (by omega) (by decide), ?_⟩⟩
      refine pk_le v (hi (24 * r + (a + b) / 2)) (fun h => ?_) (fun h => nm_r (nI_1 _) ?_) rfl (sr_Ar (by omega)) hv (by omega)
      · refine ih a ((a + b) / 2) (by omega) (by omega) (by omega) hA (fun i q1 q2 => ?_)
        have : hi (24 * r + (a + b) / 2) ≤ hi (24 * r + i) := sr_T_le T q1 q2
        omega
      · refine ih ((a + b) / 2 + 1) b (by omega) hb (by omega) (fun i q => ?_) hB
        have : hi (24 * r + i) ≤ hi (24 * r + (a + b) / 2) := sr_T_le T (show i ≤ (a + b) / 2 by omega) (by omega)
        omega
theorem sr_xsa {c lo hi : Nat → Nat} {r : Nat} (hr : r < 4) (hc : c r ≤ 24) (T : sr_T (c r) (fun i => lo (24 * r + i)) (fun i => hi (24 * r + i))) {v : Nat} (hv : v < 2 ^ 31)
    (h1 : ∀ i, i < c r → lo (24 * r + i) ≤ v → v ≤ hi (24 * r + i) → post (nI (24 * r + i)))
    (h0 : (∀ i, i < c r → ¬ (lo (24 * r + i) ≤ v ∧ v ≤ hi (24 * r + i))) → post (-1)) :
    wpX_stretchAround post (fT, fA, fMa, fMi, fD, fL, fH, fIL, fIH, fC, aT, sr_A c, sr_A lo, sr_A hi, aML, aMH, aNL, aNH) (nI r) (nI v) := by
  refine nm_r (sr_24 r) ⟨vp_in_nI hr (by decide), nm_r (e' := nI (24 * r + c r)) ?_ ⟨c r + 1, ?_⟩⟩
  · rw [sr_Ar (by omega), nI_add]
  · exact sr_xsa15 hr hc T hv h1 h0 (c r + 1) 0 (c r) (by omega) (by omega) (by omega) (fun i h => absurd h (by omega)) (fun i h h' => absurd h (by omega))
/-! has -/
theorem sr_xhas {c lo hi : Nat → Nat} {r : Nat} (hr : r < 4) (hc : c r ≤ 24) (T : sr_T (c r) (fun i => lo (24 * r + i)) (fun i => hi (24 * r + i))) {v : Nat} (hv : v ≤ 999)
    (h1 : ∀ i, i < c r → lo (24 * r + i) ≤ v → v ≤ hi (24 * r + i) → post 1)
    (h0 : (∀ i, i < c r → ¬ (lo (24 * r + i) ≤ v ∧ v ≤ hi (24 * r + i))) → post 0) :
    wpX_has post (fT, fA, fMa, fMi, fD, fL, fH, fIL, fIH, fC, aT, sr_A c, sr_A lo, sr_A hi, aML, aMH, aNL, aNH) (nI r) (nI v) := by
  unfold wpX_has
  dsimp only
  refine sr_xr1 hr (br_f (by decide) (br_f (nI_pos (by omega)) (br_t (nI_le (b := 999) hv (by decide)) ?_)))
  refine sr_xsa hr hc T (by omega) (fun i q a b => ?_) (fun z => ?_)
  · exact br_f (nI_pos (by omega)) (h1 i q a b)
  · exact br_t (by decide) (h0 z)
/-! count -/
theorem sr_xct17 {c lo hi : Nat → Nat} {r : Nat} (hr : r < 4) (hc : c r ≤ 24) (T : sr_T (c r) (fun i => lo (24 * r + i)) (fun i => hi (24 * r + i))) {S : Nat → Bool} (hS : sr_S S (c r) (fun i => lo (24 * r + i)) (fun i => hi (24 * r + i))) (h : post (nI (sr_cn S 1000))) :
    ∀ d i, i + d = c r → ∀ n, d < n → wX_count_17 post (nI r) fT fA fMa fMi fD fL fH fIL fIH fC aT (sr_A c) (sr_A lo) (sr_A hi) aML aMH aNL aNH n (nI (sr_cn S (sr_E (fun i => hi (24 * r + i)) i))) (nI (24 * r + i)) := by
  intro d
  induction d with
  | zero =>
    intro i hi' n hn
    obtain ⟨n, rfl⟩ : ∃ m, n = m + 1 := ⟨n - 1, by omega⟩
    have e : i = c r := by omega
    subst e
    refine ⟨vp_in_nI hr (by decide), br_t ?_ ?_⟩
    · rw [sr_24c hr]; exact nI_le (by omega) (by omega)
    · rw [← sr_cnN T hS]; exact h
  | succ d ih =>
    intro i hi' n hn
    obtain ⟨n, rfl⟩ : ∃ m, n = m + 1 := ⟨n - 1, by omega⟩
    have hT : lo (24 * r + i) ≤ hi (24 * r + i) ∧ hi (24 * r + i) ≤ 999 := T.1 i (by omega)
    have hv : vp_in (nI (24 * r + i)) 96 := vp_in_nI (by omega) (by decide)
    refine ⟨vp_in_nI hr (by decide), br_f ?_ ⟨hv, hv, nm_r (e' := nI (sr_cn S (sr_E (fun i => hi (24 * r + i)) (i + 1)))) ?_ (nm_r (nI_1 _) ?_)⟩⟩
    · rw [sr_24c hr]; exact nI_ge (by omega) (by omega)
    · rw [sr_Ar (by omega), sr_Ar (by omega), pk_sub hT.1, nI_1, nI_add]
      exact congrArg nI (sr_cnE T hS (by omega)).symm
    · exact ih (i + 1) (by omega) n (by omega)
theorem sr_xct {c lo hi : Nat → Nat} {r : Nat} (hr : r < 4) (hc : c r ≤ 24) (T : sr_T (c r) (fun i => lo (24 * r + i)) (fun i => hi (24 * r + i))) {S : Nat → Bool} (hS : sr_S S (c r) (fun i => lo (24 * r + i)) (fun i => hi (24 * r + i))) (h : post (nI (sr_cn S 1000))) :
    wpX_count post (fT, fA, fMa, fMi, fD, fL, fH, fIL, fIH, fC, aT, sr_A c, sr_A lo, sr_A hi, aML, aMH, aNL, aNH) (nI r) := by
  unfold wpX_count
  dsimp only
  refine sr_xr1 hr (br_f (by decide) (nm_r (sr_24 r) ⟨c r + 1, ?_⟩))
  exact sr_xct17 hr hc T hS h (c r) 0 (by omega) (c r + 1) (by omega)
/-! atLeast -/
theorem sr_xal15 {c lo hi : Nat → Nat} {r : Nat} (hr : r < 4) (hc : c r ≤ 24) (T : sr_T (c r) (fun i => lo (24 * r + i)) (fun i => hi (24 * r + i))) {S : Nat → Bool} (hS : sr_S S (c r) (fun i => lo (24 * r + i)) (fun i => hi (24 * r + i))) {w : Int32}
    (h1 : ∀ v, v < 1000 → S v = true → w.toInt ≤ v → (∀ x, x < v → S x = true → ¬ w.toInt ≤ x) → post (nI v))
    (h0 : (∀ x, x < 1000 → S x = true → ¬ w.toInt ≤ x) → post (-3)) :
    ∀ d i, i + d = c r → ∀ n, d < n → (∀ j, j < i → (hi (24 * r + j) : Int) < w.toInt) → wX_atLeast_15 post (nI r) w fT fA fMa fMi fD fL fH fIL fIH fC aT (sr_A c) (sr_A lo) (sr_A hi) aML aMH aNL aNH n (nI (24 * r + i)) := by
  intro d
  induction d with
  | zero =>
    intro i hi' n hn hj
    obtain ⟨n, rfl⟩ : ∃ m, n = m + 1 := ⟨n - 1, by omega⟩
    have e : i = c r := by omega
    subst e
    refine ⟨vp_in_nI hr (by decide), br_t ?_ (h0 (fun x hx q z => ?_))⟩
    · rw [sr_24c hr]; exact nI_le (by omega) (by omega)
    · obtain ⟨j, h, a, b⟩ := (hS x hx).mp q
      have b' : x ≤ hi (24 * r + j) := b
      have := hj j h
      omega
  | succ d ih =>
    intro i hi' n hn hj
    obtain ⟨n, rfl⟩ : ∃ m, n = m + 1 := ⟨n - 1, by omega⟩
    have hT : lo (24 * r + i) ≤ hi (24 * r + i) ∧ hi (24 * r + i) ≤ 999 := T.1 i (by omega)
    have hv : vp_in (nI (24 * r + i)) 96 := vp_in_nI (by omega) (by decide)
    refine ⟨vp_in_nI hr (by decide), br_f ?_ ⟨hv, ?_⟩⟩
    · rw [sr_24c hr]; exact nI_ge (by omega) (by omega)
    rw [sr_Ar (by omega), sr_Ar (by omega)]
    refine br_c (fun h => nm_r (nI_1 _) ?_) (fun h => ⟨hv, br_c (fun q => ?_) (fun q => ⟨hv, ?_⟩)⟩)
    · rw [Int32.lt_iff_toInt_lt, nI_toInt (by omega)] at h
      refine ih (i + 1) (by omega) n (by omega) (fun j hj' => ?_)
      by_cases e : j = i
      · subst e; exact h
      · exact hj j (by omega)
    · rw [Int32.lt_iff_toInt_lt, nI_toInt (by omega)] at h
      rw [Int32.le_iff_toInt_le, nI_toInt (by omega)] at q
      obtain ⟨v, hv2, rfl⟩ := nI_of (x := w) (by rw [Int32.lt_iff_toInt_lt, show (0 : Int32).toInt = 0 from by decide]; omega)
      rw [nI_toInt hv2] at *
      refine h1 v (by omega) (sr_has T hS (i := i) (by omega) (by show lo (24 * r + i) ≤ v; omega) (by show v ≤ hi (24 * r + i); omega)) (by omega) (fun x hx q2 => ?_)
      omega
    · rw [Int32.lt_iff_toInt_lt, nI_toInt (by omega)] at h
      rw [Int32.le_iff_toInt_le, nI_toInt (by omega)] at q
      refine h1 (lo (24 * r + i)) (by omega) (sr_has T hS (i := i) (by omega) (Nat.le_refl _) hT.1) (by omega) (fun x hx q2 => ?_)
      obtain ⟨j, h3, a, b⟩ := (hS x (by omega)).mp q2
      have a' : lo (24 * r + j) ≤ x := a
      have b' : x ≤ hi (24 * r + j) := b
      by_cases e : j < i
      · have := hj j e; omega
      · by_cases e2 : j = i
        · subst e2; omega
        · have : hi (24 * r + i) + 1 < lo (24 * r + j) := sr_T_lt T (show i < j by omega) h3
          omega
theorem sr_xal {c lo hi : Nat → Nat} {r : Nat} (hr : r < 4) (hc : c r ≤ 24) (T : sr_T (c r) (fun i => lo (24 * r + i)) (fun i => hi (24 * r + i))) {S : Nat → Bool} (hS : sr_S S (c r) (fun i => lo (24 * r + i)) (fun i => hi (24 * r + i))) {w : Int32}
    (h1 : ∀ v, v < 1000 → S v = true → w.toInt ≤ v → (∀ x, x < v → S x = true → ¬ w.toInt ≤ x) → post (nI v))
    (h0 : (∀ x, x < 1000 → S x = true → ¬ w.toInt ≤ x) → post (-3)) :
    wpX_atLeast post (fT, fA, fMa, fMi, fD, fL, fH, fIL, fIH, fC, aT, sr_A c, sr_A lo, sr_A hi, aML, aMH, aNL, aNH) (nI r) w := by
  unfold wpX_atLeast
  dsimp only
  refine sr_xr1 hr (br_f (by decide) (nm_r (sr_24 r) ⟨c r + 1, ?_⟩))
  exact sr_xal15 hr hc T hS h1 h0 (c r) 0 (by omega) (c r + 1) (by omega) (fun j h => absurd h (by omega))
/-! atMost -/
theorem sr_pm (k : Nat) : nI k + (-1) = nI k - 1 := (Int32.sub_eq_add_neg (nI k) 1).symm
theorem sr_xam24 {c lo hi : Nat → Nat} {r : Nat} (hr : r < 4) (hc : c r ≤ 24) (T : sr_T (c r) (fun i => lo (24 * r + i)) (fun i => hi (24 * r + i))) {S : Nat → Bool} (hS : sr_S S (c r) (fun i => lo (24 * r + i)) (fun i => hi (24 * r + i))) {w : Int32}
    (h1 : ∀ v, v < 1000 → S v = true → (v : Int) ≤ w.toInt → (∀ x, v < x → x < 1000 → S x = true → ¬ (x : Int) ≤ w.toInt) → post (nI v))
    (h0 : (∀ x, x < 1000 → S x = true → ¬ (x : Int) ≤ w.toInt) → post (-3)) :
    ∀ i, i ≤ c r → ∀ n, i < n → (∀ j, i ≤ j → j < c r → w.toInt < (lo (24 * r + j) : Int)) → wX_atMost_24 post (nI r) w fT fA fMa fMi fD fL fH fIL fIH fC aT (sr_A c) (sr_A lo) (sr_A hi) aML aMH aNL aNH n (nI (24 * r + i) - 1) := by
  intro i
  induction i with
  | zero =>
    intro hi' n hn hj
    obtain ⟨n, rfl⟩ : ∃ m, n = m + 1 := ⟨n - 1, by omega⟩
    refine br_t ?_ (h0 (fun x hx q z => ?_))
    · rw [sr_24, Int32.lt_iff_toInt_lt, nI_toInt (by omega)]
      have : (nI (24 * r + 0) - 1).toInt = ((24 * r + 0 : Nat) : Int) - (1 : Nat) := pk_sub_toInt (a := 24 * r + 0) (b := 1) (by omega) (by decide)
      rw [this]; omega
    · obtain ⟨j, h, a, b⟩ := (hS x hx).mp q
      have a' : lo (24 * r + j) ≤ x := a
      have := hj j (by omega) h
      omega
  | succ i ih =>
    intro hi' n hn hj
    obtain ⟨n, rfl⟩ : ∃ m, n = m + 1 := ⟨n - 1, by omega⟩
    have hT : lo (24 * r + i) ≤ hi (24 * r + i) ∧ hi (24 * r + i) ≤ 999 := T.1 i (by omega)
    have hv : vp_in (nI (24 * r + i)) 96 := vp_in_nI (by omega) (by decide)
    rw [show nI (24 * r + (i + 1)) - 1 = nI (24 * r + i) from nI_pred (24 * r + i)]
    refine br_f ?_ ⟨hv, ?_⟩
    · rw [sr_24]; exact nI_nlt (by omega) (by omega)
    rw [sr_Ar (by omega), sr_Ar (by omega)]
    refine br_c (fun h => nm_r (sr_pm _) ?_) (fun h => ⟨hv, br_c (fun q => ?_) (fun q => ⟨hv, ?_⟩)⟩)
    · rw [Int32.lt_iff_toInt_lt, nI_toInt (by omega)] at h
      refine ih (by omega) n (by omega) (fun j q1 q2 => ?_)
      by_cases e : j = i
      · subst e; exact h
      · exact hj j (by omega) q2
    · rw [Int32.lt_iff_toInt_lt, nI_toInt (by omega)] at h
      rw [Int32.le_iff_toInt_le, nI_toInt (by omega)] at q
      obtain ⟨v, hv2, rfl⟩ := nI_of (x := w) (by rw [Int32.lt_iff_toInt_lt, show (0 : Int32).toInt = 0 from by decide]; omega)
      rw [nI_toInt hv2] at *
      refine h1 v (by omega) (sr_has T hS (i := i) (by omega) (by show lo (24 * r + i) ≤ v; omega) (by show v ≤ hi (24 * r + i); omega)) (by omega) (fun x hx q2 q3 => ?_)
      omega
    · rw [Int32.lt_iff_toInt_lt, nI_toInt (by omega)] at h
      rw [Int32.le_iff_toInt_le, nI_toInt (by omega)] at q
      refine h1 (hi (24 * r + i)) (by omega) (sr_has T hS (i := i) (by omega) hT.1 (Nat.le_refl _)) (by omega) (fun x hx hx2 q2 => ?_)
      obtain ⟨j, h3, a, b⟩ := (hS x hx2).mp q2
      have a' : lo (24 * r + j) ≤ x := a
      have b' : x ≤ hi (24 * r + j) := b
      by_cases e : j ≤ i
      · have : hi (24 * r + j) ≤ hi (24 * r + i) := sr_T_le T e (by omega)
        omega
      · have := hj j (by omega) h3; omega
theorem sr_xam {c lo hi : Nat → Nat} {r : Nat} (hr : r < 4) (hc : c r ≤ 24) (T : sr_T (c r) (fun i => lo (24 * r + i)) (fun i => hi (24 * r + i))) {S : Nat → Bool} (hS : sr_S S (c r) (fun i => lo (24 * r + i)) (fun i => hi (24 * r + i))) {w : Int32}
    (h1 : ∀ v, v < 1000 → S v = true → (v : Int) ≤ w.toInt → (∀ x, v < x → x < 1000 → S x = true → ¬ (x : Int) ≤ w.toInt) → post (nI v))
    (h0 : (∀ x, x < 1000 → S x = true → ¬ (x : Int) ≤ w.toInt) → post (-3)) :
    wpX_atMost post (fT, fA, fMa, fMi, fD, fL, fH, fIL, fIH, fC, aT, sr_A c, sr_A lo, sr_A hi, aML, aMH, aNL, aNH) (nI r) w := by
  unfold wpX_atMost
  dsimp only
  refine sr_xr1 hr (br_f (by decide) ⟨vp_in_nI hr (by decide), nm_r (e' := nI (24 * r + c r) - 1) ?_ ⟨c r + 1, ?_⟩⟩)
  · rw [sr_24c hr]
  · exact sr_xam24 hr hc T hS h1 h0 (c r) (by omega) (c r + 1) (by omega) (fun j q1 q2 => absurd q1 (by omega))
/-! stretches -/
theorem sr_xst {c : Nat → Nat} {r : Nat} (hr : r < 4) (h : post (nI (c r))) : wpX_stretches post (fT, fA, fMa, fMi, fD, fL, fH, fIL, fIH, fC, aT, sr_A c, aL, aH, aML, aMH, aNL, aNH) (nI r) := by
  unfold wpX_stretches
  dsimp only
  refine sr_xr1 hr (br_f (by decide) ⟨vp_in_nI hr (by decide), ?_⟩)
  rw [sr_Ar (by omega)]; exact h
/-! within -/
theorem sr_xwi23 {c lo hi : Nat → Nat} {a b : Nat} (ha : a < 4) (hb : b < 4) (hca : c a ≤ 24) (hcb : c b ≤ 24)
    (TA : sr_T (c a) (fun i => lo (24 * a + i)) (fun i => hi (24 * a + i))) (TB : sr_T (c b) (fun i => lo (24 * b + i)) (fun i => hi (24 * b + i)))
    {A B : Nat → Bool} (hA : sr_S A (c a) (fun i => lo (24 * a + i)) (fun i => hi (24 * a + i))) (hB : sr_S B (c b) (fun i => lo (24 * b + i)) (fun i => hi (24 * b + i)))
    (h1 : (∀ v, v < 1000 → A v = true → B v = true) → post 1) (h0 : ∀ v, v < 1000 → A v = true → B v = false → post 0) :
    ∀ d i, i + d = c a → ∀ n, d < n → (∀ v, v < 1000 → sr_M i (fun i => lo (24 * a + i)) (fun i => hi (24 * a + i)) v → B v = true) →
      wX_within_23 post (nI a) (nI b) fT fA fMa fMi fD fL fH fIL fIH fC aT (sr_A c) (sr_A lo) (sr_A hi) aML aMH aNL aNH n (nI (24 * a + i)) := by
  intro d
  induction d with
  | zero =>
    intro i hi' n hn hM
    obtain ⟨n, rfl⟩ : ∃ m, n = m + 1 := ⟨n - 1, by omega⟩
    have e : i = c a := by omega
    subst e
    refine ⟨vp_in_nI ha (by decide), br_t ?_ (h1 (fun v hv q => hM v hv ((hA v hv).mp q)))⟩
    rw [sr_24c ha]; exact nI_le (by omega) (by omega)
  | succ d ih =>
    intro i hi' n hn hM
    obtain ⟨n, rfl⟩ : ∃ m, n = m + 1 := ⟨n - 1, by omega⟩
    have hT : lo (24 * a + i) ≤ hi (24 * a + i) ∧ hi (24 * a + i) ≤ 999 := TA.1 i (by omega)
    have hv : vp_in (nI (24 * a + i)) 96 := vp_in_nI (by omega) (by decide)
    refine ⟨vp_in_nI ha (by decide), br_f ?_ ⟨hv, ?_⟩⟩
    · rw [sr_24c ha]; exact nI_ge (by omega) (by omega)
    rw [sr_Ar (f := lo) (by omega)]
    refine sr_xsa hb hcb TB (by omega) (fun j q1 q2 q3 => br_f (nI_pos (by omega)) ⟨vp_in_nI (by omega) (by decide), hv, ?_⟩) (fun z => br_t (by decide) (h0 (lo (24 * a + i)) (by omega) (sr_has TA hA (i := i) (by omega) (Nat.le_refl _) hT.1) ?_))
    · have hU : lo (24 * b + j) ≤ hi (24 * b + j) ∧ hi (24 * b + j) ≤ 999 := TB.1 j q1
      refine pk_le (hi (24 * a + i)) (hi (24 * b + j)) (fun h => nm_r (nI_1 _) ?_) (fun h => ?_) (sr_Ar (by omega)) (sr_Ar (by omega)) (by omega) (by omega)
      · refine ih (i + 1) (by omega) n (by omega) (fun v hv' m => ?_)
        rcases (sr_M_succ v).mp m with m | ⟨m1, m2⟩
        · exact hM v hv' m
        · have m1' : lo (24 * a + i) ≤ v := m1
          have m2' : v ≤ hi (24 * a + i) := m2
          exact sr_has TB hB q1 (by show lo (24 * b + j) ≤ v; omega) (by show v ≤ hi (24 * b + j); omega)
      · refine h0 (hi (24 * b + j) + 1) (by omega) (sr_has TA hA (i := i) (by omega) (by show lo (24 * a + i) ≤ _; omega) (by show _ ≤ hi (24 * a + i); omega)) ?_
        by_cases e : j + 1 < c b
        · exact sr_gap TB hB e (Nat.le_refl _) (TB.2 j e)
        · have e2 : c b = j + 1 := by omega
          refine sr_gapE TB hB ?_ (by omega)
          rw [e2]; exact Nat.le_refl _
    · cases e : B (lo (24 * a + i)) with
      | false => rfl
      | true =>
        obtain ⟨j, q, q1, q2⟩ := (hB _ (by omega)).mp e
        exact absurd ⟨q1, q2⟩ (z j q)
theorem sr_xwi {c lo hi : Nat → Nat} {a b : Nat} (ha : a < 4) (hb : b < 4) (hca : c a ≤ 24) (hcb : c b ≤ 24)
    (TA : sr_T (c a) (fun i => lo (24 * a + i)) (fun i => hi (24 * a + i))) (TB : sr_T (c b) (fun i => lo (24 * b + i)) (fun i => hi (24 * b + i)))
    {A B : Nat → Bool} (hA : sr_S A (c a) (fun i => lo (24 * a + i)) (fun i => hi (24 * a + i))) (hB : sr_S B (c b) (fun i => lo (24 * b + i)) (fun i => hi (24 * b + i)))
    (h1 : (∀ v, v < 1000 → A v = true → B v = true) → post 1) (h0 : ∀ v, v < 1000 → A v = true → B v = false → post 0) :
    wpX_within post (fT, fA, fMa, fMi, fD, fL, fH, fIL, fIH, fC, aT, sr_A c, sr_A lo, sr_A hi, aML, aMH, aNL, aNH) (nI a) (nI b) := by
  unfold wpX_within
  dsimp only
  refine sr_xr1 ha (br_f (by decide) (sr_xr1 hb (br_f (by decide) (nm_r (sr_24 a) ⟨c a + 1, ?_⟩))))
  exact sr_xwi23 ha hb hca hcb TA TB hA hB h1 h0 (c a) 0 (by omega) (c a + 1) (by omega) (fun v _ m => absurd m (sr_M0 _ _ v))
end
end
section
/-! the reference's questions and fills -/
def sr_gc (mk : Nat → Bool) (r : Nat) : Nat → Bool := fun v => mk (1000 * r + v)
def sr_gm (mk : Nat → Bool) (a b : Nat) : Nat → Bool := fun v => mk (1000 * a + v) && mk (1000 * b + v)
def sr_gj (mk : Nat → Bool) (a b : Nat) : Nat → Bool := fun v => mk (1000 * a + v) || mk (1000 * b + v)
def sr_gi (mk : Nat → Bool) (a : Nat) : Nat → Bool := fun v => !mk (1000 * a + v)
def sr_fl (g rs : Nat → Bool) (i : Nat) : Nat → Bool := fun v => if v < i then g v else rs v
def sr_kp (mk : Nat → Bool) (r : Nat) (rs : Nat → Bool) (i : Nat) : Nat → Bool := fun j => if 1000 * r ≤ j ∧ j < 1000 * r + i then rs (j - 1000 * r) else mk j
theorem sr_fl0 (g rs : Nat → Bool) : sr_fl g rs 0 = rs := by
  funext v; exact if_neg (by omega)
theorem sr_flt {g rs : Nat → Bool} {i v : Nat} (h : v < i) : sr_fl g rs i v = g v := if_pos h
theorem sr_fls {g rs : Nat → Bool} {i : Nat} {x : Int32} (hi : i < 1000) (hx : x = sr_b (g i)) : upd (sr_B (sr_fl g rs i)) (nI i).toNatClampNeg x = sr_B (sr_fl g rs (i + 1)) := by
  rw [sr_upB i (g i) rfl (by omega) hx]
  refine congrArg sr_B (funext fun v => ?_)
  show (if v = i then g i else if v < i then g v else rs v) = if v < i + 1 then g v else rs v
  by_cases e : v = i
  · subst e; rw [if_pos rfl, if_pos (by omega)]
  · rw [if_neg e]
    by_cases e2 : v < i
    · rw [if_pos e2, if_pos (by omega)]
    · rw [if_neg e2, if_neg (by omega)]
theorem sr_kp0 (mk : Nat → Bool) (r : Nat) (rs : Nat → Bool) : sr_kp mk r rs 0 = mk := by
  funext v; exact if_neg (by omega)
theorem sr_mkr {mk : Nat → Bool} {r i : Nat} (hr : r < 4) (hi : i < 1000) : sr_B mk ((1000 : Int32) * nI r + nI i).toNatClampNeg = sr_b (mk (1000 * r + i)) := by
  rw [sr_1000i, sr_Br (by omega)]
theorem sr_mki {r i : Nat} (hr : r < 4) (hi : i < 1000) : vp_in ((1000 : Int32) * nI r + nI i) 4000 := by
  rw [sr_1000i]; exact vp_in_nI (by omega) (by decide)
theorem sr_kps {mk rs : Nat → Bool} {r i : Nat} (hr : r < 4) (hi : i < 1000) : upd (sr_B (sr_kp mk r rs i)) ((1000 : Int32) * nI r + nI i).toNatClampNeg (vp_nar .boolean (sr_B rs (nI i).toNatClampNeg)) = sr_B (sr_kp mk r rs (i + 1)) := by
  rw [sr_Br (by omega), sr_upB (1000 * r + i) (rs i) (sr_1000i r i) (by omega) (sr_nbool _)]
  refine congrArg sr_B (funext fun v => ?_)
  show (if v = 1000 * r + i then rs i else if 1000 * r ≤ v ∧ v < 1000 * r + i then rs (v - 1000 * r) else mk v) = if 1000 * r ≤ v ∧ v < 1000 * r + (i + 1) then rs (v - 1000 * r) else mk v
  by_cases e : v = 1000 * r + i
  · subst e; rw [if_pos rfl, if_pos (by omega)]
    exact congrArg rs (by omega)
  · rw [if_neg e]
    by_cases e2 : 1000 * r ≤ v ∧ v < 1000 * r + i
    · rw [if_pos e2, if_pos (by omega)]
    · rw [if_neg e2, if_neg (by omega)]
theorem sr_n0 {b : Bool} (h : b = false) : vp_nar .boolean 0 = sr_b b := by subst h; rfl
theorem sr_n1 {b : Bool} (h : b = true) : vp_nar .boolean 1 = sr_b b := by subst h; rfl
section
variable {gN gA gL gH : Int32} {bT bM bR : Nat → Int32}
variable {post : Int32 → Prop}
/-! count -/
theorem sr_yct14 {mk : Nat → Bool} {r : Nat} (hr : r < 4) (h : post (nI (sr_cn (sr_gc mk r) 1000))) :
    ∀ d i, i + d = 1000 → ∀ n, d < n → wY_count_14 post (nI r) gN gA gL gH bT (sr_B mk) bR n (nI (sr_cn (sr_gc mk r) i)) (nI i) := by
  intro d
  induction d with
  | zero =>
    intro i hi' n hn
    obtain ⟨n, rfl⟩ : ∃ m, n = m + 1 := ⟨n - 1, by omega⟩
    have e : i = 1000 := by omega
    subst e
    exact br_t (nI_le (a := 1000) (b := 1000) (by omega) (by omega)) h
  | succ d ih =>
    intro i hi' n hn
    obtain ⟨n, rfl⟩ : ∃ m, n = m + 1 := ⟨n - 1, by omega⟩
    refine br_f (nI_ge (b := 1000) (by omega) (by decide)) ⟨sr_mki hr (by omega), sr_br (mk (1000 * r + i)) (sr_mkr hr (by omega)) (fun q => nm_r (nI_1 _) ?_) (fun q => nm_r (e' := nI (sr_cn (sr_gc mk r) (i + 1))) ?_ (nm_r (nI_1 _) ?_))⟩
    · have := ih (i + 1) (by omega) n (by omega)
      rw [sr_cn_f (S := sr_gc mk r) q] at this
      exact this
    · rw [sr_cn_t (S := sr_gc mk r) q, nI_1]
    · exact ih (i + 1) (by omega) n (by omega)
theorem sr_yct {mk : Nat → Bool} {r : Nat} (hr : r < 4) (h : post (nI (sr_cn (sr_gc mk r) 1000))) : wpY_count post (gN, gA, gL, gH, bT, sr_B mk, bR) (nI r) := by
  unfold wpY_count
  dsimp only
  refine sr_yr1 hr (br_f (by decide) ⟨1001, ?_⟩)
  exact sr_yct14 hr h 1000 0 (by omega) 1001 (by omega)
/-! has -/
theorem sr_yhas {mk : Nat → Bool} {r v : Nat} (hr : r < 4) (hv : v ≤ 999) (h1 : sr_gc mk r v = true → post 1) (h0 : sr_gc mk r v = false → post 0) : wpY_has post (gN, gA, gL, gH, bT, sr_B mk, bR) (nI r) (nI v) := by
  unfold wpY_has
  dsimp only
  exact sr_yr1 hr (br_f (by decide) (br_f (nI_pos (by omega)) (br_f (nI_nlt (a := 999) hv (by decide)) ⟨sr_mki hr (by omega), sr_br (mk (1000 * r + v)) (sr_mkr hr (by omega)) h0 h1⟩)))
/-! atLeast -/
theorem sr_yal12 {mk : Nat → Bool} {r : Nat} (hr : r < 4) {w : Int32}
    (h1 : ∀ v, v < 1000 → sr_gc mk r v = true → w.toInt ≤ v → (∀ x, x < v → sr_gc mk r x = true → ¬ w.toInt ≤ x) → post (nI v))
    (h0 : (∀ x, x < 1000 → sr_gc mk r x = true → ¬ w.toInt ≤ x) → post (-3)) :
    ∀ d i, i + d = 1000 → ∀ n, d < n → (∀ x, x < i → sr_gc mk r x = true → ¬ w.toInt ≤ x) → wY_atLeast_12 post (nI r) w gN gA gL gH bT (sr_B mk) bR n (nI i) := by
  intro d
  induction d with
  | zero =>
    intro i hi' n hn hx
    obtain ⟨n, rfl⟩ : ∃ m, n = m + 1 := ⟨n - 1, by omega⟩
    have e : i = 1000 := by omega
    subst e
    exact br_t (nI_le (a := 1000) (b := 1000) (by omega) (by omega)) (h0 hx)
  | succ d ih =>
    intro i hi' n hn hx
    obtain ⟨n, rfl⟩ : ∃ m, n = m + 1 := ⟨n - 1, by omega⟩
    refine br_f (nI_ge (b := 1000) (by omega) (by decide)) ⟨sr_mki hr (by omega), sr_br (mk (1000 * r + i)) (sr_mkr hr (by omega)) (fun q => nm_r (nI_1 _) ?_) (fun q => br_c (fun z => nm_r (nI_1 _) ?_) (fun z => h1 i (by omega) q ?_ hx))⟩
    · refine ih (i + 1) (by omega) n (by omega) (fun x hx' q2 => ?_)
      by_cases e : x = i
      · subst e; exact absurd (q2.symm.trans q) (by decide)
      · exact hx x (by omega) q2
    · rw [Int32.lt_iff_toInt_lt, nI_toInt (by omega)] at z
      refine ih (i + 1) (by omega) n (by omega) (fun x hx' q2 => ?_)
      by_cases e : x = i
      · subst e; omega
      · exact hx x (by omega) q2
    · rw [Int32.lt_iff_toInt_lt, nI_toInt (by omega)] at z
      omega
theorem sr_yal {mk : Nat → Bool} {r : Nat} (hr : r < 4) {w : Int32}
    (h1 : ∀ v, v < 1000 → sr_gc mk r v = true → w.toInt ≤ v → (∀ x, x < v → sr_gc mk r x = true → ¬ w.toInt ≤ x) → post (nI v))
    (h0 : (∀ x, x < 1000 → sr_gc mk r x = true → ¬ w.toInt ≤ x) → post (-3)) : wpY_atLeast post (gN, gA, gL, gH, bT, sr_B mk, bR) (nI r) w := by
  unfold wpY_atLeast
  dsimp only
  refine sr_yr1 hr (br_f (by decide) ⟨1001, ?_⟩)
  exact sr_yal12 hr h1 h0 1000 0 (by omega) 1001 (by omega) (fun x h => absurd h (by omega))
/-! atMost -/
theorem sr_yam14 {mk : Nat → Bool} {r : Nat} (hr : r < 4) {w : Int32}
    (h1 : ∀ v, v < 1000 → sr_gc mk r v = true → (v : Int) ≤ w.toInt → (∀ x, v < x → x < 1000 → sr_gc mk r x = true → ¬ (x : Int) ≤ w.toInt) → post (nI v))
    (h0 : (∀ x, x < 1000 → sr_gc mk r x = true → ¬ (x : Int) ≤ w.toInt) → post (-3)) :
    ∀ i, i ≤ 1000 → ∀ n, i < n → (∀ x, i ≤ x → x < 1000 → sr_gc mk r x = true → ¬ (x : Int) ≤ w.toInt) → wY_atMost_14 post (nI r) w gN gA gL gH bT (sr_B mk) bR n (nI i - 1) := by
  intro i
  induction i with
  | zero =>
    intro hi' n hn hx
    obtain ⟨n, rfl⟩ : ∃ m, n = m + 1 := ⟨n - 1, by omega⟩
    exact br_t (by decide) (h0 (fun x => hx x (by omega)))
  | succ i ih =>
    intro hi' n hn hx
    obtain ⟨n, rfl⟩ : ∃ m, n = m + 1 := ⟨n - 1, by omega⟩
    rw [nI_pred]
    refine br_f (nI_pos (by omega)) ⟨sr_mki hr (by omega), sr_br (mk (1000 * r + i)) (sr_mkr hr (by omega)) (fun q => nm_r (sr_pm _) ?_) (fun q => br_c (fun z => nm_r (sr_pm _) ?_) (fun z => h1 i (by omega) q ?_ (fun x q1 => hx x (by omega))))⟩
    · refine ih (by omega) n (by omega) (fun x q1 q2 q3 => ?_)
      by_cases e : x = i
      · subst e; exact absurd (q3.symm.trans q) (by decide)
      · exact hx x (by omega) q2 q3
    · rw [Int32.lt_iff_toInt_lt, nI_toInt (by omega)] at z
      refine ih (by omega) n (by omega) (fun x q1 q2 q3 => ?_)
      by_cases e : x = i
      · subst e; omega
      · exact hx x (by omega) q2 q3
    · rw [Int32.lt_iff_toInt_lt, nI_toInt (by omega)] at z
      omega
theorem sr_yam {mk : Nat → Bool} {r : Nat} (hr : r < 4) {w : Int32}
    (h1 : ∀ v, v < 1000 → sr_gc mk r v = true → (v : Int) ≤ w.toInt → (∀ x, v < x → x < 1000 → sr_gc mk r x = true → ¬ (x : Int) ≤ w.toInt) → post (nI v))
    (h0 : (∀ x, x < 1000 → sr_gc mk r x = true → ¬ (x : Int) ≤ w.toInt) → post (-3)) : wpY_atMost post (gN, gA, gL, gH, bT, sr_B mk, bR) (nI r) w := by
  unfold wpY_atMost
  dsimp only
  refine sr_yr1 hr (br_f (by decide) ⟨1001, ?_⟩)
  have := sr_yam14 (gN := gN) (gA := gA) (gL := gL) (gH := gH) (bT := bT) (bR := bR) hr h1 h0 1000 (by omega) 1001 (by omega) (fun x h h' => absurd h (by omega))
  rw [show nI 1000 - 1 = (999 : Int32) from by decide +kernel] at this
  exact this
/-! within -/
theorem sr_ywi20 {mk : Nat → Bool} {a b : Nat} (ha : a < 4) (hb : b < 4)
    (h1 : (∀ v, v < 1000 → sr_gc mk a v = true → sr_gc mk b v = true) → post 1) (h0 : ∀ v, v < 1000 → sr_gc mk a v = true → sr_gc mk b v = false → post 0) :
    ∀ d i, i + d = 1000 → ∀ n, d < n → (∀ v, v < i → sr_gc mk a v = true → sr_gc mk b v = true) → wY_within_20 post (nI a) (nI b) gN gA gL gH bT (sr_B mk) bR n (nI i) := by
  intro d
  induction d with
  | zero =>
    intro i hi' n hn hx
    obtain ⟨n, rfl⟩ : ∃ m, n = m + 1 := ⟨n - 1, by omega⟩
    have e : i = 1000 := by omega
    subst e
    exact br_t (nI_le (a := 1000) (b := 1000) (by omega) (by omega)) (h1 hx)
  | succ d ih =>
    intro i hi' n hn hx
    obtain ⟨n, rfl⟩ : ∃ m, n = m + 1 := ⟨n - 1, by omega⟩
    refine br_f (nI_ge (b := 1000) (by omega) (by decide)) ⟨sr_mki ha (by omega), sr_br (mk (1000 * a + i)) (sr_mkr ha (by omega)) (fun q => nm_r (nI_1 _) ?_) (fun q => ⟨sr_mki hb (by omega), sr_br (mk (1000 * b + i)) (sr_mkr hb (by omega)) (fun q2 => h0 i (by omega) q q2) (fun q2 => nm_r (nI_1 _) ?_)⟩)⟩
    · refine ih (i + 1) (by omega) n (by omega) (fun x hx' q2 => ?_)
      by_cases e : x = i
      · subst e; exact absurd (q2.symm.trans q) (by decide)
      · exact hx x (by omega) q2
    · refine ih (i + 1) (by omega) n (by omega) (fun x hx' q3 => ?_)
      by_cases e : x = i
      · subst e; exact q2
      · exact hx x (by omega) q3
theorem sr_ywi {mk : Nat → Bool} {a b : Nat} (ha : a < 4) (hb : b < 4)
    (h1 : (∀ v, v < 1000 → sr_gc mk a v = true → sr_gc mk b v = true) → post 1) (h0 : ∀ v, v < 1000 → sr_gc mk a v = true → sr_gc mk b v = false → post 0) : wpY_within post (gN, gA, gL, gH, bT, sr_B mk, bR) (nI a) (nI b) := by
  unfold wpY_within
  dsimp only
  refine sr_yr1 ha (br_f (by decide) (sr_yr1 hb (br_f (by decide) ⟨1001, ?_⟩)))
  exact sr_ywi20 ha hb h1 h0 1000 0 (by omega) 1001 (by omega) (fun x h => absurd h (by omega))
/-! stretchesOfResult -/
theorem sr_ysr4 {rs : Nat → Bool} (h : post (nI (sr_cn (sr_st rs) 1000))) :
    ∀ d i, i + d = 1000 → ∀ n, d < n → wY_stretchesOfResult_4 post gN gA gL gH bT bM (sr_B rs) n (nI (sr_cn (sr_st rs) i)) (nI i) := by
  intro d
  induction d with
  | zero =>
    intro i hi' n hn
    obtain ⟨n, rfl⟩ : ∃ m, n = m + 1 := ⟨n - 1, by omega⟩
    have e : i = 1000 := by omega
    subst e
    exact br_t (nI_le (a := 1000) (b := 1000) (by omega) (by omega)) h
  | succ d ih =>
    intro i hi' n hn
    obtain ⟨n, rfl⟩ : ∃ m, n = m + 1 := ⟨n - 1, by omega⟩
    have I := ih (i + 1) (by omega) n (by omega)
    refine br_f (nI_ge (b := 1000) (by omega) (by decide)) ⟨vp_in_nI (by omega) (by decide), sr_br (rs i) (sr_Br (by omega)) (fun q => nm_r (nI_1 _) ?_) (fun q => ?_)⟩
    · rw [sr_cn_f (sr_st_f q)] at I
      exact I
    · refine pk_eq i 0 (fun e => ?_) (fun e => ?_)
      · rw [sr_cn_t (sr_st_t q (Or.inl e)), ← nI_1, ← nI_1] at I
        exact nm_e (nm_e I)
      · have e1 : nI i - 1 = nI (i - 1) := pk_sub (a := i) (b := 1) (by omega)
        rw [e1]
        refine ⟨vp_in_nI (by omega) (by decide), sr_br (rs (i - 1)) (sr_Br (by omega)) (fun q2 => ?_) (fun q2 => ?_)⟩
        · rw [sr_cn_t (sr_st_t q (Or.inr q2)), ← nI_1, ← nI_1] at I
          exact nm_e (nm_e I)
        · rw [sr_cn_f (sr_st_p (by omega) q2), ← nI_1] at I
          exact nm_e I
theorem sr_ysr {rs : Nat → Bool} (h : post (nI (sr_cn (sr_st rs) 1000))) : wpY_stretchesOfResult post (gN, gA, gL, gH, bT, bM, sr_B rs) :=
  ⟨1001, sr_ysr4 h 1000 0 (by omega) 1001 (by omega)⟩
end
section
variable {gN gA gL gH : Int32} {bT bM bR : Nat → Int32}
/-! keep, keepIfFew, stretches, meet, join, invert -/
theorem sr_yk2 {post : SY → Prop} {mk rs : Nat → Bool} {r : Nat} (hr : r < 4) (h : post (gN, gA, gL, gH, bT, sr_B (sr_kp mk r rs 1000), sr_B rs)) :
    ∀ d i, i + d = 1000 → ∀ n, d < n → wY_keep_2 post (nI r) gN gA gL gH n (nI i) bT (sr_B (sr_kp mk r rs i)) (sr_B rs) := by
  intro d
  induction d with
  | zero =>
    intro i hi' n hn
    obtain ⟨n, rfl⟩ : ∃ m, n = m + 1 := ⟨n - 1, by omega⟩
    have e : i = 1000 := by omega
    subst e
    exact br_t (nI_le (a := 1000) (b := 1000) (by omega) (by omega)) h
  | succ d ih =>
    intro i hi' n hn
    obtain ⟨n, rfl⟩ : ∃ m, n = m + 1 := ⟨n - 1, by omega⟩
    exact br_f (nI_ge (b := 1000) (by omega) (by decide)) ⟨vp_in_nI (by omega) (by decide), sr_mki hr (by omega), nm_r (sr_kps hr (by omega)) (nm_r (nI_1 _) (ih (i + 1) (by omega) n (by omega)))⟩
theorem sr_yk {post : SY → Prop} {mk rs : Nat → Bool} {r : Nat} (hr : r < 4) (h : post (gN, gA, gL, gH, bT, sr_B (sr_kp mk r rs 1000), sr_B rs)) :
    wpY_keep post (gN, gA, gL, gH, bT, sr_B mk, sr_B rs) (nI r) := by
  have := sr_yk2 hr h 1000 0 (by omega) 1001 (by omega)
  rw [sr_kp0] at this
  exact ⟨1001, this⟩
theorem sr_ykf {post : Int32 → SY → Prop} {mk rs : Nat → Bool} {r : Nat} (hr : r < 4)
    (h1 : sr_cn (sr_st rs) 1000 ≤ 24 → post 1 (gN, gA, gL, gH, bT, sr_B (sr_kp mk r rs 1000), sr_B rs))
    (h0 : ¬ sr_cn (sr_st rs) 1000 ≤ 24 → post 0 (gN, gA, gL, gH, bT, sr_B mk, sr_B rs)) :
    wpY_keepIfFew post (gN, gA, gL, gH, bT, sr_B mk, sr_B rs) (nI r) := by
  unfold wpY_keepIfFew
  dsimp only
  refine sr_ysr ?_
  have hl := sr_cn_le (sr_st rs) 1000
  refine pk_le (sr_cn (sr_st rs) 1000) 24 (fun q => sr_yk hr (h1 q)) (fun q => h0 (by omega))
variable {post : Int32 → SY → Prop}
theorem sr_yst12 {mk rs : Nat → Bool} {r : Nat} (hr : r < 4) (h : post (nI (sr_cn (sr_st (sr_fl (sr_gc mk r) rs 1000)) 1000)) (gN, gA, gL, gH, bT, sr_B mk, sr_B (sr_fl (sr_gc mk r) rs 1000))) :
    ∀ d i, i + d = 1000 → ∀ n, d < n → wY_stretches_12 post (nI r) gN gA gL gH n (nI i) bT (sr_B mk) (sr_B (sr_fl (sr_gc mk r) rs i)) := by
  intro d
  induction d with
  | zero =>
    intro i hi' n hn
    obtain ⟨n, rfl⟩ : ∃ m, n = m + 1 := ⟨n - 1, by omega⟩
    have e : i = 1000 := by omega
    subst e
    exact br_t (nI_le (a := 1000) (b := 1000) (by omega) (by omega)) (sr_ysr h)
  | succ d ih =>
    intro i hi' n hn
    obtain ⟨n, rfl⟩ : ∃ m, n = m + 1 := ⟨n - 1, by omega⟩
    refine br_f (nI_ge (b := 1000) (by omega) (by decide)) ⟨sr_mki hr (by omega), vp_in_nI (by omega) (by decide), nm_r (sr_fls (by omega) ?_) (nm_r (nI_1 _) (ih (i + 1) (by omega) n (by omega)))⟩
    rw [sr_mkr hr (by omega)]
    exact sr_nbool _
theorem sr_yst {mk rs : Nat → Bool} {r : Nat} (hr : r < 4) (h : post (nI (sr_cn (sr_st (sr_fl (sr_gc mk r) rs 1000)) 1000)) (gN, gA, gL, gH, bT, sr_B mk, sr_B (sr_fl (sr_gc mk r) rs 1000))) :
    wpY_stretches post (gN, gA, gL, gH, bT, sr_B mk, sr_B rs) (nI r) := by
  unfold wpY_stretches
  dsimp only
  refine sr_yr1 hr (br_f (by decide) ⟨1001, ?_⟩)
  have := sr_yst12 hr h 1000 0 (by omega) 1001 (by omega)
  rw [sr_fl0] at this
  exact this
theorem sr_ym29 {mk rs : Nat → Bool} {d a b : Nat} (hd : d < 4) (ha : a < 4) (hb : b < 4)
    (h1 : sr_cn (sr_st (sr_fl (sr_gm mk a b) rs 1000)) 1000 ≤ 24 → post 1 (gN, gA, gL, gH, bT, sr_B (sr_kp mk d (sr_fl (sr_gm mk a b) rs 1000) 1000), sr_B (sr_fl (sr_gm mk a b) rs 1000)))
    (h0 : ¬ sr_cn (sr_st (sr_fl (sr_gm mk a b) rs 1000)) 1000 ≤ 24 → post 0 (gN, gA, gL, gH, bT, sr_B mk, sr_B (sr_fl (sr_gm mk a b) rs 1000))) :
    ∀ k i, i + k = 1000 → ∀ n, k < n → wY_meet_29 post (nI d) (nI a) (nI b) gN gA gL gH n (nI i) bT (sr_B mk) (sr_B (sr_fl (sr_gm mk a b) rs i)) := by
  intro k
  induction k with
  | zero =>
    intro i hi' n hn
    obtain ⟨n, rfl⟩ : ∃ m, n = m + 1 := ⟨n - 1, by omega⟩
    have e : i = 1000 := by omega
    subst e
    exact br_t (nI_le (a := 1000) (b := 1000) (by omega) (by omega)) (sr_ykf hd (fun q => ⟨narrow_b1, h1 q⟩) (fun q => ⟨narrow_b0, h0 q⟩))
  | succ k ih =>
    intro i hi' n hn
    obtain ⟨n, rfl⟩ : ∃ m, n = m + 1 := ⟨n - 1, by omega⟩
    have I := ih (i + 1) (by omega) n (by omega)
    have hv : vp_in (nI i) 1000 := vp_in_nI (by omega) (by decide)
    refine br_f (nI_ge (b := 1000) (by omega) (by decide)) ⟨sr_mki ha (by omega), sr_br (mk (1000 * a + i)) (sr_mkr ha (by omega)) (fun q => ⟨hv, nm_r (sr_fls (by omega) (sr_n0 ?_)) (nm_r (nI_1 _) I)⟩) (fun q => ⟨sr_mki hb (by omega), sr_br (mk (1000 * b + i)) (sr_mkr hb (by omega)) (fun q2 => ⟨hv, nm_r (sr_fls (by omega) (sr_n0 ?_)) (nm_r (nI_1 _) I)⟩) (fun q2 => ⟨hv, nm_r (sr_fls (by omega) (sr_n1 ?_)) (nm_r (nI_1 _) I)⟩)⟩)⟩
    · unfold sr_gm; rw [q]; rfl
    · unfold sr_gm; rw [q, q2]; rfl
    · unfold sr_gm; rw [q, q2]; rfl
theorem sr_ym {mk rs : Nat → Bool} {d a b : Nat} (hd : d < 4) (ha : a < 4) (hb : b < 4)
    (h1 : sr_cn (sr_st (sr_fl (sr_gm mk a b) rs 1000)) 1000 ≤ 24 → post 1 (gN, gA, gL, gH, bT, sr_B (sr_kp mk d (sr_fl (sr_gm mk a b) rs 1000) 1000), sr_B (sr_fl (sr_gm mk a b) rs 1000)))
    (h0 : ¬ sr_cn (sr_st (sr_fl (sr_gm mk a b) rs 1000)) 1000 ≤ 24 → post 0 (gN, gA, gL, gH, bT, sr_B mk, sr_B (sr_fl (sr_gm mk a b) rs 1000))) :
    wpY_meet post (gN, gA, gL, gH, bT, sr_B mk, sr_B rs) (nI d) (nI a) (nI b) := by
  unfold wpY_meet
  dsimp only
  refine sr_yr1 hd (br_f (by decide) (sr_yr1 ha (br_f (by decide) (sr_yr1 hb (br_f (by decide) ⟨1001, ?_⟩)))))
  have := sr_ym29 hd ha hb h1 h0 1000 0 (by omega) 1001 (by omega)
  rw [sr_fl0] at this
  exact this
theorem sr_yj29 {mk rs : Nat → Bool} {d a b : Nat} (hd : d < 4) (ha : a < 4) (hb : b < 4)
    (h1 : sr_cn (sr_st (sr_fl (sr_gj mk a b) rs 1000)) 1000 ≤ 24 → post 1 (gN, gA, gL, gH, bT, sr_B (sr_kp mk d (sr_fl (sr_gj mk a b) rs 1000) 1000), sr_B (sr_fl (sr_gj mk a b) rs 1000)))
    (h0 : ¬ sr_cn (sr_st (sr_fl (sr_gj mk a b) rs 1000)) 1000 ≤ 24 → post 0 (gN, gA, gL, gH, bT, sr_B mk, sr_B (sr_fl (sr_gj mk a b) rs 1000))) :
    ∀ k i, i + k = 1000 → ∀ n, k < n → wY_join_29 post (nI d) (nI a) (nI b) gN gA gL gH n (nI i) bT (sr_B mk) (sr_B (sr_fl (sr_gj mk a b) rs i)) := by
  intro k
  induction k with
  | zero =>
    intro i hi' n hn
    obtain ⟨n, rfl⟩ : ∃ m, n = m + 1 := ⟨n - 1, by omega⟩
    have e : i = 1000 := by omega
    subst e
    exact br_t (nI_le (a := 1000) (b := 1000) (by omega) (by omega)) (sr_ykf hd (fun q => ⟨narrow_b1, h1 q⟩) (fun q => ⟨narrow_b0, h0 q⟩))
  | succ k ih =>
    intro i hi' n hn
    obtain ⟨n, rfl⟩ : ∃ m, n = m + 1 := ⟨n - 1, by omega⟩
    have I := ih (i + 1) (by omega) n (by omega)
    have hv : vp_in (nI i) 1000 := vp_in_nI (by omega) (by decide)
    refine br_f (nI_ge (b := 1000) (by omega) (by decide)) ⟨sr_mki ha (by omega), sr_br (mk (1000 * a + i)) (sr_mkr ha (by omega)) (fun q => ⟨sr_mki hb (by omega), sr_br (mk (1000 * b + i)) (sr_mkr hb (by omega)) (fun q2 => ⟨hv, nm_r (sr_fls (by omega) (sr_n0 ?_)) (nm_r (nI_1 _) I)⟩) (fun q2 => ⟨hv, nm_r (sr_fls (by omega) (sr_n1 ?_)) (nm_r (nI_1 _) I)⟩)⟩) (fun q => ⟨hv, nm_r (sr_fls (by omega) (sr_n1 ?_)) (nm_r (nI_1 _) I)⟩)⟩
    · unfold sr_gj; rw [q, q2]; rfl
    · unfold sr_gj; rw [q, q2]; rfl
    · unfold sr_gj; rw [q]; rfl
theorem sr_yj {mk rs : Nat → Bool} {d a b : Nat} (hd : d < 4) (ha : a < 4) (hb : b < 4)
    (h1 : sr_cn (sr_st (sr_fl (sr_gj mk a b) rs 1000)) 1000 ≤ 24 → post 1 (gN, gA, gL, gH, bT, sr_B (sr_kp mk d (sr_fl (sr_gj mk a b) rs 1000) 1000), sr_B (sr_fl (sr_gj mk a b) rs 1000)))
    (h0 : ¬ sr_cn (sr_st (sr_fl (sr_gj mk a b) rs 1000)) 1000 ≤ 24 → post 0 (gN, gA, gL, gH, bT, sr_B mk, sr_B (sr_fl (sr_gj mk a b) rs 1000))) :
    wpY_join post (gN, gA, gL, gH, bT, sr_B mk, sr_B rs) (nI d) (nI a) (nI b) := by
  unfold wpY_join
  dsimp only
  refine sr_yr1 hd (br_f (by decide) (sr_yr1 ha (br_f (by decide) (sr_yr1 hb (br_f (by decide) ⟨1001, ?_⟩)))))
  have := sr_yj29 hd ha hb h1 h0 1000 0 (by omega) 1001 (by omega)
  rw [sr_fl0] at this
  exact this
theorem sr_yi20 {mk rs : Nat → Bool} {d a : Nat} (hd : d < 4) (ha : a < 4)
    (h1 : sr_cn (sr_st (sr_fl (sr_gi mk a) rs 1000)) 1000 ≤ 24 → post 1 (gN, gA, gL, gH, bT, sr_B (sr_kp mk d (sr_fl (sr_gi mk a) rs 1000) 1000), sr_B (sr_fl (sr_gi mk a) rs 1000)))
    (h0 : ¬ sr_cn (sr_st (sr_fl (sr_gi mk a) rs 1000)) 1000 ≤ 24 → post 0 (gN, gA, gL, gH, bT, sr_B mk, sr_B (sr_fl (sr_gi mk a) rs 1000))) :
    ∀ k i, i + k = 1000 → ∀ n, k < n → wY_invert_20 post (nI d) (nI a) gN gA gL gH n (nI i) bT (sr_B mk) (sr_B (sr_fl (sr_gi mk a) rs i)) := by
  intro k
  induction k with
  | zero =>
    intro i hi' n hn
    obtain ⟨n, rfl⟩ : ∃ m, n = m + 1 := ⟨n - 1, by omega⟩
    have e : i = 1000 := by omega
    subst e
    exact br_t (nI_le (a := 1000) (b := 1000) (by omega) (by omega)) (sr_ykf hd (fun q => ⟨narrow_b1, h1 q⟩) (fun q => ⟨narrow_b0, h0 q⟩))
  | succ k ih =>
    intro i hi' n hn
    obtain ⟨n, rfl⟩ : ∃ m, n = m + 1 := ⟨n - 1, by omega⟩
    have I := ih (i + 1) (by omega) n (by omega)
    have hv : vp_in (nI i) 1000 := vp_in_nI (by omega) (by decide)
    refine br_f (nI_ge (b := 1000) (by omega) (by decide)) ⟨sr_mki ha (by omega), sr_br (mk (1000 * a + i)) (sr_mkr ha (by omega)) (fun q => ⟨hv, nm_r (sr_fls (by omega) (sr_n1 ?_)) (nm_r (nI_1 _) I)⟩) (fun q => ⟨hv, nm_r (sr_fls (by omega) (sr_n0 ?_)) (nm_r (nI_1 _) I)⟩)⟩
    · unfold sr_gi; rw [q]; rfl
    · unfold sr_gi; rw [q]; rfl
theorem sr_yi {mk rs : Nat → Bool} {d a : Nat} (hd : d < 4) (ha : a < 4)
    (h1 : sr_cn (sr_st (sr_fl (sr_gi mk a) rs 1000)) 1000 ≤ 24 → post 1 (gN, gA, gL, gH, bT, sr_B (sr_kp mk d (sr_fl (sr_gi mk a) rs 1000) 1000), sr_B (sr_fl (sr_gi mk a) rs 1000)))
    (h0 : ¬ sr_cn (sr_st (sr_fl (sr_gi mk a) rs 1000)) 1000 ≤ 24 → post 0 (gN, gA, gL, gH, bT, sr_B mk, sr_B (sr_fl (sr_gi mk a) rs 1000))) :
    wpY_invert post (gN, gA, gL, gH, bT, sr_B mk, sr_B rs) (nI d) (nI a) := by
  unfold wpY_invert
  dsimp only
  refine sr_yr1 hd (br_f (by decide) (sr_yr1 ha (br_f (by decide) ⟨1001, ?_⟩)))
  have := sr_yi20 hd ha h1 h0 1000 0 (by omega) 1001 (by omega)
  rw [sr_fl0] at this
  exact this
end
end
section
/-! unite: an interval melts into a row of stretches -/
def sr_U0 (M : Nat) (ml mh : Nat → Nat) (fr to i lw hg q : Nat) (nl nh : Nat → Nat) : Prop :=
  lw ≤ hg ∧ hg ≤ 999 ∧ sr_T q nl nh ∧ (i < M → ∀ j, j < q → nh j + 1 < ml i) ∧ q ≤ i ∧ (∀ j, j < q → nh j + 1 < lw) ∧
  ∀ v, (sr_M q nl nh v ∨ (lw ≤ v ∧ v ≤ hg)) ↔ (sr_M i ml mh v ∨ (fr ≤ v ∧ v ≤ to))
def sr_U1 (M : Nat) (ml mh : Nat → Nat) (fr to i hg q : Nat) (nl nh : Nat → Nat) : Prop :=
  sr_T q nl nh ∧ (i < M → ∀ j, j < q → nh j + 1 < ml i) ∧ q ≤ i + 1 ∧ (i < M → hg + 1 < ml i) ∧
  ∀ v, sr_M q nl nh v ↔ (sr_M i ml mh v ∨ (fr ≤ v ∧ v ≤ to))
theorem sr_p1 {a b x f m : Prop} (h : (m ∨ b) ↔ (x ∨ f)) : ((m ∨ a) ∨ b) ↔ ((x ∨ a) ∨ f) := by
  by_cases ha : a
  · exact ⟨fun _ => Or.inl (Or.inr ha), fun _ => Or.inl (Or.inr ha)⟩
  · constructor
    · intro z
      rcases z with (z | z) | z
      · rcases h.mp (Or.inl z) with y | y
        · exact Or.inl (Or.inl y)
        · exact Or.inr y
      · exact absurd z ha
      · rcases h.mp (Or.inr z) with y | y
        · exact Or.inl (Or.inl y)
        · exact Or.inr y
    · intro z
      rcases z with (z | z) | z
      · rcases h.mpr (Or.inl z) with y | y
        · exact Or.inl (Or.inl y)
        · exact Or.inr y
      · exact absurd z ha
      · rcases h.mpr (Or.inr z) with y | y
        · exact Or.inl (Or.inl y)
        · exact Or.inr y
theorem sr_p2 {a b d x f m : Prop} (h : (m ∨ b) ↔ (x ∨ f)) (hd : d ↔ (b ∨ a)) : (m ∨ d) ↔ ((x ∨ a) ∨ f) := by
  rw [hd, ← sr_p1 h]
  constructor
  · intro z
    rcases z with z | z | z
    · exact Or.inl (Or.inl z)
    · exact Or.inr z
    · exact Or.inl (Or.inr z)
  · intro z
    rcases z with (z | z) | z
    · exact Or.inl z
    · exact Or.inr (Or.inr z)
    · exact Or.inr (Or.inl z)
theorem sr_p3 {a x f m : Prop} (h : m ↔ (x ∨ f)) : (m ∨ a) ↔ ((x ∨ a) ∨ f) := by
  rw [h]
  constructor
  · intro z
    rcases z with (z | z) | z
    · exact Or.inl (Or.inl z)
    · exact Or.inr z
    · exact Or.inl (Or.inr z)
  · intro z
    rcases z with (z | z) | z
    · exact Or.inl (Or.inl z)
    · exact Or.inr z
    · exact Or.inl (Or.inr z)
theorem sr_nx {M : Nat} {ml mh : Nat → Nat} (T : sr_T M ml mh) {i q : Nat} {nh : Nat → Nat} (h : i + 1 < M) (hj : ∀ j, j < q → nh j + 1 < ml i) : ∀ j, j < q → nh j + 1 < ml (i + 1) := by
  intro j hq
  have h1 := hj j hq
  have h2 := T.1 i (by omega)
  have h3 := T.2 i h
  omega
theorem sr_U0_s {M : Nat} {ml mh : Nat → Nat} {fr to : Nat} (h : fr ≤ to) (ht : to ≤ 999) (nl nh : Nat → Nat) : sr_U0 M ml mh fr to 0 fr to 0 nl nh := by
  refine ⟨h, ht, sr_T0 _ _, fun _ j z => absurd z (by omega), by omega, fun j z => absurd z (by omega), fun v => ?_⟩
  constructor
  · intro z
    rcases z with z | z
    · exact absurd z (sr_M0 _ _ v)
    · exact Or.inr z
  · intro z
    rcases z with z | z
    · exact absurd z (sr_M0 _ _ v)
    · exact Or.inr z
theorem sr_U0_c {M : Nat} {ml mh : Nat → Nat} (T : sr_T M ml mh) {fr to i lw hg q : Nat} {nl nh : Nat → Nat} (U : sr_U0 M ml mh fr to i lw hg q nl nh) (h : i < M) (h1 : mh i + 1 < lw) :
    sr_U0 M ml mh fr to (i + 1) lw hg (q + 1) (sr_u nl q (ml i)) (sr_u nh q (mh i)) := by
  obtain ⟨u1, u2, u3, u4, u5, u6, u7⟩ := U
  have hb := T.1 i h
  refine ⟨u1, u2, sr_T_snoc u3 (u4 h) hb.1 hb.2, fun z => sr_all_snoc (sr_nx T z (u4 h)) (T.2 i z), by omega, sr_all_snoc u6 h1, fun v => ?_⟩
  rw [sr_M_snoc, sr_M_succ]
  exact sr_p1 (u7 v)
theorem sr_U0_m {M : Nat} {ml mh : Nat → Nat} (T : sr_T M ml mh) {fr to i lw hg q lw' hg' : Nat} {nl nh : Nat → Nat} (U : sr_U0 M ml mh fr to i lw hg q nl nh) (h : i < M) (h1 : ¬ mh i + 1 < lw) (h2 : ml i ≤ hg + 1)
    (a1 : lw' ≤ lw) (a2 : lw' ≤ ml i) (a3 : lw' = lw ∨ lw' = ml i) (b1 : hg ≤ hg') (b2 : mh i ≤ hg') (b3 : hg' = hg ∨ hg' = mh i) :
    sr_U0 M ml mh fr to (i + 1) lw' hg' q nl nh := by
  obtain ⟨u1, u2, u3, u4, u5, u6, u7⟩ := U
  have hb := T.1 i h
  refine ⟨by omega, by omega, u3, fun z => sr_nx T z (u4 h), by omega, fun j hj => ?_, fun v => ?_⟩
  · have c1 := u6 j hj
    have c2 := u4 h j hj
    omega
  · rw [sr_M_succ]
    refine sr_p2 (u7 v) ?_
    omega
theorem sr_U0_p {M : Nat} {ml mh : Nat → Nat} {fr to i lw hg q : Nat} {nl nh : Nat → Nat} (U : sr_U0 M ml mh fr to i lw hg q nl nh) (h : i < M → hg + 1 < ml i) :
    sr_U1 M ml mh fr to i hg (q + 1) (sr_u nl q lw) (sr_u nh q hg) := by
  obtain ⟨u1, u2, u3, u4, u5, u6, u7⟩ := U
  refine ⟨sr_T_snoc u3 u6 u1 u2, fun z => sr_all_snoc (u4 z) (h z), by omega, h, fun v => ?_⟩
  rw [sr_M_snoc]
  exact u7 v
theorem sr_U1_c {M : Nat} {ml mh : Nat → Nat} (T : sr_T M ml mh) {fr to i hg q : Nat} {nl nh : Nat → Nat} (U : sr_U1 M ml mh fr to i hg q nl nh) (h : i < M) :
    sr_U1 M ml mh fr to (i + 1) hg (q + 1) (sr_u nl q (ml i)) (sr_u nh q (mh i)) := by
  obtain ⟨u1, u2, u3, u4, u5⟩ := U
  have hb := T.1 i h
  refine ⟨sr_T_snoc u1 (u2 h) hb.1 hb.2, fun z => sr_all_snoc (sr_nx T z (u2 h)) (T.2 i z), by omega, fun z => ?_, fun v => ?_⟩
  · have c1 := u4 h
    have c2 := T.2 i z
    omega
  · rw [sr_M_snoc, sr_M_succ]
    exact sr_p3 (u5 v)
/-! copies -/
def sr_cp (nl ml : Nat → Nat) (k : Nat) : Nat → Nat := fun j => if j < k then nl j else ml j
theorem sr_cp0 (nl ml : Nat → Nat) : sr_cp nl ml 0 = ml := by funext j; exact if_neg (by omega)
theorem sr_cps {nl ml : Nat → Nat} {i : Nat} (hi : i < 64) (hn : nl i ≤ 999) : upd (sr_A (sr_cp nl ml i)) (nI i).toNatClampNeg (vp_nar .short (sr_A nl (nI i).toNatClampNeg)) = sr_A (sr_cp nl ml (i + 1)) := by
  rw [sr_Ar (by omega), sr_up i (nl i) rfl (by omega) (sr_ns hn)]
  refine congrArg sr_A (funext fun j => ?_)
  show (if j = i then nl i else if j < i then nl j else ml j) = if j < i + 1 then nl j else ml j
  by_cases e : j = i
  · subst e; rw [if_pos rfl, if_pos (by omega)]
  · rw [if_neg e]
    by_cases e2 : j < i
    · rw [if_pos e2, if_pos (by omega)]
    · rw [if_neg e2, if_neg (by omega)]
section
variable {fT fA fMa fMi fD fL fH fIL fIH fC : Int32} {aT aC aL aH aML aMH aNL aNH : Nat → Int32}
variable {post : SX → Prop} {ml mh nl nh : Nat → Nat}
theorem sr_xu210 {q : Nat} (hq : q ≤ 64) (T : sr_T q nl nh) (hp : post (fT, fA, fMa, fMi, fD, fL, fH, fIL, fIH, nI q, aT, aC, aL, aH, sr_A (sr_cp nl ml q), sr_A (sr_cp nh mh q), sr_A nl, sr_A nh)) :
    ∀ d i, i + d = q → ∀ n, d < n → wX_unite_210 post (nI q) fT fA fMa fMi fD fL fH fIL fIH fC n (nI i) aT aC aL aH (sr_A (sr_cp nl ml i)) (sr_A (sr_cp nh mh i)) (sr_A nl) (sr_A nh) := by
  intro d
  induction d with
  | zero =>
    intro i hi' n hn
    obtain ⟨n, rfl⟩ : ∃ m, n = m + 1 := ⟨n - 1, by omega⟩
    have e : i = q := by omega
    subst e
    exact br_t (nI_le (Nat.le_refl _) (by omega)) hp
  | succ d ih =>
    intro i hi' n hn
    obtain ⟨n, rfl⟩ : ∃ m, n = m + 1 := ⟨n - 1, by omega⟩
    have hv : vp_in (nI i) 64 := vp_in_nI (by omega) (by decide)
    have hT := T.1 i (by omega)
    exact br_f (nI_ge (by omega) (by omega)) ⟨hv, hv, nm_r (sr_cps (by omega) (by omega)) ⟨hv, hv, nm_r (sr_cps (by omega) (by omega)) (nm_r (nI_1 _) (ih (i + 1) (by omega) n (by omega)))⟩⟩
theorem sr_xuE {P : Nat → Prop} {q N : Nat} (hN : N ≤ 64) (hq : q ≤ N) (T : sr_T q nl nh) (hv : ∀ v, sr_M q nl nh v ↔ P v)
    (hp : ∀ (q : Nat) (ml' mh' nl' nh' : Nat → Nat), q ≤ N → sr_T q ml' mh' → (∀ v, sr_M q ml' mh' v ↔ P v) → post (fT, fA, fMa, fMi, fD, fL, fH, fIL, fIH, nI q, aT, aC, aL, aH, sr_A ml', sr_A mh', sr_A nl', sr_A nh')) :
    ∃ n, wX_unite_210 post (nI q) fT fA fMa fMi fD fL fH fIL fIH fC n 0 aT aC aL aH (sr_A ml) (sr_A mh) (sr_A nl) (sr_A nh) := by
  have c1 : ∀ i, i < q → sr_cp nl ml q i = nl i := fun i h => if_pos h
  have c2 : ∀ i, i < q → sr_cp nh mh q i = nh i := fun i h => if_pos h
  have := sr_xu210 (fC := fC) (ml := ml) (mh := mh) (show q ≤ 64 by omega) T (hp q _ _ nl nh hq (sr_T_cong T c1 c2) (fun v => (sr_M_cong c1 c2 v).trans (hv v))) q 0 (by omega) (q + 1) (by omega)
  rw [sr_cp0, sr_cp0] at this
  exact ⟨q + 1, this⟩
variable {J : Int32 → Int32 → Int32 → Int32 → Int32 → (Nat → Int32) → (Nat → Int32) → (Nat → Int32) → (Nat → Int32) → (Nat → Int32) → (Nat → Int32) → (Nat → Int32) → (Nat → Int32) → Prop}
theorem sr_xu100 {x3 x4 x6 : Int32} {i q : Nat} (hi : i < 64) (hq : q < 64) (b1 : ml i ≤ 999) (b2 : mh i ≤ 999)
    (h : J x3 x4 (nI (q + 1)) x6 (nI (i + 1)) aT aC aL aH (sr_A ml) (sr_A mh) (sr_A (sr_u nl q (ml i))) (sr_A (sr_u nh q (mh i)))) :
    wX_unite_100 post J x3 x4 (nI q) x6 (nI i) fT fA fMa fMi fD fL fH fIL fIH fC aT aC aL aH (sr_A ml) (sr_A mh) (sr_A nl) (sr_A nh) := by
  have v1 : vp_in (nI i) 64 := vp_in_nI hi (by decide)
  have v2 : vp_in (nI q) 64 := vp_in_nI hq (by decide)
  refine ⟨v1, v2, nm_r (sr_up q (ml i) rfl (by omega) ?_) ⟨v1, v2, nm_r (sr_up q (mh i) rfl (by omega) ?_) (nm_r (nI_1 q) (nm_r (nI_1 i) h))⟩⟩
  · rw [sr_Ar (by omega), sr_ns b1]
  · rw [sr_Ar (by omega), sr_ns b2]
theorem sr_lt1 {a b : Nat} (ha : a < 2 ^ 30) (hb : b < 2 ^ 30) : nI a < nI b - 1 ↔ a + 1 < b := by
  rw [Int32.lt_iff_toInt_lt, nI_toInt (by omega), show (nI b - 1).toInt = (b : Int) - (1 : Nat) from pk_sub_toInt (b := 1) hb (by decide)]
  omega
theorem sr_le1 {a b : Nat} (ha : a < 2 ^ 30) (hb : b < 2 ^ 30) : nI a ≤ nI b + 1 ↔ a ≤ b + 1 := by
  rw [nI_1, nI_leI (by omega) (by omega)]
/-- a stretch far behind the interval is taken over -/
theorem sr_xu73f {x6 : Int32} {i q lw hg : Nat} (hi : i < 64) (hq : q < 64) (b1 : ml i ≤ 999) (b2 : mh i ≤ 999) (b3 : hg ≤ 999) (hf : ¬ ml i ≤ hg + 1)
    (h : J (nI lw) (nI hg) (nI (q + 1)) x6 (nI (i + 1)) aT aC aL aH (sr_A ml) (sr_A mh) (sr_A (sr_u nl q (ml i))) (sr_A (sr_u nh q (mh i)))) :
    wX_unite_73 post J (nI lw) (nI hg) (nI q) x6 (nI i) fT fA fMa fMi fD fL fH fIL fIH fC aT aC aL aH (sr_A ml) (sr_A mh) (sr_A nl) (sr_A nh) := by
  have v1 : vp_in (nI i) 64 := vp_in_nI hi (by decide)
  have H := sr_xu100 (post := post) (fT := fT) (fA := fA) (fMa := fMa) (fMi := fMi) (fD := fD) (fL := fL) (fH := fH) (fIL := fIL) (fIH := fIH) (fC := fC) hi hq b1 b2 h
  refine ⟨v1, br_c (fun _ => H) (fun _ => ⟨v1, br_f ?_ H⟩)⟩
  rw [sr_Ar (by omega), sr_le1 (by omega) (by omega)]
  exact hf
theorem sr_xu153 {x5 x6 : Int32} {i lw hg : Nat} (hi : i < 64) (b2 : mh i ≤ 999) (b3 : hg ≤ 999)
    (h : ∀ hg', hg ≤ hg' → mh i ≤ hg' → (hg' = hg ∨ hg' = mh i) → J (nI lw) (nI hg') x5 x6 (nI (i + 1)) aT aC aL aH aML (sr_A mh) aNL aNH) :
    wX_unite_153 post J (nI lw) (nI hg) x5 x6 (nI i) fT fA fMa fMi fD fL fH fIL fIH fC aT aC aL aH aML (sr_A mh) aNL aNH := by
  have v1 : vp_in (nI i) 64 := vp_in_nI hi (by decide)
  have e : sr_A mh (nI i).toNatClampNeg = nI (mh i) := sr_Ar (by omega)
  exact ⟨v1, pk_le (mh i) hg (fun z => nm_r (nI_1 i) (h hg (Nat.le_refl _) z (Or.inl rfl))) (fun z => ⟨v1, nm_r e (nm_r (nI_1 i) (h (mh i) (by omega) (Nat.le_refl _) (Or.inr rfl)))⟩) e rfl (by omega) (by omega)⟩
theorem sr_xu73n {x6 : Int32} {i q lw hg : Nat} (hi : i < 64) (hq : q < 64) (b0 : lw ≤ 999) (b1 : ml i ≤ 999) (b2 : mh i ≤ 999) (b3 : hg ≤ 999) (hf : ml i ≤ hg + 1)
    (hc : mh i + 1 < lw → J (nI lw) (nI hg) (nI (q + 1)) x6 (nI (i + 1)) aT aC aL aH (sr_A ml) (sr_A mh) (sr_A (sr_u nl q (ml i))) (sr_A (sr_u nh q (mh i))))
    (hm : ¬ mh i + 1 < lw → ∀ lw' hg', lw' ≤ lw → lw' ≤ ml i → (lw' = lw ∨ lw' = ml i) → hg ≤ hg' → mh i ≤ hg' → (hg' = hg ∨ hg' = mh i) → J (nI lw') (nI hg') (nI q) x6 (nI (i + 1)) aT aC aL aH (sr_A ml) (sr_A mh) (sr_A nl) (sr_A nh)) :
    wX_unite_73 post J (nI lw) (nI hg) (nI q) x6 (nI i) fT fA fMa fMi fD fL fH fIL fIH fC aT aC aL aH (sr_A ml) (sr_A mh) (sr_A nl) (sr_A nh) := by
  have v1 : vp_in (nI i) 64 := vp_in_nI hi (by decide)
  have e1 : sr_A ml (nI i).toNatClampNeg = nI (ml i) := sr_Ar (by omega)
  have e2 : sr_A mh (nI i).toNatClampNeg = nI (mh i) := sr_Ar (by omega)
  refine ⟨v1, br_c (fun z => ?_) (fun z => ⟨v1, br_t ?_ ⟨v1, ?_⟩⟩)⟩
  · rw [e2, sr_lt1 (by omega) (by omega)] at z
    exact sr_xu100 hi hq b1 b2 (hc z)
  · rw [e1, sr_le1 (by omega) (by omega)]
    exact hf
  · rw [e2, sr_lt1 (by omega) (by omega)] at z
    have H := hm z
    refine pk_le lw (ml i) (fun y => ?_) (fun y => ⟨v1, nm_r e1 ?_⟩) rfl e1 (by omega) (by omega)
    · exact sr_xu153 hi b2 b3 (fun hg' => H lw hg' (Nat.le_refl _) y (Or.inl rfl))
    · exact sr_xu153 hi b2 b3 (fun hg' => H (ml i) hg' (by omega) (Nat.le_refl _) (Or.inr rfl))
end
section
variable {fT fA fMa fMi fD fL fH fIL fIH fC : Int32} {aT aC aL aH aML aMH aNL aNH : Nat → Int32}
variable {post : SX → Prop} {M : Nat} {ml mh : Nat → Nat} {fr to : Nat}
theorem sr_xu1 (hM : M ≤ 62) (T : sr_T M ml mh) (hp : ∀ (q : Nat) (ml' mh' nl' nh' : Nat → Nat), q ≤ M + 1 → sr_T q ml' mh' → (∀ v, sr_M q ml' mh' v ↔ (sr_M M ml mh v ∨ (fr ≤ v ∧ v ≤ to))) → post (fT, fA, fMa, fMi, fD, fL, fH, fIL, fIH, nI q, aT, aC, aL, aH, sr_A ml', sr_A mh', sr_A nl', sr_A nh')) :
    ∀ d i, i + d = M → ∀ n, d < n → ∀ (lw hg q : Nat) (nl nh : Nat → Nat), hg ≤ 999 → sr_U1 M ml mh fr to i hg q nl nh → wX_unite_20 post fT fA fMa fMi fD fL fH fIL fIH (nI M) n (nI lw) (nI hg) (nI q) 1 (nI i) aT aC aL aH (sr_A ml) (sr_A mh) (sr_A nl) (sr_A nh) := by
  intro d
  induction d with
  | zero =>
    intro i hi' n hn lw hg q nl nh hh U
    obtain ⟨n, rfl⟩ : ∃ m, n = m + 1 := ⟨n - 1, by omega⟩
    have e : i = M := by omega
    subst e
    exact br_t (nI_le (Nat.le_refl _) (by omega)) (br_f (by decide) (sr_xuE (P := fun v => sr_M i ml mh v ∨ (fr ≤ v ∧ v ≤ to)) (N := i + 1) (by omega) U.2.2.1 U.1 U.2.2.2.2 hp))
  | succ d ih =>
    intro i hi' n hn lw hg q nl nh hh U
    obtain ⟨n, rfl⟩ : ∃ m, n = m + 1 := ⟨n - 1, by omega⟩
    have hi : i < M := by omega
    have hb := T.1 i hi
    have hq := U.2.2.1
    have hf := U.2.2.2.1 hi
    refine br_f (nI_ge hi (by omega)) ⟨vp_in_nI (by omega) (by decide), br_f ?_ (br_f (by decide) ?_)⟩
    · rw [sr_Ar (by omega), sr_le1 (by omega) (by omega)]; omega
    · exact sr_xu73f (by omega) (by omega) (by omega) hb.2 hh (by omega) (ih (i + 1) (by omega) n (by omega) lw hg (q + 1) _ _ hh (sr_U1_c T U hi))
theorem sr_xu0 (hM : M ≤ 62) (T : sr_T M ml mh) (hp : ∀ (q : Nat) (ml' mh' nl' nh' : Nat → Nat), q ≤ M + 1 → sr_T q ml' mh' → (∀ v, sr_M q ml' mh' v ↔ (sr_M M ml mh v ∨ (fr ≤ v ∧ v ≤ to))) → post (fT, fA, fMa, fMi, fD, fL, fH, fIL, fIH, nI q, aT, aC, aL, aH, sr_A ml', sr_A mh', sr_A nl', sr_A nh')) :
    ∀ d i, i + d = M → ∀ n, d < n → ∀ (lw hg q : Nat) (nl nh : Nat → Nat), sr_U0 M ml mh fr to i lw hg q nl nh → wX_unite_20 post fT fA fMa fMi fD fL fH fIL fIH (nI M) n (nI lw) (nI hg) (nI q) 0 (nI i) aT aC aL aH (sr_A ml) (sr_A mh) (sr_A nl) (sr_A nh) := by
  intro d
  induction d with
  | zero =>
    intro i hi' n hn lw hg q nl nh U
    obtain ⟨n, rfl⟩ : ∃ m, n = m + 1 := ⟨n - 1, by omega⟩
    have e : i = M := by omega
    subst e
    have hl := U.1
    have hg' := U.2.1
    have hq := U.2.2.2.2.1
    have V := sr_U0_p U (fun z => absurd z (by omega))
    have hv : vp_in (nI q) 64 := vp_in_nI (by omega) (by decide)
    exact br_t (nI_le (Nat.le_refl _) (by omega)) (br_t rfl ⟨hv, nm_r (sr_up q lw rfl (by omega) (sr_nss (by omega))) ⟨hv, nm_r (sr_up q hg rfl (by omega) (sr_nss (by omega))) (nm_r (nI_1 q) (sr_xuE (P := fun v => sr_M i ml mh v ∨ (fr ≤ v ∧ v ≤ to)) (N := i + 1) (by omega) (by omega) V.1 V.2.2.2.2 hp))⟩⟩)
  | succ d ih =>
    intro i hi' n hn lw hg q nl nh U
    obtain ⟨n, rfl⟩ : ∃ m, n = m + 1 := ⟨n - 1, by omega⟩
    have hi : i < M := by omega
    have hb := T.1 i hi
    have hl := U.1
    have hg' := U.2.1
    have hq := U.2.2.2.2.1
    refine br_f (nI_ge hi (by omega)) ⟨vp_in_nI (by omega) (by decide), br_c (fun z => ?_) (fun z => br_t rfl ?_)⟩
    · rw [sr_Ar (by omega), sr_le1 (by omega) (by omega)] at z
      exact sr_xu73n (by omega) (by omega) (by omega) (by omega) hb.2 hg' z (fun y => ih (i + 1) (by omega) n (by omega) lw hg (q + 1) _ _ (sr_U0_c T U hi y)) (fun y lw' hg' a1 a2 a3 b1 b2 b3 => ih (i + 1) (by omega) n (by omega) lw' hg' q _ _ (sr_U0_m T U hi y z a1 a2 a3 b1 b2 b3))
    · rw [sr_Ar (by omega), sr_le1 (by omega) (by omega)] at z
      have hv : vp_in (nI q) 64 := vp_in_nI (by omega) (by decide)
      refine ⟨hv, nm_r (sr_up q lw rfl (by omega) (sr_nss (by omega))) ⟨hv, nm_r (sr_up q hg rfl (by omega) (sr_nss (by omega))) (nm_r (nI_1 q) ?_)⟩⟩
      exact sr_xu73f (by omega) (by omega) (by omega) hb.2 hg' z (sr_xu1 hM T hp d (i + 1) (by omega) n (by omega) lw hg (q + 1 + 1) _ _ hg' (sr_U1_c T (sr_U0_p U (fun _ => by omega)) hi))
end
section
variable {fT fA fMa fMi fD fL fH fIL fIH fC : Int32} {aT aC aL aH aML aMH aNL aNH : Nat → Int32}
variable {post : SX → Prop} {M : Nat} {ml mh nl nh : Nat → Nat}
theorem sr_xun (hM : M ≤ 62) (T : sr_T M ml mh) {p0 p1 : Int32} (h0 : 0 ≤ p0.toInt) (h1 : p1.toInt ≤ 999)
    (hp : ∀ (q : Nat) (ml' mh' nl' nh' : Nat → Nat), q ≤ M + 1 → sr_T q ml' mh' → (∀ v : Nat, sr_M q ml' mh' v ↔ (sr_M M ml mh v ∨ (p0.toInt ≤ v ∧ (v : Int) ≤ p1.toInt))) → post (fT, fA, fMa, fMi, fD, fL, fH, fIL, fIH, nI q, aT, aC, aL, aH, sr_A ml', sr_A mh', sr_A nl', sr_A nh')) :
    wpX_unite post (fT, fA, fMa, fMi, fD, fL, fH, fIL, fIH, nI M, aT, aC, aL, aH, sr_A ml, sr_A mh, sr_A nl, sr_A nh) p0 p1 := by
  by_cases h : p0 ≤ p1
  · refine br_t h ⟨M + 1, ?_⟩
    rw [Int32.le_iff_toInt_le] at h
    obtain ⟨fr, hf, rfl⟩ := nI_of (x := p0) (by rw [Int32.lt_iff_toInt_lt, show (0 : Int32).toInt = 0 from by decide]; omega)
    obtain ⟨to, ht, rfl⟩ := nI_of (x := p1) (by rw [Int32.lt_iff_toInt_lt, show (0 : Int32).toInt = 0 from by decide]; omega)
    rw [nI_toInt hf] at h h0 hp
    rw [nI_toInt ht] at h h1 hp
    refine sr_xu0 (fr := fr) (to := to) hM T (fun q ml' mh' nl' nh' a b c => hp q ml' mh' nl' nh' a b (fun v => (c v).trans ?_)) M 0 (by omega) (M + 1) (by omega) fr to 0 nl nh (sr_U0_s (by omega) (by omega) nl nh)
    rw [Int.ofNat_le, Int.ofNat_le]
  · refine br_f h (hp M ml mh nl nh (by omega) T (fun v => ?_))
    rw [Int32.le_iff_toInt_le] at h
    constructor
    · intro z; exact Or.inl z
    · intro z
      rcases z with z | z
      · exact z
      · exact absurd z (by omega)
end
end
section
/-! keep, meet, join, invert of the component -/
def sr_kx (lo : Nat → Nat) (r : Nat) (ml : Nat → Nat) (i : Nat) : Nat → Nat := fun j => if 24 * r ≤ j ∧ j < 24 * r + i then ml (j - 24 * r) else lo j
theorem sr_kx0 (lo : Nat → Nat) (r : Nat) (ml : Nat → Nat) : sr_kx lo r ml 0 = lo := by funext v; exact if_neg (by omega)
theorem sr_kxs {lo ml : Nat → Nat} {r i : Nat} (hr : r < 4) (hi : i < 24) (hn : ml i ≤ 999) : upd (sr_A (sr_kx lo r ml i)) ((24 : Int32) * nI r + nI i).toNatClampNeg (vp_nar .short (sr_A ml (nI i).toNatClampNeg)) = sr_A (sr_kx lo r ml (i + 1)) := by
  rw [sr_Ar (by omega), sr_up (24 * r + i) (ml i) (sr_24i r i) (by omega) (sr_ns hn)]
  refine congrArg sr_A (funext fun v => ?_)
  show (if v = 24 * r + i then ml i else if 24 * r ≤ v ∧ v < 24 * r + i then ml (v - 24 * r) else lo v) = if 24 * r ≤ v ∧ v < 24 * r + (i + 1) then ml (v - 24 * r) else lo v
  by_cases e : v = 24 * r + i
  · subst e; rw [if_pos rfl, if_pos (by omega)]
    exact congrArg ml (by omega)
  · rw [if_neg e]
    by_cases e2 : 24 * r ≤ v ∧ v < 24 * r + i
    · rw [if_pos e2, if_pos (by omega)]
    · rw [if_neg e2, if_neg (by omega)]
section
variable {fT fA fMa fMi fD fL fH fIL fIH fC : Int32} {aT aC aL aH aML aMH aNL aNH : Nat → Int32}
variable {post : Int32 → SX → Prop} {c lo hi ml mh : Nat → Nat}
theorem sr_xk2 {r m : Nat} (hr : r < 4) (hm : m ≤ 24) (T : sr_T m ml mh)
    (hp : post 1 (fT, fA, fMa, fMi, fD, fL, fH, fIL, fIH, nI m, aT, sr_A (sr_u c r m), sr_A (sr_kx lo r ml m), sr_A (sr_kx hi r mh m), sr_A ml, sr_A mh, aNL, aNH)) :
    ∀ d i, i + d = m → ∀ n, d < n → wX_keep_2 post (nI r) fT fA fMa fMi fD fL fH fIL fIH (nI m) n (nI i) aT (sr_A c) (sr_A (sr_kx lo r ml i)) (sr_A (sr_kx hi r mh i)) (sr_A ml) (sr_A mh) aNL aNH := by
  intro d
  induction d with
  | zero =>
    intro i hi' n hn
    obtain ⟨n, rfl⟩ : ∃ m, n = m + 1 := ⟨n - 1, by omega⟩
    have e : i = m := by omega
    subst e
    exact br_t (nI_le (Nat.le_refl _) (by omega)) ⟨vp_in_nI hr (by decide), nm_r (sr_up r i rfl (by omega) (sr_nb (by omega))) hp⟩
  | succ d ih =>
    intro i hi' n hn
    obtain ⟨n, rfl⟩ : ∃ m, n = m + 1 := ⟨n - 1, by omega⟩
    have hv : vp_in (nI i) 64 := vp_in_nI (by omega) (by decide)
    have hw : vp_in ((24 : Int32) * nI r + nI i) 96 := by rw [sr_24i]; exact vp_in_nI (by omega) (by decide)
    have hT := T.1 i (by omega)
    exact br_f (nI_ge (by omega) (by omega)) ⟨hv, hw, nm_r (sr_kxs hr (by omega) (by omega)) ⟨hv, hw, nm_r (sr_kxs hr (by omega) (by omega)) (nm_r (nI_1 _) (ih (i + 1) (by omega) n (by omega)))⟩⟩
theorem sr_xk {r m : Nat} (hr : r < 4) (hm : m ≤ 24) (T : sr_T m ml mh)
    (hp : post 1 (fT, fA, fMa, fMi, fD, fL, fH, fIL, fIH, nI m, aT, sr_A (sr_u c r m), sr_A (sr_kx lo r ml m), sr_A (sr_kx hi r mh m), sr_A ml, sr_A mh, aNL, aNH)) :
    wpX_keep post (fT, fA, fMa, fMi, fD, fL, fH, fIL, fIH, nI m, aT, sr_A c, sr_A lo, sr_A hi, sr_A ml, sr_A mh, aNL, aNH) (nI r) := by
  have := sr_xk2 hr hm T hp m 0 (by omega) (m + 1) (by omega)
  rw [sr_kx0, sr_kx0] at this
  exact ⟨m + 1, this⟩
end
section
variable {fT fA fMa fMi fD fL fH fIL fIH fC : Int32} {aT aC aL aH aML aMH aNL aNH : Nat → Int32}
variable {post : SX → Prop} {ml mh : Nat → Nat}
theorem sr_xap1 {m fr to : Nat} (hm : m < 64) (h : fr ≤ to) (ht : to ≤ 999) (hp : post (fT, fA, fMa, fMi, fD, fL, fH, fIL, fIH, nI (m + 1), aT, aC, aL, aH, sr_A (sr_u ml m fr), sr_A (sr_u mh m to), aNL, aNH)) :
    wpX_append post (fT, fA, fMa, fMi, fD, fL, fH, fIL, fIH, nI m, aT, aC, aL, aH, sr_A ml, sr_A mh, aNL, aNH) (nI fr) (nI to) :=
  br_t (nI_le h (by omega)) ⟨vp_in_nI hm (by decide), nm_r (sr_up m fr rfl (by omega) (sr_nss (by omega))) ⟨vp_in_nI hm (by decide), nm_r (sr_up m to rfl (by omega) (sr_nss ht)) (nm_r (nI_1 m) hp)⟩⟩
theorem sr_xap0 {p q : Int32} (h : ¬ p ≤ q) (hp : post (fT, fA, fMa, fMi, fD, fL, fH, fIL, fIH, fC, aT, aC, aL, aH, aML, aMH, aNL, aNH)) : wpX_append post (fT, fA, fMa, fMi, fD, fL, fH, fIL, fIH, fC, aT, aC, aL, aH, aML, aMH, aNL, aNH) p q := br_f h hp
/-! intersect -/
variable {c lo hi : Nat → Nat}
theorem sr_xin116 {J : Int32 → Int32 → Int32 → Int32 → Int32 → Int32 → Int32 → Int32 → Int32 → Int32 → Int32 → Int32 → (Nat → Int32) → (Nat → Int32) → (Nat → Int32) → (Nat → Int32) → (Nat → Int32) → (Nat → Int32) → (Nat → Int32) → (Nat → Int32) → Prop}
    {x5 x6 : Int32} {p q fr to m : Nat} (hp : p < 96) (hq : q < 96) (b1 : hi p ≤ 999) (b2 : hi q ≤ 999) (hm : m < 64) (hf : fr ≤ 999) (ht : to ≤ 999)
    (K : ∀ (m' : Nat) (ml' mh' : Nat → Nat), ((fr ≤ to ∧ m' = m + 1 ∧ ml' = sr_u ml m fr ∧ mh' = sr_u mh m to) ∨ (¬ fr ≤ to ∧ m' = m ∧ ml' = ml ∧ mh' = mh)) →
      (hi q ≤ hi p → J (nI p) (nI (q + 1)) fT fA fMa fMi fD fL fH fIL fIH (nI m') aT (sr_A c) (sr_A lo) (sr_A hi) (sr_A ml') (sr_A mh') aNL aNH) ∧ (hi p < hi q → J (nI (p + 1)) (nI q) fT fA fMa fMi fD fL fH fIL fIH (nI m') aT (sr_A c) (sr_A lo) (sr_A hi) (sr_A ml') (sr_A mh') aNL aNH)) :
    wX_intersect_116 post J (nI p) (nI q) x5 x6 (nI fr) (nI to) fT fA fMa fMi fD fL fH fIL fIH (nI m) aT (sr_A c) (sr_A lo) (sr_A hi) (sr_A ml) (sr_A mh) aNL aNH := by
  have v1 : vp_in (nI p) 96 := vp_in_nI hp (by decide)
  have v2 : vp_in (nI q) 96 := vp_in_nI hq (by decide)
  have e1 : sr_A hi (nI p).toNatClampNeg = nI (hi p) := sr_Ar (by omega)
  have e2 : sr_A hi (nI q).toNatClampNeg = nI (hi q) := sr_Ar (by omega)
  unfold wX_intersect_116
  by_cases h : fr ≤ to
  · have k := K _ _ _ (Or.inl ⟨h, rfl, rfl, rfl⟩)
    refine sr_xap1 hm h ht ?_
    exact ⟨v1, v2, pk_le (hi q) (hi p) (fun z => nm_r (nI_1 q) (k.1 z)) (fun z => nm_r (nI_1 p) (k.2 z)) e2 e1 (by omega) (by omega)⟩
  · have k := K _ _ _ (Or.inr ⟨h, rfl, rfl, rfl⟩)
    refine sr_xap0 ?_ ?_
    · exact fun z => h ((nI_leI (by omega) (by omega)).mp z)
    · exact ⟨v1, v2, pk_le (hi q) (hi p) (fun z => nm_r (nI_1 q) (k.1 z)) (fun z => nm_r (nI_1 p) (k.2 z)) e2 e1 (by omega) (by omega)⟩
end
def sr_IN (na nb : Nat) (la ha lb hb : Nat → Nat) (i j m : Nat) (ml mh : Nat → Nat) (e : Nat) : Prop :=
  m ≤ i + j ∧ sr_T m ml mh ∧ (∀ v, sr_M m ml mh v ↔ (v < e ∧ sr_M na la ha v ∧ sr_M nb lb hb v)) ∧
  (∀ k, k < i → ha k < e) ∧ (∀ k, k < j → hb k < e) ∧ (i < na → e ≤ ha i + 1) ∧ (j < nb → e ≤ hb j + 1) ∧
  (e = 0 ∨ (i < na → j < nb → e < la i ∨ e < lb j))
theorem sr_IN_e {na nb : Nat} {la ha lb hb : Nat → Nat} {i j m : Nat} {ml mh : Nat → Nat} {e : Nat} (I : sr_IN na nb la ha lb hb i j m ml mh e) (h : na ≤ i ∨ nb ≤ j) (v : Nat) :
    sr_M m ml mh v ↔ (sr_M na la ha v ∧ sr_M nb lb hb v) := by
  obtain ⟨i1, i2, i3, i4, i5, i6, i7, i8⟩ := I
  rw [i3 v]
  constructor
  · intro z; exact z.2
  · intro z
    refine ⟨?_, z⟩
    rcases h with h | h
    · obtain ⟨k, k1, k2, k3⟩ := z.1
      have := i4 k (by omega); omega
    · obtain ⟨k, k1, k2, k3⟩ := z.2
      have := i5 k (by omega); omega
theorem sr_IN_m {na nb : Nat} {la ha lb hb : Nat → Nat} (TA : sr_T na la ha) (TB : sr_T nb lb hb) {i j m : Nat} {ml mh : Nat → Nat} {e : Nat} (I : sr_IN na nb la ha lb hb i j m ml mh e) (hi : i < na) (hj : j < nb) {fr to : Nat}
    (f1 : la i ≤ fr) (f2 : lb j ≤ fr) (f3 : fr = la i ∨ fr = lb j) (t1 : to ≤ ha i) (t2 : to ≤ hb j) (t3 : to = ha i ∨ to = hb j) {m' : Nat} {ml' mh' : Nat → Nat}
    (hc : (fr ≤ to ∧ m' = m + 1 ∧ ml' = sr_u ml m fr ∧ mh' = sr_u mh m to) ∨ (¬ fr ≤ to ∧ m' = m ∧ ml' = ml ∧ mh' = mh)) :
    m' ≤ m + 1 ∧ sr_T m' ml' mh' ∧ (∀ v, sr_M m' ml' mh' v ↔ (v < to + 1 ∧ sr_M na la ha v ∧ sr_M nb lb hb v)) := by
  obtain ⟨i1, i2, i3, i4, i5, i6, i7, i8⟩ := I
  have i6' := i6 hi
  have i7' := i7 hj
  have hbi := TA.1 i hi
  have hbj := TB.1 j hj
  have key : ∀ v, (sr_M m ml mh v ∨ (fr ≤ v ∧ v ≤ to)) ↔ (v < to + 1 ∧ sr_M na la ha v ∧ sr_M nb lb hb v) := by
    intro v
    constructor
    · intro z
      rcases z with z | z
      · have y := (i3 v).mp z
        exact ⟨by omega, y.2⟩
      · exact ⟨by omega, ⟨i, hi, by omega, by omega⟩, ⟨j, hj, by omega, by omega⟩⟩
    · intro z
      by_cases y : v < e
      · exact Or.inl ((i3 v).mpr ⟨y, z.2⟩)
      · obtain ⟨z1, ⟨k, k1, k2, k3⟩, ⟨l, l1, l2, l3⟩⟩ := z
        have ek : k = i := by
          by_cases q : k < i
          · have := i4 k q; omega
          · by_cases q2 : k = i
            · exact q2
            · have := sr_T_lt TA (show i < k by omega) k1; omega
        have el : l = j := by
          by_cases q : l < j
          · have := i5 l q; omega
          · by_cases q2 : l = j
            · exact q2
            · have := sr_T_lt TB (show j < l by omega) l1; omega
        subst ek; subst el
        exact Or.inr (by omega)
  rcases hc with ⟨h, rfl, rfl, rfl⟩ | ⟨h, rfl, rfl, rfl⟩
  · refine ⟨Nat.le_refl _, sr_T_snoc i2 (fun k hk => ?_) h (by omega), fun v => ?_⟩
    · have hk1 := i2.1 k hk
      have hk2 := ((i3 (mh k)).mp ⟨k, hk, hk1.1, Nat.le_refl _⟩).1
      rcases i8 with q | q
      · omega
      · have := q hi hj; omega
    · rw [sr_M_snoc]; exact key v
  · refine ⟨by omega, i2, fun v => ?_⟩
    rw [← key v]
    constructor
    · intro z; exact Or.inl z
    · intro z
      rcases z with z | z
      · exact z
      · exact absurd z (by omega)
theorem sr_IN_s {na nb : Nat} {la ha lb hb : Nat → Nat} (TA : sr_T na la ha) (TB : sr_T nb lb hb) {i j m : Nat} {ml mh : Nat → Nat} {e : Nat} (I : sr_IN na nb la ha lb hb i j m ml mh e) (hi : i < na) (hj : j < nb) {fr to : Nat}
    (f1 : la i ≤ fr) (f2 : lb j ≤ fr) (f3 : fr = la i ∨ fr = lb j) (t1 : to ≤ ha i) (t2 : to ≤ hb j) (t3 : to = ha i ∨ to = hb j) {m' : Nat} {ml' mh' : Nat → Nat}
    (hc : (fr ≤ to ∧ m' = m + 1 ∧ ml' = sr_u ml m fr ∧ mh' = sr_u mh m to) ∨ (¬ fr ≤ to ∧ m' = m ∧ ml' = ml ∧ mh' = mh)) :
    (hb j ≤ ha i → sr_IN na nb la ha lb hb i (j + 1) m' ml' mh' (to + 1)) ∧ (ha i < hb j → sr_IN na nb la ha lb hb (i + 1) j m' ml' mh' (to + 1)) := by
  obtain ⟨n1, n2, n3⟩ := sr_IN_m TA TB I hi hj f1 f2 f3 t1 t2 t3 hc
  obtain ⟨i1, i2, i3, i4, i5, i6, i7, i8⟩ := I
  have i6' := i6 hi
  have i7' := i7 hj
  constructor
  · intro h
    refine ⟨by omega, n2, n3, fun k hk => ?_, fun k hk => ?_, fun _ => by omega, fun hj' => ?_, Or.inr (fun _ hj' => Or.inr ?_)⟩
    · have := i4 k hk; omega
    · by_cases q : k = j
      · subst q; omega
      · have := i5 k (by omega); omega
    · have q1 := TB.2 j hj'
      have q2 := TB.1 (j + 1) hj'
      omega
    · have q1 := TB.2 j hj'
      omega
  · intro h
    refine ⟨by omega, n2, n3, fun k hk => ?_, fun k hk => ?_, fun hi' => ?_, fun _ => by omega, Or.inr (fun hi' _ => Or.inl ?_)⟩
    · by_cases q : k = i
      · subst q; omega
      · have := i4 k (by omega); omega
    · have := i5 k hk; omega
    · have q1 := TA.2 i hi'
      have q2 := TA.1 (i + 1) hi'
      omega
    · have q1 := TA.2 i hi'
      omega
section
variable {fT fA fMa fMi fD fL fH fIL fIH fC : Int32} {aT aC aL aH aML aMH aNL aNH : Nat → Int32}
variable {c lo hi : Nat → Nat} {d a b : Nat}
theorem sr_xin37 {post : SX → Prop} (ha : a < 4) (hb : b < 4) (hca : c a ≤ 24) (hcb : c b ≤ 24) (TA : sr_T (c a) (fun i => lo (24 * a + i)) (fun i => hi (24 * a + i))) (TB : sr_T (c b) (fun i => lo (24 * b + i)) (fun i => hi (24 * b + i)))
    (hp : ∀ (m : Nat) (ml' mh' : Nat → Nat), m ≤ 48 → sr_T m ml' mh' → (∀ v, sr_M m ml' mh' v ↔ (sr_M (c a) (fun i => lo (24 * a + i)) (fun i => hi (24 * a + i)) v ∧ sr_M (c b) (fun i => lo (24 * b + i)) (fun i => hi (24 * b + i)) v)) → post (fT, fA, fMa, fMi, fD, fL, fH, fIL, fIH, nI m, aT, sr_A c, sr_A lo, sr_A hi, sr_A ml', sr_A mh', aNL, aNH)) :
    ∀ k i j, i + j + k = c a + c b → i ≤ c a → j ≤ c b → ∀ n, k < n → ∀ (m : Nat) (ml mh : Nat → Nat) (e : Nat), sr_IN (c a) (c b) (fun i => lo (24 * a + i)) (fun i => hi (24 * a + i)) (fun i => lo (24 * b + i)) (fun i => hi (24 * b + i)) i j m ml mh e →
      wX_intersect_37 post (nI (24 * a + c a)) (nI (24 * b + c b)) n (nI (24 * a + i)) (nI (24 * b + j)) fT fA fMa fMi fD fL fH fIL fIH (nI m) aT (sr_A c) (sr_A lo) (sr_A hi) (sr_A ml) (sr_A mh) aNL aNH := by
  intro k
  induction k with
  | zero =>
    intro i j hk hi' hj' n hn m ml mh e I
    obtain ⟨n, rfl⟩ : ∃ m, n = m + 1 := ⟨n - 1, by omega⟩
    have i1 := I.1
    exact br_t (nI_le (by omega) (by omega)) (hp m ml mh (by omega) I.2.1 (sr_IN_e I (Or.inl (by omega))))
  | succ k ih =>
    intro i j hk hi' hj' n hn m ml mh e I
    obtain ⟨n, rfl⟩ : ∃ m, n = m + 1 := ⟨n - 1, by omega⟩
    have i1 := I.1
    refine pk_le (24 * a + c a) (24 * a + i) (fun z => hp m ml mh (by omega) I.2.1 (sr_IN_e I (Or.inl (by omega)))) (fun z => pk_le (24 * b + c b) (24 * b + j) (fun y => hp m ml mh (by omega) I.2.1 (sr_IN_e I (Or.inr (by omega)))) (fun y => ?_))
    have hi2 : i < c a := by omega
    have hj2 : j < c b := by omega
    have ba : lo (24 * a + i) ≤ hi (24 * a + i) ∧ hi (24 * a + i) ≤ 999 := TA.1 i hi2
    have bb : lo (24 * b + j) ≤ hi (24 * b + j) ∧ hi (24 * b + j) ≤ 999 := TB.1 j hj2
    have v1 : vp_in (nI (24 * a + i)) 96 := vp_in_nI (by omega) (by decide)
    have v2 : vp_in (nI (24 * b + j)) 96 := vp_in_nI (by omega) (by decide)
    have e1 : sr_A lo (nI (24 * a + i)).toNatClampNeg = nI (lo (24 * a + i)) := sr_Ar (by omega)
    have e2 : sr_A lo (nI (24 * b + j)).toNatClampNeg = nI (lo (24 * b + j)) := sr_Ar (by omega)
    have e3 : sr_A hi (nI (24 * a + i)).toNatClampNeg = nI (hi (24 * a + i)) := sr_Ar (by omega)
    have e4 : sr_A hi (nI (24 * b + j)).toNatClampNeg = nI (hi (24 * b + j)) := sr_Ar (by omega)
    have K : ∀ fr to, lo (24 * a + i) ≤ fr → lo (24 * b + j) ≤ fr → (fr = lo (24 * a + i) ∨ fr = lo (24 * b + j)) → to ≤ hi (24 * a + i) → to ≤ hi (24 * b + j) → (to = hi (24 * a + i) ∨ to = hi (24 * b + j)) →
        wX_intersect_116 post (wX_intersect_37 post (nI (24 * a + c a)) (nI (24 * b + c b)) n) (nI (24 * a + i)) (nI (24 * b + j)) (nI (24 * a + c a)) (nI (24 * b + c b)) (nI fr) (nI to) fT fA fMa fMi fD fL fH fIL fIH (nI m) aT (sr_A c) (sr_A lo) (sr_A hi) (sr_A ml) (sr_A mh) aNL aNH := by
      intro fr to f1 f2 f3 t1 t2 t3
      refine sr_xin116 (by omega) (by omega) ba.2 bb.2 (by omega) (by omega) (by omega) (fun m' ml' mh' hc => ?_)
      have S := sr_IN_s TA TB I hi2 hj2 (fr := fr) (to := to) f1 f2 f3 t1 t2 t3 hc
      exact ⟨fun q => ih i (j + 1) (by omega) hi' (by omega) n (by omega) m' ml' mh' _ (S.1 q), fun q => ih (i + 1) j (by omega) (by omega) hj' n (by omega) m' ml' mh' _ (S.2 q)⟩
    have K2 : ∀ fr, lo (24 * a + i) ≤ fr → lo (24 * b + j) ≤ fr → (fr = lo (24 * a + i) ∨ fr = lo (24 * b + j)) →
        wX_intersect_82 post (wX_intersect_37 post (nI (24 * a + c a)) (nI (24 * b + c b)) n) (nI (24 * a + i)) (nI (24 * b + j)) (nI (24 * a + c a)) (nI (24 * b + c b)) (nI fr) fT fA fMa fMi fD fL fH fIL fIH (nI m) aT (sr_A c) (sr_A lo) (sr_A hi) (sr_A ml) (sr_A mh) aNL aNH := by
      intro fr f1 f2 f3
      unfold wX_intersect_82
      rw [e3, e4]
      exact ⟨v1, v2, pk_le (hi (24 * b + j)) (hi (24 * a + i)) (fun q => ⟨v2, K fr _ f1 f2 f3 q (Nat.le_refl _) (Or.inr rfl)⟩) (fun q => ⟨v1, K fr _ f1 f2 f3 (Nat.le_refl _) (by omega) (Or.inl rfl)⟩) rfl rfl (by omega) (by omega)⟩
    rw [e1, e2]
    exact ⟨v1, v2, pk_le (lo (24 * a + i)) (lo (24 * b + j)) (fun q => ⟨v2, K2 _ q (Nat.le_refl _) (Or.inr rfl)⟩) (fun q => ⟨v1, K2 _ (Nat.le_refl _) (by omega) (Or.inl rfl)⟩) rfl rfl (by omega) (by omega)⟩
theorem sr_IN_0 (na nb : Nat) (la ha lb hb ml mh : Nat → Nat) : sr_IN na nb la ha lb hb 0 0 0 ml mh 0 :=
  ⟨Nat.le_refl _, sr_T0 _ _, fun v => ⟨fun z => absurd z (sr_M0 _ _ v), fun z => absurd z.1 (by omega)⟩, fun k z => absurd z (by omega), fun k z => absurd z (by omega), fun _ => by omega, fun _ => by omega, Or.inl rfl⟩
theorem sr_xin {post : SX → Prop} {ml mh : Nat → Nat} (ha : a < 4) (hb : b < 4) (hca : c a ≤ 24) (hcb : c b ≤ 24) (TA : sr_T (c a) (fun i => lo (24 * a + i)) (fun i => hi (24 * a + i))) (TB : sr_T (c b) (fun i => lo (24 * b + i)) (fun i => hi (24 * b + i)))
    (hp : ∀ (m : Nat) (ml' mh' : Nat → Nat), m ≤ 48 → sr_T m ml' mh' → (∀ v, sr_M m ml' mh' v ↔ (sr_M (c a) (fun i => lo (24 * a + i)) (fun i => hi (24 * a + i)) v ∧ sr_M (c b) (fun i => lo (24 * b + i)) (fun i => hi (24 * b + i)) v)) → post (fT, fA, fMa, fMi, fD, fL, fH, fIL, fIH, nI m, aT, sr_A c, sr_A lo, sr_A hi, sr_A ml', sr_A mh', aNL, aNH)) :
    wpX_intersect post (fT, fA, fMa, fMi, fD, fL, fH, fIL, fIH, fC, aT, sr_A c, sr_A lo, sr_A hi, sr_A ml, sr_A mh, aNL, aNH) (nI a) (nI b) := by
  refine nm_r (sr_24 a) (nm_r (sr_24 b) ⟨vp_in_nI ha (by decide), nm_r (e' := nI (24 * a + c a)) ?_ ⟨vp_in_nI hb (by decide), nm_r (e' := nI (24 * b + c b)) ?_ ⟨c a + c b + 1, ?_⟩⟩⟩)
  · rw [sr_Ar (by omega), nI_add]
  · rw [sr_Ar (by omega), nI_add]
  · exact sr_xin37 ha hb hca hcb TA TB hp (c a + c b) 0 0 (by omega) (by omega) (by omega) (c a + c b + 1) (by omega) 0 ml mh 0 (sr_IN_0 _ _ _ _ _ _ _ _)
variable {post : Int32 → SX → Prop} {ml mh nl nh : Nat → Nat}
theorem sr_xm {Q : Nat → Prop} (hd : d < 4) (ha : a < 4) (hb : b < 4) (hca : c a ≤ 24) (hcb : c b ≤ 24) (TA : sr_T (c a) (fun i => lo (24 * a + i)) (fun i => hi (24 * a + i))) (TB : sr_T (c b) (fun i => lo (24 * b + i)) (fun i => hi (24 * b + i)))
    (hQ : ∀ v, v < 1000 → ((sr_M (c a) (fun i => lo (24 * a + i)) (fun i => hi (24 * a + i)) v ∧ sr_M (c b) (fun i => lo (24 * b + i)) (fun i => hi (24 * b + i)) v) ↔ Q v)) (hp : ∀ (m : Nat) (ml' mh' nl' nh' : Nat → Nat), sr_T m ml' mh' → (∀ v, v < 1000 → (sr_M m ml' mh' v ↔ Q v)) → (m ≤ 24 → post 1 (fT, fA, fMa, fMi, fD, fL, fH, fIL, fIH, nI m, aT, sr_A (sr_u c d m), sr_A (sr_kx lo d ml' m), sr_A (sr_kx hi d mh' m), sr_A ml', sr_A mh', sr_A nl', sr_A nh')) ∧ (¬ m ≤ 24 → post 0 (fT, fA, fMa, fMi, fD, fL, fH, fIL, fIH, nI m, aT, sr_A c, sr_A lo, sr_A hi, sr_A ml', sr_A mh', sr_A nl', sr_A nh'))) :
    wpX_meet post (fT, fA, fMa, fMi, fD, fL, fH, fIL, fIH, fC, aT, sr_A c, sr_A lo, sr_A hi, sr_A ml, sr_A mh, sr_A nl, sr_A nh) (nI d) (nI a) (nI b) := by
  unfold wpX_meet
  dsimp only
  refine sr_xr1 hd (br_f (by decide) (sr_xr1 ha (br_f (by decide) (sr_xr1 hb (br_f (by decide) ?_)))))
  refine sr_xin ha hb hca hcb TA TB (fun m ml' mh' hm T hM => ?_)
  have H := hp m ml' mh' nl nh T (fun v hv => (hM v).trans (hQ v hv))
  exact pk_lt 24 m (fun z => H.2 (by omega)) (fun z => sr_xk hd z T (br_f (by decide) (H.1 z)))
/-! join -/
theorem sr_xj82 {Q : Nat → Prop} (hd : d < 4) (hb : b < 4) (hcb : c b ≤ 24) (TB : sr_T (c b) (fun i => lo (24 * b + i)) (fun i => hi (24 * b + i))) {A : Nat → Prop}
    (hQ : ∀ v, v < 1000 → ((A v ∨ sr_M (c b) (fun i => lo (24 * b + i)) (fun i => hi (24 * b + i)) v) ↔ Q v)) (hp : ∀ (m : Nat) (ml' mh' nl' nh' : Nat → Nat), sr_T m ml' mh' → (∀ v, v < 1000 → (sr_M m ml' mh' v ↔ Q v)) → (m ≤ 24 → post 1 (fT, fA, fMa, fMi, fD, fL, fH, fIL, fIH, nI m, aT, sr_A (sr_u c d m), sr_A (sr_kx lo d ml' m), sr_A (sr_kx hi d mh' m), sr_A ml', sr_A mh', sr_A nl', sr_A nh')) ∧ (¬ m ≤ 24 → post 0 (fT, fA, fMa, fMi, fD, fL, fH, fIL, fIH, nI m, aT, sr_A c, sr_A lo, sr_A hi, sr_A ml', sr_A mh', sr_A nl', sr_A nh'))) :
    ∀ k i, i + k = c b → ∀ n, k < n → ∀ (m : Nat) (ml mh nl nh : Nat → Nat), m ≤ 24 + i → sr_T m ml mh → (∀ v, sr_M m ml mh v ↔ (A v ∨ sr_M i (fun i => lo (24 * b + i)) (fun i => hi (24 * b + i)) v)) →
      wX_join_82 post (nI d) (nI b) n (nI i) fT fA fMa fMi fD fL fH fIL fIH (nI m) aT (sr_A c) (sr_A lo) (sr_A hi) (sr_A ml) (sr_A mh) (sr_A nl) (sr_A nh) := by
  intro k
  induction k with
  | zero =>
    intro i hk n hn m ml mh nl nh hm T hM
    obtain ⟨n, rfl⟩ : ∃ m, n = m + 1 := ⟨n - 1, by omega⟩
    have e : i = c b := by omega
    subst e
    have H := hp m ml mh nl nh T (fun v hv => (hM v).trans (hQ v hv))
    refine ⟨vp_in_nI hb (by decide), br_t ?_ (pk_lt 24 m (fun z => H.2 (by omega)) (fun z => sr_xk hd z T (br_f (by decide) (H.1 z))))⟩
    rw [sr_Ar (by omega)]; exact nI_le (Nat.le_refl _) (by omega)
  | succ k ih =>
    intro i hk n hn m ml mh nl nh hm T hM
    obtain ⟨n, rfl⟩ : ∃ m, n = m + 1 := ⟨n - 1, by omega⟩
    have bb : lo (24 * b + i) ≤ hi (24 * b + i) ∧ hi (24 * b + i) ≤ 999 := TB.1 i (by omega)
    have hw : vp_in ((24 : Int32) * nI b + nI i) 96 := by rw [sr_24i]; exact vp_in_nI (by omega) (by decide)
    refine ⟨vp_in_nI hb (by decide), br_f ?_ ⟨hw, hw, ?_⟩⟩
    · rw [sr_Ar (by omega)]; exact nI_ge (by omega) (by omega)
    rw [sr_24i, sr_Ar (by omega), sr_Ar (by omega)]
    refine sr_xun (by omega) T (by rw [nI_toInt (by omega)]; omega) (by rw [nI_toInt (by omega)]; omega) (fun q ml' mh' nl' nh' hq T' hM' => nm_r (nI_1 i) ?_)
    refine ih (i + 1) (by omega) n (by omega) q ml' mh' nl' nh' (by omega) T' (fun v => ?_)
    rw [hM' v, hM v, sr_M_succ, nI_toInt (by omega), nI_toInt (by omega), Int.ofNat_le, Int.ofNat_le, or_assoc]
theorem sr_xj34 {Q : Nat → Prop} (hd : d < 4) (ha : a < 4) (hb : b < 4) (hca : c a ≤ 24) (hcb : c b ≤ 24) (TA : sr_T (c a) (fun i => lo (24 * a + i)) (fun i => hi (24 * a + i))) (TB : sr_T (c b) (fun i => lo (24 * b + i)) (fun i => hi (24 * b + i)))
    (hQ : ∀ v, v < 1000 → ((sr_M (c a) (fun i => lo (24 * a + i)) (fun i => hi (24 * a + i)) v ∨ sr_M (c b) (fun i => lo (24 * b + i)) (fun i => hi (24 * b + i)) v) ↔ Q v)) (hp : ∀ (m : Nat) (ml' mh' nl' nh' : Nat → Nat), sr_T m ml' mh' → (∀ v, v < 1000 → (sr_M m ml' mh' v ↔ Q v)) → (m ≤ 24 → post 1 (fT, fA, fMa, fMi, fD, fL, fH, fIL, fIH, nI m, aT, sr_A (sr_u c d m), sr_A (sr_kx lo d ml' m), sr_A (sr_kx hi d mh' m), sr_A ml', sr_A mh', sr_A nl', sr_A nh')) ∧ (¬ m ≤ 24 → post 0 (fT, fA, fMa, fMi, fD, fL, fH, fIL, fIH, nI m, aT, sr_A c, sr_A lo, sr_A hi, sr_A ml', sr_A mh', sr_A nl', sr_A nh'))) :
    ∀ k i, i + k = c a → ∀ n, k < n → ∀ (m : Nat) (ml mh nl nh : Nat → Nat), m ≤ i → sr_T m ml mh → (∀ v, sr_M m ml mh v ↔ sr_M i (fun i => lo (24 * a + i)) (fun i => hi (24 * a + i)) v) →
      wX_join_34 post (nI d) (nI a) (nI b) n (nI i) fT fA fMa fMi fD fL fH fIL fIH (nI m) aT (sr_A c) (sr_A lo) (sr_A hi) (sr_A ml) (sr_A mh) (sr_A nl) (sr_A nh) := by
  intro k
  induction k with
  | zero =>
    intro i hk n hn m ml mh nl nh hm T hM
    obtain ⟨n, rfl⟩ : ∃ m, n = m + 1 := ⟨n - 1, by omega⟩
    have e : i = c a := by omega
    subst e
    refine ⟨vp_in_nI ha (by decide), br_t ?_ ⟨c b + 1, ?_⟩⟩
    · rw [sr_Ar (by omega)]; exact nI_le (Nat.le_refl _) (by omega)
    · refine sr_xj82 hd hb hcb TB hQ hp (c b) 0 (by omega) (c b + 1) (by omega) m ml mh nl nh (by omega) T (fun v => ?_)
      rw [hM v]
      exact ⟨fun z => Or.inl z, fun z => z.elim id (fun y => absurd y (sr_M0 _ _ v))⟩
  | succ k ih =>
    intro i hk n hn m ml mh nl nh hm T hM
    obtain ⟨n, rfl⟩ : ∃ m, n = m + 1 := ⟨n - 1, by omega⟩
    have bb : lo (24 * a + i) ≤ hi (24 * a + i) ∧ hi (24 * a + i) ≤ 999 := TA.1 i (by omega)
    have hw : vp_in ((24 : Int32) * nI a + nI i) 96 := by rw [sr_24i]; exact vp_in_nI (by omega) (by decide)
    refine ⟨vp_in_nI ha (by decide), br_f ?_ ⟨hw, hw, ?_⟩⟩
    · rw [sr_Ar (by omega)]; exact nI_ge (by omega) (by omega)
    rw [sr_24i, sr_Ar (by omega), sr_Ar (by omega)]
    refine sr_xun (by omega) T (by rw [nI_toInt (by omega)]; omega) (by rw [nI_toInt (by omega)]; omega) (fun q ml' mh' nl' nh' hq T' hM' => nm_r (nI_1 i) ?_)
    refine ih (i + 1) (by omega) n (by omega) q ml' mh' nl' nh' (by omega) T' (fun v => ?_)
    rw [hM' v, hM v, sr_M_succ, nI_toInt (by omega), nI_toInt (by omega), Int.ofNat_le, Int.ofNat_le]
theorem sr_xj {Q : Nat → Prop} (hd : d < 4) (ha : a < 4) (hb : b < 4) (hca : c a ≤ 24) (hcb : c b ≤ 24) (TA : sr_T (c a) (fun i => lo (24 * a + i)) (fun i => hi (24 * a + i))) (TB : sr_T (c b) (fun i => lo (24 * b + i)) (fun i => hi (24 * b + i)))
    (hQ : ∀ v, v < 1000 → ((sr_M (c a) (fun i => lo (24 * a + i)) (fun i => hi (24 * a + i)) v ∨ sr_M (c b) (fun i => lo (24 * b + i)) (fun i => hi (24 * b + i)) v) ↔ Q v)) (hp : ∀ (m : Nat) (ml' mh' nl' nh' : Nat → Nat), sr_T m ml' mh' → (∀ v, v < 1000 → (sr_M m ml' mh' v ↔ Q v)) → (m ≤ 24 → post 1 (fT, fA, fMa, fMi, fD, fL, fH, fIL, fIH, nI m, aT, sr_A (sr_u c d m), sr_A (sr_kx lo d ml' m), sr_A (sr_kx hi d mh' m), sr_A ml', sr_A mh', sr_A nl', sr_A nh')) ∧ (¬ m ≤ 24 → post 0 (fT, fA, fMa, fMi, fD, fL, fH, fIL, fIH, nI m, aT, sr_A c, sr_A lo, sr_A hi, sr_A ml', sr_A mh', sr_A nl', sr_A nh'))) :
    wpX_join post (fT, fA, fMa, fMi, fD, fL, fH, fIL, fIH, fC, aT, sr_A c, sr_A lo, sr_A hi, sr_A ml, sr_A mh, sr_A nl, sr_A nh) (nI d) (nI a) (nI b) := by
  unfold wpX_join
  dsimp only
  refine sr_xr1 hd (br_f (by decide) (sr_xr1 ha (br_f (by decide) (sr_xr1 hb (br_f (by decide) ⟨c a + 1, ?_⟩)))))
  exact sr_xj34 hd ha hb hca hcb TA TB hQ hp (c a) 0 (by omega) (c a + 1) (by omega) 0 ml mh nl nh (by omega) (sr_T0 _ _) (fun v => ⟨fun z => absurd z (sr_M0 _ _ v), fun z => absurd z (sr_M0 _ _ v)⟩)
/-! invert -/
theorem sr_iv {n : Nat} {l h : Nat → Nat} (T : sr_T n l h) {i : Nat} (hi : i < n) (v : Nat) :
    (v < sr_E h (i + 1) ∧ ¬ sr_M n l h v) ↔ ((v < sr_E h i ∧ ¬ sr_M n l h v) ∨ (sr_E h i ≤ v ∧ v < l i)) := by
  have hb := T.1 i hi
  have he := (sr_E_lt T hi).1
  have e : sr_E h (i + 1) = h i + 1 := rfl
  rw [e]
  constructor
  · intro z
    by_cases y : v < sr_E h i
    · exact Or.inl ⟨y, z.2⟩
    · refine Or.inr ⟨by omega, ?_⟩
      by_cases q : l i ≤ v
      · exact absurd ⟨i, hi, q, by omega⟩ z.2
      · omega
  · intro z
    rcases z with z | z
    · exact ⟨by omega, z.2⟩
    · refine ⟨by omega, fun ⟨k, k1, k2, k3⟩ => ?_⟩
      by_cases q : k < i
      · have := sr_E_j T q (by omega); omega
      · by_cases q2 : k = i
        · subst q2; omega
        · have := sr_T_lt T (show i < k by omega) k1; omega
theorem sr_ivE {n : Nat} {l h : Nat → Nat} (T : sr_T n l h) (v : Nat) (hv : v < 1000) :
    ¬ sr_M n l h v ↔ ((v < sr_E h n ∧ ¬ sr_M n l h v) ∨ (sr_E h n ≤ v ∧ v ≤ 999)) := by
  constructor
  · intro z
    by_cases y : v < sr_E h n
    · exact Or.inl ⟨y, z⟩
    · exact Or.inr ⟨by omega, by omega⟩
  · intro z
    rcases z with z | z
    · exact z.2
    · intro ⟨k, k1, k2, k3⟩
      have := sr_E_j T k1 (Nat.le_refl n)
      omega
theorem sr_xi28 {Q : Nat → Prop} (hd : d < 4) (ha : a < 4) (hca : c a ≤ 24) (TA : sr_T (c a) (fun i => lo (24 * a + i)) (fun i => hi (24 * a + i)))
    (hQ : ∀ v, v < 1000 → (¬ sr_M (c a) (fun i => lo (24 * a + i)) (fun i => hi (24 * a + i)) v ↔ Q v)) (hp : ∀ (m : Nat) (ml' mh' nl' nh' : Nat → Nat), sr_T m ml' mh' → (∀ v, v < 1000 → (sr_M m ml' mh' v ↔ Q v)) → (m ≤ 24 → post 1 (fT, fA, fMa, fMi, fD, fL, fH, fIL, fIH, nI m, aT, sr_A (sr_u c d m), sr_A (sr_kx lo d ml' m), sr_A (sr_kx hi d mh' m), sr_A ml', sr_A mh', sr_A nl', sr_A nh')) ∧ (¬ m ≤ 24 → post 0 (fT, fA, fMa, fMi, fD, fL, fH, fIL, fIH, nI m, aT, sr_A c, sr_A lo, sr_A hi, sr_A ml', sr_A mh', sr_A nl', sr_A nh'))) :
    ∀ k i, i + k = c a → ∀ n, k < n → ∀ (m : Nat) (ml mh : Nat → Nat), m ≤ i → sr_T m ml mh → (∀ j, j < m → mh j + 1 < sr_E (fun i => hi (24 * a + i)) i) → (∀ v, sr_M m ml mh v ↔ (v < sr_E (fun i => hi (24 * a + i)) i ∧ ¬ sr_M (c a) (fun i => lo (24 * a + i)) (fun i => hi (24 * a + i)) v)) →
      wX_invert_28 post (nI d) (nI a) n (nI (sr_E (fun i => hi (24 * a + i)) i)) (nI i) fT fA fMa fMi fD fL fH fIL fIH (nI m) aT (sr_A c) (sr_A lo) (sr_A hi) (sr_A ml) (sr_A mh) (sr_A nl) (sr_A nh) := by
  intro k
  induction k with
  | zero =>
    intro i hk n hn m ml mh hm T hs hM
    obtain ⟨n, rfl⟩ : ∃ m, n = m + 1 := ⟨n - 1, by omega⟩
    have e : i = c a := by omega
    subst e
    have hE := sr_E_b TA (c a) (Nat.le_refl _)
    refine ⟨vp_in_nI ha (by decide), br_t ?_ ?_⟩
    · rw [sr_Ar (by omega)]; exact nI_le (Nat.le_refl _) (by omega)
    · by_cases h : sr_E (fun i => hi (24 * a + i)) (c a) ≤ 999
      · refine sr_xap1 (to := 999) (by omega) h (by omega) ?_
        have T' := sr_T_snoc T hs h (Nat.le_refl 999)
        have H := hp (m + 1) (sr_u ml m (sr_E (fun i => hi (24 * a + i)) (c a))) (sr_u mh m 999) nl nh T' (fun v hv => by
          rw [sr_M_snoc, hM v, ← hQ v hv]
          exact (sr_ivE TA v hv).symm)
        exact pk_lt 24 (m + 1) (fun z => H.2 (by omega)) (fun z => sr_xk hd z T' (br_f (by decide) (H.1 z)))
      · refine sr_xap0 (nI_ge (b := sr_E (fun i => hi (24 * a + i)) (c a)) (a := 999) (by omega) (by omega)) ?_
        have H := hp m ml mh nl nh T (fun v hv => by
          refine (hM v).trans (Iff.trans ?_ ((sr_ivE TA v hv).symm.trans (hQ v hv)))
          constructor
          · intro z; exact Or.inl z
          · intro z
            rcases z with z | z
            · exact z
            · exact absurd z (by omega))
        exact pk_lt 24 m (fun z => H.2 (by omega)) (fun z => sr_xk hd z T (br_f (by decide) (H.1 z)))
  | succ k ih =>
    intro i hk n hn m ml mh hm T hs hM
    obtain ⟨n, rfl⟩ : ∃ m, n = m + 1 := ⟨n - 1, by omega⟩
    have hi2 : i < c a := by omega
    have bb : lo (24 * a + i) ≤ hi (24 * a + i) ∧ hi (24 * a + i) ≤ 999 := TA.1 i hi2
    have hE := sr_E_b TA i (by omega)
    have hE1 : sr_E (fun i => hi (24 * a + i)) i ≤ lo (24 * a + i) := (sr_E_lt TA hi2).1
    have hE2 : sr_E (fun i => hi (24 * a + i)) (i + 1) = hi (24 * a + i) + 1 := rfl
    have hw : vp_in ((24 : Int32) * nI a + nI i) 96 := by rw [sr_24i]; exact vp_in_nI (by omega) (by decide)
    have eH : sr_A hi ((24 : Int32) * nI a + nI i).toNatClampNeg + 1 = nI (sr_E (fun i => hi (24 * a + i)) (i + 1)) := by rw [sr_24i, sr_Ar (by omega), nI_1, hE2]
    refine ⟨vp_in_nI ha (by decide), br_f ?_ ⟨hw, ?_⟩⟩
    · rw [sr_Ar (by omega)]; exact nI_ge (by omega) (by omega)
    by_cases h : sr_E (fun i => hi (24 * a + i)) i < lo (24 * a + i)
    · have eL : sr_A lo ((24 : Int32) * nI a + nI i).toNatClampNeg - 1 = nI (lo (24 * a + i) - 1) := by
        rw [sr_24i, sr_Ar (by omega)]
        exact pk_sub (b := 1) (by omega)
      rw [eL]
      refine sr_xap1 (by omega) (by omega) (by omega) ⟨hw, nm_r eH (nm_r (nI_1 i) ?_)⟩
      refine ih (i + 1) (by omega) n (by omega) (m + 1) _ _ (by omega) (sr_T_snoc T hs (by omega) (by omega)) (sr_all_snoc (fun j hj => ?_) (by omega)) (fun v => ?_)
      · have := hs j hj; omega
      · rw [sr_M_snoc, hM v, sr_iv TA hi2 v]
        constructor
        · intro z
          rcases z with z | z
          · exact Or.inl z
          · exact Or.inr ⟨z.1, by show v < lo (24 * a + i); omega⟩
        · intro z
          rcases z with z | z
          · exact Or.inl z
          · have z2 : v < lo (24 * a + i) := z.2
            exact Or.inr ⟨z.1, by omega⟩
    · refine sr_xap0 ?_ ⟨hw, nm_r eH (nm_r (nI_1 i) ?_)⟩
      · rw [sr_24i, sr_Ar (by omega), Int32.le_iff_toInt_le, nI_toInt (by omega), show (nI (lo (24 * a + i)) - 1).toInt = (lo (24 * a + i) : Int) - (1 : Nat) from pk_sub_toInt (b := 1) (by omega) (by decide)]
        omega
      · refine ih (i + 1) (by omega) n (by omega) m ml mh (by omega) T (fun j hj => ?_) (fun v => ?_)
        · have := hs j hj; omega
        · rw [hM v, sr_iv TA hi2 v]
          constructor
          · intro z; exact Or.inl z
          · intro z
            rcases z with z | z
            · exact z
            · have z2 : v < lo (24 * a + i) := z.2
              exact absurd z.1 (by omega)
theorem sr_xi {Q : Nat → Prop} (hd : d < 4) (ha : a < 4) (hca : c a ≤ 24) (TA : sr_T (c a) (fun i => lo (24 * a + i)) (fun i => hi (24 * a + i)))
    (hQ : ∀ v, v < 1000 → (¬ sr_M (c a) (fun i => lo (24 * a + i)) (fun i => hi (24 * a + i)) v ↔ Q v)) (hp : ∀ (m : Nat) (ml' mh' nl' nh' : Nat → Nat), sr_T m ml' mh' → (∀ v, v < 1000 → (sr_M m ml' mh' v ↔ Q v)) → (m ≤ 24 → post 1 (fT, fA, fMa, fMi, fD, fL, fH, fIL, fIH, nI m, aT, sr_A (sr_u c d m), sr_A (sr_kx lo d ml' m), sr_A (sr_kx hi d mh' m), sr_A ml', sr_A mh', sr_A nl', sr_A nh')) ∧ (¬ m ≤ 24 → post 0 (fT, fA, fMa, fMi, fD, fL, fH, fIL, fIH, nI m, aT, sr_A c, sr_A lo, sr_A hi, sr_A ml', sr_A mh', sr_A nl', sr_A nh'))) :
    wpX_invert post (fT, fA, fMa, fMi, fD, fL, fH, fIL, fIH, fC, aT, sr_A c, sr_A lo, sr_A hi, sr_A ml, sr_A mh, sr_A nl, sr_A nh) (nI d) (nI a) := by
  unfold wpX_invert
  dsimp only
  refine sr_xr1 hd (br_f (by decide) (sr_xr1 ha (br_f (by decide) ⟨c a + 1, ?_⟩)))
  exact sr_xi28 hd ha hca TA hQ hp (c a) 0 (by omega) (c a + 1) (by omega) 0 ml mh (by omega) (sr_T0 _ _) (fun j h => absurd h (by omega)) (fun v => ⟨fun z => absurd z (sr_M0 _ _ v), fun z => absurd z.1 (by show ¬ v < 0; omega)⟩)
end
end
section
/-! reading an item: the pure picture, and the component's walk -/
def sr_ch (tx : Nat → Int32) (L p : Nat) : Int32 := if p < L then tx p else 0
def sr_dg (c : Int32) : Bool := decide (¬ c < 48 ∧ ¬ 57 < c)
def sr_dv (c : Int32) : Nat := (c - 48).toNatClampNeg
theorem sr_dvs {c : Int32} (h : sr_dg c = true) : sr_dv c ≤ 9 ∧ c - 48 = nI (sr_dv c) := by
  have h' := of_decide_eq_true h
  rw [Int32.lt_iff_toInt_lt, Int32.lt_iff_toInt_lt, show (48 : Int32).toInt = 48 from by decide, show (57 : Int32).toInt = 57 from by decide] at h'
  obtain ⟨j, hj, rfl⟩ := nI_of (x := c) (by rw [Int32.lt_iff_toInt_lt, show (0 : Int32).toInt = 0 from by decide]; omega)
  rw [nI_toInt hj] at h'
  have e : nI j - 48 = nI (j - 48) := pk_sub (a := j) (b := 48) (by omega)
  have e2 : sr_dv (nI j) = j - 48 := by
    show (nI j - 48).toNatClampNeg = _
    rw [e, nI_clamp (by omega)]
  rw [e2]
  exact ⟨by omega, e⟩
theorem sr_dg0 {c : Int32} (h : sr_dg c = true) : ¬ c = 0 := by
  intro e; subst e; exact absurd h (by decide)
theorem sr_chL {tx : Nat → Int32} {L p : Nat} (h : ¬ sr_ch tx L p = 0) : p < L := by
  by_cases q : p < L
  · exact q
  · exact absurd (if_neg q) h
def sr_nd (g : Nat → Int32) (p : Nat) : Nat :=
  if sr_dg (g p) = true then
    if g (p + 1) = 46 then
      if sr_dg (g (p + 2)) = true then
        if g (p + 3) = 46 then
          if sr_dg (g (p + 4)) = true then 3 else 0
        else 2
      else 0
    else 1
  else 0
def sr_mi (g : Nat → Int32) (p k : Nat) : Nat := if 1 < k then sr_dv (g (p + 2)) else 0
def sr_lo (g : Nat → Int32) (p k : Nat) : Nat := 100 * sr_dv (g p) + 10 * sr_mi g p k + (if 2 < k then sr_dv (g (p + 4)) else 0)
def sr_hi (g : Nat → Int32) (p k : Nat) : Nat := sr_lo g p k + (if k = 1 then 99 else if k = 2 then 9 else 0)
def sr_ca (g : Nat → Int32) (p k : Nat) : Nat :=
  if sr_dv (g p) = 0 then
    if k = 1 then 99 else if sr_mi g p k = 0 then (if k = 2 then 9 else sr_lo g p k) else 10 * sr_mi g p k + 9
  else 100 * sr_dv (g p) + 99
def sr_ti (g : Nat → Int32) (p k : Nat) : Nat := if k = 1 then 100 * sr_dv (g p) + 99 else 100 * sr_dv (g p) + 10 * sr_mi g p k + 9
def sr_pt (g : Nat → Int32) (p : Nat) (F : Nat → Int32 × Int32) : Option (Nat × Int32 × Int32) :=
  if sr_nd g p = 0 then none else some (p + 2 * sr_nd g p - 1, F (sr_nd g p))
theorem sr_pt0 {g : Nat → Int32} {p : Nat} {F : Nat → Int32 × Int32} (h : sr_nd g p = 0) : sr_pt g p F = none := if_pos h
theorem sr_ptk {g : Nat → Int32} {p k : Nat} {F : Nat → Int32 × Int32} (h : sr_nd g p = k) (hk : 0 < k) : sr_pt g p F = some (p + 2 * k - 1, F k) := by
  subst h; exact if_neg (by omega)
def sr_pl (g : Nat → Int32) (p k : Nat) : Option (Nat × Int32 × Int32) :=
  if g (p + 2 * k - 1) = 45 then sr_pt g (p + 2 * k) (fun l => (nI (sr_lo g p k), nI (sr_hi g (p + 2 * k) l))) else some (p + 2 * k - 1, nI (sr_lo g p k), nI (sr_hi g p k))
def sr_lt (g : Nat → Int32) (p : Nat) : Option (Nat × Int32 × Int32) :=
  if g p = 61 then sr_pt g (p + 1) (fun k => (0, nI (sr_hi g (p + 1) k))) else sr_pt g p (fun k => (0, nI (sr_lo g p k) - 1))
def sr_gt (g : Nat → Int32) (p : Nat) : Option (Nat × Int32 × Int32) :=
  if g p = 61 then sr_pt g (p + 1) (fun k => (nI (sr_lo g (p + 1) k), 999)) else sr_pt g p (fun k => (nI (sr_hi g p k) + 1, 999))
def sr_item (g : Nat → Int32) (p : Nat) : Option (Nat × Int32 × Int32) :=
  if g p = 42 then some (p + 1, 0, 999)
  else if g p = 60 then sr_lt g (p + 1)
  else if g p = 62 then sr_gt g (p + 1)
  else if g p = 94 then sr_pt g (p + 1) (fun k => (nI (sr_lo g (p + 1) k), nI (sr_ca g (p + 1) k)))
  else if g p = 126 then sr_pt g (p + 1) (fun k => (nI (sr_lo g (p + 1) k), nI (sr_ti g (p + 1) k)))
  else if sr_nd g p = 0 then none else sr_pl g p (sr_nd g p)
theorem sr_nd0 {g : Nat → Int32} {p : Nat} (h : sr_dg (g p) = false) : sr_nd g p = 0 := if_neg (by rw [h]; decide)
theorem sr_nd1 {g : Nat → Int32} {p : Nat} (h : sr_dg (g p) = true) (h1 : ¬ g (p + 1) = 46) : sr_nd g p = 1 := by
  unfold sr_nd; rw [if_pos h, if_neg h1]
theorem sr_nd10 {g : Nat → Int32} {p : Nat} (h : sr_dg (g p) = true) (h1 : g (p + 1) = 46) (h2 : sr_dg (g (p + 2)) = false) : sr_nd g p = 0 := by
  unfold sr_nd; rw [if_pos h, if_pos h1, if_neg (by rw [h2]; decide)]
theorem sr_nd2 {g : Nat → Int32} {p : Nat} (h : sr_dg (g p) = true) (h1 : g (p + 1) = 46) (h2 : sr_dg (g (p + 2)) = true) (h3 : ¬ g (p + 3) = 46) : sr_nd g p = 2 := by
  unfold sr_nd; rw [if_pos h, if_pos h1, if_pos h2, if_neg h3]
theorem sr_nd20 {g : Nat → Int32} {p : Nat} (h : sr_dg (g p) = true) (h1 : g (p + 1) = 46) (h2 : sr_dg (g (p + 2)) = true) (h3 : g (p + 3) = 46) (h4 : sr_dg (g (p + 4)) = false) : sr_nd g p = 0 := by
  unfold sr_nd; rw [if_pos h, if_pos h1, if_pos h2, if_pos h3, if_neg (by rw [h4]; decide)]
theorem sr_nd3 {g : Nat → Int32} {p : Nat} (h : sr_dg (g p) = true) (h1 : g (p + 1) = 46) (h2 : sr_dg (g (p + 2)) = true) (h3 : g (p + 3) = 46) (h4 : sr_dg (g (p + 4)) = true) : sr_nd g p = 3 := by
  unfold sr_nd; rw [if_pos h, if_pos h1, if_pos h2, if_pos h3, if_pos h4]
/-- what a number of digits says -/
theorem sr_ndk {g : Nat → Int32} {p k : Nat} (h : sr_nd g p = k) (hk : 0 < k) :
    k ≤ 3 ∧ sr_dg (g p) = true ∧ (1 < k → sr_dg (g (p + 2)) = true) ∧ (2 < k → sr_dg (g (p + 4)) = true) := by
  cases a0 : sr_dg (g p) with
  | false => have := sr_nd0 a0; omega
  | true =>
    by_cases a1 : g (p + 1) = 46
    · cases a2 : sr_dg (g (p + 2)) with
      | false => have := sr_nd10 a0 a1 a2; omega
      | true =>
        by_cases a3 : g (p + 3) = 46
        · cases a4 : sr_dg (g (p + 4)) with
          | false => have := sr_nd20 a0 a1 a2 a3 a4; omega
          | true => have := sr_nd3 a0 a1 a2 a3 a4; exact ⟨by omega, rfl, fun _ => rfl, fun _ => rfl⟩
        · have := sr_nd2 a0 a1 a2 a3; exact ⟨by omega, rfl, fun _ => rfl, fun z => absurd z (by omega)⟩
    · have := sr_nd1 a0 a1; exact ⟨by omega, rfl, fun z => absurd z (by omega), fun z => absurd z (by omega)⟩
theorem sr_ndL {tx : Nat → Int32} {L p k : Nat} (h : sr_nd (sr_ch tx L) p = k) (hk : 0 < k) : p + 2 * k - 1 ≤ L := by
  obtain ⟨a, b, c, d⟩ := sr_ndk h hk
  by_cases e : k = 1
  · have := sr_chL (sr_dg0 b); omega
  · by_cases e2 : k = 2
    · have := sr_chL (sr_dg0 (c (by omega))); omega
    · have := sr_chL (sr_dg0 (d (by omega))); omega
/-- the bounds of a partial version -/
theorem sr_ndb {g : Nat → Int32} {p k : Nat} (h : sr_nd g p = k) (hk : 0 < k) : sr_lo g p k ≤ 999 ∧ sr_hi g p k ≤ 999 ∧ sr_ca g p k ≤ 999 ∧ sr_ti g p k ≤ 999 := by
  obtain ⟨a, b, c, d⟩ := sr_ndk h hk
  have b' := (sr_dvs b).1
  have m : sr_mi g p k ≤ 9 ∧ (k = 1 → sr_mi g p k = 0) := by
    unfold sr_mi
    by_cases e : 1 < k
    · rw [if_pos e]; exact ⟨(sr_dvs (c e)).1, fun z => absurd z (by omega)⟩
    · rw [if_neg e]; exact ⟨by omega, fun _ => rfl⟩
  have l : ∃ x, sr_lo g p k = 100 * sr_dv (g p) + 10 * sr_mi g p k + x ∧ x ≤ 9 ∧ (k ≤ 2 → x = 0) := by
    unfold sr_lo
    by_cases e : 2 < k
    · rw [if_pos e]; exact ⟨_, rfl, (sr_dvs (d e)).1, fun z => absurd z (by omega)⟩
    · rw [if_neg e]; exact ⟨0, rfl, by omega, fun _ => rfl⟩
  obtain ⟨x, l1, l2, l3⟩ := l
  refine ⟨by omega, ?_, ?_, ?_⟩
  · unfold sr_hi
    by_cases e : k = 1
    · rw [if_pos e]; have := l3 (by omega); have := m.2 e; omega
    · by_cases e2 : k = 2
      · rw [if_neg e, if_pos e2]; have := l3 (by omega); omega
      · rw [if_neg e, if_neg e2]; omega
  · unfold sr_ca
    split
    · split
      · omega
      · split
        · split
          · omega
          · omega
        · omega
    · omega
  · unfold sr_ti
    split
    · omega
    · omega
section
variable {fT fA fMa fMi fD fL fH fIL fIH fC : Int32} {aT aC aL aH aML aMH aNL aNH : Nat → Int32}
variable {post : Int32 → Prop}
theorem sr_xdg {u : SX} {c : Int32} (h1 : sr_dg c = true → post 1) (h0 : sr_dg c = false → post 0) : wpX_isDigit post u c := by
  obtain ⟨fT, fA, fMa, fMi, fD, fL, fH, fIL, fIH, fC, aT, aC, aL, aH, aML, aMH, aNL, aNH⟩ := u
  exact br_c (fun z => h0 (decide_eq_false (fun y => y.1 z))) (fun z => br_c (fun y => h0 (decide_eq_false (fun x => x.2 y))) (fun y => h1 (decide_eq_true ⟨z, y⟩)))
theorem sr_ydg {u : SY} {c : Int32} (h1 : sr_dg c = true → post 1) (h0 : sr_dg c = false → post 0) : wpY_isDigit post u c := by
  obtain ⟨gN, gA, gL, gH, bT, bM, bR⟩ := u
  exact br_c (fun z => h0 (decide_eq_false (fun y => y.1 z))) (fun z => br_c (fun y => h0 (decide_eq_false (fun x => x.2 y))) (fun y => h1 (decide_eq_true ⟨z, y⟩)))
end
section
variable {fT fA fMa fMi fD fL fH fIL fIH fC : Int32} {aT aC aL aH aML aMH aNL aNH : Nat → Int32}
variable {post : Int32 → SX → Prop} {L : Nat}
theorem sr_xps {p : Nat} {c : Int32} (hL : L ≤ 40) (hp : p ≤ 99) (hc : ¬ c = 0) (h1 : sr_ch aT L p = c → post 1 (nI L, nI (p + 1), fMa, fMi, fD, fL, fH, fIL, fIH, fC, aT, aC, aL, aH, aML, aMH, aNL, aNH)) (h0 : ¬ sr_ch aT L p = c → post 0 (nI L, nI p, fMa, fMi, fD, fL, fH, fIL, fIH, fC, aT, aC, aL, aH, aML, aMH, aNL, aNH)) :
    wpX_pass post (nI L, nI p, fMa, fMi, fD, fL, fH, fIL, fIH, fC, aT, aC, aL, aH, aML, aMH, aNL, aNH) c := by
  refine pk_le L p (fun z => h0 ?_) (fun z => ⟨vp_in_nI (by omega) (by decide), ?_⟩)
  · unfold sr_ch; rw [if_neg (by omega)]; exact fun e => hc e.symm
  · have e : aT (nI p).toNatClampNeg = sr_ch aT L p := by rw [nI_clamp (by omega)]; exact (if_pos z).symm
    rw [e]
    exact br_c (fun q => nm_r (nI_1 p) (h1 q)) h0
theorem sr_100 (d : Nat) : (100 : Int32) * nI d = nI (100 * d) := pk_mul 100 d
theorem sr_10 (d : Nat) : (10 : Int32) * nI d = nI (10 * d) := pk_mul 10 d
theorem sr_99 (d : Nat) : nI d + (99 : Int32) = nI (d + 99) := nI_add d 99
theorem sr_9 (d : Nat) : nI d + (9 : Int32) = nI (d + 9) := nI_add d 9
theorem sr_xpc {p : Nat} (hL : L ≤ 40) (hp : p ≤ 90)
    (h0 : sr_nd (sr_ch aT L) p = 0 → ∀ (fA fMa fMi fD fL fH : Int32), post 0 (nI L, fA, fMa, fMi, fD, fL, fH, fIL, fIH, fC, aT, aC, aL, aH, aML, aMH, aNL, aNH))
    (h1 : sr_nd (sr_ch aT L) p = 1 → post 1 (nI L, nI (p + 1), nI (sr_dv (sr_ch aT L p)), 0, 1, nI (100 * sr_dv (sr_ch aT L p)), nI (100 * sr_dv (sr_ch aT L p) + 99), fIL, fIH, fC, aT, aC, aL, aH, aML, aMH, aNL, aNH))
    (h2 : sr_nd (sr_ch aT L) p = 2 → post 1 (nI L, nI (p + 3), nI (sr_dv (sr_ch aT L p)), nI (sr_dv (sr_ch aT L (p + 2))), 2, nI (100 * sr_dv (sr_ch aT L p) + 10 * sr_dv (sr_ch aT L (p + 2))), nI (100 * sr_dv (sr_ch aT L p) + 10 * sr_dv (sr_ch aT L (p + 2)) + 9), fIL, fIH, fC, aT, aC, aL, aH, aML, aMH, aNL, aNH))
    (h3 : sr_nd (sr_ch aT L) p = 3 → post 1 (nI L, nI (p + 5), nI (sr_dv (sr_ch aT L p)), nI (sr_dv (sr_ch aT L (p + 2))), 3, nI (100 * sr_dv (sr_ch aT L p) + 10 * sr_dv (sr_ch aT L (p + 2)) + sr_dv (sr_ch aT L (p + 4))), nI (100 * sr_dv (sr_ch aT L p) + 10 * sr_dv (sr_ch aT L (p + 2)) + sr_dv (sr_ch aT L (p + 4))), fIL, fIH, fC, aT, aC, aL, aH, aML, aMH, aNL, aNH)) :
    wpX_readPartial post (nI L, nI p, fMa, fMi, fD, fL, fH, fIL, fIH, fC, aT, aC, aL, aH, aML, aMH, aNL, aNH) := by
  have z0 : ∀ q, L ≤ q → sr_dg (sr_ch aT L q) = false := fun q hq => by
    have : sr_ch aT L q = 0 := if_neg (by omega)
    rw [this]; decide
  have rd : ∀ q, q < L → aT (nI q).toNatClampNeg = sr_ch aT L q := fun q hq => by
    rw [nI_clamp (by omega)]; exact (if_pos hq).symm
  unfold wpX_readPartial
  dsimp only
  refine pk_le L p (fun z => h0 (sr_nd0 (z0 p z)) _ _ _ _ _ _) (fun z => ⟨vp_in_nI (by omega) (by decide), ?_⟩)
  rw [rd p z]
  refine sr_xdg (fun q0 => br_f (by decide) ⟨vp_in_nI (by omega) (by decide), nm_r (sr_dvs q0).2 (nm_r (nI_1 p) (nm_r (sr_100 _) (nm_r (sr_99 _) ?_)))⟩) (fun q0 => br_t rfl (h0 (sr_nd0 q0) _ _ _ _ _ _))
  refine sr_xps (p := p + 1) (c := 46) hL (by omega) (by decide) (fun q1 => ?_) (fun q1 => br_t rfl (h1 (sr_nd1 q0 q1)))
  dsimp only
  refine br_f (by decide) ?_
  refine pk_le L (p + 1 + 1) (fun z => h0 (sr_nd10 q0 q1 (z0 (p + 2) z)) _ _ _ _ _ _) (fun z => ⟨vp_in_nI (by omega) (by decide), ?_⟩)
  rw [rd (p + 1 + 1) z]
  refine sr_xdg (fun q2 => br_f (by decide) ⟨vp_in_nI (by omega) (by decide), nm_r (sr_dvs q2).2 (nm_r (nI_1 (p + 1 + 1)) (nm_r (e' := nI (100 * sr_dv (sr_ch aT L p) + 10 * sr_dv (sr_ch aT L (p + 2)))) ?_ (nm_r (sr_9 _) ?_)))⟩) (fun q2 => br_t rfl (h0 (sr_nd10 q0 q1 q2) _ _ _ _ _ _))
  · rw [sr_10, nI_add]
  refine sr_xps (p := p + 3) (c := 46) hL (by omega) (by decide) (fun q3 => ?_) (fun q3 => br_t rfl (h2 (sr_nd2 q0 q1 q2 q3)))
  dsimp only
  refine br_f (by decide) ?_
  refine pk_le L (p + 3 + 1) (fun z => h0 (sr_nd20 q0 q1 q2 q3 (z0 (p + 4) z)) _ _ _ _ _ _) (fun z => ⟨vp_in_nI (by omega) (by decide), ?_⟩)
  rw [rd (p + 3 + 1) z]
  refine sr_xdg (fun q4 => br_f (by decide) ⟨vp_in_nI (by omega) (by decide), nm_r (e' := nI (100 * sr_dv (sr_ch aT L p) + 10 * sr_dv (sr_ch aT L (p + 2)) + sr_dv (sr_ch aT L (p + 4)))) ?_ (nm_r (nI_1 (p + 3 + 1)) (h3 (sr_nd3 q0 q1 q2 q3 q4)))⟩) (fun q4 => br_t rfl (h0 (sr_nd20 q0 q1 q2 q3 q4) _ _ _ _ _ _))
  rw [(sr_dvs q4).2, nI_add]
theorem sr_xpa {p : Nat} (hL : L ≤ 40) (hp : p ≤ 90)
    (h0 : sr_nd (sr_ch aT L) p = 0 → ∀ (fA fMa fMi fD fL fH : Int32), post 0 (nI L, fA, fMa, fMi, fD, fL, fH, fIL, fIH, fC, aT, aC, aL, aH, aML, aMH, aNL, aNH))
    (h1 : ∀ k, sr_nd (sr_ch aT L) p = k → 0 < k → post 1 (nI L, nI (p + 2 * k - 1), nI (sr_dv (sr_ch aT L p)), nI (sr_mi (sr_ch aT L) p k), nI k, nI (sr_lo (sr_ch aT L) p k), nI (sr_hi (sr_ch aT L) p k), fIL, fIH, fC, aT, aC, aL, aH, aML, aMH, aNL, aNH)) :
    wpX_readPartial post (nI L, nI p, fMa, fMi, fD, fL, fH, fIL, fIH, fC, aT, aC, aL, aH, aML, aMH, aNL, aNH) := by
  refine sr_xpc hL hp h0 (fun q => ?_) (fun q => ?_) (fun q => ?_)
  · have H := h1 1 q (by decide)
    have e1 : p + 2 * 1 - 1 = p + 1 := by omega
    have e2 : sr_mi (sr_ch aT L) p 1 = 0 := if_neg (by decide)
    have e3 : sr_lo (sr_ch aT L) p 1 = 100 * sr_dv (sr_ch aT L p) := by unfold sr_lo; rw [e2, if_neg (by decide)]; omega
    have e4 : sr_hi (sr_ch aT L) p 1 = 100 * sr_dv (sr_ch aT L p) + 99 := by unfold sr_hi; rw [e3, if_pos rfl]
    rw [e1, e2, e3, e4] at H
    exact H
  · have H := h1 2 q (by decide)
    have e1 : p + 2 * 2 - 1 = p + 3 := by omega
    have e2 : sr_mi (sr_ch aT L) p 2 = sr_dv (sr_ch aT L (p + 2)) := if_pos (by decide)
    have e3 : sr_lo (sr_ch aT L) p 2 = 100 * sr_dv (sr_ch aT L p) + 10 * sr_dv (sr_ch aT L (p + 2)) := by unfold sr_lo; rw [e2, if_neg (by decide)]; omega
    have e4 : sr_hi (sr_ch aT L) p 2 = 100 * sr_dv (sr_ch aT L p) + 10 * sr_dv (sr_ch aT L (p + 2)) + 9 := by unfold sr_hi; rw [e3, if_neg (by decide), if_pos rfl]
    rw [e1, e2, e3, e4] at H
    exact H
  · have H := h1 3 q (by decide)
    have e1 : p + 2 * 3 - 1 = p + 5 := by omega
    have e2 : sr_mi (sr_ch aT L) p 3 = sr_dv (sr_ch aT L (p + 2)) := if_pos (by decide)
    have e3 : sr_lo (sr_ch aT L) p 3 = 100 * sr_dv (sr_ch aT L p) + 10 * sr_dv (sr_ch aT L (p + 2)) + sr_dv (sr_ch aT L (p + 4)) := by unfold sr_lo; rw [e2, if_pos (by decide)]
    have e4 : sr_hi (sr_ch aT L) p 3 = 100 * sr_dv (sr_ch aT L p) + 10 * sr_dv (sr_ch aT L (p + 2)) + sr_dv (sr_ch aT L (p + 4)) := by unfold sr_hi; rw [e3, if_neg (by decide), if_neg (by decide)]; omega
    rw [e1, e2, e3, e4] at H
    exact H
theorem sr_xlt {p : Nat} (hL : L ≤ 40) (hp : p ≤ 80) {o : Option (Nat × Int32 × Int32)} (ho : o = sr_lt (sr_ch aT L) p) (h0 : o = none → ∀ (fA fMa fMi fD fL fH fIL fIH : Int32), post 0 (nI L, fA, fMa, fMi, fD, fL, fH, fIL, fIH, fC, aT, aC, aL, aH, aML, aMH, aNL, aNH)) (h1 : ∀ q a b, o = some (q, a, b) → ∀ (fMa fMi fD fL fH : Int32), post 1 (nI L, nI q, fMa, fMi, fD, fL, fH, a, b, fC, aT, aC, aL, aH, aML, aMH, aNL, aNH)) :
    wpX_readBound post (nI L, nI p, fMa, fMi, fD, fL, fH, 0, fIH, fC, aT, aC, aL, aH, aML, aMH, aNL, aNH) 1 := by
  subst ho
  unfold wpX_readBound
  dsimp only
  refine sr_xps hL (by omega) (by decide) (fun e => ?_) (fun e => ?_)
  · have E : sr_lt (sr_ch aT L) p = _ := if_pos e
    dsimp only
    refine sr_xpa hL (by omega) (fun z fA fMa fMi fD fL fH => ?_) (fun k z hk => ?_)
    · dsimp only
      exact br_t rfl (h0 (E.trans (sr_pt0 z)) _ _ _ _ _ _ _ _)
    dsimp only
    refine br_f (by decide) (br_f (by decide) (br_f (by decide) ?_))
    exact h1 _ _ _ (E.trans (sr_ptk z hk)) _ _ _ _ _
  · have E : sr_lt (sr_ch aT L) p = _ := if_neg e
    dsimp only
    refine sr_xpa hL (by omega) (fun z fA fMa fMi fD fL fH => ?_) (fun k z hk => ?_)
    · dsimp only
      exact br_t rfl (h0 (E.trans (sr_pt0 z)) _ _ _ _ _ _ _ _)
    dsimp only
    refine br_f (by decide) (br_f (by decide) (br_t rfl (nm_e ?_)))
    exact h1 _ _ _ (E.trans (sr_ptk z hk)) _ _ _ _ _
theorem sr_xgt {p : Nat} (hL : L ≤ 40) (hp : p ≤ 80) {o : Option (Nat × Int32 × Int32)} (ho : o = sr_gt (sr_ch aT L) p) (h0 : o = none → ∀ (fA fMa fMi fD fL fH fIL fIH : Int32), post 0 (nI L, fA, fMa, fMi, fD, fL, fH, fIL, fIH, fC, aT, aC, aL, aH, aML, aMH, aNL, aNH)) (h1 : ∀ q a b, o = some (q, a, b) → ∀ (fMa fMi fD fL fH : Int32), post 1 (nI L, nI q, fMa, fMi, fD, fL, fH, a, b, fC, aT, aC, aL, aH, aML, aMH, aNL, aNH)) :
    wpX_readBound post (nI L, nI p, fMa, fMi, fD, fL, fH, fIL, 999, fC, aT, aC, aL, aH, aML, aMH, aNL, aNH) 0 := by
  subst ho
  unfold wpX_readBound
  dsimp only
  refine sr_xps hL (by omega) (by decide) (fun e => ?_) (fun e => ?_)
  · have E : sr_gt (sr_ch aT L) p = _ := if_pos e
    dsimp only
    refine sr_xpa hL (by omega) (fun z fA fMa fMi fD fL fH => ?_) (fun k z hk => ?_)
    · dsimp only
      exact br_t rfl (h0 (E.trans (sr_pt0 z)) _ _ _ _ _ _ _ _)
    dsimp only
    refine br_f (by decide) (br_t rfl (br_f (by decide) ?_))
    exact h1 _ _ _ (E.trans (sr_ptk z hk)) _ _ _ _ _
  · have E : sr_gt (sr_ch aT L) p = _ := if_neg e
    dsimp only
    refine sr_xpa hL (by omega) (fun z fA fMa fMi fD fL fH => ?_) (fun k z hk => ?_)
    · dsimp only
      exact br_t rfl (h0 (E.trans (sr_pt0 z)) _ _ _ _ _ _ _ _)
    dsimp only
    refine br_f (by decide) (br_t rfl (br_t rfl (nm_e ?_)))
    exact h1 _ _ _ (E.trans (sr_ptk z hk)) _ _ _ _ _
theorem sr_xca {p : Nat} (hL : L ≤ 40) (hp : p ≤ 80) {o : Option (Nat × Int32 × Int32)} (ho : o = sr_pt (sr_ch aT L) p (fun k => (nI (sr_lo (sr_ch aT L) p k), nI (sr_ca (sr_ch aT L) p k)))) (h0 : o = none → ∀ (fA fMa fMi fD fL fH fIL fIH : Int32), post 0 (nI L, fA, fMa, fMi, fD, fL, fH, fIL, fIH, fC, aT, aC, aL, aH, aML, aMH, aNL, aNH)) (h1 : ∀ q a b, o = some (q, a, b) → ∀ (fMa fMi fD fL fH : Int32), post 1 (nI L, nI q, fMa, fMi, fD, fL, fH, a, b, fC, aT, aC, aL, aH, aML, aMH, aNL, aNH)) :
    wpX_readCaret post (nI L, nI p, fMa, fMi, fD, fL, fH, fIL, fIH, fC, aT, aC, aL, aH, aML, aMH, aNL, aNH) := by
  subst ho
  unfold wpX_readCaret
  dsimp only
  refine sr_xpa hL (by omega) (fun z fA fMa fMi fD fL fH => ?_) (fun k z hk => ?_)
  · dsimp only
    exact br_t rfl (h0 (sr_pt0 z) _ _ _ _ _ _ _ _)
  dsimp only
  refine br_f (by decide) ?_
  obtain ⟨k3, kd0, kd1, kd2⟩ := sr_ndk z hk
  have d0 := (sr_dvs kd0).1
  have m9 : sr_mi (sr_ch aT L) p k ≤ 9 := by
    unfold sr_mi
    by_cases e : 1 < k
    · rw [if_pos e]; exact (sr_dvs (kd1 e)).1
    · rw [if_neg e]; omega
  have H := h1 _ _ _ (sr_ptk z hk)
  refine pk_eq (sr_dv (sr_ch aT L p)) 0 (fun a => pk_eq k 1 (fun b => nm_r (e' := nI (sr_ca (sr_ch aT L) p k)) ?_ (H _ _ _ _ _)) (fun b => pk_eq (sr_mi (sr_ch aT L) p k) 0 (fun c => pk_eq k 2 (fun d => nm_r (e' := nI (sr_ca (sr_ch aT L) p k)) ?_ (H _ _ _ _ _)) (fun d => ?_)) (fun c => nm_r (e' := nI (sr_ca (sr_ch aT L) p k)) ?_ (H _ _ _ _ _)))) (fun a => nm_r (e' := nI (sr_ca (sr_ch aT L) p k)) ?_ (H _ _ _ _ _))
  · rw [sr_100, sr_99]
    refine congrArg nI ?_
    unfold sr_ca; rw [if_pos a, if_pos b, a]
  · rw [sr_10, sr_9]
    refine congrArg nI ?_
    unfold sr_ca; rw [if_pos a, if_neg b, if_pos c, if_pos d, c]
  · have e : sr_ca (sr_ch aT L) p k = sr_lo (sr_ch aT L) p k := by unfold sr_ca; rw [if_pos a, if_neg b, if_pos c, if_neg d]
    have H' := H (nI (sr_dv (sr_ch aT L p))) (nI (sr_mi (sr_ch aT L) p k)) (nI k) (nI (sr_lo (sr_ch aT L) p k)) (nI (sr_hi (sr_ch aT L) p k))
    rw [e] at H'
    exact H'
  · rw [sr_10, sr_9]
    refine congrArg nI ?_
    unfold sr_ca; rw [if_pos a, if_neg b, if_neg c]
  · rw [sr_100, sr_99]
    refine congrArg nI ?_
    unfold sr_ca; rw [if_neg a]
theorem sr_xti {p : Nat} (hL : L ≤ 40) (hp : p ≤ 80) {o : Option (Nat × Int32 × Int32)} (ho : o = sr_pt (sr_ch aT L) p (fun k => (nI (sr_lo (sr_ch aT L) p k), nI (sr_ti (sr_ch aT L) p k)))) (h0 : o = none → ∀ (fA fMa fMi fD fL fH fIL fIH : Int32), post 0 (nI L, fA, fMa, fMi, fD, fL, fH, fIL, fIH, fC, aT, aC, aL, aH, aML, aMH, aNL, aNH)) (h1 : ∀ q a b, o = some (q, a, b) → ∀ (fMa fMi fD fL fH : Int32), post 1 (nI L, nI q, fMa, fMi, fD, fL, fH, a, b, fC, aT, aC, aL, aH, aML, aMH, aNL, aNH)) :
    wpX_readTilde post (nI L, nI p, fMa, fMi, fD, fL, fH, fIL, fIH, fC, aT, aC, aL, aH, aML, aMH, aNL, aNH) := by
  subst ho
  unfold wpX_readTilde
  dsimp only
  refine sr_xpa hL (by omega) (fun z fA fMa fMi fD fL fH => ?_) (fun k z hk => ?_)
  · dsimp only
    exact br_t rfl (h0 (sr_pt0 z) _ _ _ _ _ _ _ _)
  dsimp only
  refine br_f (by decide) ?_
  obtain ⟨k3, kd0, kd1, kd2⟩ := sr_ndk z hk
  have H := h1 _ _ _ (sr_ptk z hk)
  refine pk_eq k 1 (fun b => nm_r (e' := nI (sr_ti (sr_ch aT L) p k)) ?_ (H _ _ _ _ _)) (fun b => nm_r (e' := nI (sr_ti (sr_ch aT L) p k)) ?_ (H _ _ _ _ _))
  · rw [sr_100, sr_99]
    refine congrArg nI ?_
    unfold sr_ti; rw [if_pos b]
  · rw [sr_100, sr_10, nI_add, sr_9]
    refine congrArg nI ?_
    unfold sr_ti; rw [if_neg b]
theorem sr_xit {p : Nat} (hL : L ≤ 40) (hp : p ≤ 50) {o : Option (Nat × Int32 × Int32)} (ho : o = sr_item (sr_ch aT L) p) (h0 : o = none → ∀ (fA fMa fMi fD fL fH fIL fIH : Int32), post 0 (nI L, fA, fMa, fMi, fD, fL, fH, fIL, fIH, fC, aT, aC, aL, aH, aML, aMH, aNL, aNH)) (h1 : ∀ q a b, o = some (q, a, b) → ∀ (fMa fMi fD fL fH : Int32), post 1 (nI L, nI q, fMa, fMi, fD, fL, fH, a, b, fC, aT, aC, aL, aH, aML, aMH, aNL, aNH)) :
    wpX_readItem post (nI L, nI p, fMa, fMi, fD, fL, fH, fIL, fIH, fC, aT, aC, aL, aH, aML, aMH, aNL, aNH) := by
  unfold wpX_readItem
  dsimp only
  refine sr_xps hL (by omega) (by decide) (fun e => ?_) (fun n1 => ?_)
  · dsimp only
    refine br_f (by decide) ?_
    have E : o = some (p + 1, 0, 999) := by rw [ho]; unfold sr_item; rw [if_pos e]
    exact h1 _ _ _ E _ _ _ _ _
  dsimp only
  refine br_t rfl ?_
  refine sr_xps hL (by omega) (by decide) (fun e => ?_) (fun n2 => ?_)
  · dsimp only
    refine br_f (by decide) ?_
    have E : o = sr_lt (sr_ch aT L) (p + 1) := by rw [ho]; unfold sr_item; rw [if_neg n1, if_pos e]
    exact sr_xlt hL (by omega) E (fun z fA fMa fMi fD fL fH fIL fIH => ⟨narrow_b0, h0 z fA fMa fMi fD fL fH fIL fIH⟩) (fun q a b z fMa fMi fD fL fH => ⟨narrow_b1, h1 q a b z fMa fMi fD fL fH⟩)
  dsimp only
  refine br_t rfl ?_
  refine sr_xps hL (by omega) (by decide) (fun e => ?_) (fun n3 => ?_)
  · dsimp only
    refine br_f (by decide) ?_
    have E : o = sr_gt (sr_ch aT L) (p + 1) := by rw [ho]; unfold sr_item; rw [if_neg n1, if_neg n2, if_pos e]
    exact sr_xgt hL (by omega) E (fun z fA fMa fMi fD fL fH fIL fIH => ⟨narrow_b0, h0 z fA fMa fMi fD fL fH fIL fIH⟩) (fun q a b z fMa fMi fD fL fH => ⟨narrow_b1, h1 q a b z fMa fMi fD fL fH⟩)
  dsimp only
  refine br_t rfl ?_
  refine sr_xps hL (by omega) (by decide) (fun e => ?_) (fun n4 => ?_)
  · dsimp only
    refine br_f (by decide) ?_
    have E : o = sr_pt (sr_ch aT L) (p + 1) (fun k => (nI (sr_lo (sr_ch aT L) (p + 1) k), nI (sr_ca (sr_ch aT L) (p + 1) k))) := by rw [ho]; unfold sr_item; rw [if_neg n1, if_neg n2, if_neg n3, if_pos e]
    exact sr_xca hL (by omega) E (fun z fA fMa fMi fD fL fH fIL fIH => ⟨narrow_b0, h0 z fA fMa fMi fD fL fH fIL fIH⟩) (fun q a b z fMa fMi fD fL fH => ⟨narrow_b1, h1 q a b z fMa fMi fD fL fH⟩)
  dsimp only
  refine br_t rfl ?_
  refine sr_xps hL (by omega) (by decide) (fun e => ?_) (fun n5 => ?_)
  · dsimp only
    refine br_f (by decide) ?_
    have E : o = sr_pt (sr_ch aT L) (p + 1) (fun k => (nI (sr_lo (sr_ch aT L) (p + 1) k), nI (sr_ti (sr_ch aT L) (p + 1) k))) := by rw [ho]; unfold sr_item; rw [if_neg n1, if_neg n2, if_neg n3, if_neg n4, if_pos e]
    exact sr_xti hL (by omega) E (fun z fA fMa fMi fD fL fH fIL fIH => ⟨narrow_b0, h0 z fA fMa fMi fD fL fH fIL fIH⟩) (fun q a b z fMa fMi fD fL fH => ⟨narrow_b1, h1 q a b z fMa fMi fD fL fH⟩)
  dsimp only
  refine br_t rfl ?_
  have E : o = if sr_nd (sr_ch aT L) p = 0 then none else sr_pl (sr_ch aT L) p (sr_nd (sr_ch aT L) p) := by rw [ho]; unfold sr_item; rw [if_neg n1, if_neg n2, if_neg n3, if_neg n4, if_neg n5]
  refine sr_xpa hL (by omega) (fun z fA fMa fMi fD fL fH => ?_) (fun k z hk => ?_)
  · dsimp only
    exact br_t rfl (h0 (E.trans (if_pos z)) _ _ _ _ _ _ _ _)
  dsimp only
  refine br_f (by decide) ?_
  have E2 : o = sr_pl (sr_ch aT L) p k := by subst z; exact E.trans (if_neg (by omega))
  have k3 := (sr_ndk z hk).1
  refine sr_xps hL (by omega) (by decide) (fun e => ?_) (fun n6 => ?_)
  · dsimp only
    refine br_f (by decide) ?_
    have E3 : o = sr_pt (sr_ch aT L) (p + 2 * k) (fun l => (nI (sr_lo (sr_ch aT L) p k), nI (sr_hi (sr_ch aT L) (p + 2 * k) l))) := E2.trans (if_pos e)
    have ep : p + 2 * k - 1 + 1 = p + 2 * k := by omega
    rw [ep]
    refine sr_xpa hL (by omega) (fun z fA fMa fMi fD fL fH => ?_) (fun l z2 hl => ?_)
    · dsimp only
      exact br_t rfl (h0 (E3.trans (sr_pt0 z)) _ _ _ _ _ _ _ _)
    dsimp only
    refine br_f (by decide) ?_
    exact h1 _ _ _ (E3.trans (sr_ptk z2 hl)) _ _ _ _ _
  · dsimp only
    exact br_t rfl (h1 _ _ _ (E2.trans (if_neg n6)) _ _ _ _ _)
end
end
section
/-! reading an item: the reference's walk -/
section
variable {gN gA gL gH : Int32} {bT bM bR : Nat → Int32}
variable {L : Nat}
theorem sr_i2 (p : Nat) : nI p + (2 : Int32) = nI (p + 2) := nI_add p 2
theorem sr_i3 (p : Nat) : nI p + (3 : Int32) = nI (p + 3) := nI_add p 3
theorem sr_i4 (p : Nat) : nI p + (4 : Int32) = nI (p + 4) := nI_add p 4
theorem sr_ych {post : Int32 → Prop} {p : Nat} (hL : L ≤ 40) (hp : p < 2 ^ 31) (h : post (sr_ch bT L p)) : wpY_charAt post (nI L, gA, gL, gH, bT, bM, bR) (nI p) := by
  refine br_f (nI_pos hp) (pk_le L p (fun z => ?_) (fun z => ⟨vp_in_nI (by omega) (by decide), ?_⟩))
  · have e : sr_ch bT L p = 0 := if_neg (by omega)
    rw [e] at h; exact h
  · have e : sr_ch bT L p = bT p := if_pos z
    rw [nI_clamp hp, ← e]; exact h
theorem sr_yda {post : Int32 → Prop} {p : Nat} (hL : L ≤ 40) (hp : p < 2 ^ 31) (h : post (sr_ch bT L p - 48)) : wpY_digitAt post (nI L, gA, gL, gH, bT, bM, bR) (nI p) := by
  unfold wpY_digitAt
  dsimp only
  exact sr_ych hL hp h
theorem sr_yds {post : Int32 → Prop} {p : Nat} (hL : L ≤ 40) (hp : p < 2 ^ 30) (h : post (nI (sr_nd (sr_ch bT L) p))) : wpY_digitsAt post (nI L, gA, gL, gH, bT, bM, bR) (nI p) := by
  unfold wpY_digitsAt
  dsimp only
  rw [nI_1, sr_i2, sr_i3, sr_i4]
  refine sr_ych hL (by omega) (sr_ych hL (by omega) (sr_ych hL (by omega) ?_))
  refine sr_ydg (fun q0 => br_f (by decide) (sr_ych hL (by omega) (br_c (fun q1 => ?_) (fun q1 => ?_)))) (fun q0 => br_t rfl ?_)
  · refine sr_ydg (fun q2 => br_f (by decide) (sr_ych hL (by omega) (br_c (fun q3 => ?_) (fun q3 => ?_)))) (fun q2 => br_t rfl ?_)
    · refine sr_ydg (fun q4 => br_f (by decide) ?_) (fun q4 => br_t rfl ?_)
      · rw [sr_nd3 q0 q1 q2 q3 q4] at h; exact h
      · rw [sr_nd20 q0 q1 q2 q3 q4] at h; exact h
    · rw [sr_nd2 q0 q1 q2 q3] at h; exact h
    · rw [sr_nd10 q0 q1 q2] at h; exact h
  · rw [sr_nd1 q0 q1] at h; exact h
  · rw [sr_nd0 q0] at h; exact h
/-- with no digits: some value -/
theorem sr_yl0 {post : Int32 → Prop} {p : Nat} {y : Int32} (hL : L ≤ 40) (hp : p < 2 ^ 30) (h : ∀ x, post x) : wpY_lowOf post (nI L, gA, gL, gH, bT, bM, bR) (nI p) y := by
  unfold wpY_lowOf
  dsimp only
  rw [sr_i2]
  have H : ∀ x3, wY_lowOf_27 post (nI p) y x3 (nI L) gA gL gH bT bM bR := fun x3 => by
    unfold wY_lowOf_27
    rw [sr_i4]
    exact br_c (fun _ => h _) (fun _ => sr_yda hL (by omega) (h _))
  exact sr_yda hL (by omega) (nm_e (br_c (fun _ => H _) (fun _ => sr_yda hL (by omega) (nm_e (H _)))))
theorem sr_yh0 {post : Int32 → Prop} {p : Nat} {y : Int32} (hL : L ≤ 40) (hp : p < 2 ^ 30) (h : ∀ x, post x) : wpY_highOf post (nI L, gA, gL, gH, bT, bM, bR) (nI p) y := by
  unfold wpY_highOf
  dsimp only
  exact sr_yl0 hL hp (fun x => br_c (fun _ => h _) (fun _ => br_c (fun _ => h _) (fun _ => h _)))
theorem sr_yl {post : Int32 → Prop} {p k : Nat} (hL : L ≤ 40) (hp : p < 2 ^ 30) (hk : sr_nd (sr_ch bT L) p = k) (h0 : 0 < k) (h : post (nI (sr_lo (sr_ch bT L) p k))) : wpY_lowOf post (nI L, gA, gL, gH, bT, bM, bR) (nI p) (nI k) := by
  obtain ⟨k3, kd0, kd1, kd2⟩ := sr_ndk hk h0
  unfold wpY_lowOf
  dsimp only
  rw [sr_i2]
  refine sr_yda hL (by omega) (nm_r (e' := nI (100 * sr_dv (sr_ch bT L p))) ?_ (pk_le k 1 (fun a => ?_) (fun a => sr_yda hL (by omega) (nm_r (e' := nI (100 * sr_dv (sr_ch bT L p) + 10 * sr_mi (sr_ch bT L) p k)) ?_ ?_))))
  · rw [(sr_dvs kd0).2, sr_100]
  · refine br_t (nI_le (b := 2) (by omega) (by decide)) ?_
    have e : sr_lo (sr_ch bT L) p k = 100 * sr_dv (sr_ch bT L p) := by
      unfold sr_lo sr_mi; rw [if_neg (by omega), if_neg (by omega)]; omega
    rw [e] at h; exact h
  · rw [(sr_dvs (kd1 a)).2, sr_10, nI_add]
    refine congrArg nI ?_
    unfold sr_mi; rw [if_pos a]
  · unfold wY_lowOf_27
    rw [sr_i4]
    refine pk_le k 2 (fun b => ?_) (fun b => sr_yda hL (by omega) ?_)
    · have e : sr_lo (sr_ch bT L) p k = 100 * sr_dv (sr_ch bT L p) + 10 * sr_mi (sr_ch bT L) p k := by
        unfold sr_lo; rw [if_neg (by omega)]; omega
      rw [e] at h; exact h
    · have e : sr_lo (sr_ch bT L) p k = 100 * sr_dv (sr_ch bT L p) + 10 * sr_mi (sr_ch bT L) p k + sr_dv (sr_ch bT L (p + 4)) := by
        unfold sr_lo; rw [if_pos b]
      rw [e, ← nI_add, ← (sr_dvs (kd2 b)).2] at h; exact h
theorem sr_yh {post : Int32 → Prop} {p k : Nat} (hL : L ≤ 40) (hp : p < 2 ^ 30) (hk : sr_nd (sr_ch bT L) p = k) (h0 : 0 < k) (h : post (nI (sr_hi (sr_ch bT L) p k))) : wpY_highOf post (nI L, gA, gL, gH, bT, bM, bR) (nI p) (nI k) := by
  have k3 := (sr_ndk hk h0).1
  unfold wpY_highOf
  dsimp only
  refine sr_yl hL hp hk h0 (pk_eq k 1 (fun a => ?_) (fun a => pk_eq k 2 (fun b => ?_) (fun b => ?_)))
  · rw [sr_99]
    have e : sr_hi (sr_ch bT L) p k = sr_lo (sr_ch bT L) p k + 99 := by unfold sr_hi; rw [if_pos a]
    rw [e] at h; exact h
  · rw [sr_9]
    have e : sr_hi (sr_ch bT L) p k = sr_lo (sr_ch bT L) p k + 9 := by unfold sr_hi; rw [if_neg a, if_pos b]
    rw [e] at h; exact h
  · have e : sr_hi (sr_ch bT L) p k = sr_lo (sr_ch bT L) p k := by unfold sr_hi; rw [if_neg a, if_neg b]; omega
    rw [e] at h; exact h
/-- the digits of a low version -/
theorem sr_dd {g : Nat → Int32} {p k : Nat} (hk : sr_nd g p = k) (h0 : 0 < k) :
    ∃ x, sr_lo g p k = 100 * sr_dv (g p) + 10 * sr_mi g p k + x ∧ x ≤ 9 ∧ sr_mi g p k ≤ 9 ∧ sr_dv (g p) ≤ 9 ∧ (k = 1 → sr_mi g p k = 0) ∧ (k ≤ 2 → x = 0) := by
  obtain ⟨k3, kd0, kd1, kd2⟩ := sr_ndk hk h0
  have d0 := (sr_dvs kd0).1
  have m : sr_mi g p k ≤ 9 ∧ (k = 1 → sr_mi g p k = 0) := by
    unfold sr_mi
    by_cases e : 1 < k
    · rw [if_pos e]; exact ⟨(sr_dvs (kd1 e)).1, fun z => absurd z (by omega)⟩
    · rw [if_neg e]; exact ⟨by omega, fun _ => rfl⟩
  unfold sr_lo
  by_cases e : 2 < k
  · rw [if_pos e]; exact ⟨_, rfl, (sr_dvs (kd2 e)).1, m.1, d0, m.2, fun z => absurd z (by omega)⟩
  · rw [if_neg e]; exact ⟨0, rfl, by omega, m.1, d0, m.2, fun _ => rfl⟩
theorem sr_d100 {v : Nat} (h : v ≤ 999) : nI v / 100 * 100 + 99 = nI (v / 100 * 100 + 99) := by
  have e : nI v / 100 = nI (v / 100) := pk_div (a := v) (d := 100) (by omega) (by decide) (by decide)
  rw [e, show nI (v / 100) * 100 = nI (v / 100 * 100) from pk_mul (v / 100) 100, sr_99]
theorem sr_d10 {v : Nat} (h : v ≤ 999) : nI v / 10 * 10 + 9 = nI (v / 10 * 10 + 9) := by
  have e : nI v / 10 = nI (v / 10) := pk_div (a := v) (d := 10) (by omega) (by decide) (by decide)
  rw [e, show nI (v / 10) * 10 = nI (v / 10 * 10) from pk_mul (v / 10) 10, sr_9]
variable {post : SY → Prop}
theorem sr_yca {p k : Nat} (hL : L ≤ 40) (hp : p < 2 ^ 30) (hk : sr_nd (sr_ch bT L) p = k) (h0 : 0 < k) (h : post (nI L, gA, nI (sr_lo (sr_ch bT L) p k), nI (sr_ca (sr_ch bT L) p k), bT, bM, bR)) :
    wpY_readCaret post (nI L, gA, gL, gH, bT, bM, bR) (nI p) (nI k) := by
  have k3 := (sr_ndk hk h0).1
  obtain ⟨x, x1, x2, x3, x4, x5, x6⟩ := sr_dd hk h0
  have lb := (sr_ndb hk h0).1
  unfold wpY_readCaret
  dsimp only
  have A : nI (sr_lo (sr_ch bT L) p k) / 100 * 100 + 99 = nI (sr_ca (sr_ch bT L) p k) → wY_readCaret_23 post (nI (sr_lo (sr_ch bT L) p k)) (nI L) gA (nI (sr_lo (sr_ch bT L) p k)) gH bT bM bR := fun e => ⟨by decide, nm_r e h⟩
  have B : nI (sr_lo (sr_ch bT L) p k) / 10 * 10 + 9 = nI (sr_ca (sr_ch bT L) p k) → wY_readCaret_51 post (nI (sr_lo (sr_ch bT L) p k)) (nI L) gA (nI (sr_lo (sr_ch bT L) p k)) gH bT bM bR := fun e => ⟨by decide, nm_r e h⟩
  refine sr_yl hL hp hk h0 (pk_le 100 (sr_lo (sr_ch bT L) p k) (fun a => A ?_) (fun a => pk_eq k 1 (fun b => A ?_) (fun b => pk_le 10 (sr_lo (sr_ch bT L) p k) (fun c => B ?_) (fun c => pk_eq k 2 (fun d => B ?_) (fun d => ?_)))))
  · rw [sr_d100 lb]
    refine congrArg nI ?_
    unfold sr_ca; rw [if_neg (by omega)]; omega
  · rw [sr_d100 lb]
    refine congrArg nI ?_
    unfold sr_ca; rw [if_pos (by omega), if_pos b]; omega
  · rw [sr_d10 lb]
    refine congrArg nI ?_
    unfold sr_ca; rw [if_pos (by omega), if_neg b, if_neg (by omega)]; omega
  · rw [sr_d10 lb]
    refine congrArg nI ?_
    unfold sr_ca; rw [if_pos (by omega), if_neg b]
    by_cases q : sr_mi (sr_ch bT L) p k = 0
    · rw [if_pos q, if_pos d]; omega
    · rw [if_neg q]; omega
  · have e : sr_ca (sr_ch bT L) p k = sr_lo (sr_ch bT L) p k := by
      unfold sr_ca; rw [if_pos (by omega), if_neg b, if_pos (by omega), if_neg d]
    rw [e] at h; exact h
theorem sr_yti {p k : Nat} (hL : L ≤ 40) (hp : p < 2 ^ 30) (hk : sr_nd (sr_ch bT L) p = k) (h0 : 0 < k) (h : post (nI L, gA, nI (sr_lo (sr_ch bT L) p k), nI (sr_ti (sr_ch bT L) p k), bT, bM, bR)) :
    wpY_readTilde post (nI L, gA, gL, gH, bT, bM, bR) (nI p) (nI k) := by
  have k3 := (sr_ndk hk h0).1
  obtain ⟨x, x1, x2, x3, x4, x5, x6⟩ := sr_dd hk h0
  have lb := (sr_ndb hk h0).1
  unfold wpY_readTilde
  dsimp only
  refine sr_yl hL hp hk h0 (pk_eq k 1 (fun b => nm_r (e' := nI (sr_ti (sr_ch bT L) p k)) ?_ h) (fun b => ⟨by decide, nm_r (e' := nI (sr_ti (sr_ch bT L) p k)) ?_ h⟩))
  · rw [sr_99]
    refine congrArg nI ?_
    unfold sr_ti; rw [if_pos b]; omega
  · rw [sr_d10 lb]
    refine congrArg nI ?_
    unfold sr_ti; rw [if_neg b]; omega
/-- the four comparisons -/
theorem sr_ylt1 {p k : Nat} {c : Int32} (hc : c = 60) (hL : L ≤ 40) (hp : p < 2 ^ 30) (hk : sr_nd (sr_ch bT L) p = k) (h0 : 0 < k) (h : post (nI L, gA, 0, nI (sr_hi (sr_ch bT L) p k), bT, bM, bR)) :
    wpY_readCompare post (nI L, gA, gL, gH, bT, bM, bR) c 1 (nI p) (nI k) :=
  br_t hc (br_f (by decide) (sr_yh hL hp hk h0 h))
theorem sr_ylt0 {p k : Nat} {c : Int32} (hc : c = 60) (hL : L ≤ 40) (hp : p < 2 ^ 30) (hk : sr_nd (sr_ch bT L) p = k) (h0 : 0 < k) (h : post (nI L, gA, 0, nI (sr_lo (sr_ch bT L) p k) - 1, bT, bM, bR)) :
    wpY_readCompare post (nI L, gA, gL, gH, bT, bM, bR) c 0 (nI p) (nI k) :=
  br_t hc (br_t rfl (sr_yl hL hp hk h0 (nm_e h)))
theorem sr_ygt1 {p k : Nat} {c : Int32} (hc : ¬ c = 60) (hL : L ≤ 40) (hp : p < 2 ^ 30) (hk : sr_nd (sr_ch bT L) p = k) (h0 : 0 < k) (h : post (nI L, gA, nI (sr_lo (sr_ch bT L) p k), 999, bT, bM, bR)) :
    wpY_readCompare post (nI L, gA, gL, gH, bT, bM, bR) c 1 (nI p) (nI k) :=
  br_f hc (br_f (by decide) (sr_yl hL hp hk h0 h))
theorem sr_ygt0 {p k : Nat} {c : Int32} (hc : ¬ c = 60) (hL : L ≤ 40) (hp : p < 2 ^ 30) (hk : sr_nd (sr_ch bT L) p = k) (h0 : 0 < k) (h : post (nI L, gA, nI (sr_hi (sr_ch bT L) p k) + 1, 999, bT, bM, bR)) :
    wpY_readCompare post (nI L, gA, gL, gH, bT, bM, bR) c 0 (nI p) (nI k) :=
  br_f hc (br_t rfl (sr_yh hL hp hk h0 (nm_e h)))
theorem sr_qk (q k : Nat) (hk : 0 < k) : nI q + 2 * nI k - 1 = nI (q + 2 * k - 1) := by
  rw [show (2 : Int32) * nI k = nI (2 * k) from pk_mul 2 k, nI_add]
  exact pk_sub (b := 1) (by omega)
theorem sr_ypl {p k : Nat} (hL : L ≤ 40) (hp : p ≤ 100) (hk : sr_nd (sr_ch bT L) p = k) (hk0 : 0 < k) {o : Option (Nat × Int32 × Int32)} (ho : o = sr_pl (sr_ch bT L) p k) (h0 : o = none → ∀ (gL gH : Int32), post (nI L, -1, gL, gH, bT, bM, bR)) (h1 : ∀ q a b, o = some (q, a, b) → post (nI L, nI q, a, b, bT, bM, bR)) :
    wpY_readPlain post (nI L, nI (p + 2 * k - 1), gL, gH, bT, bM, bR) (nI p) (nI k) := by
  have k3 := (sr_ndk hk hk0).1
  unfold wpY_readPlain
  dsimp only
  refine sr_yl hL (by omega) hk hk0 (sr_yh hL (by omega) hk hk0 (sr_ych hL (by omega) (br_c (fun e => nm_r (e' := nI (p + 2 * k)) ?_ ?_) (fun e => ?_))))
  · rw [nI_1]; exact congrArg nI (by omega)
  · have E : o = sr_pt (sr_ch bT L) (p + 2 * k) (fun l => (nI (sr_lo (sr_ch bT L) p k), nI (sr_hi (sr_ch bT L) (p + 2 * k) l))) := ho.trans (if_pos e)
    refine sr_yds hL (by omega) ?_
    by_cases z : sr_nd (sr_ch bT L) (p + 2 * k) = 0
    · rw [z]
      exact sr_yh0 hL (by omega) (fun x => br_t rfl (h0 (E.trans (sr_pt0 z)) _ _))
    · refine sr_yh hL (by omega) rfl (by omega) (br_f (nI_ne0 (by omega) ?_) (nm_r (sr_qk _ _ (by omega)) (h1 _ _ _ (E.trans (sr_ptk rfl (by omega))))))
      have := (sr_ndk (k := sr_nd (sr_ch bT L) (p + 2 * k)) rfl (by omega)).1
      omega
  · exact h1 _ _ _ (ho.trans (if_neg e))
/-- from the place of the partial on -/
theorem sr_y107 {q : Nat} {x2 x3 x4 : Int32} (hL : L ≤ 40) (hq : q ≤ 100)
    (h0 : sr_nd (sr_ch bT L) q = 0 → post (nI L, -1, gL, gH, bT, bM, bR))
    (h1 : ∀ k, sr_nd (sr_ch bT L) q = k → 0 < k → k < 2 ^ 31 → wY_readItem_136 post x2 x3 x4 (nI q) (nI k) (nI (q + 2 * k - 1)) (nI L) gA gL gH bT bM bR) :
    wY_readItem_107 post x2 x3 x4 (nI q) (nI L) gA gL gH bT bM bR := by
  unfold wY_readItem_107
  refine sr_yds hL (by omega) ?_
  by_cases z : sr_nd (sr_ch bT L) q = 0
  · rw [z]
    exact br_t rfl (br_t rfl (h0 z))
  · have k3 := (sr_ndk (k := sr_nd (sr_ch bT L) q) rfl (by omega)).1
    refine br_f (nI_ne0 (by omega) (by omega)) ?_
    rw [sr_qk _ _ (by omega)]
    exact h1 _ rfl (by omega) (by omega)
theorem sr_yit {p : Nat} (hL : L ≤ 40) (hp : p ≤ 50) {o : Option (Nat × Int32 × Int32)} (ho : o = sr_item (sr_ch bT L) p) (h0 : o = none → ∀ (gL gH : Int32), post (nI L, -1, gL, gH, bT, bM, bR)) (h1 : ∀ q a b, o = some (q, a, b) → post (nI L, nI q, a, b, bT, bM, bR)) :
    wpY_readItem post (nI L, gA, gL, gH, bT, bM, bR) (nI p) := by
  unfold wpY_readItem
  dsimp only
  have e2 : nI p + 2 = nI (p + 1 + 1) := nI_add p 2
  refine sr_ych hL (by omega) (nm_r (nI_1 p) (br_c (fun e => ?_) (fun n1 => br_c (fun e => ?_) (fun n2 => br_c (fun e => ?_) (fun n3 => ?_)))))
  · have E : o = some (p + 1, 0, 999) := by rw [ho]; unfold sr_item; rw [if_pos e]
    exact h1 _ _ _ E
  · have E : o = sr_lt (sr_ch bT L) (p + 1) := by rw [ho]; unfold sr_item; rw [if_neg n1, if_pos e]
    have m1 : ¬ sr_ch bT L p = 94 := by rw [e]; decide
    have m2 : ¬ sr_ch bT L p = 126 := by rw [e]; decide
    unfold wY_readItem_44 wY_readItem_49
    rw [nI_1]
    refine br_f (by decide) (sr_ych hL (by omega) (br_c (fun z => ?_) (fun z => ?_)))
    · have E2 := E.trans (if_pos z)
      unfold wY_readItem_71
      rw [e2]
      refine br_f (by decide) (sr_y107 hL (by omega) (fun y => h0 (E2.trans (sr_pt0 y)) _ _) (fun k y hk k2 => ?_))
      exact br_f (nI_ne0 hk k2) (br_f m1 (br_f m2 (br_f (by decide) (sr_ylt1 e hL (by omega) y hk (h1 _ _ _ (E2.trans (sr_ptk y hk)))))))
    · have E2 := E.trans (if_neg z)
      unfold wY_readItem_70 wY_readItem_71 wY_readItem_100
      rw [nI_1]
      refine br_t rfl (br_f (by decide) (sr_y107 hL (by omega) (fun y => h0 (E2.trans (sr_pt0 y)) _ _) (fun k y hk k2 => ?_)))
      exact br_f (nI_ne0 hk k2) (br_f m1 (br_f m2 (br_f (by decide) (sr_ylt0 e hL (by omega) y hk (h1 _ _ _ (E2.trans (sr_ptk y hk)))))))
  · have E : o = sr_gt (sr_ch bT L) (p + 1) := by rw [ho]; unfold sr_item; rw [if_neg n1, if_neg n2, if_pos e]
    have m1 : ¬ sr_ch bT L p = 94 := by rw [e]; decide
    have m2 : ¬ sr_ch bT L p = 126 := by rw [e]; decide
    unfold wY_readItem_44 wY_readItem_49
    rw [nI_1]
    refine br_f (by decide) (sr_ych hL (by omega) (br_c (fun z => ?_) (fun z => ?_)))
    · have E2 := E.trans (if_pos z)
      unfold wY_readItem_71
      rw [e2]
      refine br_f (by decide) (sr_y107 hL (by omega) (fun y => h0 (E2.trans (sr_pt0 y)) _ _) (fun k y hk k2 => ?_))
      exact br_f (nI_ne0 hk k2) (br_f m1 (br_f m2 (br_f (by decide) (sr_ygt1 n2 hL (by omega) y hk (h1 _ _ _ (E2.trans (sr_ptk y hk)))))))
    · have E2 := E.trans (if_neg z)
      unfold wY_readItem_70 wY_readItem_71 wY_readItem_100
      rw [nI_1]
      refine br_t rfl (br_f (by decide) (sr_y107 hL (by omega) (fun y => h0 (E2.trans (sr_pt0 y)) _ _) (fun k y hk k2 => ?_)))
      exact br_f (nI_ne0 hk k2) (br_f m1 (br_f m2 (br_f (by decide) (sr_ygt0 n2 hL (by omega) y hk (h1 _ _ _ (E2.trans (sr_ptk y hk)))))))
  · unfold wY_readItem_49 wY_readItem_70 wY_readItem_71 wY_readItem_100
    rw [nI_1]
    refine br_t rfl (br_t rfl (br_t rfl (br_c (fun e => ?_) (fun n4 => br_c (fun e => ?_) (fun n5 => ?_)))))
    · have E : o = sr_pt (sr_ch bT L) (p + 1) (fun k => (nI (sr_lo (sr_ch bT L) (p + 1) k), nI (sr_ca (sr_ch bT L) (p + 1) k))) := by rw [ho]; unfold sr_item; rw [if_neg n1, if_neg n2, if_neg n3, if_pos e]
      refine sr_y107 hL (by omega) (fun y => h0 (E.trans (sr_pt0 y)) _ _) (fun k y hk k2 => ?_)
      exact br_f (nI_ne0 hk k2) (br_t e (sr_yca hL (by omega) y hk (h1 _ _ _ (E.trans (sr_ptk y hk)))))
    · have E : o = sr_pt (sr_ch bT L) (p + 1) (fun k => (nI (sr_lo (sr_ch bT L) (p + 1) k), nI (sr_ti (sr_ch bT L) (p + 1) k))) := by rw [ho]; unfold sr_item; rw [if_neg n1, if_neg n2, if_neg n3, if_neg n4, if_pos e]
      refine sr_y107 hL (by omega) (fun y => h0 (E.trans (sr_pt0 y)) _ _) (fun k y hk k2 => ?_)
      exact br_f (nI_ne0 hk k2) (br_f n4 (br_t e (sr_yti hL (by omega) y hk (h1 _ _ _ (E.trans (sr_ptk y hk))))))
    · have E : o = if sr_nd (sr_ch bT L) p = 0 then none else sr_pl (sr_ch bT L) p (sr_nd (sr_ch bT L) p) := by rw [ho]; unfold sr_item; rw [if_neg n1, if_neg n2, if_neg n3, if_neg n4, if_neg n5]
      refine sr_y107 hL (by omega) (fun y => h0 (E.trans (if_pos y)) _ _) (fun k y hk k2 => ?_)
      have E2 : o = sr_pl (sr_ch bT L) p k := by subst y; exact E.trans (if_neg (by omega))
      exact br_f (nI_ne0 hk k2) (br_f n4 (br_f n5 (br_t rfl (sr_ypl hL (by omega) y hk E2 h0 h1))))
end
end
section
/-! reading a range: the pure run, and both walks -/
def sr_mx (f a : Int32) : Int32 := if a ≤ f then f else a
def sr_mn (t b : Int32) : Int32 := if t ≤ b then t else b
def sr_ad (S : Nat → Prop) (f t : Int32) : Nat → Prop := fun v => S v ∨ (f.toInt ≤ v ∧ (v : Int) ≤ t.toInt)
def sr_run (g : Nat → Int32) (L : Nat) : Nat → Nat → Int32 → Int32 → (Nat → Prop) → Option (Nat → Prop)
  | 0, _, _, _, _ => none
  | k + 1, p, f, t, S => match sr_item g p with
    | none => none
    | some (q, a, b) =>
      if g q = 32 then sr_run g L k (q + 1) (sr_mx f a) (sr_mn t b) S
      else if g q = 124 then sr_run g L k (q + 1) 0 999 (sr_ad S (sr_mx f a) (sr_mn t b))
      else if q = L then some (sr_ad S (sr_mx f a) (sr_mn t b)) else none
theorem sr_run_n {g : Nat → Int32} {L k p : Nat} {f t : Int32} {S : Nat → Prop} (h : sr_item g p = none) : sr_run g L (k + 1) p f t S = none := by
  rw [sr_run, h]
theorem sr_run_i {g : Nat → Int32} {L k p q : Nat} {f t a b : Int32} {S : Nat → Prop} (h : sr_item g p = some (q, a, b)) : sr_run g L (k + 1) p f t S =
      if g q = 32 then sr_run g L k (q + 1) (sr_mx f a) (sr_mn t b) S
      else if g q = 124 then sr_run g L k (q + 1) 0 999 (sr_ad S (sr_mx f a) (sr_mn t b))
      else if q = L then some (sr_ad S (sr_mx f a) (sr_mn t b)) else none := by
  rw [sr_run, h]
theorem sr_mx0 {f a : Int32} (h : 0 ≤ f.toInt) (h2 : 0 ≤ a.toInt) : 0 ≤ (sr_mx f a).toInt := by
  unfold sr_mx; split
  · exact h
  · exact h2
theorem sr_mn9 {t b : Int32} (h : t.toInt ≤ 999) (h2 : b.toInt ≤ 999) : (sr_mn t b).toInt ≤ 999 := by
  unfold sr_mn; split
  · exact h
  · exact h2
theorem sr_ptq {g : Nat → Int32} {p q : Nat} {F : Nat → Int32 × Int32} {a b : Int32} (h : sr_pt g p F = some (q, a, b)) : ∃ k, sr_nd g p = k ∧ 0 < k ∧ q = p + 2 * k - 1 ∧ F k = (a, b) := by
  by_cases z : sr_nd g p = 0
  · rw [sr_pt0 z] at h; exact absurd h (by simp)
  · rw [sr_ptk rfl (by omega)] at h
    have h2 := Option.some.inj h
    exact ⟨_, rfl, by omega, (congrArg Prod.fst h2).symm, congrArg Prod.snd h2⟩
theorem sr_t0 : (0 : Int32).toInt = 0 := by decide
theorem sr_t999 : (999 : Int32).toInt = 999 := by decide
theorem sr_tn {n : Nat} (h : n ≤ 999) : 0 ≤ (nI n).toInt ∧ (nI n).toInt ≤ 999 := by
  rw [nI_toInt (by omega)]; omega
theorem sr_tn1 {n : Nat} (h : n ≤ 999) : (nI n - 1).toInt ≤ 999 ∧ 0 ≤ (nI n + 1).toInt := by
  rw [show (nI n - 1).toInt = (n : Int) - (1 : Nat) from pk_sub_toInt (b := 1) (by omega) (by decide), nI_1, nI_toInt (by omega)]; omega
theorem sr_itq {tx : Nat → Int32} {L p q : Nat} {a b : Int32} (h : sr_item (sr_ch tx L) p = some (q, a, b)) : p < q ∧ q ≤ L ∧ 0 ≤ a.toInt ∧ b.toInt ≤ 999 := by
  unfold sr_item at h
  by_cases n1 : sr_ch tx L p = 42
  · rw [if_pos n1] at h
    have h2 := Option.some.inj h
    have e1 : p + 1 = q := congrArg Prod.fst h2
    have e2 : (0 : Int32) = a := congrArg (fun x => x.2.1) h2
    have e3 : (999 : Int32) = b := congrArg (fun x => x.2.2) h2
    have := sr_chL (tx := tx) (L := L) (p := p) (by rw [n1]; decide)
    subst e2; subst e3
    rw [sr_t0, sr_t999]
    omega
  rw [if_neg n1] at h
  by_cases n2 : sr_ch tx L p = 60
  · rw [if_pos n2] at h
    unfold sr_lt at h
    by_cases z : sr_ch tx L (p + 1) = 61
    · rw [if_pos z] at h
      obtain ⟨k, k1, k2, k3, k4⟩ := sr_ptq h
      have e2 : (0 : Int32) = a := congrArg Prod.fst k4
      have e3 : nI (sr_hi (sr_ch tx L) (p + 1 + 1) k) = b := congrArg Prod.snd k4
      have b1 := sr_ndb k1 k2
      have b2 := sr_ndL k1 k2
      subst e2; subst e3
      rw [sr_t0]
      have := sr_tn b1.2.1
      omega
    · rw [if_neg z] at h
      obtain ⟨k, k1, k2, k3, k4⟩ := sr_ptq h
      have e2 : (0 : Int32) = a := congrArg Prod.fst k4
      have e3 : nI (sr_lo (sr_ch tx L) (p + 1) k) - 1 = b := congrArg Prod.snd k4
      have b1 := sr_ndb k1 k2
      have b2 := sr_ndL k1 k2
      subst e2; subst e3
      rw [sr_t0]
      have := sr_tn1 b1.1
      omega
  rw [if_neg n2] at h
  by_cases n3 : sr_ch tx L p = 62
  · rw [if_pos n3] at h
    unfold sr_gt at h
    by_cases z : sr_ch tx L (p + 1) = 61
    · rw [if_pos z] at h
      obtain ⟨k, k1, k2, k3, k4⟩ := sr_ptq h
      have e2 : nI (sr_lo (sr_ch tx L) (p + 1 + 1) k) = a := congrArg Prod.fst k4
      have e3 : (999 : Int32) = b := congrArg Prod.snd k4
      have b1 := sr_ndb k1 k2
      have b2 := sr_ndL k1 k2
      subst e2; subst e3
      rw [sr_t999]
      have := sr_tn b1.1
      omega
    · rw [if_neg z] at h
      obtain ⟨k, k1, k2, k3, k4⟩ := sr_ptq h
      have e2 : nI (sr_hi (sr_ch tx L) (p + 1) k) + 1 = a := congrArg Prod.fst k4
      have e3 : (999 : Int32) = b := congrArg Prod.snd k4
      have b1 := sr_ndb k1 k2
      have b2 := sr_ndL k1 k2
      subst e2; subst e3
      rw [sr_t999]
      have := sr_tn1 b1.2.1
      omega
  rw [if_neg n3] at h
  by_cases n4 : sr_ch tx L p = 94
  · rw [if_pos n4] at h
    obtain ⟨k, k1, k2, k3, k4⟩ := sr_ptq h
    have e2 : nI (sr_lo (sr_ch tx L) (p + 1) k) = a := congrArg Prod.fst k4
    have e3 : nI (sr_ca (sr_ch tx L) (p + 1) k) = b := congrArg Prod.snd k4
    have b1 := sr_ndb k1 k2
    have b2 := sr_ndL k1 k2
    subst e2; subst e3
    have c1 := sr_tn b1.1
    have c2 := sr_tn b1.2.2.1
    omega
  rw [if_neg n4] at h
  by_cases n5 : sr_ch tx L p = 126
  · rw [if_pos n5] at h
    obtain ⟨k, k1, k2, k3, k4⟩ := sr_ptq h
    have e2 : nI (sr_lo (sr_ch tx L) (p + 1) k) = a := congrArg Prod.fst k4
    have e3 : nI (sr_ti (sr_ch tx L) (p + 1) k) = b := congrArg Prod.snd k4
    have b1 := sr_ndb k1 k2
    have b2 := sr_ndL k1 k2
    subst e2; subst e3
    have c1 := sr_tn b1.1
    have c2 := sr_tn b1.2.2.2
    omega
  rw [if_neg n5] at h
  by_cases n6 : sr_nd (sr_ch tx L) p = 0
  · rw [if_pos n6] at h; exact absurd h (by simp)
  rw [if_neg n6] at h
  obtain ⟨m, hm⟩ : ∃ m, sr_nd (sr_ch tx L) p = m := ⟨_, rfl⟩
  rw [hm] at h n6
  have a1 := sr_ndb hm (by omega)
  have a2 := sr_ndL hm (by omega)
  unfold sr_pl at h
  by_cases z : sr_ch tx L (p + 2 * m - 1) = 45
  · rw [if_pos z] at h
    obtain ⟨k, k1, k2, k3, k4⟩ := sr_ptq h
    have e2 : nI (sr_lo (sr_ch tx L) p m) = a := congrArg Prod.fst k4
    have e3 : nI (sr_hi (sr_ch tx L) (p + 2 * m) k) = b := congrArg Prod.snd k4
    have b1 := sr_ndb k1 k2
    have b2 := sr_ndL k1 k2
    subst e2; subst e3
    have c1 := sr_tn a1.1
    have c2 := sr_tn b1.2.1
    omega
  · rw [if_neg z] at h
    have h2 := Option.some.inj h
    have e1 : p + 2 * m - 1 = q := congrArg Prod.fst h2
    have e2 : nI (sr_lo (sr_ch tx L) p m) = a := congrArg (fun x => x.2.1) h2
    have e3 : nI (sr_hi (sr_ch tx L) p m) = b := congrArg (fun x => x.2.2) h2
    subst e2; subst e3
    have c1 := sr_tn a1.1
    have c2 := sr_tn a1.2.1
    omega
/-- what a clause's end owes to the range's loop -/
def sr_HQ (post : Int32 → SX → Prop) (L : Nat) (aT aC aL aH : Nat → Int32) (n' : Nat) (Q : Int32 → SX → Prop) : Prop :=
  (∀ u, post 0 u → Q 0 u) ∧
  (∀ (q : Nat) (fMa fMi fD fL fH fIL fIH fC : Int32) (aML aMH aNL aNH : Nat → Int32), q ≤ 99 →
    (sr_ch aT L q = 124 → wX_readRange_12 post n' 1 (nI L) (nI (q + 1)) fMa fMi fD fL fH fIL fIH fC aT aC aL aH aML aMH aNL aNH) → (¬ sr_ch aT L q = 124 → wX_readRange_12 post n' 0 (nI L) (nI q) fMa fMi fD fL fH fIL fIH fC aT aC aL aH aML aMH aNL aNH) → Q 1 (nI L, nI q, fMa, fMi, fD, fL, fH, fIL, fIH, fC, aT, aC, aL, aH, aML, aMH, aNL, aNH))
section
variable {fT fA fMa fMi fD fL fH fIL fIH fC : Int32} {aT aC aL aH aML aMH aNL aNH : Nat → Int32}
variable {post : Int32 → SX → Prop} {L : Nat}
theorem sr_xrr {n' : Nat} (hL : L ≤ 40) (h : ∀ Q, sr_HQ post L aT aC aL aH n' Q → ∃ n, wX_readClause_8 Q n 0 999 1 fT fA fMa fMi fD fL fH fIL fIH fC aT aC aL aH aML aMH aNL aNH) : wX_readRange_12 post (n' + 1) 1 fT fA fMa fMi fD fL fH fIL fIH fC aT aC aL aH aML aMH aNL aNH := by
  refine br_f (by decide) (h _ ⟨fun u hu => ?_, fun q fMa fMi fD fL fH fIL fIH fC aML aMH aNL aNH hq h1 h0 => ?_⟩)
  · obtain ⟨fT, fA, fMa, fMi, fD, fL, fH, fIL, fIH, fC, aT, aC, aL, aH, aML, aMH, aNL, aNH⟩ := u
    exact br_t rfl hu
  · exact br_f (by decide) (sr_xps hL hq (by decide) h1 h0)
theorem sr_xrun (hL : L ≤ 40) : ∀ (k p : Nat) (f t : Int32) (S : Nat → Prop) (M : Nat) (ml mh nl nh : Nat → Nat) (fMa fMi fD fL fH fIL fIH : Int32),
    p ≤ L → L < p + 2 * k → 2 * M ≤ p → sr_T M ml mh → (∀ v, sr_M M ml mh v ↔ S v) → 0 ≤ f.toInt → t.toInt ≤ 999 →
    (sr_run (sr_ch aT L) L k p f t S = none → ∀ (fA fMa fMi fD fL fH fIL fIH fC : Int32) (ml' mh' nl' nh' : Nat → Nat), post 0 (nI L, fA, fMa, fMi, fD, fL, fH, fIL, fIH, fC, aT, aC, aL, aH, sr_A ml', sr_A mh', sr_A nl', sr_A nh')) →
    (∀ S', sr_run (sr_ch aT L) L k p f t S = some S' → ∀ (fA fMa fMi fD fL fH fIL fIH : Int32) (M' : Nat) (ml' mh' nl' nh' : Nat → Nat), M' ≤ 24 → sr_T M' ml' mh' → (∀ v, sr_M M' ml' mh' v ↔ S' v) → post 1 (nI L, fA, fMa, fMi, fD, fL, fH, fIL, fIH, nI M', aT, aC, aL, aH, sr_A ml', sr_A mh', sr_A nl', sr_A nh')) →
    ∀ (n n' : Nat) (Q : Int32 → SX → Prop), k < n → k ≤ n' → sr_HQ post L aT aC aL aH n' Q → wX_readClause_8 Q n f t 1 (nI L) (nI p) fMa fMi fD fL fH fIL fIH (nI M) aT aC aL aH (sr_A ml) (sr_A mh) (sr_A nl) (sr_A nh) := by
  intro k
  induction k with
  | zero =>
    intro p f t S M ml mh nl nh fMa fMi fD fL fH fIL fIH hp hk
    exact absurd hk (by omega)
  | succ k ih =>
    intro p f t S M ml mh nl nh fMa fMi fD fL fH fIL fIH hp hk hM T hS hf ht h0 h1 n n' Q hn hn' hQ
    obtain ⟨n, rfl⟩ : ∃ m, n = m + 1 := ⟨n - 1, by omega⟩
    obtain ⟨n', rfl⟩ : ∃ m, n' = m + 1 := ⟨n' - 1, by omega⟩
    refine br_f (by decide) (sr_xit hL (by omega) rfl (fun e fA fMa fMi fD fL fH fIL fIH => br_t rfl (hQ.1 _ (h0 (sr_run_n e) _ _ _ _ _ _ _ _ _ _ _ _ _))) (fun q a b e fMa fMi fD fL fH => br_f (by decide) ?_))
    obtain ⟨q1, q2, q3, q4⟩ := sr_itq e
    have R := sr_run_i (L := L) (k := k) (f := f) (t := t) (S := S) e
    have H : ∀ f' t', f' = sr_mx f a → t' = sr_mn t b → wX_readClause_47 Q (wX_readClause_8 Q n) f' t' (nI L) (nI q) fMa fMi fD fL fH a b (nI M) aT aC aL aH (sr_A ml) (sr_A mh) (sr_A nl) (sr_A nh) := by
      intro f' t' ef et
      subst ef; subst et
      have F0 := sr_mx0 hf q3
      have T9 := sr_mn9 ht q4
      unfold wX_readClause_47
      refine sr_xps hL (by omega) (by decide) (fun e1 => ?_) (fun e1 => ?_)
      · rw [if_pos e1] at R
        have ql := sr_chL (tx := aT) (L := L) (p := q) (by rw [e1]; decide)
        exact ih (q + 1) _ _ S M ml mh nl nh fMa fMi fD fL fH a b (by omega) (by omega) (by omega) T hS F0 T9 (fun z => h0 (R.trans z)) (fun S' z => h1 S' (R.trans z)) n (n' + 1) Q (by omega) (by omega) hQ
      · rw [if_neg e1] at R
        obtain ⟨n, rfl⟩ : ∃ m, n = m + 1 := ⟨n - 1, by omega⟩
        refine br_t rfl (sr_xun (by omega) T F0 T9 (fun M' ml' mh' nl' nh' hM' T' hv' => ?_))
        have hS' : ∀ v, sr_M M' ml' mh' v ↔ sr_ad S (sr_mx f a) (sr_mn t b) v := fun v => by
          rw [hv' v, hS v]; exact Iff.rfl
        refine hQ.2 q _ _ _ _ _ _ _ _ _ _ _ _ (by omega) (fun e2 => ?_) (fun e2 => ?_)
        · rw [if_pos e2] at R
          have ql := sr_chL (tx := aT) (L := L) (p := q) (by rw [e2]; decide)
          refine sr_xrr hL (fun Q' hQ' => ⟨k + 1, ?_⟩)
          exact ih (q + 1) 0 999 _ M' ml' mh' nl' nh' fMa fMi fD fL fH a b (by omega) (by omega) (by omega) T' hS' (by decide) (by decide) (fun z => h0 (R.trans z)) (fun S' z => h1 S' (R.trans z)) (k + 1) n' Q' (by omega) (by omega) hQ'
        · rw [if_neg e2] at R
          refine br_t rfl (pk_eq q L (fun z => ?_) (fun z => ?_))
          · rw [if_pos z] at R
            exact h1 _ R _ _ _ _ _ _ _ _ M' ml' mh' nl' nh' (by omega) T' hS'
          · rw [if_neg z] at R
            exact h0 R _ _ _ _ _ _ _ _ _ _ _ _ _
    refine br_c (fun z => br_c (fun y => H _ _ ?_ ?_) (fun y => H _ _ ?_ ?_)) (fun z => br_c (fun y => H _ _ ?_ ?_) (fun y => H _ _ ?_ ?_))
    · exact (if_pos z).symm
    · exact (if_pos y).symm
    · exact (if_pos z).symm
    · exact (if_neg y).symm
    · exact (if_neg z).symm
    · exact (if_pos y).symm
    · exact (if_neg z).symm
    · exact (if_neg y).symm
theorem sr_xrd {ml mh nl nh : Nat → Nat} (hL : L ≤ 40)
    (h0 : sr_run (sr_ch aT L) L 41 0 0 999 (fun _ => False) = none → ∀ (fA fMa fMi fD fL fH fIL fIH fC : Int32) (ml' mh' nl' nh' : Nat → Nat), post 0 (nI L, fA, fMa, fMi, fD, fL, fH, fIL, fIH, fC, aT, aC, aL, aH, sr_A ml', sr_A mh', sr_A nl', sr_A nh'))
    (h1 : ∀ S', sr_run (sr_ch aT L) L 41 0 0 999 (fun _ => False) = some S' → ∀ (fA fMa fMi fD fL fH fIL fIH : Int32) (M' : Nat) (ml' mh' nl' nh' : Nat → Nat), M' ≤ 24 → sr_T M' ml' mh' → (∀ v, sr_M M' ml' mh' v ↔ S' v) → post 1 (nI L, fA, fMa, fMi, fD, fL, fH, fIL, fIH, nI M', aT, aC, aL, aH, sr_A ml', sr_A mh', sr_A nl', sr_A nh')) :
    wpX_readRange post (nI L, fA, fMa, fMi, fD, fL, fH, fIL, fIH, fC, aT, aC, aL, aH, sr_A ml, sr_A mh, sr_A nl, sr_A nh) := by
  refine ⟨43, sr_xrr hL (fun Q hQ => ⟨42, ?_⟩)⟩
  exact sr_xrun hL 41 0 0 999 (fun _ => False) 0 ml mh nl nh fMa fMi fD fL fH fIL fIH (by omega) (by omega) (by omega) (sr_T0 _ _) (fun v => ⟨fun z => sr_M0 _ _ v z, fun z => z.elim⟩) (by decide) (by decide) h0 h1 42 42 Q (by omega) (by omega) hQ
end
/-! the reference -/
def sr_mk (R : Nat → Bool) (fr i : Nat) : Nat → Bool := fun v => R v || (decide (fr ≤ v) && decide (v < i))
theorem sr_mkt {R : Nat → Bool} {fr i v : Nat} : sr_mk R fr i v = true ↔ (R v = true ∨ (fr ≤ v ∧ v < i)) := by
  unfold sr_mk; simp
section
variable {gN gA gL gH : Int32} {bT bM bR : Nat → Int32}
variable {post : Int32 → SY → Prop} {L : Nat}
theorem sr_ymk {J : Int32 → Int32 → Int32 → Int32 → Int32 → Int32 → Int32 → Int32 → (Nat → Int32) → (Nat → Int32) → (Nat → Int32) → Prop} {f t x4 : Int32} {R : Nat → Bool} (hf : 0 ≤ f.toInt) (ht : t.toInt ≤ 999)
    (h : ∀ R' : Nat → Bool, (∀ v : Nat, R' v = true ↔ (R v = true ∨ (f.toInt ≤ v ∧ (v : Int) ≤ t.toInt))) → wY_parse_164 post J 0 999 x4 gN gA gL gH bT bM (sr_B R')) :
    ∃ n, wY_parse_138 post J t x4 gN gA gL gH n f bT bM (sr_B R) := by
  by_cases c : t < f
  · refine ⟨1, br_t c (h R (fun v => ?_))⟩
    rw [Int32.lt_iff_toInt_lt] at c
    constructor
    · intro z; exact Or.inl z
    · intro z
      rcases z with z | z
      · exact z
      · exact absurd z (by omega)
  · rw [Int32.lt_iff_toInt_lt] at c
    obtain ⟨fr, hfr, rfl⟩ := nI_of (x := f) (by rw [Int32.lt_iff_toInt_lt, sr_t0]; omega)
    obtain ⟨to, hto, rfl⟩ := nI_of (x := t) (by rw [Int32.lt_iff_toInt_lt, sr_t0]; omega)
    rw [nI_toInt hfr] at c hf h
    rw [nI_toInt hto] at c ht h
    have loop : ∀ d i, i + d = to + 1 → fr ≤ i → ∀ n, d < n → wY_parse_138 post J (nI to) x4 gN gA gL gH n (nI i) bT bM (sr_B (sr_mk R fr i)) := by
      intro d
      induction d with
      | zero =>
        intro i hi hif n hn
        obtain ⟨n, rfl⟩ : ∃ m, n = m + 1 := ⟨n - 1, by omega⟩
        refine br_t (nI_lt (by omega) (by omega)) (h _ (fun v => ?_))
        rw [sr_mkt, Int.ofNat_le, Int.ofNat_le]
        have e : i = to + 1 := by omega
        rw [e, Nat.lt_succ_iff]
      | succ d ih =>
        intro i hi hif n hn
        obtain ⟨n, rfl⟩ : ∃ m, n = m + 1 := ⟨n - 1, by omega⟩
        refine br_f (nI_nlt (by omega) (by omega)) ⟨vp_in_nI (by omega) (by decide), nm_r (e' := sr_B (sr_mk R fr (i + 1))) ?_ (nm_r (nI_1 i) (ih (i + 1) (by omega) (by omega) n (by omega)))⟩
        rw [sr_upB i true rfl (by omega) (sr_n1 rfl)]
        refine congrArg sr_B (funext fun v => ?_)
        rw [Bool.eq_iff_iff, sr_mkt]
        by_cases e : v = i
        · subst e; rw [sr_ubs]
          exact ⟨fun _ => Or.inr (by omega), fun _ => rfl⟩
        · rw [sr_ubn e, sr_mkt]
          constructor
          · intro z
            rcases z with z | z
            · exact Or.inl z
            · exact Or.inr (by omega)
          · intro z
            rcases z with z | z
            · exact Or.inl z
            · exact Or.inr (by omega)
    have e0 : sr_mk R fr fr = R := by
      funext v
      rw [Bool.eq_iff_iff, sr_mkt]
      constructor
      · intro z
        rcases z with z | z
        · exact z
        · exact absurd z (by omega)
      · intro z; exact Or.inl z
    have := loop (to + 1 - fr) fr (by omega) (Nat.le_refl _) (to + 1 - fr + 1) (by omega)
    rw [e0] at this
    exact ⟨_, this⟩
theorem sr_yrun (hL : L ≤ 40) : ∀ (k : Nat), k ≤ 41 → ∀ (p : Nat) (f t : Int32) (S : Nat → Prop) (R : Nat → Bool) (gA gL gH : Int32),
    p ≤ L → (∀ v, v < 1000 → (R v = true ↔ S v)) → 0 ≤ f.toInt → t.toInt ≤ 999 →
    (sr_run (sr_ch bT L) L k p f t S = none → ∀ (gA gL gH : Int32) (R' : Nat → Bool), post 0 (nI L, gA, gL, gH, bT, bM, sr_B R')) →
    (∀ S', sr_run (sr_ch bT L) L k p f t S = some S' → ∀ (gA gL gH : Int32) (R' : Nat → Bool), (∀ v, v < 1000 → (R' v = true ↔ S' v)) → post 1 (nI L, gA, gL, gH, bT, bM, sr_B R')) →
    ∀ n, k < n → wY_parse_33 post n f t (nI p) (nI (41 - k)) (nI L) gA gL gH bT bM (sr_B R) := by
  intro k
  induction k with
  | zero =>
    intro _ p f t S R gA gL gH hp hS hf ht h0 h1 n hn
    obtain ⟨n, rfl⟩ : ∃ m, n = m + 1 := ⟨n - 1, by omega⟩
    exact br_t (nI_le (a := 41) (b := 41) (by omega) (by decide)) (h0 rfl _ _ _ _)
  | succ k ih =>
    intro hk p f t S R gA gL gH hp hS hf ht h0 h1 n hn
    obtain ⟨n, rfl⟩ : ∃ m, n = m + 1 := ⟨n - 1, by omega⟩
    refine br_f (nI_ge (b := 41) (by omega) (by decide)) (sr_yit hL (by omega) rfl (fun e gL gH => br_t (by decide) (h0 (sr_run_n e) _ _ _ _)) (fun q a b e => ?_))
    obtain ⟨q1, q2, q3, q4⟩ := sr_itq e
    have U := sr_run_i (L := L) (k := k) (f := f) (t := t) (S := S) e
    refine br_f (nI_pos (by omega)) (br_t (nI_le q2 (by omega)) ?_)
    have ek : nI (41 - (k + 1)) + 1 = nI (41 - k) := by rw [nI_1]; exact congrArg nI (by omega)
    have H : ∀ f' t', f' = sr_mx f a → t' = sr_mn t b → wY_parse_91 post (wY_parse_33 post n) f' t' (nI (41 - (k + 1))) (nI L) (nI q) a b bT bM (sr_B R) := by
      intro f' t' ef et
      subst ef; subst et
      have F0 := sr_mx0 hf q3
      have T9 := sr_mn9 ht q4
      have hS' : ∀ R' : Nat → Bool, (∀ v : Nat, R' v = true ↔ (R v = true ∨ ((sr_mx f a).toInt ≤ v ∧ (v : Int) ≤ (sr_mn t b).toInt))) → ∀ v, v < 1000 → (R' v = true ↔ sr_ad S (sr_mx f a) (sr_mn t b) v) := fun R' hR' v hv => by
        rw [hR' v, hS v hv]; exact Iff.rfl
      unfold wY_parse_91
      refine sr_ych hL (by omega) (pk_le L q (fun z => ?_) (fun z => br_c (fun y1 => ?_) (fun y1 => br_c (fun y2 => ?_) (fun y2 => ?_))))
      · have e0 : sr_ch bT L q = 0 := if_neg (by omega)
        have m1 : ¬ sr_ch bT L q = 32 := by rw [e0]; decide
        have m2 : ¬ sr_ch bT L q = 124 := by rw [e0]; decide
        have eq : q = L := by omega
        rw [if_neg m1, if_neg m2, if_pos eq] at U
        refine br_f m1 (sr_ymk F0 T9 (fun R' hR' => ?_))
        exact br_t (congrArg nI eq) (h1 _ U _ _ _ R' (hS' R' hR'))
      · rw [if_pos y1] at U
        refine br_t y1 (pk_eq q L (fun x => absurd x (by omega)) (fun x => nm_r (nI_1 q) (nm_r ek ?_)))
        exact ih (by omega) (q + 1) _ _ S R _ _ _ (by omega) hS F0 T9 (fun x => h0 (U.trans x)) (fun S' x => h1 S' (U.trans x)) n (by omega)
      · rw [if_neg y1, if_pos y2] at U
        refine br_f y1 (sr_ymk F0 T9 (fun R' hR' => ?_))
        refine pk_eq q L (fun x => absurd x (by omega)) (fun x => nm_r (nI_1 q) (nm_r ek ?_))
        exact ih (by omega) (q + 1) _ _ _ R' _ _ _ (by omega) (hS' R' hR') (by decide) (by decide) (fun x => h0 (U.trans x)) (fun S' x => h1 S' (U.trans x)) n (by omega)
      · rw [if_neg y1, if_neg y2, if_neg (by omega)] at U
        exact h0 U _ _ _ _
    refine br_c (fun z => br_c (fun y => H _ _ ?_ ?_) (fun y => H _ _ ?_ ?_)) (fun z => br_c (fun y => H _ _ ?_ ?_) (fun y => H _ _ ?_ ?_))
    · exact (if_pos z).symm
    · exact (if_pos y).symm
    · exact (if_pos z).symm
    · exact (if_neg y).symm
    · exact (if_neg z).symm
    · exact (if_pos y).symm
    · exact (if_neg z).symm
    · exact (if_neg y).symm
theorem sr_yp2 {rs : Nat → Bool} (h : ∃ n, wY_parse_33 post n 0 999 0 0 gN gA gL gH bT bM (sr_B (sr_fl (fun _ => false) rs 1000))) :
    ∀ d i, i + d = 1000 → ∀ n, d < n → wY_parse_2 post gN gA gL gH n (nI i) bT bM (sr_B (sr_fl (fun _ => false) rs i)) := by
  intro d
  induction d with
  | zero =>
    intro i hi' n hn
    obtain ⟨n, rfl⟩ : ∃ m, n = m + 1 := ⟨n - 1, by omega⟩
    have e : i = 1000 := by omega
    subst e
    exact br_t (nI_le (a := 1000) (b := 1000) (by omega) (by omega)) h
  | succ d ih =>
    intro i hi' n hn
    obtain ⟨n, rfl⟩ : ∃ m, n = m + 1 := ⟨n - 1, by omega⟩
    exact br_f (nI_ge (b := 1000) (by omega) (by decide)) ⟨vp_in_nI (by omega) (by decide), nm_r (sr_fls (by omega) (sr_n0 rfl)) (nm_r (nI_1 _) (ih (i + 1) (by omega) n (by omega)))⟩
theorem sr_ypa {rs : Nat → Bool} (hL : L ≤ 40)
    (h0 : sr_run (sr_ch bT L) L 41 0 0 999 (fun _ => False) = none → ∀ (gA gL gH : Int32) (R' : Nat → Bool), post 0 (nI L, gA, gL, gH, bT, bM, sr_B R'))
    (h1 : ∀ S', sr_run (sr_ch bT L) L 41 0 0 999 (fun _ => False) = some S' → ∀ (gA gL gH : Int32) (R' : Nat → Bool), (∀ v, v < 1000 → (R' v = true ↔ S' v)) → post 1 (nI L, gA, gL, gH, bT, bM, sr_B R')) :
    wpY_parse post (nI L, gA, gL, gH, bT, bM, sr_B rs) := by
  have A := sr_yrun (bM := bM) hL 41 (by omega) 0 0 999 (fun _ => False) (sr_fl (fun _ => false) rs 1000) gA gL gH (by omega) (fun v hv => by rw [sr_flt hv]; simp) (by decide) (by decide) h0 h1 42 (by omega)
  have B := sr_yp2 (rs := rs) ⟨42, A⟩ 1000 0 (by omega) 1001 (by omega)
  rw [sr_fl0] at B
  exact ⟨1001, B⟩
end
end
section
/-! the relation -/
def sr_R (L : Nat) (c lo hi : Nat → Nat) (mk : Nat → Bool) : Prop :=
  L ≤ 40 ∧ ∀ r, r < 4 → c r ≤ 24 ∧ sr_T (c r) (fun i => lo (24 * r + i)) (fun i => hi (24 * r + i)) ∧ sr_S (sr_gc mk r) (c r) (fun i => lo (24 * r + i)) (fun i => hi (24 * r + i))
/-- one text; the stretches of each range, ascending and apart, are the marks of the reference -/
def i_Rel (k : Nat) (u : SX) (v : SY) : Prop :=
  ∃ (L : Nat) (fA fMa fMi fD fL fH fIL fIH fC : Int32) (aT : Nat → Int32) (c lo hi ml mh nl nh : Nat → Nat) (gA gL gH : Int32) (mk rs : Nat → Bool), u = (nI L, fA, fMa, fMi, fD, fL, fH, fIL, fIH, fC, aT, sr_A c, sr_A lo, sr_A hi, sr_A ml, sr_A mh, sr_A nl, sr_A nh) ∧ v = (nI L, gA, gL, gH, aT, sr_B mk, sr_B rs) ∧ sr_R L c lo hi mk
theorem sr_in {k : Nat} {L : Nat} {fA fMa fMi fD fL fH fIL fIH fC : Int32} {aT : Nat → Int32} {c lo hi ml mh nl nh : Nat → Nat} {gA gL gH : Int32} {mk rs : Nat → Bool} (h : sr_R L c lo hi mk) : i_Rel k (nI L, fA, fMa, fMi, fD, fL, fH, fIL, fIH, fC, aT, sr_A c, sr_A lo, sr_A hi, sr_A ml, sr_A mh, sr_A nl, sr_A nh) (nI L, gA, gL, gH, aT, sr_B mk, sr_B rs) :=
  ⟨L, fA, fMa, fMi, fD, fL, fH, fIL, fIH, fC, aT, c, lo, hi, ml, mh, nl, nh, gA, gL, gH, mk, rs, rfl, rfl, h⟩
theorem sr_el {k : Nat} {u : SX} {v : SY} {P : SX → SY → Prop} (I : i_Rel k u v) (h : ∀ (L : Nat) (fA fMa fMi fD fL fH fIL fIH fC : Int32) (aT : Nat → Int32) (c lo hi ml mh nl nh : Nat → Nat) (gA gL gH : Int32) (mk rs : Nat → Bool), sr_R L c lo hi mk → P (nI L, fA, fMa, fMi, fD, fL, fH, fIL, fIH, fC, aT, sr_A c, sr_A lo, sr_A hi, sr_A ml, sr_A mh, sr_A nl, sr_A nh) (nI L, gA, gL, gH, aT, sr_B mk, sr_B rs)) : P u v := by
  obtain ⟨L, fA, fMa, fMi, fD, fL, fH, fIL, fIH, fC, aT, c, lo, hi, ml, mh, nl, nh, gA, gL, gH, mk, rs, e1, e2, hR⟩ := I
  rw [e1, e2]
  exact h L fA fMa fMi fD fL fH fIL fIH fC aT c lo hi ml mh nl nh gA gL gH mk rs hR
theorem sr_kxi {lo ml : Nat → Nat} {r m i : Nat} (h : i < m) : sr_kx lo r ml m (24 * r + i) = ml i := by
  unfold sr_kx; rw [if_pos (by omega)]; exact congrArg ml (by omega)
theorem sr_kxo {lo ml : Nat → Nat} {r r' m i : Nat} (hm : m ≤ 24) (h : r' ≠ r) (hi : i < 24) : sr_kx lo r ml m (24 * r' + i) = lo (24 * r' + i) := by
  unfold sr_kx; rw [if_neg (by omega)]
theorem sr_kpi {mk R : Nat → Bool} {r v : Nat} (h : v < 1000) : sr_gc (sr_kp mk r R 1000) r v = R v := by
  unfold sr_gc sr_kp; rw [if_pos (by omega)]; exact congrArg R (by omega)
theorem sr_kpo {mk R : Nat → Bool} {r r' v : Nat} (h : r' ≠ r) (hv : v < 1000) : sr_gc (sr_kp mk r R 1000) r' v = sr_gc mk r' v := by
  unfold sr_gc sr_kp; rw [if_neg (by omega)]
theorem sr_R_keep {L L' : Nat} {c lo hi : Nat → Nat} {mk : Nat → Bool} (H : sr_R L c lo hi mk) (hL : L' ≤ 40) {r m : Nat} (hm : m ≤ 24) {ml mh : Nat → Nat} (T : sr_T m ml mh) {R : Nat → Bool} (hS : sr_S R m ml mh) :
    sr_R L' (sr_u c r m) (sr_kx lo r ml m) (sr_kx hi r mh m) (sr_kp mk r R 1000) := by
  refine ⟨hL, fun r' hr' => ?_⟩
  by_cases e : r' = r
  · subst e
    rw [sr_us]
    have c1 : ∀ i, i < m → (fun i => sr_kx lo r' ml m (24 * r' + i)) i = ml i := fun i h => sr_kxi h
    have c2 : ∀ i, i < m → (fun i => sr_kx hi r' mh m (24 * r' + i)) i = mh i := fun i h => sr_kxi h
    refine ⟨hm, sr_T_cong T c1 c2, fun v hv => ?_⟩
    rw [sr_kpi hv, hS v hv]
    exact (sr_M_cong c1 c2 v).symm
  · rw [sr_un e]
    obtain ⟨h1, h2, h3⟩ := H.2 r' hr'
    have c1 : ∀ i, i < c r' → (fun i => sr_kx lo r ml m (24 * r' + i)) i = (fun i => lo (24 * r' + i)) i := fun i h => sr_kxo hm e (by omega)
    have c2 : ∀ i, i < c r' → (fun i => sr_kx hi r mh m (24 * r' + i)) i = (fun i => hi (24 * r' + i)) i := fun i h => sr_kxo hm e (by omega)
    refine ⟨h1, sr_T_cong h2 c1 c2, fun v hv => ?_⟩
    rw [sr_kpo e hv, h3 v hv]
    exact (sr_M_cong c1 c2 v).symm
theorem sr_S_fl {g rs : Nat → Bool} {n : Nat} {lo hi : Nat → Nat} (h : sr_S g n lo hi) : sr_S (sr_fl g rs 1000) n lo hi := fun v hv => by
  rw [sr_flt hv]; exact h v hv
theorem sr_cn_cong {A B : Nat → Bool} : ∀ n, (∀ v, v < n → A v = B v) → sr_cn A n = sr_cn B n := by
  intro n
  induction n with
  | zero => intro _; rfl
  | succ n ih =>
    intro h
    show sr_cn A n + (if A n = true then 1 else 0) = sr_cn B n + (if B n = true then 1 else 0)
    rw [ih (fun v hv => h v (by omega)), h n (by omega)]
noncomputable def sr_dec (S : Nat → Prop) : Nat → Bool := fun v => @decide (S v) (Classical.propDecidable _)
theorem sr_dect {S : Nat → Prop} {v : Nat} : sr_dec S v = true ↔ S v := @decide_eq_true_iff (S v) (Classical.propDecidable _)
/-! several ranges, of which one is none -/
theorem sr_no {r : Nat} (hr : r < 4) : ¬ (nI r < 0 ∨ 3 < nI r) := fun h => h.elim (nI_pos (by omega)) (nI_nlt (a := 3) (b := r) (by omega) (by decide))
theorem sr_xr3 {u : SX} {p q s : Int32} {A B : Prop} (h : (p < 0 ∨ 3 < p) ∨ (q < 0 ∨ 3 < q) ∨ (s < 0 ∨ 3 < s)) (a : A) :
    wpX_isRange (fun r => (r = 0 → A) ∧ (¬ r = 0 → wpX_isRange (fun r => (r = 0 → A) ∧ (¬ r = 0 → wpX_isRange (fun r => (r = 0 → A) ∧ (¬ r = 0 → B)) u s)) u q)) u p := by
  rcases sr_rc p with hp | ⟨r, hr, rfl⟩
  · exact sr_xr0 hp (br_t rfl a)
  · refine sr_xr1 hr (br_f (by decide) ?_)
    rcases sr_rc q with hq | ⟨r2, hr2, rfl⟩
    · exact sr_xr0 hq (br_t rfl a)
    · refine sr_xr1 hr2 (br_f (by decide) ?_)
      rcases h with h | h | h
      · exact absurd h (sr_no hr)
      · exact absurd h (sr_no hr2)
      · exact sr_xr0 h (br_t rfl a)
theorem sr_yr3 {u : SY} {p q s : Int32} {A B : Prop} (h : (p < 0 ∨ 3 < p) ∨ (q < 0 ∨ 3 < q) ∨ (s < 0 ∨ 3 < s)) (a : A) :
    wpY_isRange (fun r => (r = 0 → A) ∧ (¬ r = 0 → wpY_isRange (fun r => (r = 0 → A) ∧ (¬ r = 0 → wpY_isRange (fun r => (r = 0 → A) ∧ (¬ r = 0 → B)) u s)) u q)) u p := by
  rcases sr_rc p with hp | ⟨r, hr, rfl⟩
  · exact sr_yr0 hp (br_t rfl a)
  · refine sr_yr1 hr (br_f (by decide) ?_)
    rcases sr_rc q with hq | ⟨r2, hr2, rfl⟩
    · exact sr_yr0 hq (br_t rfl a)
    · refine sr_yr1 hr2 (br_f (by decide) ?_)
      rcases h with h | h | h
      · exact absurd h (sr_no hr)
      · exact absurd h (sr_no hr2)
      · exact sr_yr0 h (br_t rfl a)
theorem sr_xr2 {u : SX} {p q : Int32} {A B : Prop} (h : (p < 0 ∨ 3 < p) ∨ (q < 0 ∨ 3 < q)) (a : A) :
    wpX_isRange (fun r => (r = 0 → A) ∧ (¬ r = 0 → wpX_isRange (fun r => (r = 0 → A) ∧ (¬ r = 0 → B)) u q)) u p := by
  rcases sr_rc p with hp | ⟨r, hr, rfl⟩
  · exact sr_xr0 hp (br_t rfl a)
  · refine sr_xr1 hr (br_f (by decide) ?_)
    rcases h with h | h
    · exact absurd h (sr_no hr)
    · exact sr_xr0 h (br_t rfl a)
theorem sr_yr2 {u : SY} {p q : Int32} {A B : Prop} (h : (p < 0 ∨ 3 < p) ∨ (q < 0 ∨ 3 < q)) (a : A) :
    wpY_isRange (fun r => (r = 0 → A) ∧ (¬ r = 0 → wpY_isRange (fun r => (r = 0 → A) ∧ (¬ r = 0 → B)) u q)) u p := by
  rcases sr_rc p with hp | ⟨r, hr, rfl⟩
  · exact sr_yr0 hp (br_t rfl a)
  · refine sr_yr1 hr (br_f (by decide) ?_)
    rcases h with h | h
    · exact absurd h (sr_no hr)
    · exact sr_yr0 h (br_t rfl a)
/-! type -/
def sr_kn (x : Int32) : Prop := sr_dg x = true ∨ x = 32 ∨ x = 42 ∨ x = 46 ∨ x = 124 ∨ x = 60 ∨ x = 62 ∨ x = 61 ∨ x = 94 ∨ x = 126 ∨ x = 45
section
variable {fT fA fMa fMi fD fL fH fIL fIH fC : Int32} {aT aC aL aH aML aMH aNL aNH : Nat → Int32}
theorem sr_xty {post : Int32 → SX → Prop} {L : Nat} {x : Int32} (hL : L < 40) (hx : vp_nar .char x = x) (h1 : sr_kn x → post (nI (L + 1)) (nI (L + 1), fA, fMa, fMi, fD, fL, fH, fIL, fIH, fC, upd aT L x, aC, aL, aH, aML, aMH, aNL, aNH)) (h0 : ¬ sr_kn x → post (-1) (nI L, fA, fMa, fMi, fD, fL, fH, fIL, fIH, fC, aT, aC, aL, aH, aML, aMH, aNL, aNH)) :
    wpX_type post (nI L, fA, fMa, fMi, fD, fL, fH, fIL, fIH, fC, aT, aC, aL, aH, aML, aMH, aNL, aNH) x := by
  have K : sr_kn x → wX_type_85 post x 1 (nI L) fA fMa fMi fD fL fH fIL fIH fC aT aC aL aH aML aMH aNL aNH := fun k => br_f (by decide) ⟨vp_in_nI hL (by decide), nm_r (e' := upd aT L x) (by rw [nI_clamp (by omega), hx]) (nm_r (nI_1 L) (h1 k))⟩
  unfold wpX_type
  dsimp only
  refine br_t (nI_lt (b := 40) hL (by decide)) (sr_xdg (fun q => br_f (by decide) (K (Or.inl q))) (fun q => br_t rfl ?_))
  refine br_c (fun e => K (Or.inr (Or.inl e))) (fun n1 => ?_)
  refine br_c (fun e => K (Or.inr (Or.inr (Or.inl e)))) (fun n2 => ?_)
  refine br_c (fun e => K (Or.inr (Or.inr (Or.inr (Or.inl e))))) (fun n3 => ?_)
  refine br_c (fun e => K (Or.inr (Or.inr (Or.inr (Or.inr (Or.inl e)))))) (fun n4 => ?_)
  refine br_c (fun e => K (Or.inr (Or.inr (Or.inr (Or.inr (Or.inr (Or.inl e))))))) (fun n5 => ?_)
  refine br_c (fun e => K (Or.inr (Or.inr (Or.inr (Or.inr (Or.inr (Or.inr (Or.inl e)))))))) (fun n6 => ?_)
  refine br_c (fun e => K (Or.inr (Or.inr (Or.inr (Or.inr (Or.inr (Or.inr (Or.inr (Or.inl e))))))))) (fun n7 => ?_)
  refine br_c (fun e => K (Or.inr (Or.inr (Or.inr (Or.inr (Or.inr (Or.inr (Or.inr (Or.inr (Or.inl e)))))))))) (fun n8 => ?_)
  refine br_c (fun e => K (Or.inr (Or.inr (Or.inr (Or.inr (Or.inr (Or.inr (Or.inr (Or.inr (Or.inr (Or.inl e))))))))))) (fun n9 => ?_)
  refine br_c (fun e => K (Or.inr (Or.inr (Or.inr (Or.inr (Or.inr (Or.inr (Or.inr (Or.inr (Or.inr (Or.inr e))))))))))) (fun n10 => ?_)
  refine br_t rfl (h0 (fun z => ?_))
  unfold sr_kn at z
  rcases z with z | z | z | z | z | z | z | z | z | z | z
  · rw [q] at z; exact absurd z (by decide)
  · exact n1 z
  · exact n2 z
  · exact n3 z
  · exact n4 z
  · exact n5 z
  · exact n6 z
  · exact n7 z
  · exact n8 z
  · exact n9 z
  · exact n10 z
end
section
variable {gN gA gL gH : Int32} {bT bM bR : Nat → Int32}
theorem sr_yty {post : Int32 → SY → Prop} {L : Nat} {x : Int32} (hL : L < 40) (h1 : sr_kn x → post (nI (L + 1)) (nI (L + 1), gA, gL, gH, upd bT L x, bM, bR)) (h0 : ¬ sr_kn x → post (-1) (nI L, gA, gL, gH, bT, bM, bR)) :
    wpY_type post (nI L, gA, gL, gH, bT, bM, bR) x := by
  have K : sr_kn x → wY_type_92 post x (nI L) gA gL gH bT bM bR := fun k => ⟨vp_in_nI hL (by decide), nm_r (e' := upd bT L x) (by rw [nI_clamp (by omega)]) (nm_r (nI_1 L) (h1 k))⟩
  have K50 : sr_kn x → wY_type_50 post x (nI L) gA gL gH bT bM bR := fun k => br_f (by decide) (K k)
  unfold wpY_type
  dsimp only
  refine pk_eq L 40 (fun e => absurd e (by omega)) (fun _ => sr_ydg (fun q => br_f (by decide) (K50 (Or.inl q))) (fun q => br_t rfl ?_))
  refine br_c (fun e => K50 (Or.inr (Or.inl e))) (fun n1 => ?_)
  refine br_c (fun e => K50 (Or.inr (Or.inr (Or.inl e)))) (fun n2 => ?_)
  refine br_c (fun e => K50 (Or.inr (Or.inr (Or.inr (Or.inl e))))) (fun n3 => ?_)
  refine br_c (fun e => K50 (Or.inr (Or.inr (Or.inr (Or.inr (Or.inl e)))))) (fun n4 => ?_)
  refine br_c (fun e => K50 (Or.inr (Or.inr (Or.inr (Or.inr (Or.inr (Or.inl e))))))) (fun n5 => ?_)
  refine br_t rfl ?_
  refine br_c (fun e => K (Or.inr (Or.inr (Or.inr (Or.inr (Or.inr (Or.inr (Or.inl e)))))))) (fun n6 => ?_)
  refine br_c (fun e => K (Or.inr (Or.inr (Or.inr (Or.inr (Or.inr (Or.inr (Or.inr (Or.inl e))))))))) (fun n7 => ?_)
  refine br_c (fun e => K (Or.inr (Or.inr (Or.inr (Or.inr (Or.inr (Or.inr (Or.inr (Or.inr (Or.inl e)))))))))) (fun n8 => ?_)
  refine br_c (fun e => K (Or.inr (Or.inr (Or.inr (Or.inr (Or.inr (Or.inr (Or.inr (Or.inr (Or.inr (Or.inl e))))))))))) (fun n9 => ?_)
  refine br_c (fun e => K (Or.inr (Or.inr (Or.inr (Or.inr (Or.inr (Or.inr (Or.inr (Or.inr (Or.inr (Or.inr e))))))))))) (fun n10 => ?_)
  refine h0 (fun z => ?_)
  unfold sr_kn at z
  rcases z with z | z | z | z | z | z | z | z | z | z | z
  · rw [q] at z; exact absurd z (by decide)
  · exact n1 z
  · exact n2 z
  · exact n3 z
  · exact n4 z
  · exact n5 z
  · exact n6 z
  · exact n7 z
  · exact n8 z
  · exact n9 z
  · exact n10 z
end
end
section
/-! what is owed -/
theorem i_up {k : Nat} {u : SX} {v : SY} (h : i_Rel k u v) : i_Rel (k + 4) u v := h
theorem i_vc0 : wpX_init (fun u => wpY_init (fun v => i_Rel 0 u v)) := by
  refine ⟨0, 0, 0, 0, 0, 0, 0, 0, 0, 0, (fun _ => 0), (fun _ => 0), (fun _ => 0), (fun _ => 0), (fun _ => 0), (fun _ => 0), (fun _ => 0), (fun _ => 0), 0, 0, 0, (fun _ => false), (fun _ => false), rfl, rfl, by decide, fun r hr => ⟨Nat.zero_le 24, sr_T0 _ _, fun v hv => ?_⟩⟩
  exact ⟨fun z => absurd (show false = true from z) (by decide), fun z => absurd z (sr_M0 _ _ v)⟩
theorem i_vc_type {k : Nat} {u : SX} {v : SY} (I : i_Rel k u v) (hk : k + 4 ≤ 2048) (v1 : Int32) : wpX_type (fun r u' => wpY_type (fun r' v' => r' = r ∧ i_Rel (k + 4) u' v') v (lw_u16 v1)) u (lw_u16 v1) := by
  refine sr_el (P := fun u v => wpX_type (fun r u' => wpY_type (fun r' v' => r' = r ∧ i_Rel (k + 4) u' v') v (lw_u16 v1)) u (lw_u16 v1)) I ?_
  intro L fA fMa fMi fD fL fH fIL fIH fC aT c lo hi ml mh nl nh gA gL gH mk rs hR
  have hx : vp_nar .char (lw_u16 v1) = lw_u16 v1 := pk_vc v1
  have hL := hR.1
  by_cases h : L < 40
  · refine sr_xty h hx (fun q => sr_yty h (fun _ => ⟨rfl, sr_in ⟨by omega, hR.2⟩⟩) (fun z => absurd q z)) (fun q => sr_yty h (fun z => absurd z q) (fun _ => ⟨rfl, sr_in hR⟩))
  · have e : L = 40 := by omega
    subst e
    exact br_f (by decide) (br_t rfl ⟨rfl, sr_in hR⟩)
theorem i_vc_wipe {k : Nat} {u : SX} {v : SY} (I : i_Rel k u v) (hk : k + 4 ≤ 2048) : wpX_wipe (fun r u' => wpY_wipe (fun r' v' => r' = r ∧ i_Rel (k + 4) u' v') v) u := by
  refine sr_el (P := fun u v => wpX_wipe (fun r u' => wpY_wipe (fun r' v' => r' = r ∧ i_Rel (k + 4) u' v') v) u) I ?_
  intro L fA fMa fMi fD fL fH fIL fIH fC aT c lo hi ml mh nl nh gA gL gH mk rs hR
  exact ⟨rfl, sr_in (L := 0) ⟨by omega, hR.2⟩⟩
theorem i_vc_read {k : Nat} {u : SX} {v : SY} (I : i_Rel k u v) (hk : k + 4 ≤ 2048) (v1 : Int32) : wpX_read (fun r u' => wpY_read (fun r' v' => r' = r ∧ i_Rel (k + 4) u' v') v v1) u v1 := by
  refine sr_el (P := fun u v => wpX_read (fun r u' => wpY_read (fun r' v' => r' = r ∧ i_Rel (k + 4) u' v') v v1) u v1) I ?_
  intro L fA fMa fMi fD fL fH fIL fIH fC aT c lo hi ml mh nl nh gA gL gH mk rs hR
  have hL := hR.1
  unfold wpX_read
  dsimp only
  unfold wpY_read
  dsimp only
  rcases sr_rc v1 with h | ⟨r, hr, rfl⟩
  · exact sr_xr0 h (br_t rfl (sr_yr0 h (br_t rfl ⟨rfl, sr_in hR⟩)))
  · refine sr_xr1 hr (br_f (by decide) (sr_xrd hL (fun e fA fMa fMi fD fL fH fIL fIH fC ml' mh' nl' nh' => ?_) (fun S' e fA fMa fMi fD fL fH fIL fIH M' ml' mh' nl' nh' hM T' hv => ?_)))
    · dsimp only
      refine br_t rfl (sr_yr1 hr (br_f (by decide) (sr_ypa hL (fun _ gA gL gH R' => ?_) (fun S' e' => ?_))))
      · dsimp only
        exact br_t rfl ⟨rfl, sr_in hR⟩
      · exact absurd (e.symm.trans e') (by simp)
    · dsimp only
      refine br_f (by decide) (sr_xk hr hM T' ?_)
      dsimp only
      have hD : sr_S (sr_dec S') M' ml' mh' := fun v _ => sr_dect.trans (hv v).symm
      have hR1 := sr_R_keep (r := r) hR (L' := 0) (by omega) hM T' hD
      obtain ⟨a1, a2, a3⟩ := hR1.2 r hr
      refine sr_xct (fT := 0) hr a1 a2 a3 ?_
      refine sr_yr1 hr (br_f (by decide) (sr_ypa hL (fun e' => ?_) (fun S'' e' gA gL gH R' hR' => ?_)))
      · exact absurd (e.symm.trans e') (by simp)
      · have eS : S' = S'' := Option.some.inj (e.symm.trans e')
        subst eS
        have hS2 : sr_S R' M' ml' mh' := fun v hv2 => (hR' v hv2).trans (hv v).symm
        dsimp only
        refine br_f (by decide) (sr_yk hr ?_)
        dsimp only
        refine sr_yct (gN := 0) hr ⟨?_, sr_in (L := 0) (sr_R_keep hR (by omega) hM T' hS2)⟩
        refine congrArg nI (sr_cn_cong 1000 (fun v hv2 => ?_))
        rw [sr_kpi hv2, sr_kpi hv2, Bool.eq_iff_iff, sr_dect]
        exact hR' v hv2
theorem i_vc_meet {k : Nat} {u : SX} {v : SY} (I : i_Rel k u v) (hk : k + 4 ≤ 2048) (v1 : Int32) (v2 : Int32) (v3 : Int32) : wpX_meet (fun r u' => wpY_meet (fun r' v' => r' = r ∧ i_Rel (k + 4) u' v') v v1 v2 v3) u v1 v2 v3 := by
  refine sr_el (P := fun u v => wpX_meet (fun r u' => wpY_meet (fun r' v' => r' = r ∧ i_Rel (k + 4) u' v') v v1 v2 v3) u v1 v2 v3) I ?_
  intro L fA fMa fMi fD fL fH fIL fIH fC aT c lo hi ml mh nl nh gA gL gH mk rs hR
  by_cases ho : (v1 < 0 ∨ 3 < v1) ∨ (v2 < 0 ∨ 3 < v2) ∨ (v3 < 0 ∨ 3 < v3)
  · unfold wpX_meet
    dsimp only
    unfold wpY_meet
    dsimp only
    exact sr_xr3 ho (sr_yr3 ho ⟨rfl, sr_in hR⟩)
  · rcases sr_rc v1 with h | ⟨d, hd, rfl⟩
    · exact absurd (Or.inl h) ho
    rcases sr_rc v2 with h | ⟨a, ha, rfl⟩
    · exact absurd (Or.inr (Or.inl h)) ho
    rcases sr_rc v3 with h | ⟨b, hb, rfl⟩
    · exact absurd (Or.inr (Or.inr h)) ho
    obtain ⟨ca, TA, SA⟩ := hR.2 a ha
    obtain ⟨cb, TB, SB⟩ := hR.2 b hb
    refine sr_xm (Q := fun v => sr_gm mk a b v = true) hd ha hb ca cb TA TB (fun v hv => ?_) (fun m ml' mh' nl' nh' T' hM => ?_)
    · rw [← SA v hv, ← SB v hv]
      unfold sr_gm sr_gc
      rw [Bool.and_eq_true]
    · have hS : sr_S (sr_fl (sr_gm mk a b) rs 1000) m ml' mh' := fun v hv => by rw [sr_flt hv]; exact (hM v hv).symm
      have e := sr_stN T' hS
      exact ⟨fun hm => sr_ym hd ha hb (fun _ => ⟨rfl, sr_in (sr_R_keep hR hR.1 hm T' hS)⟩) (fun z => absurd hm (by rw [e] at z; exact z)), fun hm => sr_ym hd ha hb (fun z => absurd (by rw [e] at z; exact z) hm) (fun _ => ⟨rfl, sr_in hR⟩)⟩
theorem i_vc_join {k : Nat} {u : SX} {v : SY} (I : i_Rel k u v) (hk : k + 4 ≤ 2048) (v1 : Int32) (v2 : Int32) (v3 : Int32) : wpX_join (fun r u' => wpY_join (fun r' v' => r' = r ∧ i_Rel (k + 4) u' v') v v1 v2 v3) u v1 v2 v3 := by
  refine sr_el (P := fun u v => wpX_join (fun r u' => wpY_join (fun r' v' => r' = r ∧ i_Rel (k + 4) u' v') v v1 v2 v3) u v1 v2 v3) I ?_
  intro L fA fMa fMi fD fL fH fIL fIH fC aT c lo hi ml mh nl nh gA gL gH mk rs hR
  by_cases ho : (v1 < 0 ∨ 3 < v1) ∨ (v2 < 0 ∨ 3 < v2) ∨ (v3 < 0 ∨ 3 < v3)
  · unfold wpX_join
    dsimp only
    unfold wpY_join
    dsimp only
    exact sr_xr3 ho (sr_yr3 ho ⟨rfl, sr_in hR⟩)
  · rcases sr_rc v1 with h | ⟨d, hd, rfl⟩
    · exact absurd (Or.inl h) ho
    rcases sr_rc v2 with h | ⟨a, ha, rfl⟩
    · exact absurd (Or.inr (Or.inl h)) ho
    rcases sr_rc v3 with h | ⟨b, hb, rfl⟩
    · exact absurd (Or.inr (Or.inr h)) ho
    obtain ⟨ca, TA, SA⟩ := hR.2 a ha
    obtain ⟨cb, TB, SB⟩ := hR.2 b hb
    refine sr_xj (Q := fun v => sr_gj mk a b v = true) hd ha hb ca cb TA TB (fun v hv => ?_) (fun m ml' mh' nl' nh' T' hM => ?_)
    · rw [← SA v hv, ← SB v hv]
      unfold sr_gj sr_gc
      rw [Bool.or_eq_true]
    · have hS : sr_S (sr_fl (sr_gj mk a b) rs 1000) m ml' mh' := fun v hv => by rw [sr_flt hv]; exact (hM v hv).symm
      have e := sr_stN T' hS
      exact ⟨fun hm => sr_yj hd ha hb (fun _ => ⟨rfl, sr_in (sr_R_keep hR hR.1 hm T' hS)⟩) (fun z => absurd hm (by rw [e] at z; exact z)), fun hm => sr_yj hd ha hb (fun z => absurd (by rw [e] at z; exact z) hm) (fun _ => ⟨rfl, sr_in hR⟩)⟩
theorem i_vc_invert {k : Nat} {u : SX} {v : SY} (I : i_Rel k u v) (hk : k + 4 ≤ 2048) (v1 : Int32) (v2 : Int32) : wpX_invert (fun r u' => wpY_invert (fun r' v' => r' = r ∧ i_Rel (k + 4) u' v') v v1 v2) u v1 v2 := by
  refine sr_el (P := fun u v => wpX_invert (fun r u' => wpY_invert (fun r' v' => r' = r ∧ i_Rel (k + 4) u' v') v v1 v2) u v1 v2) I ?_
  intro L fA fMa fMi fD fL fH fIL fIH fC aT c lo hi ml mh nl nh gA gL gH mk rs hR
  by_cases ho : (v1 < 0 ∨ 3 < v1) ∨ (v2 < 0 ∨ 3 < v2)
  · unfold wpX_invert
    dsimp only
    unfold wpY_invert
    dsimp only
    exact sr_xr2 ho (sr_yr2 ho ⟨rfl, sr_in hR⟩)
  · rcases sr_rc v1 with h | ⟨d, hd, rfl⟩
    · exact absurd (Or.inl h) ho
    rcases sr_rc v2 with h | ⟨a, ha, rfl⟩
    · exact absurd (Or.inr h) ho
    obtain ⟨ca, TA, SA⟩ := hR.2 a ha
    refine sr_xi (Q := fun v => sr_gi mk a v = true) hd ha ca TA (fun v hv => ?_) (fun m ml' mh' nl' nh' T' hM => ?_)
    · rw [← SA v hv]
      unfold sr_gi sr_gc
      simp
    · have hS : sr_S (sr_fl (sr_gi mk a) rs 1000) m ml' mh' := fun v hv => by rw [sr_flt hv]; exact (hM v hv).symm
      have e := sr_stN T' hS
      exact ⟨fun hm => sr_yi hd ha (fun _ => ⟨rfl, sr_in (sr_R_keep hR hR.1 hm T' hS)⟩) (fun z => absurd hm (by rw [e] at z; exact z)), fun hm => sr_yi hd ha (fun z => absurd (by rw [e] at z; exact z) hm) (fun _ => ⟨rfl, sr_in hR⟩)⟩
theorem i_vc_has {k : Nat} {u : SX} {v : SY} (I : i_Rel k u v) (hk : k + 4 ≤ 2048) (v1 : Int32) (v2 : Int32) : wpX_has (fun r => wpY_has (fun r' => r' = r ∧ i_Rel (k + 4) u v) v v1 v2) u v1 v2 := by
  refine sr_el (P := fun u v => wpX_has (fun r => wpY_has (fun r' => r' = r ∧ i_Rel (k + 4) u v) v v1 v2) u v1 v2) I ?_
  intro L fA fMa fMi fD fL fH fIL fIH fC aT c lo hi ml mh nl nh gA gL gH mk rs hR
  rcases sr_rc v1 with h | ⟨r, hr, rfl⟩
  · unfold wpX_has
    dsimp only
    unfold wpY_has
    dsimp only
    exact sr_xr0 h (br_t rfl (sr_yr0 h (br_t rfl ⟨rfl, sr_in hR⟩)))
  · obtain ⟨hc, T, hS⟩ := hR.2 r hr
    by_cases h0 : v2 < 0
    · unfold wpX_has
      dsimp only
      unfold wpY_has
      dsimp only
      exact sr_xr1 hr (br_f (by decide) (br_t h0 (sr_yr1 hr (br_f (by decide) (br_t h0 ⟨rfl, sr_in hR⟩)))))
    by_cases h9 : v2 ≤ 999
    · obtain ⟨j, hj, rfl⟩ := nI_of2 (n := 999) (by decide) h0 h9
      refine sr_xhas hr hc T hj (fun i q1 q2 q3 => sr_yhas hr hj (fun _ => ⟨rfl, sr_in hR⟩) (fun z => ?_)) (fun q => sr_yhas hr hj (fun z => ?_) (fun _ => ⟨rfl, sr_in hR⟩))
      · have := sr_has T hS q1 q2 q3
        exact absurd (this.symm.trans z) (by decide)
      · obtain ⟨i, i1, i2, i3⟩ := (hS j (by omega)).mp z
        exact absurd ⟨i2, i3⟩ (q i i1)
    · have h9' : 999 < v2 := Int32.not_le.mp h9
      unfold wpX_has
      dsimp only
      unfold wpY_has
      dsimp only
      exact sr_xr1 hr (br_f (by decide) (br_f h0 (br_f h9 (sr_yr1 hr (br_f (by decide) (br_f h0 (br_t h9' ⟨rfl, sr_in hR⟩)))))))
theorem i_vc_count {k : Nat} {u : SX} {v : SY} (I : i_Rel k u v) (hk : k + 4 ≤ 2048) (v1 : Int32) : wpX_count (fun r => wpY_count (fun r' => r' = r ∧ i_Rel (k + 4) u v) v v1) u v1 := by
  refine sr_el (P := fun u v => wpX_count (fun r => wpY_count (fun r' => r' = r ∧ i_Rel (k + 4) u v) v v1) u v1) I ?_
  intro L fA fMa fMi fD fL fH fIL fIH fC aT c lo hi ml mh nl nh gA gL gH mk rs hR
  rcases sr_rc v1 with h | ⟨r, hr, rfl⟩
  · unfold wpX_count
    dsimp only
    unfold wpY_count
    dsimp only
    exact sr_xr0 h (br_t rfl (sr_yr0 h (br_t rfl ⟨rfl, sr_in hR⟩)))
  · obtain ⟨hc, T, hS⟩ := hR.2 r hr
    exact sr_xct hr hc T hS (sr_yct hr ⟨rfl, sr_in hR⟩)
theorem i_vc_atLeast {k : Nat} {u : SX} {v : SY} (I : i_Rel k u v) (hk : k + 4 ≤ 2048) (v1 : Int32) (v2 : Int32) : wpX_atLeast (fun r => wpY_atLeast (fun r' => r' = r ∧ i_Rel (k + 4) u v) v v1 v2) u v1 v2 := by
  refine sr_el (P := fun u v => wpX_atLeast (fun r => wpY_atLeast (fun r' => r' = r ∧ i_Rel (k + 4) u v) v v1 v2) u v1 v2) I ?_
  intro L fA fMa fMi fD fL fH fIL fIH fC aT c lo hi ml mh nl nh gA gL gH mk rs hR
  rcases sr_rc v1 with h | ⟨r, hr, rfl⟩
  · unfold wpX_atLeast
    dsimp only
    unfold wpY_atLeast
    dsimp only
    exact sr_xr0 h (br_t rfl (sr_yr0 h (br_t rfl ⟨rfl, sr_in hR⟩)))
  · obtain ⟨hc, T, hS⟩ := hR.2 r hr
    refine sr_xal hr hc T hS (fun v a1 a2 a3 a4 => sr_yal hr (fun w b1 b2 b3 b4 => ⟨?_, sr_in hR⟩) (fun z => absurd a3 (z v a1 a2))) (fun z => sr_yal hr (fun w b1 b2 b3 b4 => absurd b3 (z w b1 b2)) (fun _ => ⟨rfl, sr_in hR⟩))
    refine congrArg nI ?_
    by_cases c1 : w < v
    · exact absurd b3 (a4 w c1 b2)
    · by_cases c2 : v < w
      · exact absurd a3 (b4 v c2 a2)
      · omega
theorem i_vc_atMost {k : Nat} {u : SX} {v : SY} (I : i_Rel k u v) (hk : k + 4 ≤ 2048) (v1 : Int32) (v2 : Int32) : wpX_atMost (fun r => wpY_atMost (fun r' => r' = r ∧ i_Rel (k + 4) u v) v v1 v2) u v1 v2 := by
  refine sr_el (P := fun u v => wpX_atMost (fun r => wpY_atMost (fun r' => r' = r ∧ i_Rel (k + 4) u v) v v1 v2) u v1 v2) I ?_
  intro L fA fMa fMi fD fL fH fIL fIH fC aT c lo hi ml mh nl nh gA gL gH mk rs hR
  rcases sr_rc v1 with h | ⟨r, hr, rfl⟩
  · unfold wpX_atMost
    dsimp only
    unfold wpY_atMost
    dsimp only
    exact sr_xr0 h (br_t rfl (sr_yr0 h (br_t rfl ⟨rfl, sr_in hR⟩)))
  · obtain ⟨hc, T, hS⟩ := hR.2 r hr
    refine sr_xam hr hc T hS (fun v a1 a2 a3 a4 => sr_yam hr (fun w b1 b2 b3 b4 => ⟨?_, sr_in hR⟩) (fun z => absurd a3 (z v a1 a2))) (fun z => sr_yam hr (fun w b1 b2 b3 b4 => absurd b3 (z w b1 b2)) (fun _ => ⟨rfl, sr_in hR⟩))
    refine congrArg nI ?_
    by_cases c1 : v < w
    · exact absurd b3 (a4 w c1 b1 b2)
    · by_cases c2 : w < v
      · exact absurd a3 (b4 v c2 a1 a2)
      · omega
theorem i_vc_stretches {k : Nat} {u : SX} {v : SY} (I : i_Rel k u v) (hk : k + 4 ≤ 2048) (v1 : Int32) : wpX_stretches (fun r => wpY_stretches (fun r' v' => r' = r ∧ i_Rel (k + 4) u v') v v1) u v1 := by
  refine sr_el (P := fun u v => wpX_stretches (fun r => wpY_stretches (fun r' v' => r' = r ∧ i_Rel (k + 4) u v') v v1) u v1) I ?_
  intro L fA fMa fMi fD fL fH fIL fIH fC aT c lo hi ml mh nl nh gA gL gH mk rs hR
  rcases sr_rc v1 with h | ⟨r, hr, rfl⟩
  · unfold wpX_stretches
    dsimp only
    unfold wpY_stretches
    dsimp only
    exact sr_xr0 h (br_t rfl (sr_yr0 h (br_t rfl ⟨rfl, sr_in hR⟩)))
  · obtain ⟨hc, T, hS⟩ := hR.2 r hr
    refine sr_xst hr (sr_yst hr ⟨?_, sr_in hR⟩)
    rw [sr_stN T (sr_S_fl hS)]
theorem i_vc_within {k : Nat} {u : SX} {v : SY} (I : i_Rel k u v) (hk : k + 4 ≤ 2048) (v1 : Int32) (v2 : Int32) : wpX_within (fun r => wpY_within (fun r' => r' = r ∧ i_Rel (k + 4) u v) v v1 v2) u v1 v2 := by
  refine sr_el (P := fun u v => wpX_within (fun r => wpY_within (fun r' => r' = r ∧ i_Rel (k + 4) u v) v v1 v2) u v1 v2) I ?_
  intro L fA fMa fMi fD fL fH fIL fIH fC aT c lo hi ml mh nl nh gA gL gH mk rs hR
  by_cases ho : (v1 < 0 ∨ 3 < v1) ∨ (v2 < 0 ∨ 3 < v2)
  · unfold wpX_within
    dsimp only
    unfold wpY_within
    dsimp only
    exact sr_xr2 ho (sr_yr2 ho ⟨rfl, sr_in hR⟩)
  · rcases sr_rc v1 with h | ⟨a, ha, rfl⟩
    · exact absurd (Or.inl h) ho
    rcases sr_rc v2 with h | ⟨b, hb, rfl⟩
    · exact absurd (Or.inr h) ho
    obtain ⟨ca, TA, SA⟩ := hR.2 a ha
    obtain ⟨cb, TB, SB⟩ := hR.2 b hb
    refine sr_xwi ha hb ca cb TA TB SA SB (fun z => sr_ywi ha hb (fun _ => ⟨rfl, sr_in hR⟩) (fun v q1 q2 q3 => ?_)) (fun v q1 q2 q3 => sr_ywi ha hb (fun z => ?_) (fun _ _ _ _ => ⟨rfl, sr_in hR⟩))
    · exact absurd ((z v q1 q2).symm.trans q3) (by decide)
    · exact absurd ((z v q1 q2).symm.trans q3) (by decide)
end
