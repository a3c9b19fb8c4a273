section
theorem pk_us {f : Nat → Int32} {k : Nat} {x : Int32} : upd f k x k = x := if_pos rfl
theorem pk_un {f : Nat → Int32} {k j : Nat} {x : Int32} (h : j ≠ k) : upd f k x j = f j := if_neg h
theorem pk_uLs {f : Nat → Int64} {k : Nat} {x : Int64} : vp_updL f k x k = x := if_pos rfl
theorem pk_uLn {f : Nat → Int64} {k j : Nat} {x : Int64} (h : j ≠ k) : vp_updL f k x j = f j := if_neg h
theorem pk_sub {a b : Nat} (h : b ≤ a) : nI a - nI b = nI (a - b) := by
  obtain ⟨c, rfl⟩ : ∃ c, a = c + b := ⟨a - b, by omega⟩
  rw [← nI_add, Int32.add_sub_cancel, Nat.add_sub_cancel]
theorem pk_m1 (n : Nat) : nI (n + 1) + (-1) = nI n := by
  rw [← nI_1, Int32.add_assoc, show (1 : Int32) + (-1) = 0 from rfl, Int32.add_zero]
theorem pk_mul (a b : Nat) : nI a * nI b = nI (a * b) := (Int32.ofNat_mul a b).symm
theorem pk_div {a d : Nat} (ha : a < 2 ^ 31) (h0 : 0 < d) (hd : d < 2 ^ 31) : nI a / nI d = nI (a / d) := by
  apply Int32.toInt_inj.mp
  rw [lg_idiv_nonneg (by rw [nI_toInt ha]; omega) (by rw [nI_toInt hd]; omega), nI_toInt ha, nI_toInt hd, nI_toInt (Nat.lt_of_le_of_lt (Nat.div_le_self a d) ha)]
  first | rfl | exact (Int.natCast_ediv _ _).symm
theorem pk_rem {a d : Nat} (ha : a < 2 ^ 31) (h0 : 0 < d) (hd : d < 2 ^ 31) : nI a - nI a / nI d * nI d = nI (a % d) := by
  rw [pk_div ha h0 hd, pk_mul, pk_sub (Nat.div_mul_le_self a d)]
  exact congrArg nI (by have := Nat.div_add_mod' a d; omega)
theorem pk_ix (x : Int32) {n : Nat} (hn : n < 2 ^ 31) : x < 0 ∨ nI n ≤ x ∨ ∃ j : Nat, j < n ∧ x = nI j := by
  by_cases h : x < 0
  · exact Or.inl h
  · obtain ⟨j, hj, rfl⟩ := nI_of h
    by_cases h2 : j < n
    · exact Or.inr (Or.inr ⟨j, h2, rfl⟩)
    · exact Or.inr (Or.inl (nI_le (by omega) hj))
theorem pk_le {x y : Int32} {A B : Prop} (a b : Nat) (f : a ≤ b → A) (g : b < a → B) (hx : x = nI a := by rfl) (hy : y = nI b := by rfl) (ha : a < 2 ^ 31 := by omega) (hb : b < 2 ^ 31 := by omega) : (x ≤ y → A) ∧ (¬ x ≤ y → B) := by
  subst hx hy
  rw [nI_leI ha hb]
  exact ⟨f, fun z => g (by omega)⟩
theorem pk_lt {x y : Int32} {A B : Prop} (a b : Nat) (f : a < b → A) (g : b ≤ a → B) (hx : x = nI a := by rfl) (hy : y = nI b := by rfl) (ha : a < 2 ^ 31 := by omega) (hb : b < 2 ^ 31 := by omega) : (x < y → A) ∧ (¬ x < y → B) := by
  subst hx hy
  rw [nI_ltI ha hb]
  exact ⟨f, fun z => g (by omega)⟩
theorem pk_eq {x y : Int32} {A B : Prop} (a b : Nat) (f : a = b → A) (g : a ≠ b → B) (hx : x = nI a := by rfl) (hy : y = nI b := by rfl) (ha : a < 2 ^ 31 := by omega) (hb : b < 2 ^ 31 := by omega) : (x = y → A) ∧ (¬ x = y → B) := by
  subst hx hy
  rw [nI_eq ha hb]
  exact ⟨f, g⟩
theorem pk_in {x : Int32} (n N : Nat) (h : n < N) (hx : x = nI n := by rfl) (hN : N < 2 ^ 31 := by omega) : vp_in x N := by
  subst hx
  exact vp_in_nI h hN
theorem pk_cl {x : Int32} (n : Nat) (hx : x = nI n := by rfl) (h : n < 2 ^ 31 := by omega) : x.toNatClampNeg = n := by
  subst hx
  exact nI_clamp h
theorem pk_tn {n : Nat} (h : n < 2 ^ 32) : (nI n).toBitVec.toNat = n := Nat.mod_eq_of_lt h
theorem pk_and (x : Int32) {m : Int32} (k : Nat) (hm : m.toBitVec.toNat = 2 ^ k - 1) : x &&& m = nI (x.toBitVec.toNat % 2 ^ k) := by
  apply Int32.toBitVec_inj.mp
  apply BitVec.eq_of_toNat_eq
  rw [Int32.toBitVec_and, BitVec.toNat_and, hm, Nat.and_two_pow_sub_one_eq_mod]
  show _ = (BitVec.ofNat 32 _).toNat
  rw [BitVec.toNat_ofNat]
  exact (Nat.mod_eq_of_lt (Nat.lt_of_le_of_lt (Nat.mod_le _ _) x.toBitVec.isLt)).symm
theorem pk_andN {n : Nat} (h : n < 2 ^ 32) {m : Int32} (k : Nat) (hm : m.toBitVec.toNat = 2 ^ k - 1) : nI n &&& m = nI (n % 2 ^ k) := by
  rw [pk_and _ k hm, pk_tn h]
theorem pk_andE (x : Int32) {m : Int32} (k : Nat) (hm : m.toBitVec.toNat = 2 ^ k - 1) : ∃ j : Nat, j < 2 ^ k ∧ x &&& m = nI j := ⟨_, Nat.mod_lt _ (Nat.two_pow_pos k), pk_and x k hm⟩
theorem pk_shl (a s : Int32) (k : Nat) (hs : (s.toBitVec.smod 32).toNat = k) : (a <<< s).toBitVec.toNat = a.toBitVec.toNat * 2 ^ k % 2 ^ 32 := by
  show (a.toBitVec <<< (s.toBitVec.smod 32).toNat).toNat = _
  rw [hs, BitVec.toNat_shiftLeft, Nat.shiftLeft_eq]
theorem pk_shlN {n : Nat} (s : Int32) (k : Nat) (hs : (s.toBitVec.smod 32).toNat = k) (h : n * 2 ^ k < 2 ^ 32) : nI n <<< s = nI (n * 2 ^ k) := by
  apply Int32.toBitVec_inj.mp
  apply BitVec.eq_of_toNat_eq
  have hn : n < 2 ^ 32 := Nat.lt_of_le_of_lt (Nat.le_mul_of_pos_right n (Nat.two_pow_pos k)) h
  rw [pk_shl _ _ k hs, pk_tn hn, pk_tn h, Nat.mod_eq_of_lt h]
theorem pk_shr (a s : Int32) (k : Nat) (hs : (s.toBitVec.smod 32).toNat = k) : (a >>> s).toInt = a.toInt >>> k := by
  show (a.toBitVec.sshiftRight (s.toBitVec.smod 32).toNat).toInt = _
  rw [hs, BitVec.toInt_sshiftRight]
  rfl
theorem pk_shrN {n : Nat} (h : n < 2 ^ 31) (s : Int32) (k : Nat) (hs : (s.toBitVec.smod 32).toNat = k) : nI n >>> s = nI (n / 2 ^ k) := by
  apply Int32.toInt_inj.mp
  have h2 : n / 2 ^ k ≤ n := Nat.div_le_self _ _
  rw [pk_shr _ _ k hs, nI_toInt h, nI_toInt (by omega), Int.shiftRight_eq_div_pow]
  rfl
theorem pk_least (P : Nat → Prop) (h : ∃ k, P k) : ∃ k, P k ∧ ∀ j, j < k → ¬ P j := by
  obtain ⟨k, hk⟩ := h
  induction k using Nat.strongRecOn with
  | ind k ih =>
    by_cases e : ∃ j, j < k ∧ P j
    · obtain ⟨j, hj, pj⟩ := e
      exact ih j hj pj
    · exact ⟨k, hk, fun j hj pj => e ⟨j, hj, pj⟩⟩
theorem ek_if {c d A B : Prop} (e : c ↔ d) (f : d → A) (g : ¬ d → B) : (c → A) ∧ (¬ c → B) :=
  ⟨fun z => f (e.mp z), fun z => g (fun y => z (e.mpr y))⟩
theorem ek_v {α : Sort _} {P : α → Prop} {a b : α} (e : a = b) (h : P b) : P a := e ▸ h
def bt (x : Int32) (i : Nat) : Bool := x.toBitVec.getLsbD i
theorem b_ext {x y : Int32} (h : ∀ i, i < 32 → bt x i = bt y i) : x = y := Int32.toBitVec_inj.mp (BitVec.eq_of_getLsbD_eq (fun i hi => h i hi))
theorem b_or (x y : Int32) (i : Nat) : bt (x ||| y) i = (bt x i || bt y i) := by unfold bt; rw [Int32.toBitVec_or, BitVec.getLsbD_or]
theorem b_and (x y : Int32) (i : Nat) : bt (x &&& y) i = (bt x i && bt y i) := by unfold bt; rw [Int32.toBitVec_and, BitVec.getLsbD_and]
theorem b_xor (x y : Int32) (i : Nat) : bt (x ^^^ y) i = (bt x i ^^ bt y i) := by unfold bt; rw [Int32.toBitVec_xor, BitVec.getLsbD_xor]
theorem b_big {x : Int32} {i : Nat} (h : 32 ≤ i) : bt x i = false := BitVec.getLsbD_of_ge _ _ h
theorem b_m1 : ∀ i, i < 32 → bt (-1) i = true := by decide +kernel
theorem b_0 (i : Nat) : bt 0 i = false := BitVec.getLsbD_zero
theorem s_l : ∀ n, n < 32 → ((nI n &&& 31).toBitVec.smod 32).toNat = n := by decide +kernel
theorem b_shl (n : Nat) (hn : n < 32) (x : Int32) {i : Nat} (hi : i < 32) : bt (x <<< (nI n &&& 31)) i = (decide (n ≤ i) && bt x (i - n)) := by
  unfold bt
  rw [Int32.toBitVec_shiftLeft]
  show (x.toBitVec <<< ((nI n &&& 31).toBitVec.smod 32).toNat).getLsbD i = _
  rw [s_l n hn, BitVec.getLsbD_shiftLeft]
  rcases Nat.lt_or_ge i n with h | h
  · simp [h, Nat.not_le.mpr h]
  · simp [hi, h, Nat.not_lt.mpr h]
theorem b_sshr (n : Nat) (hn : n < 32) (x : Int32) {i : Nat} (hi : i < 32) : bt (x >>> (nI n &&& 31)) i = if n + i < 32 then bt x (n + i) else bt x 31 := by
  unfold bt
  rw [Int32.toBitVec_shiftRight]
  show (x.toBitVec.sshiftRight ((nI n &&& 31).toBitVec.smod 32).toNat).getLsbD i = _
  rw [s_l n hn, BitVec.getLsbD_sshiftRight, BitVec.msb_eq_getLsbD_last]
  simp [hi]
theorem ts_nf {x : Bool} (h : ¬ x = false) : x = true := by cases x <;> first | rfl | exact absurd rfl h
theorem ts_nt {x : Bool} (h : ¬ x = true) : x = false := by cases x <;> first | rfl | exact absurd rfl h
theorem ts_bit {w : Int64} {s : UInt64} {j : Nat} (hj : j < 64) (hs : s.toNat = j) : ((w.toUInt64 >>> s).toInt64 &&& 1) = 0 ↔ w.toBitVec.getLsbD j = false := by
  have e : (w.toUInt64 >>> s).toInt64.toBitVec = w.toBitVec >>> j := by
    apply BitVec.eq_of_toNat_eq
    show (w.toUInt64 >>> s).toNat = _
    rw [UInt64.toNat_shiftRight, hs, Nat.mod_eq_of_lt hj, BitVec.toNat_ushiftRight]
    rfl
  rw [← Int64.toBitVec_inj, Int64.toBitVec_and, e]
  show w.toBitVec >>> j &&& 1#64 = 0#64 ↔ _
  constructor
  · intro h
    have t := congrArg (fun x => x.getLsbD 0) h
    simpa using t
  · intro h
    apply BitVec.eq_of_getLsbD_eq
    intro i hi
    cases i with
    | zero => simp [h]
    | succ i => simp
theorem wb_tb (n : Nat) : (lN n).toBitVec = BitVec.ofNat 64 n := rfl
theorem wb_inj {a b : Int64} (h : a.toBitVec = b.toBitVec) : a = b := Int64.toBitVec_inj.mp h
theorem wb_tn {n : Nat} (h : n < 2 ^ 64) : (lN n).toBitVec.toNat = n := by rw [wb_tb, BitVec.toNat_ofNat, Nat.mod_eq_of_lt h]
theorem wb_c : ∀ k, k < 64 → ((nI k).toInt64 &&& 63) = lN k := by decide +kernel
theorem wb_cu : ∀ k, k < 64 → ((nI k).toInt64.toUInt64 &&& Int64.toUInt64 63) = UInt64.ofNat k := by decide +kernel
theorem wb_sm : ∀ k, k < 64 → (BitVec.ofNat 64 k).smod 64 = BitVec.ofNat 64 k := by decide +kernel
end
section
/-! A: sums and counts -/
def aw_sm (f : Nat → Int32) : Nat → Int32
  | 0 => 0
  | n + 1 => aw_sm f n + f n
def aw_cn (p : Nat → Bool) : Nat → Nat
  | 0 => 0
  | n + 1 => aw_cn p n + (if p n then 1 else 0)
def aw_any (p : Nat → Bool) : Nat → Bool
  | 0 => false
  | n + 1 => aw_any p n || p n
theorem aw_sm_c {f g : Nat → Int32} : ∀ n, (∀ i, i < n → f i = g i) → aw_sm f n = aw_sm g n := by
  intro n
  induction n with
  | zero => intro _; rfl
  | succ n ih =>
    intro h
    show aw_sm f n + f n = aw_sm g n + g n
    rw [ih (fun i hi => h i (by omega)), h n (by omega)]
theorem aw_sm_u {f g : Nat → Int32} {i0 : Nat} {d : Int32} (he : f i0 = g i0 + d) : ∀ n, i0 < n → (∀ i, i < n → i ≠ i0 → f i = g i) → aw_sm f n = aw_sm g n + d := by
  intro n
  induction n with
  | zero => intro h; omega
  | succ n ih =>
    intro h0 h
    show aw_sm f n + f n = aw_sm g n + g n + d
    by_cases e : i0 = n
    · subst e
      rw [aw_sm_c i0 (fun i hi => h i (by omega) (by omega)), he]
      exact (Int32.add_assoc _ _ _).symm
    · rw [ih (by omega) (fun i hi => h i (by omega)), h n (by omega) (by omega)]
      rw [Int32.add_assoc, Int32.add_comm d, ← Int32.add_assoc]
theorem aw_sm_0 : ∀ n, aw_sm (fun _ => 0) n = 0 := by
  intro n
  induction n with
  | zero => rfl
  | succ n ih =>
    show aw_sm (fun _ => 0) n + 0 = 0
    rw [ih]; rfl
theorem aw_sm_n {f : Nat → Int32} (n : Nat) (h : ∀ i, i < n → f i = 0) : aw_sm f n = 0 := (aw_sm_c (g := fun _ => 0) n h).trans (aw_sm_0 n)
theorem aw_sm_a {f g : Nat → Int32} : ∀ n, aw_sm (fun i => f i + g i) n = aw_sm f n + aw_sm g n := by
  intro n
  induction n with
  | zero => rfl
  | succ n ih =>
    show aw_sm (fun i => f i + g i) n + (f n + g n) = (aw_sm f n + f n) + (aw_sm g n + g n)
    rw [ih]
    generalize aw_sm f n = a
    generalize aw_sm g n = b
    generalize f n = c
    generalize g n = d
    rw [Int32.add_assoc a b, Int32.add_assoc a c, ← Int32.add_assoc b, Int32.add_comm b c, Int32.add_assoc c b]
theorem aw_sm_1 : ∀ n, aw_sm (fun _ => 1) n = nI n := by
  intro n
  induction n with
  | zero => rfl
  | succ n ih =>
    show aw_sm (fun _ => 1) n + 1 = nI (n + 1)
    rw [ih, nI_1]
theorem aw_sm_z {f : Nat → Int32} {n : Nat} : ∀ d, (∀ i, n ≤ i → i < n + d → f i = 0) → aw_sm f (n + d) = aw_sm f n := by
  intro d
  induction d with
  | zero => intro _; rfl
  | succ d ih =>
    intro h
    show aw_sm f (n + d) + f (n + d) = aw_sm f n
    rw [ih (fun i h1 h2 => h i h1 (by omega)), h (n + d) (by omega) (by omega), Int32.add_zero]
theorem aw_sm_m {h : Nat → Int32} : ∀ n, aw_sm h (n * 6) = aw_sm (fun e => aw_sm (fun c => h (6 * e + c)) 6) n := by
  intro n
  induction n with
  | zero => rfl
  | succ n ih =>
    have e : (n + 1) * 6 = n * 6 + 1 + 1 + 1 + 1 + 1 + 1 := by omega
    rw [e]
    show aw_sm h (n * 6) + h (n * 6) + h (n * 6 + 1) + h (n * 6 + 2) + h (n * 6 + 3) + h (n * 6 + 4) + h (n * 6 + 5) = aw_sm (fun e => aw_sm (fun c => h (6 * e + c)) 6) n + (0 + h (6 * n + 0) + h (6 * n + 1) + h (6 * n + 2) + h (6 * n + 3) + h (6 * n + 4) + h (6 * n + 5))
    rw [ih, Nat.mul_comm n 6]
    show _ = aw_sm (fun e => aw_sm (fun c => h (6 * e + c)) 6) n + (0 + h (6 * n) + h (6 * n + 1) + h (6 * n + 2) + h (6 * n + 3) + h (6 * n + 4) + h (6 * n + 5))
    simp only [Int32.zero_add, Int32.add_assoc]
theorem aw_bij (F : Nat → Int32) (N : Nat) (g : Nat → Nat) (D : Nat → Nat → Bool) (h0 : ∀ e, e < N → D 0 e = false) : ∀ r, (∀ k, k < r → g k < N ∧ D k (g k) = false ∧ D (k + 1) (g k) = true ∧ ∀ e, e < N → e ≠ g k → D (k + 1) e = D k e) → aw_sm (fun e => if D r e then F e else 0) N = aw_sm (fun k => F (g k)) r := by
  intro r
  induction r with
  | zero =>
    intro _
    exact aw_sm_n N (fun e he => by simp [h0 e he])
  | succ r ih =>
    intro h
    obtain ⟨h1, h2, h3, h4⟩ := h r (by omega)
    show _ = aw_sm (fun k => F (g k)) r + F (g r)
    rw [← ih (fun k hk => h k (by omega))]
    exact aw_sm_u (i0 := g r) (by simp [h2, h3]) N h1 (fun e he hn => by simp [h4 e he hn])
theorem aw_sm_cn (p : Nat → Bool) : ∀ n, aw_sm (fun e => if p e then 1 else 0) n = nI (aw_cn p n) := by
  intro n
  induction n with
  | zero => rfl
  | succ n ih =>
    show aw_sm (fun e => if p e then 1 else 0) n + (if p n then 1 else 0) = nI (aw_cn p n + (if p n then 1 else 0))
    rw [ih]
    by_cases h : p n = true
    · rw [if_pos h, if_pos h, nI_1]
    · rw [if_neg h, if_neg h, Int32.add_zero]; rfl
theorem aw_cn_le (p : Nat → Bool) : ∀ n, aw_cn p n ≤ n := by
  intro n
  induction n with
  | zero => exact Nat.le_refl 0
  | succ n ih =>
    show aw_cn p n + (if p n then 1 else 0) ≤ n + 1
    by_cases h : p n = true
    · rw [if_pos h]; omega
    · rw [if_neg h]; omega
theorem aw_cn_lt {p : Nat → Bool} {i0 : Nat} (h0 : p i0 = false) : ∀ n, i0 < n → aw_cn p n < n := by
  intro n
  induction n with
  | zero => intro h; omega
  | succ n ih =>
    intro hi
    show aw_cn p n + (if p n then 1 else 0) < n + 1
    by_cases e : i0 = n
    · subst e
      have := aw_cn_le p i0
      rw [if_neg (by rw [h0]; decide)]; omega
    · have := ih (by omega)
      by_cases h : p n = true
      · rw [if_pos h]; omega
      · rw [if_neg h]; omega
theorem aw_any_iff {p : Nat → Bool} : ∀ n, aw_any p n = true ↔ ∃ i, i < n ∧ p i = true := by
  intro n
  induction n with
  | zero => exact ⟨fun h => absurd (show false = true from h) (by decide), fun ⟨i, h, _⟩ => by omega⟩
  | succ n ih =>
    show (aw_any p n || p n) = true ↔ _
    rw [Bool.or_eq_true, ih]
    constructor
    · rintro (⟨i, h, hp⟩ | h)
      · exact ⟨i, by omega, hp⟩
      · exact ⟨n, by omega, h⟩
    · rintro ⟨i, h, hp⟩
      by_cases e : i = n
      · subst e; exact Or.inr hp
      · exact Or.inl ⟨i, by omega, hp⟩
/-! B: small facts on numbers -/
theorem aw_m4 {t : Nat} (h : t < 2 ^ 31) : ¬ nI t = -4 := by
  intro e
  have := nI_pos (n := t) h
  rw [e] at this
  exact this (by decide)
theorem aw_m4n : (-4 : Int32) < 0 := by decide
theorem aw_m4p : ¬ (0 : Int32) ≤ -4 := by decide
theorem aw_inj {a b : Nat} (h : nI a = nI b) (ha : a < 2 ^ 31) (hb : b < 2 ^ 31) : a = b := (nI_eq ha hb).mp h
theorem aw_24 (t : Nat) : nI t * 24 = nI (t * 24) := pk_mul t 24
theorem aw_ix (t k : Nat) : nI t * 24 + nI k = nI (t * 24 + k) := by rw [aw_24, nI_add]
theorem aw_6 (t k : Nat) : 6 * nI t + nI k = nI (6 * t + k) := by
  have : (6 : Int32) * nI t = nI (6 * t) := pk_mul 6 t
  rw [this, nI_add]
theorem aw_cl {x : Int32} {n : Nat} (h : x = nI n) (hn : n < 2 ^ 31) : x.toNatClampNeg = n := by rw [h, nI_clamp hn]
/-! C: fits -/
def aw_fit (s w o : Int32) : Bool := decide (s &&& w = w) && decide (s &&& o = 0)
def aw_ft (lv ss : Nat → Int32) (w o : Int32) (e : Nat) : Bool := !decide (lv e = 0) && aw_fit (ss e) w o
theorem aw_fit_iff {s w o : Int32} : aw_fit s w o = true ↔ (s &&& w = w ∧ s &&& o = 0) := by
  unfold aw_fit
  rw [Bool.and_eq_true, decide_eq_true_eq, decide_eq_true_eq]
theorem aw_fit_t {s w o : Int32} (a : s &&& w = w) (b : s &&& o = 0) : aw_fit s w o = true := aw_fit_iff.mpr ⟨a, b⟩
theorem aw_fit_1 {s w o : Int32} (a : ¬ s &&& w = w) : aw_fit s w o = false := ts_nt (fun z => a (aw_fit_iff.mp z).1)
theorem aw_fit_2 {s w o : Int32} (a : ¬ s &&& o = 0) : aw_fit s w o = false := ts_nt (fun z => a (aw_fit_iff.mp z).2)
theorem aw_fit_0 (s : Int32) : aw_fit s 0 0 = true := aw_fit_t Int32.and_zero Int32.and_zero
theorem aw_ft_iff {lv ss : Nat → Int32} {w o : Int32} {e : Nat} : aw_ft lv ss w o e = true ↔ (¬ lv e = 0 ∧ aw_fit (ss e) w o = true) := by
  unfold aw_ft
  rw [Bool.and_eq_true, Bool.not_eq_true', decide_eq_false_iff_not]
end
section
/-! D: tables and rows. T tables; every live entity stands in one row of its table -/
def aw_R (T : Nat) (tS tO rn rA tb pl lv ss : Nat → Int32) : Prop :=
  T ≤ 64 ∧
  (∀ t, t < T → ∃ s, s < 64 ∧ tS t = nI s ∧ tO s = nI t) ∧
  (∀ s, s < 64 → tO s = -4 ∨ ∃ t, t < T ∧ tO s = nI t ∧ tS t = nI s) ∧
  (∀ e, e < 24 → (tb e = -4 ∧ lv e = 0) ∨ (¬ lv e = 0 ∧ ∃ t k r, t < T ∧ k < r ∧ r ≤ 24 ∧ tb e = nI t ∧ pl e = nI k ∧ rn t = nI r ∧ rA (t * 24 + k) = nI e ∧ ss e = tS t)) ∧
  (∀ t, t < T → ∃ r, r ≤ 24 ∧ rn t = nI r ∧ ∀ k, k < r → ∃ e, e < 24 ∧ rA (t * 24 + k) = nI e ∧ tb e = nI t ∧ pl e = nI k)
section
variable {T : Nat} {tS tO rn rA tb pl lv ss : Nat → Int32}
theorem aw_T (R : aw_R T tS tO rn rA tb pl lv ss) : T ≤ 64 := R.1
theorem aw_lv (R : aw_R T tS tO rn rA tb pl lv ss) {e : Nat} (he : e < 24) (hl : ¬ lv e = 0) : ∃ t k r, t < T ∧ k < r ∧ r ≤ 24 ∧ tb e = nI t ∧ pl e = nI k ∧ rn t = nI r ∧ rA (t * 24 + k) = nI e ∧ ss e = tS t := by
  rcases R.2.2.2.1 e he with ⟨_, h⟩ | ⟨_, h⟩
  · exact absurd h hl
  · exact h
theorem aw_dd (R : aw_R T tS tO rn rA tb pl lv ss) {e : Nat} (he : e < 24) (hl : lv e = 0) : tb e = -4 := by
  rcases R.2.2.2.1 e he with ⟨h, _⟩ | ⟨h, _⟩
  · exact h
  · exact absurd hl h
theorem aw_tbn (R : aw_R T tS tO rn rA tb pl lv ss) {e : Nat} (he : e < 24) : tb e < 0 ↔ lv e = 0 := by
  have hT := R.1
  rcases R.2.2.2.1 e he with ⟨h, h'⟩ | ⟨h, t, k, r, h1, h2, h3, h4, h5⟩
  · rw [h]; exact ⟨fun _ => h', fun _ => aw_m4n⟩
  · rw [h4]; exact ⟨fun z => absurd z (nI_pos (by omega)), fun z => absurd z h⟩
/-- an entity of table t -/
theorem aw_tb (R : aw_R T tS tO rn rA tb pl lv ss) {e t : Nat} (he : e < 24) (ht : t < 2 ^ 31) (h : tb e = nI t) : ¬ lv e = 0 ∧ ∃ k r, t < T ∧ k < r ∧ r ≤ 24 ∧ pl e = nI k ∧ rn t = nI r ∧ rA (t * 24 + k) = nI e ∧ ss e = tS t := by
  have hT := R.1
  rcases R.2.2.2.1 e he with ⟨h', _⟩ | ⟨h', t', k, r, h1, h2, h3, h4, h5, h6, h7, h8⟩
  · exact absurd (h.symm.trans h') (aw_m4 ht)
  · have e1 : t' = t := aw_inj (h4.symm.trans h) (by omega) ht
    subst e1
    exact ⟨h', k, r, h1, h2, h3, h5, h6, h7, h8⟩
theorem aw_rw (R : aw_R T tS tO rn rA tb pl lv ss) {t : Nat} (ht : t < T) : ∃ r, r ≤ 24 ∧ rn t = nI r ∧ ∀ k, k < r → ∃ e, e < 24 ∧ rA (t * 24 + k) = nI e ∧ tb e = nI t ∧ pl e = nI k := R.2.2.2.2 t ht
/-- the rows of a table hold its entities, each once -/
theorem aw_row (R : aw_R T tS tO rn rA tb pl lv ss) (F : Nat → Int32) {t r : Nat} (ht : t < T) (hr : r ≤ 24) (hw : rn t = nI r) : aw_sm (fun e => if tb e = nI t then F e else 0) 24 = aw_sm (fun k => F (rA (t * 24 + k)).toNatClampNeg) r := by
  have hT := R.1
  obtain ⟨r', hr', e1, hk⟩ := aw_rw R ht
  have e2 : r' = r := aw_inj (e1.symm.trans hw) (by omega) (by omega)
  subst e2
  rw [← aw_bij F 24 (fun k => (rA (t * 24 + k)).toNatClampNeg) (fun k e => decide (tb e = nI t) && decide ((pl e).toNatClampNeg < k)) (fun e _ => by simp) r' ?_]
  · refine aw_sm_c 24 (fun e he => ?_)
    by_cases h : tb e = nI t
    · obtain ⟨_, k, r, _, h2, h3, h4, h5, _⟩ := aw_tb R he (by omega) h
      have e3 : r = r' := aw_inj (h5.symm.trans hw) (by omega) (by omega)
      have h6 : (pl e).toNatClampNeg < r' := by rw [aw_cl h4 (by omega)]; omega
      simp [h, h6]
    · simp [h]
  · intro k hkr
    obtain ⟨e, he, h1, h2, h3⟩ := hk k hkr
    have c1 : (rA (t * 24 + k)).toNatClampNeg = e := aw_cl h1 (by omega)
    have c2 : (pl e).toNatClampNeg = k := aw_cl h3 (by omega)
    refine ⟨?_, ?_, ?_, ?_⟩
    · show (rA (t * 24 + k)).toNatClampNeg < 24
      omega
    · show (decide (tb (rA (t * 24 + k)).toNatClampNeg = nI t) && decide ((pl (rA (t * 24 + k)).toNatClampNeg).toNatClampNeg < k)) = false
      rw [c1, c2]; simp
    · show (decide (tb (rA (t * 24 + k)).toNatClampNeg = nI t) && decide ((pl (rA (t * 24 + k)).toNatClampNeg).toNatClampNeg < k + 1)) = true
      rw [c1, c2]; simp [h2]
    · intro e' he' hne
      have hne2 : e' ≠ e := fun z => hne (z.trans c1.symm)
      show (decide (tb e' = nI t) && decide ((pl e').toNatClampNeg < k + 1)) = (decide (tb e' = nI t) && decide ((pl e').toNatClampNeg < k))
      by_cases h : tb e' = nI t
      · obtain ⟨_, k', r, _, h2', h3', h4, h5, h6, _⟩ := aw_tb R he' (by omega) h
        have c3 : (pl e').toNatClampNeg = k' := aw_cl h4 (by omega)
        have c4 : k' ≠ k := by
          intro z
          subst z
          exact hne2 (aw_inj (h6.symm.trans h1) (by omega) (by omega))
        rw [c3]
        have c5 : (k' < k + 1) = (k' < k) := propext ⟨fun _ => by omega, fun _ => by omega⟩
        simp only [c5]
      · simp [h]
/-- a dead entity leaves room in every table -/
theorem aw_room (R : aw_R T tS tO rn rA tb pl lv ss) {e t r : Nat} (he : e < 24) (hl : lv e = 0) (ht : t < T) (hr : r ≤ 24) (hw : rn t = nI r) : r < 24 := by
  have hT := R.1
  have h := aw_row R (fun _ => 1) ht hr hw
  rw [aw_sm_1] at h
  have h2 : aw_sm (fun e => if tb e = nI t then (1 : Int32) else 0) 24 = aw_sm (fun e => if decide (tb e = nI t) then (1 : Int32) else 0) 24 := aw_sm_c 24 (fun e _ => by simp)
  rw [h2, aw_sm_cn] at h
  have h3 : aw_cn (fun e => decide (tb e = nI t)) 24 < 24 := aw_cn_lt (i0 := e) (by
    show decide (tb e = nI t) = false
    rw [aw_dd R he hl]
    exact decide_eq_false (fun z => aw_m4 (by omega) z.symm)) 24 he
  have := aw_inj h (by omega) (by omega)
  omega
/-- a set without a table: fewer than 64 tables -/
theorem aw_space (R : aw_R T tS tO rn rA tb pl lv ss) {s : Nat} (hs : s < 64) (h : tO s = -4) : T < 64 := by
  have hT := R.1
  have hb := aw_bij (fun _ => 1) 64 (fun t => (tS t).toNatClampNeg) (fun t s => decide (0 ≤ tO s) && decide ((tO s).toNatClampNeg < t)) (fun e _ => by simp) T (by
    intro t ht
    obtain ⟨s', hs', h1, h2⟩ := R.2.1 t ht
    have c1 : (tS t).toNatClampNeg = s' := aw_cl h1 (by omega)
    have c2 : (tO s').toNatClampNeg = t := aw_cl h2 (by omega)
    have c3 : 0 ≤ tO s' := by rw [h2]; exact nI_pos' (by omega)
    refine ⟨?_, ?_, ?_, ?_⟩
    · show (tS t).toNatClampNeg < 64
      omega
    · show (decide (0 ≤ tO (tS t).toNatClampNeg) && decide ((tO (tS t).toNatClampNeg).toNatClampNeg < t)) = false
      rw [c1, c2]; simp
    · show (decide (0 ≤ tO (tS t).toNatClampNeg) && decide ((tO (tS t).toNatClampNeg).toNatClampNeg < t + 1)) = true
      rw [c1, c2]; simp [c3]
    · intro e he hne
      have hne2 : e ≠ s' := fun z => hne (z.trans c1.symm)
      show (decide (0 ≤ tO e) && decide ((tO e).toNatClampNeg < t + 1)) = (decide (0 ≤ tO e) && decide ((tO e).toNatClampNeg < t))
      rcases R.2.2.1 e he with z | ⟨t', ht', z1, z2⟩
      · rw [z]; simp [aw_m4p]
      · have c4 : (tO e).toNatClampNeg = t' := aw_cl z1 (by omega)
        have c5 : t' ≠ t := by
          intro z
          subst z
          exact hne2 (aw_inj (z2.symm.trans h1) (by omega) (by omega))
        rw [c4]
        have c6 : (t' < t + 1) = (t' < t) := propext ⟨fun _ => by omega, fun _ => by omega⟩
        simp only [c6])
  rw [aw_sm_1, aw_sm_cn] at hb
  have h3 := aw_cn_lt (p := fun s => decide (0 ≤ tO s) && decide ((tO s).toNatClampNeg < T)) (i0 := s) (by
    show (decide (0 ≤ tO s) && decide ((tO s).toNatClampNeg < T)) = false
    rw [h]; simp [aw_m4p]) 64 hs
  have := aw_inj hb (by omega) (by omega)
  omega
/-- a new table for set s -/
theorem aw_new (R : aw_R T tS tO rn rA tb pl lv ss) {s : Nat} (hs : s < 64) (h : tO s = -4) : aw_R (T + 1) (upd tS T (nI s)) (upd tO s (nI T)) (upd rn T 0) rA tb pl lv ss := by
  have hT := aw_space R hs h
  refine ⟨by omega, ?_, ?_, ?_, ?_⟩
  · intro t ht
    by_cases e : t = T
    · subst e
      exact ⟨s, hs, pk_us, pk_us⟩
    · obtain ⟨s', h1, h2, h3⟩ := R.2.1 t (by omega)
      refine ⟨s', h1, ?_, ?_⟩
      · rw [pk_un e]; exact h2
      · rw [pk_un]
        · exact h3
        · intro z
          subst z
          exact aw_m4 (t := t) (by omega) (h3.symm.trans h)
  · intro s' hs'
    by_cases e : s' = s
    · subst e
      exact Or.inr ⟨T, by omega, pk_us, pk_us⟩
    · rcases R.2.2.1 s' hs' with z | ⟨t, h1, h2, h3⟩
      · exact Or.inl (by rw [pk_un e]; exact z)
      · refine Or.inr ⟨t, by omega, ?_, ?_⟩
        · rw [pk_un e]; exact h2
        · rw [pk_un (by omega)]; exact h3
  · intro e he
    rcases R.2.2.2.1 e he with z | ⟨z, t, k, r, h1, h2, h3, h4, h5, h6, h7, h8⟩
    · exact Or.inl z
    · refine Or.inr ⟨z, t, k, r, by omega, h2, h3, h4, h5, ?_, h7, ?_⟩
      · rw [pk_un (by omega)]; exact h6
      · rw [pk_un (by omega)]; exact h8
  · intro t ht
    by_cases e : t = T
    · subst e
      exact ⟨0, by omega, pk_us, fun k hk => by omega⟩
    · obtain ⟨r, h1, h2, h3⟩ := aw_rw R (t := t) (by omega)
      exact ⟨r, h1, by rw [pk_un e]; exact h2, h3⟩
/-- an entity enters table t at its end -/
theorem aw_ent (R : aw_R T tS tO rn rA tb pl lv ss) {e t r : Nat} {lv' ss' : Nat → Int32} (he : e < 24) (hl : lv e = 0) (ht : t < T) (hr : r < 24) (hw : rn t = nI r) (hl' : ¬ lv' e = 0) (hs' : ss' e = tS t) (ho : ∀ j, j < 24 → j ≠ e → lv' j = lv j ∧ ss' j = ss j) : aw_R T tS tO (upd rn t (nI (r + 1))) (upd rA (t * 24 + r) (nI e)) (upd tb e (nI t)) (upd pl e (nI r)) lv' ss' := by
  have hT := R.1
  have hd := aw_dd R he hl
  refine ⟨R.1, R.2.1, R.2.2.1, ?_, ?_⟩
  · intro j hj
    by_cases ej : j = e
    · subst ej
      exact Or.inr ⟨hl', t, r, r + 1, ht, by omega, by omega, pk_us, pk_us, pk_us, pk_us, hs'⟩
    · obtain ⟨o1, o2⟩ := ho j hj ej
      rw [o1, o2, pk_un ej, pk_un ej]
      rcases R.2.2.2.1 j hj with z | ⟨z, t', k, r', h1, h2, h3, h4, h5, h6, h7, h8⟩
      · exact Or.inl z
      · by_cases et : t' = t
        · subst et
          have er : r' = r := aw_inj (h6.symm.trans hw) (by omega) (by omega)
          subst er
          refine Or.inr ⟨z, t', k, r' + 1, h1, by omega, by omega, h4, h5, pk_us, ?_, h8⟩
          rw [pk_un (by omega)]; exact h7
        · refine Or.inr ⟨z, t', k, r', h1, h2, h3, h4, h5, ?_, ?_, h8⟩
          · rw [pk_un et]; exact h6
          · rw [pk_un (by omega)]; exact h7
  · intro t' ht'
    obtain ⟨r', h1, h2, h3⟩ := aw_rw R ht'
    by_cases et : t' = t
    · subst et
      have er : r' = r := aw_inj (h2.symm.trans hw) (by omega) (by omega)
      subst er
      refine ⟨r' + 1, by omega, pk_us, ?_⟩
      intro k hk
      by_cases ek : k = r'
      · subst ek
        exact ⟨e, he, pk_us, pk_us, pk_us⟩
      · obtain ⟨j, hj, g1, g2, g3⟩ := h3 k (by omega)
        have ej : j ≠ e := by
          intro z
          subst z
          exact aw_m4 (by omega) (g2.symm.trans hd)
        refine ⟨j, hj, ?_, ?_, ?_⟩
        · rw [pk_un (by omega)]; exact g1
        · rw [pk_un ej]; exact g2
        · rw [pk_un ej]; exact g3
    · refine ⟨r', h1, by rw [pk_un et]; exact h2, ?_⟩
      intro k hk
      obtain ⟨j, hj, g1, g2, g3⟩ := h3 k hk
      have ej : j ≠ e := by
        intro z
        subst z
        exact aw_m4 (by omega) (g2.symm.trans hd)
      refine ⟨j, hj, ?_, ?_, ?_⟩
      · rw [pk_un (by omega)]; exact g1
      · rw [pk_un ej]; exact g2
      · rw [pk_un ej]; exact g3
/-- an entity leaves its table; the last row takes its place -/
theorem aw_lea (R : aw_R T tS tO rn rA tb pl lv ss) {e t k r l : Nat} {lv' ss' : Nat → Int32} (he : e < 24) (ht : t < T) (hk : k < r + 1) (hr : r + 1 ≤ 24) (htb : tb e = nI t) (hpl : pl e = nI k) (hw : rn t = nI (r + 1)) (hrA : rA (t * 24 + k) = nI e) (hl24 : l < 24) (hl : rA (t * 24 + r) = nI l) (hl' : lv' e = 0) (ho : ∀ j, j < 24 → j ≠ e → lv' j = lv j ∧ ss' j = ss j) : aw_R T tS tO (upd rn t (nI r)) (upd rA (t * 24 + k) (nI l)) (upd tb e (-4)) (upd pl l (nI k)) lv' ss' := by
  have hT := R.1
  obtain ⟨r0, hr0, hw0, hrow⟩ := aw_rw R ht
  have er0 : r0 = r + 1 := aw_inj (hw0.symm.trans hw) (by omega) (by omega)
  subst er0
  obtain ⟨l', hl1, hl2, hl3, hl4⟩ := hrow r (by omega)
  have el : l' = l := aw_inj (hl2.symm.trans hl) (by omega) (by omega)
  subst el
  refine ⟨R.1, R.2.1, R.2.2.1, ?_, ?_⟩
  · intro j hj
    by_cases ej : j = e
    · subst ej
      exact Or.inl ⟨pk_us, hl'⟩
    · obtain ⟨o1, o2⟩ := ho j hj ej
      rw [o1, o2, pk_un ej]
      rcases R.2.2.2.1 j hj with z | ⟨z, t', k', r', h1, h2, h3, h4, h5, h6, h7, h8⟩
      · exact Or.inl z
      · refine Or.inr ⟨z, ?_⟩
        by_cases et : t' = t
        · subst et
          have er : r' = r + 1 := aw_inj (h6.symm.trans hw) (by omega) (by omega)
          subst er
          by_cases ejl : j = l'
          · subst ejl
            have ek' : k' = r := aw_inj (h5.symm.trans hl4) (by omega) (by omega)
            have ek : k ≠ r := by
              intro z
              subst z
              exact ej (aw_inj (hl2.symm.trans hrA) (by omega) (by omega))
            exact ⟨t', k, r, h1, by omega, by omega, h4, pk_us, pk_us, pk_us, h8⟩
          · have ek' : k' ≠ r := by
              intro z
              subst z
              exact ejl (aw_inj (h7.symm.trans hl2) (by omega) (by omega))
            have ek : k' ≠ k := by
              intro z
              subst z
              exact ej (aw_inj (h7.symm.trans hrA) (by omega) (by omega))
            refine ⟨t', k', r, h1, by omega, by omega, h4, ?_, pk_us, ?_, h8⟩
            · rw [pk_un ejl]; exact h5
            · rw [pk_un (by omega)]; exact h7
        · have ejl : j ≠ l' := by
            intro z
            subst z
            exact et (aw_inj (h4.symm.trans hl3) (by omega) (by omega))
          refine ⟨t', k', r', h1, h2, h3, h4, ?_, ?_, ?_, h8⟩
          · rw [pk_un ejl]; exact h5
          · rw [pk_un et]; exact h6
          · rw [pk_un (by omega)]; exact h7
  · intro t' ht'
    by_cases et : t' = t
    · subst et
      refine ⟨r, by omega, pk_us, ?_⟩
      intro k' hk'
      by_cases ek : k' = k
      · subst ek
        have ele : l' ≠ e := by
          intro z
          subst z
          have := aw_inj (hl4.symm.trans hpl) (by omega) (by omega)
          omega
        refine ⟨l', hl1, pk_us, ?_, pk_us⟩
        rw [pk_un ele]; exact hl3
      · obtain ⟨j, hj, g1, g2, g3⟩ := hrow k' (by omega)
        have ej : j ≠ e := by
          intro z
          subst z
          exact ek (aw_inj (g3.symm.trans hpl) (by omega) (by omega))
        have ejl : j ≠ l' := by
          intro z
          subst z
          have := aw_inj (g3.symm.trans hl4) (by omega) (by omega)
          omega
        refine ⟨j, hj, ?_, ?_, ?_⟩
        · rw [pk_un (by omega)]; exact g1
        · rw [pk_un ej]; exact g2
        · rw [pk_un ejl]; exact g3
    · obtain ⟨r', h1, h2, h3⟩ := aw_rw R ht'
      refine ⟨r', h1, by rw [pk_un et]; exact h2, ?_⟩
      intro k' hk'
      obtain ⟨j, hj, g1, g2, g3⟩ := h3 k' hk'
      have ej : j ≠ e := by
        intro z
        subst z
        exact et (aw_inj (g2.symm.trans htb) (by omega) (by omega))
      have ejl : j ≠ l' := by
        intro z
        subst z
        exact et (aw_inj (g2.symm.trans hl3) (by omega) (by omega))
      refine ⟨j, hj, ?_, ?_, ?_⟩
      · rw [pk_un (by omega)]; exact g1
      · rw [pk_un ej]; exact g2
      · rw [pk_un ejl]; exact g3
/-- sums over all tables, row by row, are sums over the live entities -/
theorem aw_tabs {tb : Nat → Int32} (H : Nat → Nat → Int32) (n : Nat) : ∀ T, T < 2 ^ 31 → aw_sm (fun t => aw_sm (fun e => if tb e = nI t then H t e else 0) n) T = aw_sm (fun e => if 0 ≤ tb e ∧ (tb e).toNatClampNeg < T then H (tb e).toNatClampNeg e else 0) n := by
  intro T
  induction T with
  | zero =>
    intro _
    exact (aw_sm_n n (fun e _ => if_neg (fun z => by omega))).symm
  | succ T ih =>
    intro hT
    show aw_sm (fun t => aw_sm (fun e => if tb e = nI t then H t e else 0) n) T + aw_sm (fun e => if tb e = nI T then H T e else 0) n = _
    rw [ih (by omega), ← aw_sm_a]
    refine aw_sm_c n (fun e _ => ?_)
    by_cases h : tb e = nI T
    · have c := aw_cl h (by omega)
      have p : 0 ≤ tb e := by rw [h]; exact nI_pos' (by omega)
      show (if 0 ≤ tb e ∧ (tb e).toNatClampNeg < T then H (tb e).toNatClampNeg e else 0) + (if tb e = nI T then H T e else 0) = _
      rw [if_neg (by omega), if_pos h, if_pos ⟨p, by omega⟩, c, Int32.zero_add]
    · show (if 0 ≤ tb e ∧ (tb e).toNatClampNeg < T then H (tb e).toNatClampNeg e else 0) + (if tb e = nI T then H T e else 0) = _
      rw [if_neg h, Int32.add_zero]
      by_cases p : 0 ≤ tb e
      · obtain ⟨j, hj, ej⟩ := nI_of (Int32.not_lt.mpr p)
        have c := aw_cl ej hj
        have hne : j ≠ T := by
          intro z
          subst z
          exact h ej
        by_cases q : (tb e).toNatClampNeg < T
        · rw [if_pos ⟨p, q⟩, if_pos ⟨p, by omega⟩]
        · rw [if_neg (fun z => q z.2), if_neg (fun z => by have := z.2; omega)]
      · rw [if_neg (fun z => p z.1), if_neg (fun z => p z.1)]
theorem aw_all (R : aw_R T tS tO rn rA tb pl lv ss) (q : Int32 → Bool) (F : Nat → Int32) : aw_sm (fun t => if q (tS t) then aw_sm (fun k => F (rA (t * 24 + k)).toNatClampNeg) (rn t).toNatClampNeg else 0) T = aw_sm (fun e => if !decide (lv e = 0) && q (ss e) then F e else 0) 24 := by
  have hT := R.1
  rw [aw_sm_c (g := fun t => aw_sm (fun e => if tb e = nI t then (if q (tS t) then F e else 0) else 0) 24) T ?_]
  · rw [aw_tabs (fun t e => if q (tS t) then F e else 0) 24 T (by omega)]
    refine aw_sm_c 24 (fun e he => ?_)
    by_cases hl : lv e = 0
    · have hd := aw_dd R he hl
      rw [if_neg (fun z => absurd z.1 (by rw [hd]; exact aw_m4p))]
      simp [hl]
    · obtain ⟨t, k, r, h1, h2, h3, h4, h5, h6, h7, h8⟩ := aw_lv R he hl
      have c := aw_cl h4 (by omega)
      have p : 0 ≤ tb e := by rw [h4]; exact nI_pos' (by omega)
      rw [if_pos ⟨p, by omega⟩, c]
      simp [hl, h8]
  · intro t ht
    obtain ⟨r, h1, h2, h3⟩ := aw_rw R ht
    have c := aw_cl h2 (by omega)
    show (if q (tS t) then aw_sm (fun k => F (rA (t * 24 + k)).toNatClampNeg) (rn t).toNatClampNeg else 0) = aw_sm (fun e => if tb e = nI t then (if q (tS t) then F e else 0) else 0) 24
    by_cases hq : q (tS t) = true
    · rw [if_pos hq, c, ← aw_row R F ht h1 h2]
      exact aw_sm_c 24 (fun e _ => by simp [hq])
    · rw [if_neg hq]
      exact (aw_sm_n 24 (fun e _ => by simp [hq])).symm
/-- a table's size, summed -/
theorem aw_allc (R : aw_R T tS tO rn rA tb pl lv ss) (q : Int32 → Bool) : aw_sm (fun t => if q (tS t) then rn t else 0) T = aw_sm (fun e => if !decide (lv e = 0) && q (ss e) then 1 else 0) 24 := by
  rw [← aw_all R q (fun _ => 1)]
  refine aw_sm_c T (fun t ht => ?_)
  obtain ⟨r, h1, h2, h3⟩ := aw_rw R ht
  show (if q (tS t) then rn t else 0) = (if q (tS t) then aw_sm (fun _ => 1) (rn t).toNatClampNeg else 0)
  rw [aw_sm_1, aw_cl h2 (by omega), h2]
/-- tables in use and sets in use are as many -/
theorem aw_kin (R : aw_R T tS tO rn rA tb pl lv ss) : aw_sm (fun t => if rn t ≤ 0 then 0 else 1) T = aw_sm (fun s => if aw_any (fun e => !decide (lv e = 0) && decide (ss e = nI s)) 24 then 1 else 0) 64 := by
  have hT := R.1
  have hb := aw_bij (fun s => if aw_any (fun e => !decide (lv e = 0) && decide (ss e = nI s)) 24 then (1 : Int32) else 0) 64 (fun t => (tS t).toNatClampNeg) (fun t s => decide (0 ≤ tO s) && decide ((tO s).toNatClampNeg < t)) (fun e _ => by simp) T (by
    intro t ht
    obtain ⟨s', hs', h1, h2⟩ := R.2.1 t ht
    have c1 : (tS t).toNatClampNeg = s' := aw_cl h1 (by omega)
    have c2 : (tO s').toNatClampNeg = t := aw_cl h2 (by omega)
    have c3 : 0 ≤ tO s' := by rw [h2]; exact nI_pos' (by omega)
    refine ⟨?_, ?_, ?_, ?_⟩
    · show (tS t).toNatClampNeg < 64
      omega
    · show (decide (0 ≤ tO (tS t).toNatClampNeg) && decide ((tO (tS t).toNatClampNeg).toNatClampNeg < t)) = false
      rw [c1, c2]; simp
    · show (decide (0 ≤ tO (tS t).toNatClampNeg) && decide ((tO (tS t).toNatClampNeg).toNatClampNeg < t + 1)) = true
      rw [c1, c2]; simp [c3]
    · intro e he hne
      have hne2 : e ≠ s' := fun z => hne (z.trans c1.symm)
      show (decide (0 ≤ tO e) && decide ((tO e).toNatClampNeg < t + 1)) = (decide (0 ≤ tO e) && decide ((tO e).toNatClampNeg < t))
      rcases R.2.2.1 e he with z | ⟨t', ht', z1, z2⟩
      · rw [z]; simp [aw_m4p]
      · have c4 : (tO e).toNatClampNeg = t' := aw_cl z1 (by omega)
        have c5 : t' ≠ t := by
          intro z
          subst z
          exact hne2 (aw_inj (z2.symm.trans h1) (by omega) (by omega))
        rw [c4]
        have c6 : (t' < t + 1) = (t' < t) := propext ⟨fun _ => by omega, fun _ => by omega⟩
        simp only [c6])
  refine Eq.trans ?_ (hb.symm.trans ?_)
  · refine aw_sm_c T (fun t ht => ?_)
    obtain ⟨s', hs', h1, h2⟩ := R.2.1 t ht
    obtain ⟨r, g1, g2, g3⟩ := aw_rw R ht
    have c1 : (tS t).toNatClampNeg = s' := aw_cl h1 (by omega)
    show (if rn t ≤ 0 then (0 : Int32) else 1) = if aw_any (fun e => !decide (lv e = 0) && decide (ss e = nI (tS t).toNatClampNeg)) 24 then 1 else 0
    rw [c1, g2]
    by_cases z : r = 0
    · subst z
      rw [if_pos (by decide), if_neg]
      intro y
      obtain ⟨e, he, hp⟩ := (aw_any_iff 24).mp y
      rw [Bool.and_eq_true, Bool.not_eq_true', decide_eq_false_iff_not, decide_eq_true_eq] at hp
      obtain ⟨t', k, r, q1, q2, q3, q4, q5, q6, q7, q8⟩ := aw_lv R he hp.1
      obtain ⟨s2, y1, y2, y3⟩ := R.2.1 t' q1
      have e1 : s2 = s' := aw_inj (y2.symm.trans (q8.symm.trans hp.2)) (by omega) (by omega)
      subst e1
      have e2 : t' = t := aw_inj (y3.symm.trans h2) (by omega) (by omega)
      subst e2
      have e3 : r = 0 := aw_inj (q6.symm.trans g2) (by omega) (by omega)
      omega
    · rw [if_neg (nI_nle (by omega) (by omega)), if_pos]
      obtain ⟨e, he, q1, q2, q3⟩ := g3 0 (by omega)
      obtain ⟨y1, k, r', y2, y3, y4, y5, y6, y7, y8⟩ := aw_tb R he (by omega) q2
      refine (aw_any_iff 24).mpr ⟨e, he, ?_⟩
      rw [Bool.and_eq_true, Bool.not_eq_true', decide_eq_false_iff_not, decide_eq_true_eq]
      exact ⟨y1, y8.trans h1⟩
  · refine aw_sm_c 64 (fun s hs => ?_)
    rcases R.2.2.1 s hs with z | ⟨t, ht, z1, z2⟩
    · rw [if_neg, if_neg]
      · intro y
        obtain ⟨e, he, hp⟩ := (aw_any_iff 24).mp y
        rw [Bool.and_eq_true, Bool.not_eq_true', decide_eq_false_iff_not, decide_eq_true_eq] at hp
        obtain ⟨t', k, r, q1, q2, q3, q4, q5, q6, q7, q8⟩ := aw_lv R he hp.1
        obtain ⟨s2, y1, y2, y3⟩ := R.2.1 t' q1
        have e1 : s2 = s := aw_inj (y2.symm.trans (q8.symm.trans hp.2)) (by omega) (by omega)
        subst e1
        exact aw_m4 (t := t') (by omega) (y3.symm.trans z)
      · rw [z]; simp [aw_m4p]
    · have c4 : (tO s).toNatClampNeg = t := aw_cl z1 (by omega)
      have c5 : 0 ≤ tO s := by rw [z1]; exact nI_pos' (by omega)
      rw [if_pos (by rw [c4]; simp [c5, ht])]
end
end
section
/-! E: the layout of systems in stages -/
def aw_cf (ta so : Nat → Int32) (s r : Nat) : Bool := decide (ta s = ta r) || decide (ta s = so r) || decide (ta r = so s)
def aw_inn (q : Nat → Bool) (f : Nat → Nat) : Nat → Nat
  | 0 => 0
  | r + 1 => if q r = true ∧ aw_inn q f r ≤ f r then f r + 1 else aw_inn q f r
def aw_Ls (cf : Nat → Nat → Bool) : Nat → Nat → Nat
  | 0 => fun _ => 0
  | s + 1 => fun j => if j = s then aw_inn (cf s) (aw_Ls cf s) s else aw_Ls cf s j
def aw_L (cf : Nat → Nat → Bool) (s : Nat) : Nat := aw_Ls cf (s + 1) s
def aw_mx (f : Nat → Nat) : Nat → Nat
  | 0 => 0
  | s + 1 => if f s < aw_mx f s then aw_mx f s else f s + 1
theorem aw_Ls_lt {cf : Nat → Nat → Bool} : ∀ s j, j < s → aw_Ls cf s j = aw_L cf j := by
  intro s
  induction s with
  | zero => intro j h; omega
  | succ s ih =>
    intro j hj
    by_cases e : j = s
    · subst e; rfl
    · show (if j = s then aw_inn (cf s) (aw_Ls cf s) s else aw_Ls cf s j) = _
      rw [if_neg e]
      exact ih j (by omega)
theorem aw_inn_s {q : Nat → Bool} {f : Nat → Nat} {r : Nat} : aw_inn q f (r + 1) = if q r = true ∧ aw_inn q f r ≤ f r then f r + 1 else aw_inn q f r := rfl
theorem aw_inn_c {q : Nat → Bool} {f g : Nat → Nat} : ∀ r, (∀ i, i < r → f i = g i) → aw_inn q f r = aw_inn q g r := by
  intro r
  induction r with
  | zero => intro _; rfl
  | succ r ih =>
    intro h
    rw [aw_inn_s, aw_inn_s, ih (fun i hi => h i (by omega)), h r (by omega)]
theorem aw_L_eq (cf : Nat → Nat → Bool) (s : Nat) : aw_L cf s = aw_inn (cf s) (aw_L cf) s := by
  show (if s = s then aw_inn (cf s) (aw_Ls cf s) s else aw_Ls cf s s) = _
  rw [if_pos rfl]
  exact aw_inn_c s (fun i hi => aw_Ls_lt s i hi)
theorem aw_inn_le {q : Nat → Bool} {f : Nat → Nat} {b : Nat} : ∀ r, (∀ i, i < r → f i < b) → aw_inn q f r ≤ b := by
  intro r
  induction r with
  | zero => intro _; exact Nat.zero_le b
  | succ r ih =>
    intro h
    rw [aw_inn_s]
    have h1 := ih (fun i hi => h i (by omega))
    have h2 := h r (by omega)
    split <;> omega
theorem aw_L_le (cf : Nat → Nat → Bool) : ∀ s, aw_L cf s ≤ s := by
  intro s
  induction s using Nat.strongRecOn with
  | ind s ih =>
    rw [aw_L_eq]
    exact aw_inn_le s (fun i hi => Nat.lt_of_le_of_lt (ih i hi) hi)
theorem aw_inn_gt {q : Nat → Bool} {f : Nat → Nat} {r : Nat} (hq : q r = true) : ∀ n, r < n → f r < aw_inn q f n := by
  intro n
  induction n with
  | zero => intro h; omega
  | succ n ih =>
    intro h
    rw [aw_inn_s]
    by_cases e : r = n
    · subst e
      by_cases c : aw_inn q f r ≤ f r
      · rw [if_pos ⟨hq, c⟩]; omega
      · rw [if_neg (fun z => c z.2)]; omega
    · have := ih (by omega)
      split <;> omega
theorem aw_L_lt {cf : Nat → Nat → Bool} {s r : Nat} (hr : r < s) (hc : cf s r = true) : aw_L cf r < aw_L cf s := by
  rw [aw_L_eq cf s]
  exact aw_inn_gt hc s hr
theorem aw_mx_s {f : Nat → Nat} {s : Nat} : aw_mx f (s + 1) = if f s < aw_mx f s then aw_mx f s else f s + 1 := rfl
theorem aw_mx_le {f : Nat → Nat} {b : Nat} : ∀ s, (∀ i, i < s → f i < b) → aw_mx f s ≤ b := by
  intro s
  induction s with
  | zero => intro _; exact Nat.zero_le b
  | succ s ih =>
    intro h
    have h1 := ih (fun i hi => h i (by omega))
    have h2 := h s (by omega)
    rw [aw_mx_s]
    split <;> omega
theorem aw_mx_gt {f : Nat → Nat} : ∀ s i, i < s → f i < aw_mx f s := by
  intro s
  induction s with
  | zero => intro i h; omega
  | succ s ih =>
    intro i hi
    rw [aw_mx_s]
    by_cases e : i = s
    · subst e
      split <;> omega
    · have := ih i (by omega)
      split <;> omega
/-! F: systems run over values -/
def aw_wk (k x y : Int32) : Int32 := if k = 0 then x + y else if k = 1 then x - y else if k = 2 then y else if k = 3 then x * y else if 0 ≤ y then x else 0
def aw_run (p : Nat → Bool) (k : Int32) (a b : Nat) (V : Nat → Nat → Int32) : Nat → Nat → Int32 := fun e c => if p e = true ∧ c = a then aw_wk k (V e a) (V e b) else V e c
theorem aw_run_i {p : Nat → Bool} {k : Int32} {a b e c : Nat} {V : Nat → Nat → Int32} : aw_run p k a b V e c = if p e = true ∧ c = a then aw_wk k (V e a) (V e b) else V e c := rfl
theorem aw_run_n {p : Nat → Bool} {k : Int32} {a b e c : Nat} {V : Nat → Nat → Int32} (h : p e = false) : aw_run p k a b V e c = V e c := if_neg (fun z => by rw [h] at z; exact absurd z.1 (by decide))
theorem aw_run_c {p q : Nat → Bool} {k : Int32} {a b e c : Nat} {V : Nat → Nat → Int32} (h : p e = q e) : aw_run p k a b V e c = aw_run q k a b V e c := by rw [aw_run_i, aw_run_i, h]
theorem aw_run_or {p q : Nat → Bool} {k : Int32} {a b e c : Nat} {V : Nat → Nat → Int32} (h : q e = true → p e = false) : aw_run q k a b (aw_run p k a b V) e c = aw_run (fun e => p e || q e) k a b V e c := by
  by_cases hq : q e = true
  · have hp := h hq
    rw [aw_run_i, aw_run_n hp, aw_run_n hp, aw_run_n hp, aw_run_i]
    simp [hp, hq]
  · rw [aw_run_n (ts_nt hq)]
    refine aw_run_c ?_
    rw [ts_nt hq, Bool.or_false]
theorem aw_run_com {p q : Nat → Bool} {k l : Int32} {a b c d : Nat} {V : Nat → Nat → Int32} (h1 : a ≠ c) (h2 : a ≠ d) (h3 : c ≠ b) : aw_run p k a b (aw_run q l c d V) = aw_run q l c d (aw_run p k a b V) := by
  funext e x
  have Qa : aw_run q l c d V e a = V e a := if_neg (fun z => h1 z.2)
  have Qb : aw_run q l c d V e b = V e b := if_neg (fun z => h3 z.2.symm)
  have Pc : aw_run p k a b V e c = V e c := if_neg (fun z => h1 z.2.symm)
  have Pd : aw_run p k a b V e d = V e d := if_neg (fun z => h2 z.2.symm)
  rw [aw_run_i, aw_run_i (V := aw_run p k a b V), Qa, Qb, Pc, Pd]
  by_cases h : p e = true ∧ x = a
  · have h' : ¬ (q e = true ∧ x = c) := fun z => h1 (h.2.symm.trans z.2)
    rw [if_pos h, if_neg h', aw_run_i, if_pos h]
  · rw [if_neg h]
    by_cases h' : q e = true ∧ x = c
    · rw [if_pos h', aw_run_i, if_pos h']
    · rw [if_neg h', aw_run_i, aw_run_i, if_neg h, if_neg h']
def aw_up {α : Type} (R : Nat → α → α) (P : Nat → Bool) : Nat → α → α
  | 0 => fun V => V
  | k + 1 => fun V => if P k then R k (aw_up R P k V) else aw_up R P k V
def aw_dn {α : Type} (R : Nat → α → α) (P : Nat → Bool) : Nat → α → α
  | 0 => fun V => V
  | k + 1 => fun V => aw_dn R P k (if P k then R k V else V)
theorem aw_up_s {α : Type} {R : Nat → α → α} {P : Nat → Bool} {k : Nat} {V : α} : aw_up R P (k + 1) V = if P k then R k (aw_up R P k V) else aw_up R P k V := rfl
theorem aw_dn_s {α : Type} {R : Nat → α → α} {P : Nat → Bool} {k : Nat} {V : α} : aw_dn R P (k + 1) V = aw_dn R P k (if P k then R k V else V) := rfl
theorem aw_up_com {α : Type} {R : Nat → α → α} {P : Nat → Bool} {n : Nat} : ∀ k, (∀ j, j < k → P j = true → ∀ V, R n (R j V) = R j (R n V)) → ∀ V, R n (aw_up R P k V) = aw_up R P k (R n V) := by
  intro k
  induction k with
  | zero => intro _ V; rfl
  | succ k ih =>
    intro h V
    have h1 := ih (fun j hj => h j (by omega)) V
    rw [aw_up_s, aw_up_s, ← h1]
    by_cases p : P k = true
    · rw [if_pos p, if_pos p]
      exact h k (by omega) p _
    · rw [if_neg p, if_neg p]
theorem aw_dn_up {α : Type} {R : Nat → α → α} {P : Nat → Bool} : ∀ k, (∀ i j, i < k → j < i → P i = true → P j = true → ∀ V, R i (R j V) = R j (R i V)) → ∀ V, aw_dn R P k V = aw_up R P k V := by
  intro k
  induction k with
  | zero => intro _ V; rfl
  | succ k ih =>
    intro h V
    rw [aw_dn_s, aw_up_s, ih (fun i j hi => h i j (by omega))]
    by_cases p : P k = true
    · rw [if_pos p, if_pos p]
      exact (aw_up_com k (fun j hj pj => h k j (by omega) hj p pj) V).symm
    · rw [if_neg p, if_neg p]
theorem aw_up_id {α : Type} {R : Nat → α → α} {P : Nat → Bool} {V : α} : ∀ k, (∀ j, j < k → P j = false) → aw_up R P k V = V := by
  intro k
  induction k with
  | zero => intro _; rfl
  | succ k ih =>
    intro h
    rw [aw_up_s, if_neg (by rw [h k (by omega)]; decide)]
    exact ih (fun j hj => h j (by omega))
/-- the stages 0 .. g - 1, one after the other -/
def aw_sts {α : Type} (R : Nat → α → α) (L : Nat → Nat) (S : Nat) : Nat → α → α
  | 0 => fun V => V
  | g + 1 => fun V => aw_up R (fun s => decide (L s = g)) S (aw_sts R L S g V)
theorem aw_sts_s {α : Type} {R : Nat → α → α} {L : Nat → Nat} {S g : Nat} {V : α} : aw_sts R L S (g + 1) V = aw_up R (fun s => decide (L s = g)) S (aw_sts R L S g V) := rfl
theorem aw_sts_id {α : Type} {R : Nat → α → α} {L : Nat → Nat} {S C : Nat} {V : α} (h : ∀ s, s < S → L s < C) : ∀ d, aw_sts R L S (C + d) V = aw_sts R L S C V := by
  intro d
  induction d with
  | zero => rfl
  | succ d ih =>
    show aw_up R (fun s => decide (L s = C + d)) S (aw_sts R L S (C + d) V) = _
    rw [aw_up_id S (fun j hj => decide_eq_false (by have := h j hj; omega)), ih]
def aw_it {α : Type} (f : α → α) : Nat → α → α
  | 0 => fun V => V
  | n + 1 => fun V => f (aw_it f n V)
/-- how many work steps one stage takes, and one frame -/
def aw_hs (ct : Nat → Int32) (L : Nat → Nat) (g s : Nat) : Int32 := if L s = g then ct s else 0
def aw_tot (ct : Nat → Int32) (L : Nat → Nat) (S G : Nat) : Int32 := aw_sm (fun g => aw_sm (aw_hs ct L g) S) G
theorem aw_tot_id {ct : Nat → Int32} {L : Nat → Nat} {S C : Nat} (h : ∀ s, s < S → L s < C) (d : Nat) : aw_tot ct L S (C + d) = aw_tot ct L S C := by
  refine aw_sm_z d (fun g h1 h2 => ?_)
  show aw_sm (aw_hs ct L g) S = 0
  refine aw_sm_n S (fun s hs => ?_)
  have := h s hs
  exact if_neg (by omega)
/-! G: the least entity of a kind -/
def aw_Lm (P : Nat → Bool) (r : Int32) : Prop := (r = -4 ∧ ∀ e, e < 24 → P e = false) ∨ ∃ e, e < 24 ∧ r = nI e ∧ P e = true ∧ ∀ j, j < e → P j = false
theorem aw_Lm_u {P : Nat → Bool} {r r' : Int32} (h : aw_Lm P r) (h' : aw_Lm P r') : r' = r := by
  rcases h with ⟨a, b⟩ | ⟨e, h1, h2, h3, h4⟩ <;> rcases h' with ⟨a', b'⟩ | ⟨e', h1', h2', h3', h4'⟩
  · rw [a, a']
  · rw [b e' h1'] at h3'; exact absurd h3' (by decide)
  · rw [b' e h1] at h3; exact absurd h3 (by decide)
  · rcases Nat.lt_trichotomy e e' with z | z | z
    · rw [h4' e z] at h3; exact absurd h3 (by decide)
    · rw [h2, h2', z]
    · rw [h4 e' z] at h3'; exact absurd h3' (by decide)
theorem aw_Lm_c {P Q : Nat → Bool} {r : Int32} (h : ∀ e, e < 24 → P e = Q e) (hp : aw_Lm P r) : aw_Lm Q r := by
  rcases hp with ⟨a, b⟩ | ⟨e, h1, h2, h3, h4⟩
  · exact Or.inl ⟨a, fun e he => (h e he).symm.trans (b e he)⟩
  · exact Or.inr ⟨e, h1, h2, (h e h1).symm.trans h3, fun j hj => (h j (by omega)).symm.trans (h4 j hj)⟩
theorem aw_Lm_n {P : Nat → Bool} {r : Int32} (h : aw_Lm P r) (hr : r < 0) : ∀ e, e < 24 → P e = false := by
  rcases h with ⟨a, b⟩ | ⟨e, h1, h2, h3, h4⟩
  · exact b
  · rw [h2] at hr; exact absurd hr (nI_pos (by omega))
theorem aw_Lm_s {P : Nat → Bool} {r : Int32} (h : aw_Lm P r) (hr : ¬ r < 0) : ∃ e, e < 24 ∧ r = nI e ∧ P e = true ∧ ∀ j, j < e → P j = false := by
  rcases h with ⟨a, b⟩ | h
  · rw [a] at hr; exact absurd aw_m4n hr
  · exact h
theorem aw_Lm_0 {P Q : Nat → Bool} {b h : Int32} (hp : aw_Lm P b) (hq : aw_Lm Q h) (z : h < 0) : aw_Lm (fun e => P e || Q e) b :=
  aw_Lm_c (fun e he => by rw [aw_Lm_n hq z e he, Bool.or_false]) hp
theorem aw_Lm_1 {P Q : Nat → Bool} {b h : Int32} (hp : aw_Lm P b) (hq : aw_Lm Q h) (z : b < 0) : aw_Lm (fun e => P e || Q e) h :=
  aw_Lm_c (fun e he => by rw [aw_Lm_n hp z e he, Bool.false_or]) hq
theorem aw_Lm_2 {P Q : Nat → Bool} {b h : Int32} (hp : aw_Lm P b) (hq : aw_Lm Q h) (zb : ¬ b < 0) (zh : ¬ h < 0) (z : b ≤ h) : aw_Lm (fun e => P e || Q e) b := by
  obtain ⟨e, h1, h2, h3, h4⟩ := aw_Lm_s hp zb
  obtain ⟨j, g1, g2, g3, g4⟩ := aw_Lm_s hq zh
  rw [h2, g2, nI_leI (by omega) (by omega)] at z
  refine Or.inr ⟨e, h1, h2, ?_, ?_⟩
  · show (P e || Q e) = true
    rw [h3, Bool.true_or]
  · intro i hi
    show (P i || Q i) = false
    rw [h4 i hi, g4 i (by omega)]; rfl
theorem aw_Lm_3 {P Q : Nat → Bool} {b h : Int32} (hp : aw_Lm P b) (hq : aw_Lm Q h) (zb : ¬ b < 0) (zh : ¬ h < 0) (z : ¬ b ≤ h) : aw_Lm (fun e => P e || Q e) h := by
  obtain ⟨e, h1, h2, h3, h4⟩ := aw_Lm_s hp zb
  obtain ⟨j, g1, g2, g3, g4⟩ := aw_Lm_s hq zh
  rw [h2, g2, nI_leI (by omega) (by omega)] at z
  refine Or.inr ⟨j, g1, g2, ?_, ?_⟩
  · show (P j || Q j) = true
    rw [g3, Bool.or_true]
  · intro i hi
    show (P i || Q i) = false
    rw [h4 i (by omega), g4 i hi]; rfl
theorem aw_Lm_e {e0 : Nat} (h : e0 < 24) : aw_Lm (fun e => decide (e = e0)) (nI e0) :=
  Or.inr ⟨e0, h, rfl, decide_eq_true rfl, fun j hj => decide_eq_false (by omega)⟩
/-! H: bits -/
theorem aw_b01 (i : Nat) : bt 1 i = decide (i = 0) := by
  rcases Nat.lt_or_ge i 32 with h | h
  · exact (by decide +kernel : ∀ i, i < 32 → bt 1 i = decide (i = 0)) i h
  · rw [b_big h, decide_eq_false (by omega)]
theorem aw_b63 (i : Nat) : bt 63 i = decide (i < 6) := by
  rcases Nat.lt_or_ge i 32 with h | h
  · exact (by decide +kernel : ∀ i, i < 32 → bt 63 i = decide (i < 6)) i h
  · rw [b_big h, decide_eq_false (by omega)]
theorem aw_bc {c i : Nat} (hc : c < 32) (hi : i < 32) : bt ((1 : Int32) <<< (nI c &&& 31)) i = decide (i = c) := by
  rw [b_shl c hc 1 hi, aw_b01]
  by_cases h : i = c
  · subst h; simp
  · by_cases h2 : c ≤ i
    · have h3 : ¬ i - c = 0 := by omega
      simp [h, h2, h3]
    · simp [h, h2]
theorem aw_bit {c : Nat} (hc : c < 32) (s : Int32) : (s >>> (nI c &&& 31)) &&& 1 = if bt s c then 1 else 0 := by
  have hb : bt (s >>> (nI c &&& 31)) 0 = bt s c := by
    rw [b_sshr c hc s (by omega), if_pos (by omega)]; rfl
  by_cases h : bt s c = true
  · rw [if_pos h]
    apply b_ext
    intro i hi
    rw [b_and, aw_b01]
    by_cases z : i = 0
    · subst z; rw [hb, h]; rfl
    · simp [z]
  · rw [if_neg h]
    apply b_ext
    intro i hi
    rw [b_and, aw_b01, b_0]
    by_cases z : i = 0
    · subst z; rw [hb, ts_nt h]; rfl
    · simp [z]
theorem aw_bit0 {c : Nat} (hc : c < 32) (s : Int32) : (s >>> (nI c &&& 31)) &&& 1 = 0 ↔ bt s c = false := by
  rw [aw_bit hc]
  by_cases h : bt s c = true
  · rw [if_pos h, h]; decide
  · rw [if_neg h, ts_nt h]; decide
theorem aw_bit1 {c : Nat} (hc : c < 32) (s : Int32) : (s >>> (nI c &&& 31)) &&& 1 = 1 ↔ bt s c = true := by
  rw [aw_bit hc]
  by_cases h : bt s c = true
  · rw [if_pos h, h]; decide
  · rw [if_neg h, ts_nt h]; decide
theorem aw_ands {s w : Int32} : s &&& w = w ↔ ∀ i, i < 32 → bt w i = true → bt s i = true := by
  constructor
  · intro h i hi hw
    have : bt (s &&& w) i = bt w i := by rw [h]
    rw [b_and, hw, Bool.and_true] at this
    exact this
  · intro h
    apply b_ext
    intro i hi
    rw [b_and]
    by_cases hw : bt w i = true
    · rw [hw, h i hi hw]; rfl
    · rw [ts_nt hw, Bool.and_false]
theorem aw_fit_c {s w o : Int32} {c : Nat} (hc : c < 32) : aw_fit s (w ||| ((1 : Int32) <<< (nI c &&& 31))) o = (aw_fit s w o && bt s c) := by
  have key : s &&& (w ||| ((1 : Int32) <<< (nI c &&& 31))) = (w ||| ((1 : Int32) <<< (nI c &&& 31))) ↔ (s &&& w = w ∧ bt s c = true) := by
    rw [aw_ands, aw_ands]
    constructor
    · intro h
      refine ⟨fun i hi hw => h i hi (by rw [b_or, hw, Bool.true_or]), h c hc ?_⟩
      rw [b_or, aw_bc hc hc]; simp
    · rintro ⟨h1, h2⟩ i hi hb
      rw [b_or, aw_bc hc hi, Bool.or_eq_true, decide_eq_true_eq] at hb
      rcases hb with z | z
      · exact h1 i hi z
      · subst z; exact h2
  by_cases a : s &&& w = w ∧ bt s c = true
  · by_cases b : s &&& o = 0
    · rw [aw_fit_t (key.mpr a) b, aw_fit_t a.1 b, a.2]; rfl
    · rw [aw_fit_2 b, aw_fit_2 b]; rfl
  · rw [aw_fit_1 (fun z => a (key.mp z))]
    by_cases b : bt s c = true
    · rw [aw_fit_1 (fun z => a ⟨z, b⟩)]; rfl
    · rw [ts_nt b, Bool.and_false]
theorem aw_cfb : ∀ a b c : Fin 6, (((1 : Int32) <<< (nI a.val &&& 31)) &&& (((1 : Int32) <<< (nI b.val &&& 31)) ||| ((1 : Int32) <<< (nI c.val &&& 31))) = 0) ↔ ¬ (a = b ∨ a = c) := by decide +kernel
theorem aw_cfn {a b c : Nat} (ha : a < 6) (hb : b < 6) (hc : c < 6) : (((1 : Int32) <<< (nI a &&& 31)) &&& (((1 : Int32) <<< (nI b &&& 31)) ||| ((1 : Int32) <<< (nI c &&& 31))) = 0) ↔ ¬ (a = b ∨ a = c) := by
  have h := aw_cfb ⟨a, ha⟩ ⟨b, hb⟩ ⟨c, hc⟩
  simpa only [Fin.mk.injEq] using h
/-- sets stay below 64 -/
theorem aw_or64 : ∀ s : Fin 64, ∀ c : Fin 6, ∃ r : Fin 64, nI s.val ||| ((1 : Int32) <<< (nI c.val &&& 31)) = nI r.val := by decide +kernel
theorem aw_an64 : ∀ s : Fin 64, ∀ c : Fin 6, ∃ r : Fin 64, nI s.val &&& (((1 : Int32) <<< (nI c.val &&& 31)) ^^^ (-1)) = nI r.val := by decide +kernel
theorem aw_or {s c : Nat} (hs : s < 64) (hc : c < 6) : ∃ r, r < 64 ∧ nI s ||| ((1 : Int32) <<< (nI c &&& 31)) = nI r := by
  obtain ⟨r, h⟩ := aw_or64 ⟨s, hs⟩ ⟨c, hc⟩
  exact ⟨r.val, r.isLt, h⟩
theorem aw_an {s c : Nat} (hs : s < 64) (hc : c < 6) : ∃ r, r < 64 ∧ nI s &&& (((1 : Int32) <<< (nI c &&& 31)) ^^^ (-1)) = nI r := by
  obtain ⟨r, h⟩ := aw_an64 ⟨s, hs⟩ ⟨c, hc⟩
  exact ⟨r.val, r.isLt, h⟩
/-- bits of a long -/
theorem aw_l1 : ∀ t, t < 64 → ((1 : Int64) <<< ((nI t).toInt64 &&& 63)).toBitVec = BitVec.twoPow 64 t := by decide +kernel
theorem aw_lor {w : Int64} {t j : Nat} (ht : t < 64) (hj : j < 64) : (w ||| ((1 : Int64) <<< ((nI t).toInt64 &&& 63))).toBitVec.getLsbD j = (w.toBitVec.getLsbD j || decide (j = t)) := by
  rw [Int64.toBitVec_or, aw_l1 t ht, BitVec.getLsbD_or, BitVec.getLsbD_twoPow]
  by_cases h : j = t
  · subst h; simp [hj]
  · have h' : ¬ t = j := fun z => h z.symm
    simp [h, h']
theorem aw_l01 (y : Int64) : y &&& 1 = 0 ∨ y &&& 1 = 1 := by
  rw [← Int64.toBitVec_inj, ← Int64.toBitVec_inj, Int64.toBitVec_and]
  show y.toBitVec &&& 1#64 = 0#64 ∨ y.toBitVec &&& 1#64 = 1#64
  rw [BitVec.and_one_eq_setWidth_ofBool_getLsbD]
  cases y.toBitVec.getLsbD 0
  · left; decide
  · right; decide
theorem aw_lt {w : Int64} {t : Nat} (ht : t < 64) : (((w.toUInt64 >>> ((nI t).toInt64.toUInt64 &&& Int64.toUInt64 63)).toInt64) &&& 1) = 1 ↔ w.toBitVec.getLsbD t = true := by
  have h := ts_bit (w := w) (s := (nI t).toInt64.toUInt64 &&& Int64.toUInt64 63) ht (by
    rw [wb_cu t ht]
    show (BitVec.ofNat 64 t).toNat = t
    rw [BitVec.toNat_ofNat, Nat.mod_eq_of_lt (by omega)])
  constructor
  · intro z
    refine ts_nf (fun y => ?_)
    have z2 := h.mpr y
    rw [z] at z2
    exact absurd z2 (by decide)
  · intro z
    rcases aw_l01 ((w.toUInt64 >>> ((nI t).toInt64.toUInt64 &&& Int64.toUInt64 63)).toInt64) with y | y
    · have := h.mp y
      rw [z] at this
      exact absurd this (by decide)
    · exact y
end
section
/-! I: X's small methods -/
section
variable {ft fs fl fc fm : Int32} {tS tO rn rA tb pl co wi wo ki ta so sg : Nat → Int32} {ma : Nat → Int64} {lv ss : Nat → Int32} {T : Nat}
theorem ax_lives1 (R : aw_R T tS tO rn rA tb pl lv ss) {post : Int32 → Prop} {e : Nat} (he : e < 24) (hl : ¬ lv e = 0) (h : post 1) : wpX_lives post (ft, fs, fl, fc, fm, tS, tO, rn, rA, tb, pl, co, wi, wo, ki, ta, so, sg, ma) (nI e) :=
  br_f (nI_pos (by omega)) (br_f (nI_ge (b := 24) he (by decide)) ⟨vp_in_nI he (by omega), br_f (by rw [nI_clamp (by omega), aw_tbn R he]; exact hl) h⟩)
theorem ax_lives0 (R : aw_R T tS tO rn rA tb pl lv ss) {post : Int32 → Prop} {x : Int32} (hn : ∀ e, e < 24 → x = nI e → lv e = 0) (h : post 0) : wpX_lives post (ft, fs, fl, fc, fm, tS, tO, rn, rA, tb, pl, co, wi, wo, ki, ta, so, sg, ma) x := by
  rcases pk_ix x (n := 24) (by omega) with a | a | ⟨j, hj, rfl⟩
  · exact br_t a h
  · by_cases n : x < 0
    · exact br_t n h
    · exact br_f n (br_t a h)
  · exact br_f (nI_pos (by omega)) (br_f (nI_ge (b := 24) hj (by decide)) ⟨vp_in_nI hj (by omega), br_t (by rw [nI_clamp (by omega), aw_tbn R hj]; exact hn j hj rfl) h⟩)
theorem ax_bp0 {post : Int32 → Prop} {c : Nat} (hc : c < 6) (h : post 0) : wpX_badPart post (ft, fs, fl, fc, fm, tS, tO, rn, rA, tb, pl, co, wi, wo, ki, ta, so, sg, ma) (nI c) :=
  br_f (nI_pos (by omega)) (br_t (nI_lt (b := 6) hc (by decide)) h)
theorem ax_bp1 {post : Int32 → Prop} {x : Int32} (hn : ∀ c, c < 6 → ¬ x = nI c) (h : post 1) : wpX_badPart post (ft, fs, fl, fc, fm, tS, tO, rn, rA, tb, pl, co, wi, wo, ki, ta, so, sg, ma) x := by
  rcases pk_ix x (n := 6) (by omega) with a | a | ⟨j, hj, e⟩
  · exact br_t a h
  · by_cases n : x < 0
    · exact br_t n h
    · exact br_f n (br_f (Int32.not_lt.mpr a) h)
  · exact absurd e (hn j hj)
theorem ax_bs0 {post : Int32 → Prop} {c : Nat} (hc : c < 64) (h : post 0) : wpX_badSet post (ft, fs, fl, fc, fm, tS, tO, rn, rA, tb, pl, co, wi, wo, ki, ta, so, sg, ma) (nI c) :=
  br_f (nI_pos (by omega)) (br_t (nI_lt (b := 64) hc (by decide)) h)
theorem ax_bs1 {post : Int32 → Prop} {x : Int32} (hn : ∀ c, c < 64 → ¬ x = nI c) (h : post 1) : wpX_badSet post (ft, fs, fl, fc, fm, tS, tO, rn, rA, tb, pl, co, wi, wo, ki, ta, so, sg, ma) x := by
  rcases pk_ix x (n := 64) (by omega) with a | a | ⟨j, hj, e⟩
  · exact br_t a h
  · by_cases n : x < 0
    · exact br_t n h
    · exact br_f n (br_f (Int32.not_lt.mpr a) h)
  · exact absurd e (hn j hj)
theorem ax_fits {post : Int32 → Prop} {s w o : Int32} (h1 : aw_fit s w o = true → post 1) (h0 : aw_fit s w o = false → post 0) : wpX_fits post (ft, fs, fl, fc, fm, tS, tO, rn, rA, tb, pl, co, wi, wo, ki, ta, so, sg, ma) s w o :=
  br_c (fun a => br_c (fun b => h1 (aw_fit_t a b)) (fun b => h0 (aw_fit_2 b))) (fun a => h0 (aw_fit_1 a))
theorem ax_setOf (R : aw_R T tS tO rn rA tb pl lv ss) {post : Int32 → Prop} {e : Nat} (he : e < 24) (hl : ¬ lv e = 0) (h : post (ss e)) : wpX_setOf post (ft, fs, fl, fc, fm, tS, tO, rn, rA, tb, pl, co, wi, wo, ki, ta, so, sg, ma) (nI e) := by
  have hT := R.1
  obtain ⟨t, k, r, h1, h2, h3, h4, h5, h6, h7, h8⟩ := aw_lv R he hl
  have ce : tb (nI e).toNatClampNeg = nI t := by rw [nI_clamp (by omega)]; exact h4
  refine And.intro (vp_in_nI he (by omega)) (And.intro ?_ ?_)
  · rw [ce]; exact vp_in_nI (by omega) (by omega)
  · rw [ce, nI_clamp (by omega), ← h8]; exact h
theorem ax_tf (R : aw_R T tS tO rn rA tb pl lv ss) {s : Nat} (hs : s < 64) {post : Int32 → SX → Prop}
    (K : ∀ (T' : Nat) (tS' tO' rn' : Nat → Int32) (t : Nat), aw_R T' tS' tO' rn' rA tb pl lv ss → T ≤ T' → (∀ j, j < T → tS' j = tS j) → t < T' → tS' t = nI s → post (nI t) (nI T', fs, fl, fc, fm, tS', tO', rn', rA, tb, pl, co, wi, wo, ki, ta, so, sg, ma)) : wpX_tableFor post (nI T, fs, fl, fc, fm, tS, tO, rn, rA, tb, pl, co, wi, wo, ki, ta, so, sg, ma) (nI s) := by
  have hT := R.1
  have cs : (nI s).toNatClampNeg = s := nI_clamp (by omega)
  have ct : (nI T).toNatClampNeg = T := nI_clamp (by omega)
  have vs : vp_in (nI s) 64 := vp_in_nI hs (by omega)
  rcases R.2.2.1 s hs with z | ⟨t, ht, h1, h2⟩
  · have hT2 := aw_space R hs z
    have vt : vp_in (nI T) 64 := vp_in_nI hT2 (by omega)
    refine And.intro vs (br_f (by rw [cs, z]; exact aw_m4p) ⟨vt, nm_r (e' := upd tS T (nI s)) (by rw [ct]) ⟨vs, nm_r (e' := upd tO s (nI T)) (by rw [cs]) ⟨vt, nm_r (e' := upd rn T 0) (by rw [ct]) (nm_r (nI_1 T) ⟨vs, ?_⟩)⟩⟩⟩)
    have e : upd tO s (nI T) (nI s).toNatClampNeg = nI T := by rw [cs, pk_us]
    rw [e]
    exact K (T + 1) _ _ _ T (aw_new R hs z) (by omega) (fun j hj => pk_un (by omega)) (by omega) pk_us
  · have e : tO (nI s).toNatClampNeg = nI t := by rw [cs]; exact h1
    refine And.intro vs (br_t (by rw [e]; exact nI_pos' (by omega)) ⟨vs, ?_⟩)
    rw [e]
    exact K T tS tO rn t R (Nat.le_refl T) (fun _ _ => rfl) ht h2
theorem ax_en (R : aw_R T tS tO rn rA tb pl lv ss) {e t : Nat} (he : e < 24) (hl : lv e = 0) (ht : t < T) {lv' ss' : Nat → Int32} (hl' : ¬ lv' e = 0) (hs' : ss' e = tS t) (ho : ∀ j, j < 24 → j ≠ e → lv' j = lv j ∧ ss' j = ss j) {post : SX → Prop}
    (K : ∀ rn' rA' tb' pl' : Nat → Int32, aw_R T tS tO rn' rA' tb' pl' lv' ss' → post (ft, fs, fl, fc, fm, tS, tO, rn', rA', tb', pl', co, wi, wo, ki, ta, so, sg, ma)) : wpX_enter post (ft, fs, fl, fc, fm, tS, tO, rn, rA, tb, pl, co, wi, wo, ki, ta, so, sg, ma) (nI e) (nI t) := by
  have hT := R.1
  obtain ⟨r, hr, hw, _⟩ := aw_rw R ht
  have hr2 := aw_room R he hl ht hr hw
  have ce : (nI e).toNatClampNeg = e := nI_clamp (by omega)
  have ct : (nI t).toNatClampNeg = t := nI_clamp (by omega)
  have ve : vp_in (nI e) 24 := vp_in_nI he (by omega)
  have vt : vp_in (nI t) 64 := vp_in_nI (by omega) (by omega)
  have ix : nI t * 24 + rn (nI t).toNatClampNeg = nI (t * 24 + r) := by rw [ct, hw, aw_ix]
  exact And.intro ve (nm_r (e' := upd tb e (nI t)) (by rw [ce]) ⟨vt, ve, nm_r (e' := upd pl e (nI r)) (by rw [ce, ct, hw]) ⟨vt, pk_in (t * 24 + r) 1536 (by omega) ix, nm_r (e' := upd rA (t * 24 + r) (nI e)) (by rw [ix, nI_clamp (by omega)]) ⟨vt, vt, nm_r (e' := upd rn t (nI (r + 1))) (by rw [ct, hw, nI_1]) (K _ _ _ _ (aw_ent R he hl ht hr2 hw hl' hs' ho))⟩⟩⟩)
theorem ax_le (R : aw_R T tS tO rn rA tb pl lv ss) {e : Nat} (he : e < 24) (hl : ¬ lv e = 0) {lv' ss' : Nat → Int32} (hl' : lv' e = 0) (ho : ∀ j, j < 24 → j ≠ e → lv' j = lv j ∧ ss' j = ss j) {post : SX → Prop}
    (K : ∀ rn' rA' tb' pl' : Nat → Int32, aw_R T tS tO rn' rA' tb' pl' lv' ss' → post (ft, fs, fl, fc, fm, tS, tO, rn', rA', tb', pl', co, wi, wo, ki, ta, so, sg, ma)) : wpX_leave post (ft, fs, fl, fc, fm, tS, tO, rn, rA, tb, pl, co, wi, wo, ki, ta, so, sg, ma) (nI e) := by
  have hT := R.1
  obtain ⟨t, k, r0, ht, hk, hr0, htb, hpl, hw, hrA, hss⟩ := aw_lv R he hl
  obtain ⟨r, rfl⟩ : ∃ r, r0 = r + 1 := ⟨r0 - 1, by omega⟩
  obtain ⟨r1, hr1, hw1, hrow⟩ := aw_rw R ht
  have er1 : r1 = r + 1 := aw_inj (hw1.symm.trans hw) (by omega) (by omega)
  subst er1
  obtain ⟨l, hl1, hl2, hl3, hl4⟩ := hrow r (by omega)
  have ce : (nI e).toNatClampNeg = e := nI_clamp (by omega)
  have ct : (nI t).toNatClampNeg = t := nI_clamp (by omega)
  have cl : (nI l).toNatClampNeg = l := nI_clamp (by omega)
  have ve : vp_in (nI e) 24 := vp_in_nI he (by omega)
  have vt : vp_in (nI t) 64 := vp_in_nI (by omega) (by omega)
  have vl : vp_in (nI l) 24 := vp_in_nI hl1 (by omega)
  have ix : nI t * 24 + upd rn t (nI r) (nI t).toNatClampNeg = nI (t * 24 + r) := by rw [ct, pk_us, aw_ix]
  have iy : nI t * 24 + pl (nI e).toNatClampNeg = nI (t * 24 + k) := by rw [ce, hpl, aw_ix]
  exact And.intro ve (nm_r (e' := nI t) (by rw [ce, htb]) ⟨vt, vt, nm_r (e' := upd rn t (nI r)) (by rw [ct, hw, nI_pred]) ⟨vt, pk_in (t * 24 + r) 1536 (by omega) ix, nm_r (e' := nI l) (by rw [ix, nI_clamp (by omega), hl2]) ⟨ve, pk_in (t * 24 + k) 1536 (by omega) iy, nm_r (e' := upd rA (t * 24 + k) (nI l)) (by rw [iy, nI_clamp (by omega)]) ⟨ve, vl, nm_r (e' := upd pl l (nI k)) (by rw [cl, ce, hpl]) ⟨ve, nm_r (e' := upd tb e (-4)) (by rw [ce]) (K _ _ _ _ (aw_lea R he ht hk hr0 htb hpl hw hrA hl1 hl2 hl' ho))⟩⟩⟩⟩⟩)
theorem ax_ch (R : aw_R T tS tO rn rA tb pl lv ss) {e s : Nat} (he : e < 24) (hl : ¬ lv e = 0) (hs : s < 64) {post : SX → Prop}
    (K : ∀ (T' : Nat) (tS' tO' rn' rA' tb' pl' : Nat → Int32), aw_R T' tS' tO' rn' rA' tb' pl' lv (upd ss e (nI s)) → T ≤ T' → (∀ j, j < T → tS' j = tS j) → post (nI T', fs, fl, fc, fm, tS', tO', rn', rA', tb', pl', co, wi, wo, ki, ta, so, sg, ma)) : wpX_change post (nI T, fs, fl, fc, fm, tS, tO, rn, rA, tb, pl, co, wi, wo, ki, ta, so, sg, ma) (nI e) (nI s) := by
  have ce : (nI e).toNatClampNeg = e := nI_clamp (by omega)
  have ve : vp_in (nI e) 24 := vp_in_nI he (by omega)
  unfold wpX_change
  refine ax_tf R hs (fun T' tS' tO' rn' t R' hT' hS' ht hts => ?_)
  have hTT := R'.1
  obtain ⟨t0, k, r, g1, g2, g3, g4, g5, g6, g7, g8⟩ := aw_lv R' he hl
  refine And.intro ve ?_
  by_cases ett : t = t0
  · subst ett
    refine br_t (by rw [ce, g4]) (K T' tS' tO' rn' rA tb pl ?_ hT' hS')
    have e1 : upd ss e (nI s) = ss := by
      funext j
      by_cases ej : j = e
      · subst ej; rw [pk_us, g8, hts]
      · rw [pk_un ej]
    rw [e1]; exact R'
  · refine br_f (by rw [ce, g4]; exact fun z => ett (aw_inj z (by omega) (by omega))) ?_
    refine ax_le R' he hl (lv' := upd lv e 0) (ss' := ss) pk_us (fun j _ hj => ⟨pk_un hj, rfl⟩) (fun rn2 rA2 tb2 pl2 R2 => ?_)
    refine ax_en R2 he pk_us ht (lv' := lv) (ss' := upd ss e (nI s)) hl (by rw [pk_us, hts]) (fun j _ hj => ⟨(pk_un hj).symm, pk_un hj⟩) (fun rn3 rA3 tb3 pl3 R3 => ?_)
    exact K T' tS' tO' rn3 rA3 tb3 pl3 R3 hT' hS'
end
end
section
/-! J: X's loops that read -/
theorem aw_bd (a b c : Bool) : ((a || b) && c) = ((a && c) || (b && c)) := by cases a <;> cases b <;> cases c <;> rfl
section
variable {ft fs fl fc fm : Int32} {tS tO rn rA tb pl co wi wo ki ta so sg : Nat → Int32} {ma : Nat → Int64} {lv ss : Nat → Int32} {T : Nat}
theorem aw_stp (R : aw_R T tS tO rn rA tb pl lv ss) {t k e0 e : Nat} (ht : t < T) (he0 : e0 < 24) (h1 : rA (t * 24 + k) = nI e0) (h2 : tb e0 = nI t) (h3 : pl e0 = nI k) (hk : k < 24) (he : e < 24) : (decide (tb e = nI t) && decide ((pl e).toNatClampNeg < k + 1)) = ((decide (tb e = nI t) && decide ((pl e).toNatClampNeg < k)) || decide (e = e0)) := by
  have hT := R.1
  by_cases ee : e = e0
  · subst ee
    rw [aw_cl h3 (by omega)]; simp [h2]
  · by_cases h : tb e = nI t
    · obtain ⟨_, k', r, _, h2', h3', h4, h5, h6, _⟩ := aw_tb R he (by omega) h
      have c3 : (pl e).toNatClampNeg = k' := aw_cl h4 (by omega)
      have c4 : k' ≠ k := by
        intro z
        subst z
        exact ee (aw_inj (h6.symm.trans h1) (by omega) (by omega))
      rw [c3]
      have c5 : (k' < k + 1) = (k' < k) := propext ⟨fun _ => by omega, fun _ => by omega⟩
      simp only [c5]
      simp [ee]
    · simp [h, ee]
theorem aw_stpr (R : aw_R T tS tO rn rA tb pl lv ss) {t r e : Nat} (ht : t < T) (hr : r ≤ 24) (hw : rn t = nI r) (he : e < 24) : (decide (tb e = nI t) && decide ((pl e).toNatClampNeg < r)) = decide (tb e = nI t) := by
  have hT := R.1
  by_cases h : tb e = nI t
  · obtain ⟨_, k, r', _, h2, h3, h4, h5, _⟩ := aw_tb R he (by omega) h
    have e3 : r' = r := aw_inj (h5.symm.trans hw) (by omega) (by omega)
    have h6 : (pl e).toNatClampNeg < r := by rw [aw_cl h4 (by omega)]; omega
    simp [h6]
  · simp [h]
theorem aw_tst {t e : Nat} (ht : t < 2 ^ 31) : decide (0 ≤ tb e ∧ (tb e).toNatClampNeg < t + 1) = (decide (0 ≤ tb e ∧ (tb e).toNatClampNeg < t) || decide (tb e = nI t)) := by
  by_cases h : tb e = nI t
  · have c := aw_cl h ht
    have p : 0 ≤ tb e := by rw [h]; exact nI_pos' ht
    rw [decide_eq_true (show 0 ≤ tb e ∧ (tb e).toNatClampNeg < t + 1 from ⟨p, by omega⟩), decide_eq_true h, Bool.or_true]
  · rw [decide_eq_false h, Bool.or_false]
    by_cases p : 0 ≤ tb e
    · obtain ⟨j, hj, ej⟩ := nI_of (Int32.not_lt.mpr p)
      have c := aw_cl ej hj
      have hne : j ≠ t := by
        intro z
        subst z
        exact h ej
      by_cases q : (tb e).toNatClampNeg < t
      · rw [decide_eq_true (show 0 ≤ tb e ∧ (tb e).toNatClampNeg < t from ⟨p, q⟩), decide_eq_true (show 0 ≤ tb e ∧ (tb e).toNatClampNeg < t + 1 from ⟨p, by omega⟩)]
      · rw [decide_eq_false (show ¬ (0 ≤ tb e ∧ (tb e).toNatClampNeg < t) from fun z => q z.2), decide_eq_false (show ¬ (0 ≤ tb e ∧ (tb e).toNatClampNeg < t + 1) from fun z => by have := z.2; omega)]
    · rw [decide_eq_false (fun z => p z.1), decide_eq_false (fun z => p z.1)]
theorem aw_tstr (R : aw_R T tS tO rn rA tb pl lv ss) {e : Nat} (he : e < 24) : decide (0 ≤ tb e ∧ (tb e).toNatClampNeg < T) = !decide (lv e = 0) := by
  have hT := R.1
  by_cases hl : lv e = 0
  · have hd := aw_dd R he hl
    rw [decide_eq_true hl, decide_eq_false (fun z => absurd z.1 (by rw [hd]; exact aw_m4p))]; rfl
  · obtain ⟨t, k, r, h1, h2, h3, h4, _⟩ := aw_lv R he hl
    have c := aw_cl h4 (by omega)
    have p : 0 ≤ tb e := by rw [h4]; exact nI_pos' (by omega)
    rw [decide_eq_false hl, decide_eq_true (show 0 ≤ tb e ∧ (tb e).toNatClampNeg < T from ⟨p, by omega⟩)]; rfl
theorem aw_tst0 {e : Nat} : decide (0 ≤ tb e ∧ (tb e).toNatClampNeg < 0) = false := decide_eq_false (fun z => by omega)
theorem ax_liv4 {post : Int32 → Prop} (hT : T ≤ 64) (h : post (aw_sm rn T)) : ∀ d t, t + d = T → wX_living_4 post (nI T) fs fl fc fm tS tO rn rA tb pl co wi wo ki ta so sg ma (d + 1) (aw_sm rn t) (nI t) := by
  intro d
  induction d with
  | zero =>
    intro t ht
    have e : t = T := by omega
    subst e
    exact br_t (nI_le (Nat.le_refl t) (by omega)) h
  | succ d ih =>
    intro t ht
    exact br_f (nI_ge (by omega) (by omega)) ⟨vp_in_nI (by omega) (by omega), nm_r (e' := aw_sm rn (t + 1)) (by rw [nI_clamp (by omega)]; rfl) (nm_r (nI_1 t) (ih (t + 1) (by omega)))⟩
theorem ax_living (R : aw_R T tS tO rn rA tb pl lv ss) {post : Int32 → Prop} (h : post (aw_sm (fun e => if aw_ft lv ss 0 0 e then 1 else 0) 24)) : wpX_living post (nI T, fs, fl, fc, fm, tS, tO, rn, rA, tb, pl, co, wi, wo, ki, ta, so, sg, ma) := by
  have hT := R.1
  have e : aw_sm rn T = aw_sm (fun e => if aw_ft lv ss 0 0 e then 1 else 0) 24 := by
    refine Eq.trans ?_ (aw_allc R (fun s => aw_fit s 0 0))
    exact aw_sm_c T (fun t _ => by rw [if_pos (aw_fit_0 (tS t))])
  exact Exists.intro (T + 1) (ax_liv4 hT (by rw [e]; exact h) T 0 (by omega))
theorem ax_cnt23 {post : Int32 → Prop} {w o : Int32} (hT : T ≤ 64) (h : post (aw_sm (fun t => if aw_fit (tS t) w o then rn t else 0) T)) : ∀ d t, t + d = T → wX_count_23 post w o (nI T) fs fl fc fm tS tO rn rA tb pl co wi wo ki ta so sg ma (d + 1) (aw_sm (fun t => if aw_fit (tS t) w o then rn t else 0) t) (nI t) := by
  intro d
  induction d with
  | zero =>
    intro t ht
    have e : t = T := by omega
    subst e
    exact br_t (nI_le (Nat.le_refl t) (by omega)) h
  | succ d ih =>
    intro t ht
    have ct : (nI t).toNatClampNeg = t := nI_clamp (by omega)
    have vt : vp_in (nI t) 64 := vp_in_nI (by omega) (by omega)
    have hs : aw_sm (fun t => if aw_fit (tS t) w o then rn t else 0) (t + 1) = aw_sm (fun t => if aw_fit (tS t) w o then rn t else 0) t + (if aw_fit (tS t) w o then rn t else 0) := rfl
    refine br_f (nI_ge (by omega) (by omega)) ⟨vt, ax_fits (fun hf => ?_) (fun hf => ?_)⟩
    · rw [ct] at hf
      exact br_f (by decide) ⟨vt, nm_r (e' := aw_sm (fun t => if aw_fit (tS t) w o then rn t else 0) (t + 1)) (by rw [hs, ct, if_pos hf]) (nm_r (nI_1 t) (ih (t + 1) (by omega)))⟩
    · rw [ct] at hf
      refine br_t rfl (nm_r (nI_1 t) ?_)
      have hi := ih (t + 1) (by omega)
      rw [hs, if_neg (by rw [hf]; decide), Int32.add_zero] at hi
      exact hi
theorem ax_count (R : aw_R T tS tO rn rA tb pl lv ss) {post : Int32 → Prop} {w o : Nat} (hw : w < 64) (ho : o < 64) (h : post (aw_sm (fun e => if aw_ft lv ss (nI w) (nI o) e then 1 else 0) 24)) : wpX_count post (nI T, fs, fl, fc, fm, tS, tO, rn, rA, tb, pl, co, wi, wo, ki, ta, so, sg, ma) (nI w) (nI o) := by
  have hT := R.1
  have e := aw_allc R (fun s => aw_fit s (nI w) (nI o))
  unfold wpX_count
  refine ax_bs0 hw (br_t rfl ?_)
  refine ax_bs0 ho (br_t rfl ?_)
  exact Exists.intro (T + 1) (ax_cnt23 hT (by rw [e]; exact h) T 0 (by omega))
/-! least entity -/
def aw_pk (tb pl : Nat → Int32) (x : Int32) (t k e : Nat) : Bool := (decide (tb e = nI t) && decide ((pl e).toNatClampNeg < k)) && !decide (nI e < x)
def aw_pt (tb ss : Nat → Int32) (w o x : Int32) (t e : Nat) : Bool := (decide (0 ≤ tb e ∧ (tb e).toNatClampNeg < t) && aw_fit (ss e) w o) && !decide (nI e < x)
def aw_p1 (tb : Nat → Int32) (x : Int32) (t e : Nat) : Bool := decide (tb e = nI t) && !decide (nI e < x)
def aw_pf (lv ss : Nat → Int32) (w o x : Int32) (e : Nat) : Bool := aw_ft lv ss w o e && !decide (nI e < x)
theorem ax_lf6 (R : aw_R T tS tO rn rA tb pl lv ss) {post : Int32 → Prop} {x : Int32} {t r : Nat} (ht : t < T) (hr : r ≤ 24) (hw : rn t = nI r) (K : ∀ b, aw_Lm (aw_p1 tb x t) b → post b) : ∀ d k b, k + d = r → aw_Lm (aw_pk tb pl x t k) b → wX_leastFrom_6 post (nI t) x ft fs fl fc fm tS tO rn rA tb pl co wi wo ki ta so sg ma (d + 1) b (nI k) := by
  have hT := R.1
  have vt : vp_in (nI t) 64 := vp_in_nI (by omega) (by omega)
  have cw : rn (nI t).toNatClampNeg = nI r := by rw [nI_clamp (by omega)]; exact hw
  obtain ⟨r1, hr1, hw1, hrow⟩ := aw_rw R ht
  have er1 : r1 = r := aw_inj (hw1.symm.trans hw) (by omega) (by omega)
  subst er1
  intro d
  induction d with
  | zero =>
    intro k b hk hb
    refine And.intro vt (br_t (by rw [cw]; exact nI_le (by omega) (by omega)) (K b (aw_Lm_c (fun e he => ?_) hb)))
    have ek : k = r1 := by omega
    subst ek
    show ((decide (tb e = nI t) && decide ((pl e).toNatClampNeg < k)) && !decide (nI e < x)) = _
    rw [aw_stpr R ht hr hw he]; rfl
  | succ d ih =>
    intro k b hk hb
    obtain ⟨e0, he0, q1, q2, q3⟩ := hrow k (by omega)
    have st : ∀ e, e < 24 → aw_pk tb pl x t (k + 1) e = (aw_pk tb pl x t k e || (decide (e = e0) && !decide (nI e < x))) := by
      intro e he
      show ((decide (tb e = nI t) && decide ((pl e).toNatClampNeg < k + 1)) && !decide (nI e < x)) = _
      rw [aw_stp R ht he0 q1 q2 q3 (by omega) he, aw_bd]; rfl
    have n1 : nI e0 < x → ∀ e, e < 24 → aw_pk tb pl x t k e = aw_pk tb pl x t (k + 1) e := by
      intro z e he
      rw [st e he]
      by_cases ee : e = e0
      · subst ee; simp [z]
      · simp [ee]
    have n2 : ¬ nI e0 < x → ∀ e, e < 24 → (aw_pk tb pl x t k e || decide (e = e0)) = aw_pk tb pl x t (k + 1) e := by
      intro z e he
      rw [st e he]
      by_cases ee : e = e0
      · subst ee; simp [z]
      · simp [ee]
    have ne : ¬ nI e0 < 0 := nI_pos (by omega)
    refine And.intro vt (br_f (by rw [cw]; exact nI_ge (by omega) (by omega)) ⟨pk_in (t * 24 + k) 1536 (by omega) (aw_ix t k), nm_r (e' := nI e0) (by rw [aw_ix, nI_clamp (by omega), q1]) (br_c (fun z => nm_r (nI_1 k) (ih (k + 1) b (by omega) ?_)) (fun z => br_c (fun y => nm_r (nI_1 k) (ih (k + 1) (nI e0) (by omega) ?_)) (fun y => br_c (fun x => nm_r (nI_1 k) (ih (k + 1) b (by omega) ?_)) (fun x => nm_r (nI_1 k) (ih (k + 1) (nI e0) (by omega) ?_)))))⟩)
    · exact aw_Lm_c (n1 z) hb
    · exact aw_Lm_c (n2 z) (aw_Lm_1 hb (aw_Lm_e he0) y)
    · exact aw_Lm_c (n2 z) (aw_Lm_2 hb (aw_Lm_e he0) y ne x)
    · exact aw_Lm_c (n2 z) (aw_Lm_3 hb (aw_Lm_e he0) y ne x)
theorem ax_lf (R : aw_R T tS tO rn rA tb pl lv ss) {post : Int32 → Prop} {x : Int32} {t : Nat} (ht : t < T) (K : ∀ b, aw_Lm (aw_p1 tb x t) b → post b) : wpX_leastFrom post (ft, fs, fl, fc, fm, tS, tO, rn, rA, tb, pl, co, wi, wo, ki, ta, so, sg, ma) (nI t) x := by
  obtain ⟨r, hr, hw, _⟩ := aw_rw R ht
  refine Exists.intro (r + 1) (ax_lf6 R ht hr hw K r 0 (-4) (by omega) (Or.inl ⟨rfl, fun e _ => ?_⟩))
  show ((decide (tb e = nI t) && decide ((pl e).toNatClampNeg < 0)) && !decide (nI e < x)) = false
  simp
theorem ax_nx25 (R : aw_R T tS tO rn rA tb pl lv ss) {post : Int32 → Prop} {w o x : Int32} (K : ∀ b, aw_Lm (aw_pf lv ss w o x) b → post b) : ∀ d t b, t + d = T → aw_Lm (aw_pt tb ss w o x t) b → wX_next_25 post w o x (nI T) fs fl fc fm tS tO rn rA tb pl co wi wo ki ta so sg ma (d + 1) b (nI t) := by
  have hT := R.1
  intro d
  induction d with
  | zero =>
    intro t b ht hb
    have e : t = T := by omega
    subst e
    refine br_t (nI_le (Nat.le_refl t) (by omega)) (K b (aw_Lm_c (fun e he => ?_) hb))
    show ((decide (0 ≤ tb e ∧ (tb e).toNatClampNeg < t) && aw_fit (ss e) w o) && !decide (nI e < x)) = _
    rw [aw_tstr R he]; rfl
  | succ d ih =>
    intro t b ht hb
    have ct : (nI t).toNatClampNeg = t := nI_clamp (by omega)
    have vt : vp_in (nI t) 64 := vp_in_nI (by omega) (by omega)
    have st : ∀ e, e < 24 → aw_pt tb ss w o x (t + 1) e = (aw_pt tb ss w o x t e || (aw_fit (tS t) w o && aw_p1 tb x t e)) := by
      intro e he
      show ((decide (0 ≤ tb e ∧ (tb e).toNatClampNeg < t + 1) && aw_fit (ss e) w o) && !decide (nI e < x)) = (((decide (0 ≤ tb e ∧ (tb e).toNatClampNeg < t) && aw_fit (ss e) w o) && !decide (nI e < x)) || (aw_fit (tS t) w o && (decide (tb e = nI t) && !decide (nI e < x))))
      rw [aw_tst (by omega)]
      by_cases h : tb e = nI t
      · obtain ⟨_, k, r, _, _, _, _, _, _, h8⟩ := aw_tb R he (by omega) h
        rw [h8, decide_eq_true h]
        generalize decide (0 ≤ tb e ∧ (tb e).toNatClampNeg < t) = a
        generalize aw_fit (tS t) w o = f
        generalize (!decide (nI e < x)) = g
        cases a <;> cases f <;> cases g <;> rfl
      · rw [decide_eq_false h, Bool.or_false, Bool.false_and, Bool.and_false, Bool.or_false]
    refine br_f (nI_ge (by omega) (by omega)) ⟨vt, ax_fits (fun hf => ?_) (fun hf => ?_)⟩
    · rw [ct] at hf
      have st2 : ∀ e, e < 24 → (aw_pt tb ss w o x t e || aw_p1 tb x t e) = aw_pt tb ss w o x (t + 1) e := fun e he => by rw [st e he, hf, Bool.true_and]
      refine br_f (by decide) (ax_lf R (by omega) (fun h hh => ?_))
      refine br_c (fun z => nm_r (nI_1 t) (ih (t + 1) b (by omega) ?_)) (fun z => br_c (fun y => nm_r (nI_1 t) (ih (t + 1) h (by omega) ?_)) (fun y => br_c (fun x => nm_r (nI_1 t) (ih (t + 1) b (by omega) ?_)) (fun x => nm_r (nI_1 t) (ih (t + 1) h (by omega) ?_))))
      · exact aw_Lm_c st2 (aw_Lm_0 hb hh z)
      · exact aw_Lm_c st2 (aw_Lm_1 hb hh y)
      · exact aw_Lm_c st2 (aw_Lm_2 hb hh y z x)
      · exact aw_Lm_c st2 (aw_Lm_3 hb hh y z x)
    · rw [ct] at hf
      refine br_t rfl (nm_r (nI_1 t) (ih (t + 1) b (by omega) (aw_Lm_c (fun e he => ?_) hb)))
      rw [st e he, hf, Bool.false_and, Bool.or_false]
theorem ax_next (R : aw_R T tS tO rn rA tb pl lv ss) {post : Int32 → Prop} {w o : Nat} {x : Int32} (hw : w < 64) (ho : o < 64) (K : ∀ b, aw_Lm (aw_pf lv ss (nI w) (nI o) x) b → post b) : wpX_next post (nI T, fs, fl, fc, fm, tS, tO, rn, rA, tb, pl, co, wi, wo, ki, ta, so, sg, ma) (nI w) (nI o) x := by
  unfold wpX_next
  refine ax_bs0 hw (br_t rfl ?_)
  refine ax_bs0 ho (br_t rfl ?_)
  refine Exists.intro (T + 1) (ax_nx25 R K T 0 (-4) (by omega) (Or.inl ⟨rfl, fun e _ => ?_⟩))
  show ((decide (0 ≤ tb e ∧ (tb e).toNatClampNeg < 0) && aw_fit (ss e) (nI w) (nI o)) && !decide (nI e < x)) = false
  rw [aw_tst0]; rfl
/-! sum -/
theorem ax_sm68 (R : aw_R T tS tO rn rA tb pl lv ss) {post : Int32 → Prop} {J : Int32 → Int32 → Prop} {x2 x5 base : Int32} {c t r : Nat} (hc : c < 6) (ht : t < T) (hr : r ≤ 24) (hw : rn t = nI r) (hJ : J (base + aw_sm (fun k => co (c * 24 + (rA (t * 24 + k)).toNatClampNeg)) r) (nI (t + 1))) : ∀ d k, k + d = r → wX_sum_68 post J x2 (nI c) x5 (nI t) ft fs fl fc fm tS tO rn rA tb pl co wi wo ki ta so sg ma (d + 1) (base + aw_sm (fun k => co (c * 24 + (rA (t * 24 + k)).toNatClampNeg)) k) (nI k) := by
  have hT := R.1
  have vt : vp_in (nI t) 64 := vp_in_nI (by omega) (by omega)
  have cw : rn (nI t).toNatClampNeg = nI r := by rw [nI_clamp (by omega)]; exact hw
  obtain ⟨r1, hr1, hw1, hrow⟩ := aw_rw R ht
  have er1 : r1 = r := aw_inj (hw1.symm.trans hw) (by omega) (by omega)
  subst er1
  intro d
  induction d with
  | zero =>
    intro k hk
    have ek : k = r1 := by omega
    subst ek
    exact And.intro vt (br_t (by rw [cw]; exact nI_le (Nat.le_refl k) (by omega)) (nm_r (nI_1 t) hJ))
  | succ d ih =>
    intro k hk
    obtain ⟨e0, he0, q1, q2, q3⟩ := hrow k (by omega)
    have iy : nI c * 24 + rA (nI t * 24 + nI k).toNatClampNeg = nI (c * 24 + e0) := by rw [aw_ix, nI_clamp (by omega), q1, aw_ix]
    have hs : base + aw_sm (fun k => co (c * 24 + (rA (t * 24 + k)).toNatClampNeg)) k + co (nI c * 24 + rA (nI t * 24 + nI k).toNatClampNeg).toNatClampNeg = base + aw_sm (fun k => co (c * 24 + (rA (t * 24 + k)).toNatClampNeg)) (k + 1) := by
      rw [iy, nI_clamp (by omega), Int32.add_assoc]
      show _ = base + (aw_sm (fun k => co (c * 24 + (rA (t * 24 + k)).toNatClampNeg)) k + co (c * 24 + (rA (t * 24 + k)).toNatClampNeg))
      rw [aw_cl q1 (by omega)]
    exact And.intro vt (br_f (by rw [cw]; exact nI_ge (by omega) (by omega)) ⟨pk_in (t * 24 + k) 1536 (by omega) (aw_ix t k), pk_in (c * 24 + e0) 144 (by omega) iy, nm_r hs (nm_r (nI_1 k) (ih (k + 1) (by omega)))⟩)
theorem ax_sm39 (R : aw_R T tS tO rn rA tb pl lv ss) {post : Int32 → Prop} {x2 x5 : Int32} {c : Nat} (hc : c < 6) (h : post (aw_sm (fun t => if aw_fit (tS t) x5 x2 then aw_sm (fun k => co (c * 24 + (rA (t * 24 + k)).toNatClampNeg)) (rn t).toNatClampNeg else 0) T)) : ∀ d t, t + d = T → wX_sum_39 post x2 (nI c) x5 (nI T) fs fl fc fm tS tO rn rA tb pl co wi wo ki ta so sg ma (d + 1) (aw_sm (fun t => if aw_fit (tS t) x5 x2 then aw_sm (fun k => co (c * 24 + (rA (t * 24 + k)).toNatClampNeg)) (rn t).toNatClampNeg else 0) t) (nI t) := by
  have hT := R.1
  intro d
  induction d with
  | zero =>
    intro t ht
    have e : t = T := by omega
    subst e
    exact br_t (nI_le (Nat.le_refl t) (by omega)) h
  | succ d ih =>
    intro t ht
    have ct : (nI t).toNatClampNeg = t := nI_clamp (by omega)
    have vt : vp_in (nI t) 64 := vp_in_nI (by omega) (by omega)
    have hs : aw_sm (fun t => if aw_fit (tS t) x5 x2 then aw_sm (fun k => co (c * 24 + (rA (t * 24 + k)).toNatClampNeg)) (rn t).toNatClampNeg else 0) (t + 1) = aw_sm (fun t => if aw_fit (tS t) x5 x2 then aw_sm (fun k => co (c * 24 + (rA (t * 24 + k)).toNatClampNeg)) (rn t).toNatClampNeg else 0) t + (if aw_fit (tS t) x5 x2 then aw_sm (fun k => co (c * 24 + (rA (t * 24 + k)).toNatClampNeg)) (rn t).toNatClampNeg else 0) := rfl
    have hi := ih (t + 1) (by omega)
    refine br_f (nI_ge (by omega) (by omega)) ⟨vt, ax_fits (fun hf => ?_) (fun hf => ?_)⟩
    · rw [ct] at hf
      obtain ⟨r, hr, hw, _⟩ := aw_rw R (t := t) (by omega)
      rw [hs, if_pos hf, aw_cl hw (by omega)] at hi
      have key := ax_sm68 (ft := nI T) (fs := fs) (fl := fl) (fc := fc) (fm := fm) (co := co) (wi := wi) (wo := wo) (ki := ki) (ta := ta) (so := so) (sg := sg) (ma := ma) (post := post) R (x2 := x2) (x5 := x5) hc (by omega) hr hw hi r 0 (by omega)
      rw [show aw_sm (fun k => co (c * 24 + (rA (t * 24 + k)).toNatClampNeg)) 0 = 0 from rfl, Int32.add_zero] at key
      exact br_f (by decide) ⟨r + 1, key⟩
    · rw [ct] at hf
      rw [hs, if_neg (by rw [hf]; decide), Int32.add_zero] at hi
      exact br_t rfl (nm_r (nI_1 t) hi)
theorem ax_sum (R : aw_R T tS tO rn rA tb pl lv ss) {post : Int32 → Prop} {w o c : Nat} (hw : w < 64) (ho : o < 64) (hc : c < 6) (h : post (aw_sm (fun e => if aw_ft lv ss (nI w) (nI o) e && bt (ss e) c then co (c * 24 + e) else 0) 24)) : wpX_sum post (nI T, fs, fl, fc, fm, tS, tO, rn, rA, tb, pl, co, wi, wo, ki, ta, so, sg, ma) (nI w) (nI o) (nI c) := by
  have e := aw_all R (fun s => aw_fit s (nI w ||| ((1 : Int32) <<< (nI c &&& 31))) (nI o)) (fun e => co (c * 24 + e))
  have e2 : aw_sm (fun e => if !decide (lv e = 0) && aw_fit (ss e) (nI w ||| ((1 : Int32) <<< (nI c &&& 31))) (nI o) then co (c * 24 + e) else 0) 24 = aw_sm (fun e => if aw_ft lv ss (nI w) (nI o) e && bt (ss e) c then co (c * 24 + e) else 0) 24 := by
    refine aw_sm_c 24 (fun e _ => ?_)
    show (if (!decide (lv e = 0) && aw_fit (ss e) (nI w ||| ((1 : Int32) <<< (nI c &&& 31))) (nI o)) = true then co (c * 24 + e) else 0) = if ((!decide (lv e = 0) && aw_fit (ss e) (nI w) (nI o)) && bt (ss e) c) = true then co (c * 24 + e) else 0
    rw [aw_fit_c (by omega), Bool.and_assoc]
  unfold wpX_sum
  refine ax_bs0 hw (br_t rfl ?_)
  refine ax_bs0 ho (br_t rfl ?_)
  refine ax_bp0 hc (br_t rfl ?_)
  exact nm_e (Exists.intro (T + 1) (ax_sm39 R hc (by rw [e, e2]; exact h) T 0 (by omega)))
/-! kinds -/
theorem ax_kin4 {post : Int32 → Prop} (hT : T ≤ 64) (h : post (aw_sm (fun t => if rn t ≤ 0 then 0 else 1) T)) : ∀ d t, t + d = T → wX_kinds_4 post (nI T) fs fl fc fm tS tO rn rA tb pl co wi wo ki ta so sg ma (d + 1) (aw_sm (fun t => if rn t ≤ 0 then 0 else 1) t) (nI t) := by
  intro d
  induction d with
  | zero =>
    intro t ht
    have e : t = T := by omega
    subst e
    exact br_t (nI_le (Nat.le_refl t) (by omega)) h
  | succ d ih =>
    intro t ht
    have ct : (nI t).toNatClampNeg = t := nI_clamp (by omega)
    have vt : vp_in (nI t) 64 := vp_in_nI (by omega) (by omega)
    have hs : aw_sm (fun t => if rn t ≤ 0 then (0 : Int32) else 1) (t + 1) = aw_sm (fun t => if rn t ≤ 0 then 0 else 1) t + (if rn t ≤ 0 then 0 else 1) := rfl
    have hi := ih (t + 1) (by omega)
    refine br_f (nI_ge (by omega) (by omega)) ⟨vt, br_c (fun z => ?_) (fun z => ?_)⟩
    · rw [ct] at z
      rw [hs, if_pos z, Int32.add_zero] at hi
      exact nm_r (nI_1 t) hi
    · rw [ct] at z
      rw [hs, if_neg z] at hi
      exact nm_e (nm_r (nI_1 t) hi)
theorem ax_kinds (R : aw_R T tS tO rn rA tb pl lv ss) {post : Int32 → Prop} (h : post (aw_sm (fun s => if aw_any (fun e => !decide (lv e = 0) && decide (ss e = nI s)) 24 then 1 else 0) 64)) : wpX_kinds post (nI T, fs, fl, fc, fm, tS, tO, rn, rA, tb, pl, co, wi, wo, ki, ta, so, sg, ma) :=
  Exists.intro (T + 1) (ax_kin4 R.1 (by rw [aw_kin R]; exact h) T 0 (by omega))
/-! digest -/
def aw_dg (co : Nat → Int32) (set : Int32) (e c : Nat) : Int32 := (((set >>> (nI c &&& 31)) &&& 1) * nI (6 * e + c + 1)) * co (c * 24 + e)
theorem ax_dg28 {post : Int32 → Prop} {J : Int32 → Int32 → Prop} {set base : Int32} {e : Nat} (he : e < 24) (hJ : J (base + aw_sm (aw_dg co set e) 6) (nI (e + 1))) : ∀ d c, c + d = 6 → wX_digest_28 post J (nI e) set ft fs fl fc fm tS tO rn rA tb pl co wi wo ki ta so sg ma (d + 1) (base + aw_sm (aw_dg co set e) c) (nI c) := by
  intro d
  induction d with
  | zero =>
    intro c hc
    have ec : c = 6 := by omega
    subst ec
    exact br_t (nI_le (a := 6) (b := 6) (by omega) (by omega)) (nm_r (nI_1 e) hJ)
  | succ d ih =>
    intro c hc
    have hs : base + aw_sm (aw_dg co set e) c + ((((set >>> (nI c &&& 31)) &&& 1) * (((6 * nI e) + nI c) + 1)) * (co (nI c * 24 + nI e).toNatClampNeg)) = base + aw_sm (aw_dg co set e) (c + 1) := by
      rw [aw_6, nI_1, aw_ix, nI_clamp (by omega), Int32.add_assoc]; rfl
    exact br_f (nI_ge (b := 6) (by omega) (by omega)) ⟨pk_in (c * 24 + e) 144 (by omega) (aw_ix c e), nm_r hs (nm_r (nI_1 c) (ih (c + 1) (by omega)))⟩
theorem ax_dg4 (R : aw_R T tS tO rn rA tb pl lv ss) {post : Int32 → Prop} (h : post (aw_sm (fun e => if lv e = 0 then 0 else aw_sm (aw_dg co (ss e) e) 6) 24)) : ∀ d e, e + d = 24 → wX_digest_4 post ft fs fl fc fm tS tO rn rA tb pl co wi wo ki ta so sg ma (d + 1) (aw_sm (fun e => if lv e = 0 then 0 else aw_sm (aw_dg co (ss e) e) 6) e) (nI e) := by
  intro d
  induction d with
  | zero =>
    intro e he
    have ee : e = 24 := by omega
    subst ee
    exact br_t (nI_le (a := 24) (b := 24) (by omega) (by omega)) h
  | succ d ih =>
    intro e he
    have he24 : e < 24 := by omega
    have ce : (nI e).toNatClampNeg = e := nI_clamp (by omega)
    have ve : vp_in (nI e) 24 := vp_in_nI (by omega) (by omega)
    have hs : aw_sm (fun e => if lv e = 0 then 0 else aw_sm (aw_dg co (ss e) e) 6) (e + 1) = aw_sm (fun e => if lv e = 0 then 0 else aw_sm (aw_dg co (ss e) e) 6) e + (if lv e = 0 then 0 else aw_sm (aw_dg co (ss e) e) 6) := rfl
    have hi := ih (e + 1) (by omega)
    refine br_f (nI_ge (b := 24) (by omega) (by omega)) ⟨ve, ?_⟩
    by_cases hl : lv e = 0
    · rw [hs, if_pos hl, Int32.add_zero] at hi
      exact br_t (by rw [ce, aw_tbn R he24]; exact hl) (nm_r (nI_1 e) hi)
    · rw [hs, if_neg hl] at hi
      have key := ax_dg28 (ft := ft) (fs := fs) (fl := fl) (fc := fc) (fm := fm) (tS := tS) (tO := tO) (rn := rn) (rA := rA) (tb := tb) (pl := pl) (co := co) (wi := wi) (wo := wo) (ki := ki) (ta := ta) (so := so) (sg := sg) (ma := ma) (post := post) he24 hi 6 0 (by omega)
      rw [show aw_sm (aw_dg co (ss e) e) 0 = 0 from rfl, Int32.add_zero] at key
      exact br_f (by rw [ce, aw_tbn R he24]; exact hl) (ax_setOf R he24 hl ⟨7, key⟩)
theorem ax_digest (R : aw_R T tS tO rn rA tb pl lv ss) {post : Int32 → Prop} (h : post (aw_sm (fun e => if lv e = 0 then 0 else aw_sm (aw_dg co (ss e) e) 6) 24)) : wpX_digest post (ft, fs, fl, fc, fm, tS, tO, rn, rA, tb, pl, co, wi, wo, ki, ta, so, sg, ma) :=
  Exists.intro 25 (ax_dg4 R h 24 0 (by omega))
end
end
section
/-! K: X's constructor and spawn -/
def aw_f4 (n : Nat) : Nat → Int32 := fun j => if j < n then -4 else 0
theorem aw_f4_0 : (fun _ => (0 : Int32)) = aw_f4 0 := by
  funext j
  exact (if_neg (by omega)).symm
theorem aw_f4_s (n : Nat) : upd (aw_f4 n) n (-4) = aw_f4 (n + 1) := by
  funext j
  show (if j = n then (-4 : Int32) else if j < n then -4 else 0) = if j < n + 1 then -4 else 0
  by_cases h : j = n
  · rw [if_pos h, if_pos (by omega)]
  · rw [if_neg h]
    by_cases h2 : j < n
    · rw [if_pos h2, if_pos (by omega)]
    · rw [if_neg h2, if_neg (by omega)]
def aw_fx (co : Nat → Int32) (e : Nat) (v : Int32) (c : Nat) : Nat → Int32 := fun j => if j % 24 = e ∧ j / 24 < c then v else co j
theorem aw_fx_0 (co : Nat → Int32) (e : Nat) (v : Int32) : co = aw_fx co e v 0 := by
  funext j
  exact (if_neg (by omega)).symm
theorem aw_fx_s {co : Nat → Int32} {e : Nat} {v : Int32} {c : Nat} (he : e < 24) : upd (aw_fx co e v c) (c * 24 + e) v = aw_fx co e v (c + 1) := by
  funext j
  show (if j = c * 24 + e then v else if j % 24 = e ∧ j / 24 < c then v else co j) = if j % 24 = e ∧ j / 24 < c + 1 then v else co j
  by_cases h : j = c * 24 + e
  · rw [if_pos h, if_pos (by omega)]
  · rw [if_neg h]
    by_cases h2 : j % 24 = e ∧ j / 24 < c
    · rw [if_pos h2, if_pos (by omega)]
    · rw [if_neg h2, if_neg (by omega)]
section
variable {ft fs fl fc fm : Int32} {tS tO rn rA tb pl co wi wo ki ta so sg : Nat → Int32} {ma : Nat → Int64} {lv ss : Nat → Int32} {T : Nat}
theorem ax_in142 {post : SX → Prop} (h : post (ft, fs, fl, fc, fm, tS, aw_f4 64, rn, rA, tb, pl, co, wi, wo, ki, ta, so, sg, ma)) : ∀ d s f, s + d = 64 → f = aw_f4 s → wX_init_142 post ft fs fl fc fm (d + 1) (nI s) tS f rn rA tb pl co wi wo ki ta so sg ma := by
  intro d
  induction d with
  | zero =>
    intro s f hs hf
    have e : s = 64 := by omega
    subst e
    subst hf
    exact br_t (nI_le (a := 64) (b := 64) (by omega) (by omega)) h
  | succ d ih =>
    intro s f hs hf
    subst hf
    exact br_f (nI_ge (b := 64) (by omega) (by omega)) ⟨vp_in_nI (by omega) (by omega), nm_r (e' := aw_f4 (s + 1)) (by rw [nI_clamp (by omega), aw_f4_s]) (nm_r (nI_1 s) (ih (s + 1) _ (by omega) rfl))⟩
theorem ax_in120 {post : SX → Prop} (h : ∃ n, wX_init_142 post ft fs fl fc fm n 0 tS tO rn rA (aw_f4 24) pl co wi wo ki ta so sg ma) : ∀ d s f, s + d = 24 → f = aw_f4 s → wX_init_120 post ft fs fl fc fm (d + 1) (nI s) tS tO rn rA f pl co wi wo ki ta so sg ma := by
  intro d
  induction d with
  | zero =>
    intro s f hs hf
    have e : s = 24 := by omega
    subst e
    subst hf
    exact br_t (nI_le (a := 24) (b := 24) (by omega) (by omega)) h
  | succ d ih =>
    intro s f hs hf
    subst hf
    exact br_f (nI_ge (b := 24) (by omega) (by omega)) ⟨vp_in_nI (by omega) (by omega), nm_r (e' := aw_f4 (s + 1)) (by rw [nI_clamp (by omega), aw_f4_s]) (nm_r (nI_1 s) (ih (s + 1) _ (by omega) rfl))⟩
theorem ax_init {post : SX → Prop} (h : post (0, 0, 0, 0, 0, (fun _ => 0), aw_f4 64, (fun _ => 0), (fun _ => 0), aw_f4 24, (fun _ => 0), (fun _ => 0), (fun _ => 0), (fun _ => 0), (fun _ => 0), (fun _ => 0), (fun _ => 0), (fun _ => 0), (fun _ => 0))) : wpX_init post :=
  Exists.intro 25 (ax_in120 ⟨65, ax_in142 h 64 0 _ (by omega) aw_f4_0⟩ 24 0 _ (by omega) aw_f4_0)
theorem ax_sp44 {post : Int32 → SX → Prop} {v : Int32} {e : Nat} (he : e < 24) (h : post (nI e) (ft, fs, fl, fc, fm, tS, tO, rn, rA, tb, pl, aw_fx co e v 6, wi, wo, ki, ta, so, sg, ma)) : ∀ d c f, c + d = 6 → f = aw_fx co e v c → wX_spawn_44 post v (nI e) ft fs fl fc fm (d + 1) (nI c) tS tO rn rA tb pl f wi wo ki ta so sg ma := by
  intro d
  induction d with
  | zero =>
    intro c f hc hf
    have ec : c = 6 := by omega
    subst ec
    subst hf
    exact br_t (nI_le (a := 6) (b := 6) (by omega) (by omega)) h
  | succ d ih =>
    intro c f hc hf
    subst hf
    exact br_f (nI_ge (b := 6) (by omega) (by omega)) ⟨pk_in (c * 24 + e) 144 (by omega) (aw_ix c e), nm_r (e' := aw_fx co e v (c + 1)) (by rw [aw_ix, nI_clamp (by omega), aw_fx_s he]) (nm_r (nI_1 c) (ih (c + 1) _ (by omega) rfl))⟩
theorem ax_sp12 (R : aw_R T tS tO rn rA tb pl lv ss) {post : Int32 → SX → Prop} {s v : Int32} {e0 n : Nat} (he0 : e0 ≤ 24) (hl : ∀ e, e < e0 → ¬ lv e = 0) (K : wX_spawn_12 post s v ft fs fl fc fm tS tO rn rA tb pl co wi wo ki ta so sg ma n (nI e0)) : ∀ d e, e + d = e0 → wX_spawn_12 post s v ft fs fl fc fm tS tO rn rA tb pl co wi wo ki ta so sg ma (n + d) (nI e) := by
  intro d
  induction d with
  | zero =>
    intro e he
    have ee : e = e0 := by omega
    subst ee
    exact K
  | succ d ih =>
    intro e he
    have h24 : e < 24 := by omega
    exact br_f (nI_ge (b := 24) (by omega) (by omega)) ⟨vp_in_nI h24 (by omega), br_t (Int32.not_lt.mp (by rw [nI_clamp (by omega), aw_tbn R h24]; exact hl e (by omega))) (nm_r (nI_1 e) (ih (e + 1) (by omega)))⟩
theorem ax_spF (R : aw_R T tS tO rn rA tb pl lv ss) {post : Int32 → SX → Prop} {s : Nat} {v : Int32} (hs : s < 64) (hl : ∀ e, e < 24 → ¬ lv e = 0) (h : post (-2) (ft, fs, fl, fc, fm, tS, tO, rn, rA, tb, pl, co, wi, wo, ki, ta, so, sg, ma)) : wpX_spawn post (ft, fs, fl, fc, fm, tS, tO, rn, rA, tb, pl, co, wi, wo, ki, ta, so, sg, ma) (nI s) v := by
  unfold wpX_spawn
  refine ax_bs0 hs (br_t rfl ?_)
  exact ⟨1 + 24, ax_sp12 R (n := 1) (Nat.le_refl 24) hl (br_t (nI_le (a := 24) (b := 24) (by omega) (by omega)) h) 24 0 (by omega)⟩
theorem ax_spE (R : aw_R T tS tO rn rA tb pl lv ss) {post : Int32 → SX → Prop} {s e0 : Nat} {v : Int32} (hs : s < 64) (he0 : e0 < 24) (hd : lv e0 = 0) (hl : ∀ e, e < e0 → ¬ lv e = 0)
    (K : ∀ (T' : Nat) (tS' tO' rn' rA' tb' pl' : Nat → Int32), aw_R T' tS' tO' rn' rA' tb' pl' (upd lv e0 1) (upd ss e0 (nI s)) → T ≤ T' → (∀ j, j < T → tS' j = tS j) → post (nI e0) (nI T', fs, fl, fc, fm, tS', tO', rn', rA', tb', pl', aw_fx co e0 v 6, wi, wo, ki, ta, so, sg, ma)) : wpX_spawn post (nI T, fs, fl, fc, fm, tS, tO, rn, rA, tb, pl, co, wi, wo, ki, ta, so, sg, ma) (nI s) v := by
  unfold wpX_spawn
  refine ax_bs0 hs (br_t rfl ?_)
  refine ⟨1 + e0, ax_sp12 R (n := 1) (by omega) hl ?_ e0 0 (by omega)⟩
  refine br_f (nI_ge (b := 24) he0 (by omega)) ⟨vp_in_nI he0 (by omega), br_f (by rw [nI_clamp (by omega), aw_dd R he0 hd]; exact aw_m4p) ?_⟩
  refine ax_tf R hs (fun T' tS' tO' rn' t R' hT' hS' ht hts => ?_)
  refine ax_en R' he0 hd ht (lv' := upd lv e0 1) (ss' := upd ss e0 (nI s)) (by rw [pk_us]; decide) (by rw [pk_us, hts]) (fun j _ hj => ⟨pk_un hj, pk_un hj⟩) (fun rn3 rA3 tb3 pl3 R3 => ?_)
  exact ⟨7, ax_sp44 he0 (K T' tS' tO' rn3 rA3 tb3 pl3 R3 hT' hS') 6 0 _ (by omega) (aw_fx_0 co e0 v)⟩
end
end
section
/-! L: X's layout of stages and its matches -/
def aw_S (S : Nat) (ta so : Nat → Int32) : Prop := ∀ s, s < S → ∃ a b, a < 6 ∧ b < 6 ∧ ta s = nI a ∧ so s = nI b
def aw_G (fl fc : Int32) (S : Nat) (ta so sg : Nat → Int32) : Prop := fl = 0 ∨ (fc = nI (aw_mx (aw_L (aw_cf ta so)) S) ∧ ∀ j, j < S → sg j = nI (aw_L (aw_cf ta so) j))
def aw_M (S M : Nat) (tS wi wo : Nat → Int32) (ma : Nat → Int64) : Prop := M = 0 ∨ ∀ i, i < S → ∀ j, j < 64 → (ma i).toBitVec.getLsbD j = (decide (j < M) && aw_fit (tS j) (wi i) (wo i))
def aw_MB (S t s : Nat) (tS wi wo : Nat → Int32) (ma : Nat → Int64) : Prop := ∀ i, i < S → ∀ j, j < 64 → (ma i).toBitVec.getLsbD j = (decide (j < t ∨ (j = t ∧ i < s)) && aw_fit (tS j) (wi i) (wo i))
theorem aw_cf_iff {ta so : Nat → Int32} {s r a b c d : Nat} (ha : a < 6) (hb : b < 6) (hc : c < 6) (hd : d < 6) (e1 : ta s = nI a) (e2 : so s = nI b) (e3 : ta r = nI c) (e4 : so r = nI d) : aw_cf ta so s r = true ↔ (a = c ∨ a = d ∨ c = b) := by
  unfold aw_cf
  rw [Bool.or_eq_true, Bool.or_eq_true, decide_eq_true_eq, decide_eq_true_eq, decide_eq_true_eq, e1, e2, e3, e4, nI_eq (by omega) (by omega), nI_eq (by omega) (by omega), nI_eq (by omega) (by omega), or_assoc]
section
variable {ft fs fl fc fm : Int32} {tS tO rn rA tb pl co wi wo ki ta so sg : Nat → Int32} {ma : Nat → Int64} {S T : Nat}
theorem ax_tou {post : Int32 → Prop} {s : Nat} (hs : s < 8) (h : post (((1 : Int32) <<< (ta s &&& 31)) ||| ((1 : Int32) <<< (so s &&& 31)))) : wpX_touched post (ft, fs, fl, fc, fm, tS, tO, rn, rA, tb, pl, co, wi, wo, ki, ta, so, sg, ma) (nI s) := by
  have vs : vp_in (nI s) 8 := vp_in_nI hs (by omega)
  refine And.intro vs (And.intro vs ?_)
  rw [nI_clamp (by omega)]
  exact h
theorem ax_cf (hS8 : S ≤ 8) (hQ : aw_S S ta so) {s r : Nat} (hs : s < S) (hr : r < S) {post : Int32 → Prop} (h1 : aw_cf ta so s r = true → post 1) (h0 : aw_cf ta so s r = false → post 0) : wpX_conflict post (ft, fs, fl, fc, fm, tS, tO, rn, rA, tb, pl, co, wi, wo, ki, ta, so, sg, ma) (nI s) (nI r) := by
  obtain ⟨a, b, ha, hb, e1, e2⟩ := hQ s hs
  obtain ⟨c, d, hc, hd, e3, e4⟩ := hQ r hr
  have vs : vp_in (nI s) 8 := vp_in_nI (by omega) (by omega)
  have vr : vp_in (nI r) 8 := vp_in_nI (by omega) (by omega)
  have cs : ta (nI s).toNatClampNeg = nI a := by rw [nI_clamp (by omega)]; exact e1
  have cr : ta (nI r).toNatClampNeg = nI c := by rw [nI_clamp (by omega)]; exact e3
  have cf := aw_cf_iff ha hb hc hd e1 e2 e3 e4
  refine And.intro vs (ax_tou (by omega) ?_)
  refine br_c (fun z => And.intro vr (ax_tou (by omega) (br_c (fun y => h0 ?_) (fun y => h1 ?_)))) (fun z => h1 ?_)
  · rw [cs, e3, e4, aw_cfn ha hc hd] at z
    rw [cr, e1, e2, aw_cfn hc ha hb] at y
    refine ts_nt (fun x => ?_)
    have := cf.mp x
    omega
  · rw [cr, e1, e2, aw_cfn hc ha hb] at y
    refine cf.mpr ?_
    omega
  · rw [cs, e3, e4, aw_cfn ha hc hd] at z
    refine cf.mpr ?_
    omega
theorem ax_lo32 (hS8 : S ≤ 8) (hQ : aw_S S ta so) {s : Nat} (hs : s < S) {post : SX → Prop} {J : Int32 → Int32 → (Nat → Int32) → (Nat → Int32) → (Nat → Int32) → (Nat → Int32) → (Nat → Int32) → (Nat → Int32) → (Nat → Int32) → (Nat → Int32) → (Nat → Int32) → (Nat → Int32) → (Nat → Int32) → (Nat → Int32) → (Nat → Int32) → (Nat → Int64) → Prop}
    (hJ : ∀ f : Nat → Int32, (∀ j, j < s + 1 → f j = nI (aw_L (aw_cf ta so) j)) → J (nI (s + 1)) (nI (aw_mx (aw_L (aw_cf ta so)) (s + 1))) tS tO rn rA tb pl co wi wo ki ta so f ma) : ∀ (d r : Nat) (f : Nat → Int32), r + d = s → (∀ j, j < s → f j = nI (aw_L (aw_cf ta so) j)) → f s = nI (aw_inn (aw_cf ta so s) (aw_L (aw_cf ta so)) r) → wX_layOut_32 post J (nI s) ft fs fl (nI (aw_mx (aw_L (aw_cf ta so)) s)) fm (d + 1) (nI r) tS tO rn rA tb pl co wi wo ki ta so f ma := by
  have cs : (nI s).toNatClampNeg = s := nI_clamp (by omega)
  have vs : vp_in (nI s) 8 := vp_in_nI (by omega) (by omega)
  have hL : ∀ j, aw_L (aw_cf ta so) j ≤ j := aw_L_le _
  have hM : aw_mx (aw_L (aw_cf ta so)) s ≤ s := aw_mx_le s (fun i hi => Nat.lt_of_le_of_lt (hL i) hi)
  have hI : ∀ r, r ≤ s → aw_inn (aw_cf ta so s) (aw_L (aw_cf ta so)) r ≤ s := fun r hr => aw_inn_le r (fun i hi => by have := hL i; omega)
  intro d
  induction d with
  | zero =>
    intro r f hr hf hfs
    have er : r = s := by omega
    subst er
    rw [← aw_L_eq] at hfs
    have hfa : ∀ j, j < r + 1 → f j = nI (aw_L (aw_cf ta so) j) := lt_s hf hfs
    have hLr := hL r
    refine br_t (nI_le (Nat.le_refl r) (by omega)) ⟨vs, pk_lt (aw_L (aw_cf ta so) r) (aw_mx (aw_L (aw_cf ta so)) r) (fun z => nm_r (nI_1 r) ?_) (fun z => ⟨vs, nm_r (e' := nI (aw_mx (aw_L (aw_cf ta so)) (r + 1))) ?_ (nm_r (nI_1 r) (hJ f hfa))⟩) (by rw [cs]; exact hfs) rfl (by omega) (by omega)⟩
    · have h := hJ f hfa
      rw [aw_mx_s, if_pos z] at h
      exact h
    · rw [cs, hfs, nI_1, aw_mx_s, if_neg (by omega)]
  | succ d ih =>
    intro r f hr hf hfs
    have cr : (nI r).toNatClampNeg = r := nI_clamp (by omega)
    have vr : vp_in (nI r) 8 := vp_in_nI (by omega) (by omega)
    have hLr := hL r
    have hIr := hI r (by omega)
    have hi := aw_inn_s (q := aw_cf ta so s) (f := aw_L (aw_cf ta so)) (r := r)
    refine br_f (nI_ge (by omega) (by omega)) (ax_cf hS8 hQ hs (by omega) (fun h => ?_) (fun h => ?_))
    · refine br_f (by decide) ⟨vr, vs, pk_lt (aw_L (aw_cf ta so) r) (aw_inn (aw_cf ta so s) (aw_L (aw_cf ta so)) r) (fun z => nm_r (nI_1 r) (ih (r + 1) f (by omega) hf ?_)) (fun z => ⟨vr, vs, nm_r (e' := upd f s (nI (aw_L (aw_cf ta so) r + 1))) ?_ (nm_r (nI_1 r) (ih (r + 1) _ (by omega) (fun j hj => ?_) ?_))⟩) (by rw [cr]; exact hf r (by omega)) (by rw [cs]; exact hfs) (by omega) (by omega)⟩
      · rw [hi, if_neg (by omega)]; exact hfs
      · rw [cr, cs, hf r (by omega), nI_1]
      · rw [pk_un (by omega)]; exact hf j hj
      · rw [pk_us, hi, if_pos ⟨h, z⟩]
    · refine br_t rfl (nm_r (nI_1 r) (ih (r + 1) f (by omega) hf ?_))
      rw [hi, if_neg (fun z => by rw [h] at z; exact absurd z.1 (by decide))]; exact hfs
theorem ax_lo15 (hS8 : S ≤ 8) (hQ : aw_S S ta so) {post : SX → Prop} (K : ∀ f : Nat → Int32, (∀ j, j < S → f j = nI (aw_L (aw_cf ta so) j)) → post (ft, nI S, 1, nI (aw_mx (aw_L (aw_cf ta so)) S), fm, tS, tO, rn, rA, tb, pl, co, wi, wo, ki, ta, so, f, ma)) : ∀ (d s : Nat) (f : Nat → Int32), s + d = S → (∀ j, j < s → f j = nI (aw_L (aw_cf ta so) j)) → wX_layOut_15 post ft (nI S) fl fm (d + 1) (nI s) (nI (aw_mx (aw_L (aw_cf ta so)) s)) tS tO rn rA tb pl co wi wo ki ta so f ma := by
  intro d
  induction d with
  | zero =>
    intro s f hs hf
    have es : s = S := by omega
    subst es
    exact br_t (nI_le (Nat.le_refl s) (by omega)) (K f hf)
  | succ d ih =>
    intro s f hs hf
    have vs : vp_in (nI s) 8 := vp_in_nI (by omega) (by omega)
    refine br_f (nI_ge (by omega) (by omega)) ⟨vs, nm_r (e' := upd f s 0) (by rw [nI_clamp (by omega)]) ⟨s + 1, ?_⟩⟩
    exact ax_lo32 hS8 hQ (by omega) (fun f' hf' => ih (s + 1) f' (by omega) hf') s 0 _ (by omega) (fun j hj => by rw [pk_un (by omega)]; exact hf j hj) pk_us
theorem ax_lay (hS8 : S ≤ 8) (hQ : aw_S S ta so) (hG : aw_G fl fc S ta so sg) {post : SX → Prop} (K : ∀ (fl' : Int32) (f : Nat → Int32), (∀ j, j < S → f j = nI (aw_L (aw_cf ta so) j)) → post (ft, nI S, fl', nI (aw_mx (aw_L (aw_cf ta so)) S), fm, tS, tO, rn, rA, tb, pl, co, wi, wo, ki, ta, so, f, ma)) : wpX_layOut post (ft, nI S, fl, fc, fm, tS, tO, rn, rA, tb, pl, co, wi, wo, ki, ta, so, sg, ma) := by
  refine br_c (fun z => ?_) (fun z => ?_)
  · exact ⟨S + 1, ax_lo15 hS8 hQ (fun f hf => K 1 f hf) S 0 sg (by omega) (fun j hj => by omega)⟩
  · rcases hG with h | ⟨h1, h2⟩
    · exact absurd h z
    · subst h1
      exact K fl sg h2
theorem ax_mt45 (hS8 : S ≤ 8) {t : Nat} (ht : t < 64) {post : SX → Prop} {J : Int32 → (Nat → Int32) → (Nat → Int32) → (Nat → Int32) → (Nat → Int32) → (Nat → Int32) → (Nat → Int32) → (Nat → Int32) → (Nat → Int32) → (Nat → Int32) → (Nat → Int32) → (Nat → Int32) → (Nat → Int32) → (Nat → Int32) → (Nat → Int64) → Prop}
    (hJ : ∀ m, aw_MB S (t + 1) 0 tS wi wo m → J (nI (t + 1)) tS tO rn rA tb pl co wi wo ki ta so sg m) : ∀ d s m, s + d = S → aw_MB S t s tS wi wo m → wX_matchTables_45 post J (nI t) ft (nI S) fl fc fm (d + 1) (nI s) tS tO rn rA tb pl co wi wo ki ta so sg m := by
  have ct : (nI t).toNatClampNeg = t := nI_clamp (by omega)
  have vt : vp_in (nI t) 64 := vp_in_nI ht (by omega)
  intro d
  induction d with
  | zero =>
    intro s m hs hm
    have es : s = S := by omega
    subst es
    refine br_t (nI_le (Nat.le_refl s) (by omega)) (nm_r (nI_1 t) (hJ m (fun i hi j hj => ?_)))
    rw [hm i hi j hj]
    have e : (j < t ∨ (j = t ∧ i < s)) = (j < t + 1 ∨ (j = t + 1 ∧ i < 0)) := propext ⟨fun _ => by omega, fun _ => by omega⟩
    simp only [e]
  | succ d ih =>
    intro s m hs hm
    have cs : (nI s).toNatClampNeg = s := nI_clamp (by omega)
    have vs : vp_in (nI s) 8 := vp_in_nI (by omega) (by omega)
    refine br_f (nI_ge (by omega) (by omega)) ⟨vt, vs, vs, ax_fits (fun h => ?_) (fun h => ?_)⟩
    · rw [ct, cs] at h
      refine br_f (by decide) ⟨vs, vs, nm_r (e' := vp_updL m s (m s ||| ((1 : Int64) <<< ((nI t).toInt64 &&& 63)))) (by rw [cs]) (nm_r (nI_1 s) (ih (s + 1) _ (by omega) (fun i hi j hj => ?_)))⟩
      by_cases ei : i = s
      · subst ei
        rw [pk_uLs, aw_lor ht hj, hm i hi j hj]
        by_cases ej : j = t
        · subst ej
          rw [h]; simp
        · have e : (j < t ∨ (j = t ∧ i < i + 1)) = (j < t ∨ (j = t ∧ i < i)) := propext ⟨fun _ => by omega, fun _ => by omega⟩
          simp only [e, decide_eq_false ej, Bool.or_false]
      · rw [pk_uLn ei, hm i hi j hj]
        have e : (j < t ∨ (j = t ∧ i < s + 1)) = (j < t ∨ (j = t ∧ i < s)) := propext ⟨fun _ => by omega, fun _ => by omega⟩
        simp only [e]
    · rw [ct, cs] at h
      refine br_t rfl (nm_r (nI_1 s) (ih (s + 1) m (by omega) (fun i hi j hj => ?_)))
      rw [hm i hi j hj]
      by_cases ej : j = t ∧ i = s
      · obtain ⟨e1, e2⟩ := ej
        subst e1 e2
        rw [h, Bool.and_false, Bool.and_false]
      · have e : (j < t ∨ (j = t ∧ i < s + 1)) = (j < t ∨ (j = t ∧ i < s)) := propext ⟨fun _ => by omega, fun _ => by omega⟩
        simp only [e]
theorem ax_mt35 (hS8 : S ≤ 8) (hT : T ≤ 64) {post : SX → Prop} (K : ∀ m, aw_MB S T 0 tS wi wo m → post (nI T, nI S, fl, fc, nI T, tS, tO, rn, rA, tb, pl, co, wi, wo, ki, ta, so, sg, m)) : ∀ d t m, t + d = T → aw_MB S t 0 tS wi wo m → wX_matchTables_35 post (nI T) (nI S) fl fc fm (d + 1) (nI t) tS tO rn rA tb pl co wi wo ki ta so sg m := by
  intro d
  induction d with
  | zero =>
    intro t m ht hm
    have et : t = T := by omega
    subst et
    exact br_t (nI_le (Nat.le_refl t) (by omega)) (K m hm)
  | succ d ih =>
    intro t m ht hm
    exact br_f (nI_ge (by omega) (by omega)) ⟨S + 1, ax_mt45 hS8 (by omega) (fun m' hm' => ih (t + 1) m' (by omega) hm') S 0 m (by omega) hm⟩
theorem ax_mt9 (hS8 : S ≤ 8) {post : SX → Prop} (K : ∀ m : Nat → Int64, (∀ i, i < S → m i = 0) → ∃ n, wX_matchTables_35 post ft (nI S) fl fc fm n fm tS tO rn rA tb pl co wi wo ki ta so sg m) : ∀ (d s : Nat) (m : Nat → Int64), s + d = S → (∀ i, i < s → m i = 0) → wX_matchTables_9 post ft (nI S) fl fc fm (d + 1) (nI s) tS tO rn rA tb pl co wi wo ki ta so sg m := by
  intro d
  induction d with
  | zero =>
    intro s m hs hm
    have es : s = S := by omega
    subst es
    exact br_t (nI_le (Nat.le_refl s) (by omega)) (K m hm)
  | succ d ih =>
    intro s m hs hm
    have vs : vp_in (nI s) 8 := vp_in_nI (by omega) (by omega)
    refine br_f (nI_ge (by omega) (by omega)) ⟨vs, nm_r (e' := vp_updL m s 0) (by rw [nI_clamp (by omega)]) (nm_r (nI_1 s) (ih (s + 1) _ (by omega) (fun i hi => ?_)))⟩
    by_cases ei : i = s
    · subst ei; exact pk_uLs
    · rw [pk_uLn ei]; exact hm i (by omega)
theorem ax_mt (hS8 : S ≤ 8) (hT : T ≤ 64) {M : Nat} (hMT : M ≤ T) (hM : aw_M S M tS wi wo ma) {post : SX → Prop} (K : ∀ m, (∀ i, i < S → ∀ j, j < 64 → (m i).toBitVec.getLsbD j = (decide (j < T) && aw_fit (tS j) (wi i) (wo i))) → post (nI T, nI S, fl, fc, nI T, tS, tO, rn, rA, tb, pl, co, wi, wo, ki, ta, so, sg, m)) : wpX_matchTables post (nI T, nI S, fl, fc, nI M, tS, tO, rn, rA, tb, pl, co, wi, wo, ki, ta, so, sg, ma) := by
  have K2 : ∀ m, aw_MB S T 0 tS wi wo m → post (nI T, nI S, fl, fc, nI T, tS, tO, rn, rA, tb, pl, co, wi, wo, ki, ta, so, sg, m) := fun m hm => K m (fun i hi j hj => by
    rw [hm i hi j hj]
    have e : (j < T ∨ (j = T ∧ i < 0)) = (j < T) := propext ⟨fun _ => by omega, fun _ => by omega⟩
    simp only [e])
  refine pk_eq M 0 (fun z => ?_) (fun z => ?_) rfl rfl (by omega) (by omega)
  · subst z
    refine ⟨S + 1, ax_mt9 hS8 (fun m hm => ⟨T + 1, ax_mt35 hS8 hT K2 T 0 m (by omega) (fun i hi j hj => ?_)⟩) S 0 ma (by omega) (fun i hi => by omega)⟩
    rw [hm i hi, decide_eq_false (by omega), Bool.false_and]
    exact BitVec.getLsbD_zero
  · refine ⟨(T - M) + 1, ax_mt35 hS8 hT K2 (T - M) M ma (by omega) (fun i hi j hj => ?_)⟩
    rcases hM with h | h
    · exact absurd h z
    · rw [h i hi j hj]
      have e : (j < M ∨ (j = M ∧ i < 0)) = (j < M) := propext ⟨fun _ => by omega, fun _ => by omega⟩
      simp only [e]
end
end
section
/-! M: X's runs -/
def aw_VX (V : Nat → Nat → Int32) (co : Nat → Int32) : Prop := ∀ e c, e < 24 → c < 6 → co (c * 24 + e) = V e c
def aw_VY (V : Nat → Nat → Int32) (va : Nat → Int32) : Prop := ∀ e c, e < 24 → c < 6 → va (6 * e + c) = V e c
theorem aw_VX_c {V W : Nat → Nat → Int32} {co : Nat → Int32} (h : ∀ e c, e < 24 → c < 6 → V e c = W e c) (hv : aw_VX V co) : aw_VX W co := fun e c he hc => (hv e c he hc).trans (h e c he hc)
theorem aw_VY_c {V W : Nat → Nat → Int32} {va : Nat → Int32} (h : ∀ e c, e < 24 → c < 6 → V e c = W e c) (hv : aw_VY V va) : aw_VY W va := fun e c he hc => (hv e c he hc).trans (h e c he hc)
theorem aw_VX_1 {V : Nat → Nat → Int32} {co : Nat → Int32} {k : Int32} {a b e0 : Nat} (ha : a < 6) (hb : b < 6) (he0 : e0 < 24) (hv : aw_VX V co) : aw_VX (aw_run (fun e => decide (e = e0)) k a b V) (upd co (a * 24 + e0) (aw_wk k (co (a * 24 + e0)) (co (b * 24 + e0)))) := by
  intro e c he hc
  rw [aw_run_i]
  by_cases h : e = e0 ∧ c = a
  · obtain ⟨h1, h2⟩ := h
    subst h1 h2
    rw [pk_us, if_pos ⟨decide_eq_true rfl, rfl⟩, hv e c he hc, hv e b he hb]
  · rw [pk_un (by omega), if_neg (fun z => h ⟨of_decide_eq_true z.1, z.2⟩)]
    exact hv e c he hc
theorem aw_VY_1 {V : Nat → Nat → Int32} {va : Nat → Int32} {k : Int32} {a b e0 : Nat} (ha : a < 6) (hb : b < 6) (he0 : e0 < 24) (hv : aw_VY V va) : aw_VY (aw_run (fun e => decide (e = e0)) k a b V) (upd va (6 * e0 + a) (aw_wk k (va (6 * e0 + a)) (va (6 * e0 + b)))) := by
  intro e c he hc
  rw [aw_run_i]
  by_cases h : e = e0 ∧ c = a
  · obtain ⟨h1, h2⟩ := h
    subst h1 h2
    rw [pk_us, if_pos ⟨decide_eq_true rfl, rfl⟩, hv e c he hc, hv e b he hb]
  · rw [pk_un (by omega), if_neg (fun z => h ⟨of_decide_eq_true z.1, z.2⟩)]
    exact hv e c he hc
/-- one system over all entities -/
def aw_rs (lv ss wi wo ki ta so : Nat → Int32) (s : Nat) (V : Nat → Nat → Int32) : Nat → Nat → Int32 := aw_run (aw_ft lv ss (wi s) (wo s)) (ki s) (ta s).toNatClampNeg (so s).toNatClampNeg V
def aw_ct (lv ss wi wo : Nat → Int32) (s : Nat) : Int32 := aw_sm (fun e => if aw_ft lv ss (wi s) (wo s) e then 1 else 0) 24
theorem aw_rs_com {lv ss wi wo ki ta so : Nat → Int32} {S : Nat} (hQ : aw_S S ta so) {s r : Nat} (hs : s < S) (hr : r < S) (h : aw_cf ta so s r = false) (V : Nat → Nat → Int32) : aw_rs lv ss wi wo ki ta so s (aw_rs lv ss wi wo ki ta so r V) = aw_rs lv ss wi wo ki ta so r (aw_rs lv ss wi wo ki ta so s V) := by
  obtain ⟨a, b, ha, hb, e1, e2⟩ := hQ s hs
  obtain ⟨c, d, hc, hd, e3, e4⟩ := hQ r hr
  have cf := aw_cf_iff ha hb hc hd e1 e2 e3 e4
  have n : ¬ (a = c ∨ a = d ∨ c = b) := fun z => by
    have := cf.mpr z
    rw [h] at this
    exact absurd this (by decide)
  unfold aw_rs
  rw [aw_cl e1 (by omega), aw_cl e2 (by omega), aw_cl e3 (by omega), aw_cl e4 (by omega)]
  exact aw_run_com (by omega) (by omega) (by omega)
section
variable {ft fs fl fc fm : Int32} {tS tO rn rA tb pl co wi wo ki ta so sg : Nat → Int32} {ma : Nat → Int64} {lv ss : Nat → Int32} {S T : Nat}
theorem ax_wk {post : Int32 → Prop} {k x y : Int32} (h : post (aw_wk k x y)) : wpX_worked post (ft, fs, fl, fc, fm, tS, tO, rn, rA, tb, pl, co, wi, wo, ki, ta, so, sg, ma) k x y := by
  unfold aw_wk at h
  refine br_c (fun a => ?_) (fun a => br_c (fun b => ?_) (fun b => br_c (fun c => ?_) (fun c => br_c (fun d => ?_) (fun d => br_c (fun e => ?_) (fun e => ?_)))))
  · rw [if_pos a] at h; exact h
  · rw [if_neg a, if_pos b] at h; exact h
  · rw [if_neg a, if_neg b, if_pos c] at h; exact h
  · rw [if_neg a, if_neg b, if_neg c, if_pos d] at h; exact h
  · rw [if_neg a, if_neg b, if_neg c, if_neg d, if_pos e] at h; exact h
  · rw [if_neg a, if_neg b, if_neg c, if_neg d, if_neg e] at h; exact h
theorem ax_ro24 (R : aw_R T tS tO rn rA tb pl lv ss) {post : Int32 → SX → Prop} {s t r a b : Nat} {V : Nat → Nat → Int32} (hs : s < 8) (ha : a < 6) (hb : b < 6) (ht : t < T) (hr : r ≤ 24) (hw : rn t = nI r)
    (K : ∀ co', aw_VX (aw_run (fun e => decide (tb e = nI t)) (ki s) a b V) co' → post (nI r) (ft, fs, fl, fc, fm, tS, tO, rn, rA, tb, pl, co', wi, wo, ki, ta, so, sg, ma)) : ∀ d k co', k + d = r → aw_VX (aw_run (fun e => decide (tb e = nI t) && decide ((pl e).toNatClampNeg < k)) (ki s) a b V) co' → wX_runOver_24 post (nI s) (nI t) (nI (a * 24)) (nI (b * 24)) ft fs fl fc fm (d + 1) (nI k) tS tO rn rA tb pl co' wi wo ki ta so sg ma := by
  have hT := R.1
  have cs : (nI s).toNatClampNeg = s := nI_clamp (by omega)
  have vs : vp_in (nI s) 8 := vp_in_nI hs (by omega)
  have vt : vp_in (nI t) 64 := vp_in_nI (by omega) (by omega)
  have cw : rn (nI t).toNatClampNeg = nI r := by rw [nI_clamp (by omega)]; exact hw
  obtain ⟨r1, hr1, hw1, hrow⟩ := aw_rw R ht
  have er1 : r1 = r := aw_inj (hw1.symm.trans hw) (by omega) (by omega)
  subst er1
  intro d
  induction d with
  | zero =>
    intro k co' hk hv
    have ek : k = r1 := by omega
    subst ek
    refine And.intro vt (br_t (by rw [cw]; exact nI_le (Nat.le_refl k) (by omega)) (And.intro vt ?_))
    rw [cw]
    exact K co' (aw_VX_c (fun e c he _ => aw_run_c (aw_stpr R ht hr hw he)) hv)
  | succ d ih =>
    intro k co' hk hv
    obtain ⟨e0, he0, q1, q2, q3⟩ := hrow k (by omega)
    have ia : nI (a * 24) + nI e0 = nI (a * 24 + e0) := nI_add _ _
    have ib : nI (b * 24) + nI e0 = nI (b * 24 + e0) := nI_add _ _
    have va : vp_in (nI (a * 24) + nI e0) 144 := pk_in (a * 24 + e0) 144 (by omega) ia
    have vb : vp_in (nI (b * 24) + nI e0) 144 := pk_in (b * 24 + e0) 144 (by omega) ib
    refine And.intro vt (br_f (by rw [cw]; exact nI_ge (by omega) (by omega)) ⟨pk_in (t * 24 + k) 1536 (by omega) (aw_ix t k), nm_r (e' := nI e0) (by rw [aw_ix, nI_clamp (by omega), q1]) ⟨vs, va, vb, ax_wk ⟨va, nm_r (e' := upd co' (a * 24 + e0) (aw_wk (ki s) (co' (a * 24 + e0)) (co' (b * 24 + e0)))) ?_ (nm_r (nI_1 k) (ih (k + 1) _ (by omega) ?_))⟩⟩⟩)
    · rw [cs, ia, ib, nI_clamp (show a * 24 + e0 < 2 ^ 31 by omega), nI_clamp (show b * 24 + e0 < 2 ^ 31 by omega)]
    · refine aw_VX_c (fun e c he _ => ?_) (aw_VX_1 ha hb he0 hv)
      rw [aw_run_or (fun z => ?_)]
      · exact aw_run_c (aw_stp R ht he0 q1 q2 q3 (by omega) he).symm
      · have ee : e = e0 := of_decide_eq_true z
        subst ee
        show (decide (tb e = nI t) && decide ((pl e).toNatClampNeg < k)) = false
        rw [aw_cl q3 (by omega)]; simp
theorem ax_ro (R : aw_R T tS tO rn rA tb pl lv ss) {post : Int32 → SX → Prop} {s t a b : Nat} {V : Nat → Nat → Int32} (hs : s < 8) (ha : a < 6) (hb : b < 6) (e1 : ta s = nI a) (e2 : so s = nI b) (ht : t < T) (hv : aw_VX V co)
    (K : ∀ co', aw_VX (aw_run (fun e => decide (tb e = nI t)) (ki s) a b V) co' → post (rn t) (ft, fs, fl, fc, fm, tS, tO, rn, rA, tb, pl, co', wi, wo, ki, ta, so, sg, ma)) : wpX_runOver post (ft, fs, fl, fc, fm, tS, tO, rn, rA, tb, pl, co, wi, wo, ki, ta, so, sg, ma) (nI s) (nI t) := by
  have cs : (nI s).toNatClampNeg = s := nI_clamp (by omega)
  have vs : vp_in (nI s) 8 := vp_in_nI hs (by omega)
  obtain ⟨r, hr, hw, _⟩ := aw_rw R ht
  rw [hw] at K
  refine And.intro vs (nm_r (e' := nI (a * 24)) (by rw [cs, e1, aw_24]) ⟨vs, nm_r (e' := nI (b * 24)) (by rw [cs, e2, aw_24]) ⟨r + 1, ax_ro24 R hs ha hb ht hr hw K r 0 co (by omega) (aw_VX_c (fun e c he _ => ?_) hv)⟩⟩)
  exact (aw_run_n (by simp)).symm
theorem ax_rs4 (R : aw_R T tS tO rn rA tb pl lv ss) {post : Int32 → SX → Prop} {s a b : Nat} {V : Nat → Nat → Int32} (hs : s < 8) (ha : a < 6) (hb : b < 6) (e1 : ta s = nI a) (e2 : so s = nI b) (hm : ∀ j, j < 64 → (ma s).toBitVec.getLsbD j = (decide (j < T) && aw_fit (tS j) (wi s) (wo s)))
    (K : ∀ co', aw_VX (aw_run (aw_ft lv ss (wi s) (wo s)) (ki s) a b V) co' → post (aw_sm (fun t => if aw_fit (tS t) (wi s) (wo s) then rn t else 0) T) (nI T, fs, fl, fc, fm, tS, tO, rn, rA, tb, pl, co', wi, wo, ki, ta, so, sg, ma)) : ∀ d t co', t + d = T → aw_VX (aw_run (fun e => decide (0 ≤ tb e ∧ (tb e).toNatClampNeg < t) && aw_fit (ss e) (wi s) (wo s)) (ki s) a b V) co' → wX_runSystem_4 post (nI s) (d + 1) (aw_sm (fun t => if aw_fit (tS t) (wi s) (wo s) then rn t else 0) t) (nI t) (nI T) fs fl fc fm tS tO rn rA tb pl co' wi wo ki ta so sg ma := by
  have hT := R.1
  have cs : (nI s).toNatClampNeg = s := nI_clamp (by omega)
  have vs : vp_in (nI s) 8 := vp_in_nI hs (by omega)
  intro d
  induction d with
  | zero =>
    intro t co' ht hv
    have et : t = T := by omega
    subst et
    refine br_t (nI_le (Nat.le_refl t) (by omega)) (K co' (aw_VX_c (fun e c he _ => aw_run_c ?_) hv))
    show (decide (0 ≤ tb e ∧ (tb e).toNatClampNeg < t) && aw_fit (ss e) (wi s) (wo s)) = _
    rw [aw_tstr R he]; rfl
  | succ d ih =>
    intro t co' ht hv
    have hs1 : aw_sm (fun t => if aw_fit (tS t) (wi s) (wo s) then rn t else 0) (t + 1) = aw_sm (fun t => if aw_fit (tS t) (wi s) (wo s) then rn t else 0) t + (if aw_fit (tS t) (wi s) (wo s) then rn t else 0) := rfl
    have hb1 : (((((ma (nI s).toNatClampNeg).toUInt64 >>> ((nI t).toInt64.toUInt64 &&& Int64.toUInt64 63)).toInt64) &&& 1) = 1) ↔ aw_fit (tS t) (wi s) (wo s) = true := by
      rw [cs, aw_lt (by omega), hm t (by omega), decide_eq_true (show t < T by omega), Bool.true_and]
    refine br_f (nI_ge (by omega) (by omega)) ⟨vs, br_c (fun z => ?_) (fun z => ?_)⟩
    · have hf := hb1.mp z
      refine ax_ro R hs ha hb e1 e2 (by omega) hv (fun co2 hv2 => ?_)
      refine nm_r (e' := aw_sm (fun t => if aw_fit (tS t) (wi s) (wo s) then rn t else 0) (t + 1)) (by rw [hs1, if_pos hf]) (nm_r (nI_1 t) (ih (t + 1) co2 (by omega) (aw_VX_c (fun e c he _ => ?_) hv2)))
      rw [aw_run_or (fun y => ?_)]
      · refine aw_run_c ?_
        show ((decide (0 ≤ tb e ∧ (tb e).toNatClampNeg < t) && aw_fit (ss e) (wi s) (wo s)) || decide (tb e = nI t)) = (decide (0 ≤ tb e ∧ (tb e).toNatClampNeg < t + 1) && aw_fit (ss e) (wi s) (wo s))
        rw [aw_tst (by omega), aw_bd]
        by_cases h : tb e = nI t
        · obtain ⟨_, k, r, _, _, _, _, _, _, h8⟩ := aw_tb R he (by omega) h
          rw [h8, hf, Bool.and_true, Bool.and_true]
        · rw [decide_eq_false h, Bool.false_and]
      · have y2 : tb e = nI t := of_decide_eq_true y
        show (decide (0 ≤ tb e ∧ (tb e).toNatClampNeg < t) && aw_fit (ss e) (wi s) (wo s)) = false
        rw [decide_eq_false (fun x => by have := x.2; rw [aw_cl y2 (by omega)] at this; omega), Bool.false_and]
    · have hf : aw_fit (tS t) (wi s) (wo s) = false := ts_nt (fun y => z (hb1.mpr y))
      refine nm_r (nI_1 t) ?_
      have hi := ih (t + 1) co' (by omega) (aw_VX_c (fun e c he _ => aw_run_c ?_) hv)
      · rw [hs1, if_neg (by rw [hf]; decide), Int32.add_zero] at hi
        exact hi
      · show (decide (0 ≤ tb e ∧ (tb e).toNatClampNeg < t) && aw_fit (ss e) (wi s) (wo s)) = (decide (0 ≤ tb e ∧ (tb e).toNatClampNeg < t + 1) && aw_fit (ss e) (wi s) (wo s))
        rw [aw_tst (by omega), aw_bd]
        by_cases h : tb e = nI t
        · obtain ⟨_, k, r, _, _, _, _, _, _, h8⟩ := aw_tb R he (by omega) h
          rw [h8, hf, Bool.and_false, Bool.and_false]; rfl
        · rw [decide_eq_false h, Bool.false_and, Bool.or_false]
theorem ax_rsy (R : aw_R T tS tO rn rA tb pl lv ss) (hS8 : S ≤ 8) (hQ : aw_S S ta so) (hm : ∀ i, i < S → ∀ j, j < 64 → (ma i).toBitVec.getLsbD j = (decide (j < T) && aw_fit (tS j) (wi i) (wo i))) {post : Int32 → SX → Prop} {s : Nat} (hs : s < S) {V : Nat → Nat → Int32} (hv : aw_VX V co)
    (K : ∀ co', aw_VX (aw_rs lv ss wi wo ki ta so s V) co' → post (aw_ct lv ss wi wo s) (nI T, fs, fl, fc, fm, tS, tO, rn, rA, tb, pl, co', wi, wo, ki, ta, so, sg, ma)) : wpX_runSystem post (nI T, fs, fl, fc, fm, tS, tO, rn, rA, tb, pl, co, wi, wo, ki, ta, so, sg, ma) (nI s) := by
  obtain ⟨a, b, ha, hb, e1, e2⟩ := hQ s hs
  have e := aw_allc R (fun x => aw_fit x (wi s) (wo s))
  have K2 : ∀ co', aw_VX (aw_run (aw_ft lv ss (wi s) (wo s)) (ki s) a b V) co' → post (aw_sm (fun t => if aw_fit (tS t) (wi s) (wo s) then rn t else 0) T) (nI T, fs, fl, fc, fm, tS, tO, rn, rA, tb, pl, co', wi, wo, ki, ta, so, sg, ma) := by
    intro co' h
    rw [e]
    refine K co' ?_
    unfold aw_rs
    rw [aw_cl e1 (by omega), aw_cl e2 (by omega)]
    exact h
  refine Exists.intro (T + 1) (ax_rs4 R (by omega) ha hb e1 e2 (hm s hs) K2 T 0 co (by omega) (aw_VX_c (fun e c he _ => ?_) hv))
  exact (aw_run_n (by
    show (decide (0 ≤ tb e ∧ (tb e).toNatClampNeg < 0) && aw_fit (ss e) (wi s) (wo s)) = false
    rw [aw_tst0, Bool.false_and])).symm
theorem ax_st9 (R : aw_R T tS tO rn rA tb pl lv ss) (hS8 : S ≤ 8) (hQ : aw_S S ta so) (hm : ∀ i, i < S → ∀ j, j < 64 → (ma i).toBitVec.getLsbD j = (decide (j < T) && aw_fit (tS j) (wi i) (wo i))) {L : Nat → Nat} (hL : ∀ j, j < S → sg j = nI (L j)) (hL8 : ∀ j, L j ≤ j) {post : Int32 → SX → Prop} {g : Nat} (hg : g < 8) {tot : Int32} : ∀ j, j ≤ S → ∀ (V : Nat → Nat → Int32) (co' : Nat → Int32) (acc : Int32), aw_VX V co' → acc + aw_sm (aw_hs (aw_ct lv ss wi wo) L g) j = tot → (∀ co2, aw_VX (aw_dn (aw_rs lv ss wi wo ki ta so) (fun s => decide (L s = g)) j V) co2 → post tot (nI T, fs, fl, fc, fm, tS, tO, rn, rA, tb, pl, co2, wi, wo, ki, ta, so, sg, ma)) → wX_runStage_9 post (nI g) (j + 1) acc (nI j - 1) (nI T) fs fl fc fm tS tO rn rA tb pl co' wi wo ki ta so sg ma := by
  intro j
  induction j with
  | zero =>
    intro _ V co' acc hv ha K
    refine br_t (by decide) ?_
    have e : acc = tot := by
      rw [← ha]
      exact (Int32.add_zero acc).symm
    rw [e]
    exact K co' hv
  | succ j ih =>
    intro hj V co' acc hv ha K
    have cj : (nI j).toNatClampNeg = j := nI_clamp (by omega)
    have vj : vp_in (nI j) 8 := vp_in_nI (by omega) (by omega)
    have hs1 : aw_sm (aw_hs (aw_ct lv ss wi wo) L g) (j + 1) = aw_sm (aw_hs (aw_ct lv ss wi wo) L g) j + aw_hs (aw_ct lv ss wi wo) L g j := rfl
    have hLj := hL8 j
    rw [nI_pred]
    refine br_f (nI_pos (by omega)) ⟨vj, pk_eq (L j) g (fun z => ?_) (fun z => ?_) (by rw [cj]; exact hL j (by omega)) rfl (by omega) (by omega)⟩
    · refine ax_rsy R hS8 hQ hm (by omega) hv (fun co2 hv2 => ?_)
      refine nm_e (nm_r (Int32.sub_eq_add_neg (nI j) 1).symm (ih (by omega) _ co2 _ hv2 ?_ ?_))
      · rw [← ha, hs1, show aw_hs (aw_ct lv ss wi wo) L g j = aw_ct lv ss wi wo j from if_pos z, Int32.add_assoc, Int32.add_comm (aw_ct lv ss wi wo j)]
      · intro co3 hv3
        refine K co3 ?_
        rw [aw_dn_s, if_pos (decide_eq_true z)]
        exact hv3
    · refine nm_r (Int32.sub_eq_add_neg (nI j) 1).symm (ih (by omega) V co' acc hv ?_ ?_)
      · rw [← ha, hs1, show aw_hs (aw_ct lv ss wi wo) L g j = 0 from if_neg z, Int32.add_zero]
      · intro co3 hv3
        refine K co3 ?_
        rw [aw_dn_s, if_neg (fun y => z (of_decide_eq_true y))]
        exact hv3
theorem ax_sta (R : aw_R T tS tO rn rA tb pl lv ss) (hS8 : S ≤ 8) (hQ : aw_S S ta so) (hm : ∀ i, i < S → ∀ j, j < 64 → (ma i).toBitVec.getLsbD j = (decide (j < T) && aw_fit (tS j) (wi i) (wo i))) (hL : ∀ j, j < S → sg j = nI (aw_L (aw_cf ta so) j)) {post : Int32 → SX → Prop} {g : Nat} (hg : g < 8) {V : Nat → Nat → Int32} (hv : aw_VX V co)
    (K : ∀ co2, aw_VX (aw_up (aw_rs lv ss wi wo ki ta so) (fun s => decide (aw_L (aw_cf ta so) s = g)) S V) co2 → post (aw_sm (aw_hs (aw_ct lv ss wi wo) (aw_L (aw_cf ta so)) g) S) (nI T, nI S, fl, fc, fm, tS, tO, rn, rA, tb, pl, co2, wi, wo, ki, ta, so, sg, ma)) : wpX_runStage post (nI T, nI S, fl, fc, fm, tS, tO, rn, rA, tb, pl, co, wi, wo, ki, ta, so, sg, ma) (nI g) := by
  refine nm_e ⟨S + 1, ax_st9 R hS8 hQ hm hL (aw_L_le _) hg S (Nat.le_refl S) V co 0 hv (Int32.zero_add _) (fun co2 hv2 => K co2 ?_)⟩
  rw [← aw_dn_up S (fun i j hi hj hpi hpj V => ?_)]
  · exact hv2
  · refine aw_rs_com hQ hi (by omega) (ts_nt (fun z => ?_)) V
    have h1 := aw_L_lt hj z
    have h2 := of_decide_eq_true hpi
    have h3 := of_decide_eq_true hpj
    omega
theorem ax_fr26 (R : aw_R T tS tO rn rA tb pl lv ss) (hS8 : S ≤ 8) (hQ : aw_S S ta so) (hm : ∀ i, i < S → ∀ j, j < 64 → (ma i).toBitVec.getLsbD j = (decide (j < T) && aw_fit (tS j) (wi i) (wo i))) (hL : ∀ j, j < S → sg j = nI (aw_L (aw_cf ta so) j)) {C : Nat} (hC : C ≤ 8) {post : Int32 → SX → Prop} {J : Int32 → Int32 → Int32 → Int32 → Int32 → Int32 → Int32 → (Nat → Int32) → (Nat → Int32) → (Nat → Int32) → (Nat → Int32) → (Nat → Int32) → (Nat → Int32) → (Nat → Int32) → (Nat → Int32) → (Nat → Int32) → (Nat → Int32) → (Nat → Int32) → (Nat → Int32) → (Nat → Int32) → (Nat → Int64) → Prop} {x1 base : Int32} {i : Nat} {V : Nat → Nat → Int32}
    (hJ : ∀ co2, aw_VX (aw_sts (aw_rs lv ss wi wo ki ta so) (aw_L (aw_cf ta so)) S C V) co2 → J (base + aw_tot (aw_ct lv ss wi wo) (aw_L (aw_cf ta so)) S C) (nI (i + 1)) (nI T) (nI S) fl (nI C) fm tS tO rn rA tb pl co2 wi wo ki ta so sg ma) : ∀ d g co', g + d = C → aw_VX (aw_sts (aw_rs lv ss wi wo ki ta so) (aw_L (aw_cf ta so)) S g V) co' → wX_frame_26 post J x1 (nI i) (d + 1) (base + aw_tot (aw_ct lv ss wi wo) (aw_L (aw_cf ta so)) S g) (nI g) (nI T) (nI S) fl (nI C) fm tS tO rn rA tb pl co' wi wo ki ta so sg ma := by
  intro d
  induction d with
  | zero =>
    intro g co' hg hv
    have eg : g = C := by omega
    subst eg
    exact br_t (nI_le (Nat.le_refl g) (by omega)) (nm_r (nI_1 i) (hJ co' hv))
  | succ d ih =>
    intro g co' hg hv
    refine br_f (nI_ge (by omega) (by omega)) (ax_sta R hS8 hQ hm hL (by omega) hv (fun co2 hv2 => ?_))
    refine nm_r (e' := base + aw_tot (aw_ct lv ss wi wo) (aw_L (aw_cf ta so)) S (g + 1)) ?_ (nm_r (nI_1 g) (ih (g + 1) co2 (by omega) hv2))
    exact Int32.add_assoc _ _ _
theorem ax_fr12 (R : aw_R T tS tO rn rA tb pl lv ss) (hS8 : S ≤ 8) (hQ : aw_S S ta so) (hm : ∀ i, i < S → ∀ j, j < 64 → (ma i).toBitVec.getLsbD j = (decide (j < T) && aw_fit (tS j) (wi i) (wo i))) (hL : ∀ j, j < S → sg j = nI (aw_L (aw_cf ta so) j)) {C : Nat} (hC : C ≤ 8) {post : Int32 → SX → Prop} {x : Int32} {m : Nat} (hm10 : m ≤ 10) (hx1 : ∀ i, i < m → ¬ x ≤ nI i) (hx2 : m = 10 ∨ x ≤ nI m) {V : Nat → Nat → Int32}
    (K : ∀ co2, aw_VX (aw_it (aw_sts (aw_rs lv ss wi wo ki ta so) (aw_L (aw_cf ta so)) S C) m V) co2 → post (aw_sm (fun _ => aw_tot (aw_ct lv ss wi wo) (aw_L (aw_cf ta so)) S C) m) (nI T, nI S, fl, nI C, fm, tS, tO, rn, rA, tb, pl, co2, wi, wo, ki, ta, so, sg, ma)) : ∀ d i co', i + d = m → aw_VX (aw_it (aw_sts (aw_rs lv ss wi wo ki ta so) (aw_L (aw_cf ta so)) S C) i V) co' → wX_frame_12 post x (d + 1) (aw_sm (fun _ => aw_tot (aw_ct lv ss wi wo) (aw_L (aw_cf ta so)) S C) i) (nI i) (nI T) (nI S) fl (nI C) fm tS tO rn rA tb pl co' wi wo ki ta so sg ma := by
  intro d
  induction d with
  | zero =>
    intro i co' hi hv
    have ei : i = m := by omega
    subst ei
    refine br_c (fun _ => K co' hv) (fun z => ?_)
    rcases hx2 with h | h
    · subst h
      exact br_t (nI_le (a := 10) (b := 10) (by omega) (by omega)) (K co' hv)
    · exact absurd h z
  | succ d ih =>
    intro i co' hi hv
    refine br_f (hx1 i (by omega)) (br_f (nI_ge (b := 10) (by omega) (by omega)) ⟨C + 1, ?_⟩)
    have key := ax_fr26 (fl := fl) (fm := fm) (wi := wi) (wo := wo) (ki := ki) (x1 := x) (post := post) R hS8 hQ hm hL hC (base := aw_sm (fun _ => aw_tot (aw_ct lv ss wi wo) (aw_L (aw_cf ta so)) S C) i) (i := i) (V := aw_it (aw_sts (aw_rs lv ss wi wo ki ta so) (aw_L (aw_cf ta so)) S C) i V) (fun co2 hv2 => ih (i + 1) co2 (by omega) hv2) C 0 co' (by omega) hv
    rw [show aw_tot (aw_ct lv ss wi wo) (aw_L (aw_cf ta so)) S 0 = 0 from rfl, Int32.add_zero] at key
    exact key
theorem ax_frame (R : aw_R T tS tO rn rA tb pl lv ss) (hS8 : S ≤ 8) (hQ : aw_S S ta so) (hG : aw_G fl fc S ta so sg) {M : Nat} (hMT : M ≤ T) (hM : aw_M S M tS wi wo ma) {post : Int32 → SX → Prop} {x : Int32} {m : Nat} (hm10 : m ≤ 10) (hx1 : ∀ i, i < m → ¬ x ≤ nI i) (hx2 : m = 10 ∨ x ≤ nI m) {V : Nat → Nat → Int32} (hv : aw_VX V co)
    (K : ∀ (fl' : Int32) (sg' : Nat → Int32) (ma' : Nat → Int64) (co2 : Nat → Int32), (∀ j, j < S → sg' j = nI (aw_L (aw_cf ta so) j)) → aw_M S T tS wi wo ma' → aw_VX (aw_it (aw_sts (aw_rs lv ss wi wo ki ta so) (aw_L (aw_cf ta so)) S 8) m V) co2 → post (aw_sm (fun _ => aw_tot (aw_ct lv ss wi wo) (aw_L (aw_cf ta so)) S 8) m) (nI T, nI S, fl', nI (aw_mx (aw_L (aw_cf ta so)) S), nI T, tS, tO, rn, rA, tb, pl, co2, wi, wo, ki, ta, so, sg', ma')) : wpX_frame post (nI T, nI S, fl, fc, nI M, tS, tO, rn, rA, tb, pl, co, wi, wo, ki, ta, so, sg, ma) x := by
  have hT := R.1
  have hC : aw_mx (aw_L (aw_cf ta so)) S ≤ 8 := Nat.le_trans (aw_mx_le S (fun i hi => Nat.lt_of_le_of_lt (aw_L_le _ i) hi)) hS8
  have hlt : ∀ s, s < S → aw_L (aw_cf ta so) s < aw_mx (aw_L (aw_cf ta so)) S := fun s hs => aw_mx_gt S s hs
  obtain ⟨d, hd⟩ : ∃ d, 8 = aw_mx (aw_L (aw_cf ta so)) S + d := ⟨8 - aw_mx (aw_L (aw_cf ta so)) S, by omega⟩
  have t8 : aw_tot (aw_ct lv ss wi wo) (aw_L (aw_cf ta so)) S 8 = aw_tot (aw_ct lv ss wi wo) (aw_L (aw_cf ta so)) S (aw_mx (aw_L (aw_cf ta so)) S) := by
    rw [hd]; exact aw_tot_id hlt d
  have f8 : aw_sts (aw_rs lv ss wi wo ki ta so) (aw_L (aw_cf ta so)) S 8 = aw_sts (aw_rs lv ss wi wo ki ta so) (aw_L (aw_cf ta so)) S (aw_mx (aw_L (aw_cf ta so)) S) := by
    funext V
    rw [hd]; exact aw_sts_id hlt d
  rw [t8, f8] at K
  unfold wpX_frame
  refine ax_lay hS8 hQ hG (fun fl' sg' hsg => ?_)
  refine ax_mt hS8 hT hMT hM (fun ma' hma => ?_)
  exact ⟨m + 1, ax_fr12 R hS8 hQ hma hsg hC hm10 hx1 hx2 (fun co2 hv2 => K fl' sg' ma' co2 hsg (Or.inr hma) hv2) m 0 co (by omega) hv⟩
end
end
section
/-! N: Y's methods -/
def aw_fy (va : Nat → Int32) (e : Nat) (v : Int32) (c : Nat) : Nat → Int32 := fun j => if 6 * e ≤ j ∧ j < 6 * e + c then v else va j
theorem aw_fy_0 (va : Nat → Int32) (e : Nat) (v : Int32) : va = aw_fy va e v 0 := by
  funext j
  exact (if_neg (by omega)).symm
theorem aw_fy_s {va : Nat → Int32} {e : Nat} {v : Int32} {c : Nat} : upd (aw_fy va e v c) (6 * e + c) v = aw_fy va e v (c + 1) := by
  funext j
  show (if j = 6 * e + c then v else if 6 * e ≤ j ∧ j < 6 * e + c then v else va j) = if 6 * e ≤ j ∧ j < 6 * e + (c + 1) then v else va j
  by_cases h : j = 6 * e + c
  · rw [if_pos h, if_pos (by omega)]
  · rw [if_neg h]
    by_cases h2 : 6 * e ≤ j ∧ j < 6 * e + c
    · rw [if_pos h2, if_pos (by omega)]
    · rw [if_neg h2, if_neg (by omega)]
theorem aw_vb0 : vp_nar .boolean 0 = 0 := by decide
theorem aw_vb1 : vp_nar .boolean 1 = 1 := by decide
section
variable {gs : Int32} {lv ss va ws wq kk fi se sy : Nat → Int32} {S : Nat}
theorem ay_has {post : Int32 → Prop} {s : Int32} {c : Nat} (hc : c < 32) (h1 : bt s c = true → post 1) (h0 : bt s c = false → post 0) : wpY_has post (gs, lv, ss, va, ws, wq, kk, fi, se, sy) s (nI c) :=
  br_c (fun z => h1 ((aw_bit1 hc s).mp z)) (fun z => h0 (ts_nt (fun y => z ((aw_bit1 hc s).mpr y))))
theorem ay_is1 {post : Int32 → Prop} {s : Nat} (hs : s < 64) (h : post 1) : wpY_isSet post (gs, lv, ss, va, ws, wq, kk, fi, se, sy) (nI s) :=
  br_f (nI_pos (by omega)) (br_f (fun z => absurd ((nI_ltI (a := 63) (b := s) (by omega) (by omega)).mp z) (by omega)) h)
theorem ay_is0 {post : Int32 → Prop} {x : Int32} (hn : ∀ c, c < 64 → ¬ x = nI c) (h : post 0) : wpY_isSet post (gs, lv, ss, va, ws, wq, kk, fi, se, sy) x := by
  rcases pk_ix x (n := 64) (by omega) with a | a | ⟨j, hj, e⟩
  · exact br_t a h
  · by_cases n : x < 0
    · exact br_t n h
    · obtain ⟨j, hj, rfl⟩ := nI_of n
      rw [nI_leI (by omega) hj] at a
      exact br_f n (br_t (nI_lt (a := 63) (by omega) hj) h)
  · exact absurd e (hn j hj)
theorem ay_ic1 {post : Int32 → Prop} {s : Nat} (hs : s < 6) (h : post 1) : wpY_isComponent post (gs, lv, ss, va, ws, wq, kk, fi, se, sy) (nI s) :=
  br_f (nI_pos (by omega)) (br_f (fun z => absurd ((nI_ltI (a := 5) (b := s) (by omega) (by omega)).mp z) (by omega)) h)
theorem ay_ic0 {post : Int32 → Prop} {x : Int32} (hn : ∀ c, c < 6 → ¬ x = nI c) (h : post 0) : wpY_isComponent post (gs, lv, ss, va, ws, wq, kk, fi, se, sy) x := by
  rcases pk_ix x (n := 6) (by omega) with a | a | ⟨j, hj, e⟩
  · exact br_t a h
  · by_cases n : x < 0
    · exact br_t n h
    · obtain ⟨j, hj, rfl⟩ := nI_of n
      rw [nI_leI (by omega) hj] at a
      exact br_f n (br_t (nI_lt (a := 5) (by omega) hj) h)
  · exact absurd e (hn j hj)
theorem ay_al1 {post : Int32 → Prop} {e : Nat} (he : e < 24) (hl : ¬ lv e = 0) (h : post 1) : wpY_isAlive post (gs, lv, ss, va, ws, wq, kk, fi, se, sy) (nI e) :=
  br_f (nI_pos (by omega)) (br_f (fun z => absurd ((nI_ltI (a := 23) (b := e) (by omega) (by omega)).mp z) (by omega)) ⟨vp_in_nI he (by omega), br_f (by rw [nI_clamp (by omega)]; exact hl) h⟩)
theorem ay_al0 {post : Int32 → Prop} {x : Int32} (hn : ∀ e, e < 24 → x = nI e → lv e = 0) (h : post 0) : wpY_isAlive post (gs, lv, ss, va, ws, wq, kk, fi, se, sy) x := by
  rcases pk_ix x (n := 24) (by omega) with a | a | ⟨j, hj, rfl⟩
  · exact br_t a h
  · by_cases n : x < 0
    · exact br_t n h
    · obtain ⟨j, hj, rfl⟩ := nI_of n
      rw [nI_leI (by omega) hj] at a
      exact br_f n (br_t (nI_lt (a := 23) (by omega) hj) h)
  · exact br_f (nI_pos (by omega)) (br_f (fun z => absurd ((nI_ltI (a := 23) (b := j) (by omega) (by omega)).mp z) (by omega)) ⟨vp_in_nI hj (by omega), br_t (by rw [nI_clamp (by omega)]; exact hn j hj rfl) h⟩)
theorem ay_fits {post : Int32 → Prop} {e : Nat} {w o : Int32} (he : e < 24) (h1 : aw_ft lv ss w o e = true → post 1) (h0 : aw_ft lv ss w o e = false → post 0) : wpY_fits post (gs, lv, ss, va, ws, wq, kk, fi, se, sy) (nI e) w o := by
  have ce : (nI e).toNatClampNeg = e := nI_clamp (by omega)
  have ve : vp_in (nI e) 24 := vp_in_nI he (by omega)
  refine And.intro ve (br_c (fun z => h0 ?_) (fun z => ⟨ve, br_c (fun y => ⟨ve, br_c (fun x => h1 ?_) (fun x => h0 ?_)⟩) (fun y => h0 ?_)⟩))
  · rw [ce] at z
    exact ts_nt (fun q => (aw_ft_iff.mp q).1 z)
  · rw [ce] at z y x
    exact aw_ft_iff.mpr ⟨z, aw_fit_t y x⟩
  · rw [ce] at x
    exact ts_nt (fun q => x (aw_fit_iff.mp (aw_ft_iff.mp q).2).2)
  · rw [ce] at y
    exact ts_nt (fun q => y (aw_fit_iff.mp (aw_ft_iff.mp q).2).1)
/-! spawn -/
theorem ay_sp44 {post : Int32 → SY → Prop} {v : Int32} {e : Nat} (he : e < 24) (h : post (nI e) (gs, lv, ss, aw_fy va e v 6, ws, wq, kk, fi, se, sy)) : ∀ d c f, c + d = 6 → f = aw_fy va e v c → wY_spawn_44 post v (nI e) gs (d + 1) (nI c) lv ss f ws wq kk fi se sy := by
  intro d
  induction d with
  | zero =>
    intro c f hc hf
    have ec : c = 6 := by omega
    subst ec
    subst hf
    exact br_t (nI_le (a := 6) (b := 6) (by omega) (by omega)) h
  | succ d ih =>
    intro c f hc hf
    subst hf
    exact br_f (nI_ge (b := 6) (by omega) (by omega)) ⟨pk_in (6 * e + c) 144 (by omega) (aw_6 e c), nm_r (e' := aw_fy va e v (c + 1)) (by rw [aw_6, nI_clamp (by omega), aw_fy_s]) (nm_r (nI_1 c) (ih (c + 1) _ (by omega) rfl))⟩
theorem ay_sp12 {post : Int32 → SY → Prop} {s v : Int32} {e0 n : Nat} (he0 : e0 ≤ 24) (hl : ∀ e, e < e0 → ¬ lv e = 0) (K : wY_spawn_12 post s v gs lv ss va ws wq kk fi se sy n (nI e0)) : ∀ d e, e + d = e0 → wY_spawn_12 post s v gs lv ss va ws wq kk fi se sy (n + d) (nI e) := by
  intro d
  induction d with
  | zero =>
    intro e he
    have ee : e = e0 := by omega
    subst ee
    exact K
  | succ d ih =>
    intro e he
    have h24 : e < 24 := by omega
    exact br_f (nI_ge (b := 24) (by omega) (by omega)) ⟨vp_in_nI h24 (by omega), br_f (by rw [nI_clamp (by omega)]; exact hl e (by omega)) (nm_r (nI_1 e) (ih (e + 1) (by omega)))⟩
theorem ay_spF {post : Int32 → SY → Prop} {s : Nat} {v : Int32} (hs : s < 64) (hl : ∀ e, e < 24 → ¬ lv e = 0) (h : post (-2) (gs, lv, ss, va, ws, wq, kk, fi, se, sy)) : wpY_spawn post (gs, lv, ss, va, ws, wq, kk, fi, se, sy) (nI s) v := by
  unfold wpY_spawn
  refine ay_is1 hs (br_f (by decide) ?_)
  exact ⟨1 + 24, ay_sp12 (n := 1) (Nat.le_refl 24) hl (br_t (nI_le (a := 24) (b := 24) (by omega) (by omega)) h) 24 0 (by omega)⟩
theorem ay_spE {post : Int32 → SY → Prop} {s e0 : Nat} {v : Int32} (hs : s < 64) (he0 : e0 < 24) (hd : lv e0 = 0) (hl : ∀ e, e < e0 → ¬ lv e = 0) (h : post (nI e0) (gs, upd lv e0 1, upd ss e0 (nI s), aw_fy va e0 v 6, ws, wq, kk, fi, se, sy)) : wpY_spawn post (gs, lv, ss, va, ws, wq, kk, fi, se, sy) (nI s) v := by
  have ce : (nI e0).toNatClampNeg = e0 := nI_clamp (by omega)
  have ve : vp_in (nI e0) 24 := vp_in_nI he0 (by omega)
  unfold wpY_spawn
  refine ay_is1 hs (br_f (by decide) ?_)
  refine ⟨1 + e0, ay_sp12 (n := 1) (by omega) hl ?_ e0 0 (by omega)⟩
  refine br_f (nI_ge (b := 24) he0 (by omega)) ⟨ve, br_t (by rw [ce]; exact hd) ⟨ve, nm_r (e' := upd lv e0 1) (by rw [ce, aw_vb1]) ⟨ve, nm_r (e' := upd ss e0 (nI s)) (by rw [ce]) ⟨7, ?_⟩⟩⟩⟩
  exact ay_sp44 he0 h 6 0 _ (by omega) (aw_fy_0 va e0 v)
/-! questions -/
theorem ay_cnt23 {post : Int32 → Prop} {w o : Int32} (h : post (aw_sm (fun e => if aw_ft lv ss w o e then 1 else 0) 24)) : ∀ d e, e + d = 24 → wY_count_23 post w o gs lv ss va ws wq kk fi se sy (d + 1) (aw_sm (fun e => if aw_ft lv ss w o e then 1 else 0) e) (nI e) := by
  intro d
  induction d with
  | zero =>
    intro e he
    have ee : e = 24 := by omega
    subst ee
    exact br_t (nI_le (a := 24) (b := 24) (by omega) (by omega)) h
  | succ d ih =>
    intro e he
    have hs : aw_sm (fun e => if aw_ft lv ss w o e then (1 : Int32) else 0) (e + 1) = aw_sm (fun e => if aw_ft lv ss w o e then 1 else 0) e + (if aw_ft lv ss w o e then 1 else 0) := rfl
    have hi := ih (e + 1) (by omega)
    refine br_f (nI_ge (b := 24) (by omega) (by omega)) (ay_fits (by omega) (fun hf => ?_) (fun hf => ?_))
    · rw [hs, if_pos hf] at hi
      exact br_f (by decide) (nm_e (nm_r (nI_1 e) hi))
    · rw [hs, if_neg (by rw [hf]; decide), Int32.add_zero] at hi
      exact br_t rfl (nm_r (nI_1 e) hi)
theorem ay_count {post : Int32 → Prop} {w o : Nat} (hw : w < 64) (ho : o < 64) (h : post (aw_sm (fun e => if aw_ft lv ss (nI w) (nI o) e then 1 else 0) 24)) : wpY_count post (gs, lv, ss, va, ws, wq, kk, fi, se, sy) (nI w) (nI o) := by
  unfold wpY_count
  refine ay_is1 hw (br_f (by decide) ?_)
  refine ay_is1 ho (br_f (by decide) ?_)
  exact ⟨25, ay_cnt23 h 24 0 (by omega)⟩
theorem ay_nx21 {post : Int32 → Prop} {w o x : Int32} (K : ∀ b, aw_Lm (aw_pf lv ss w o x) b → post b) : ∀ d e, e + d = 24 → (∀ j, j < e → aw_pf lv ss w o x j = false) → wY_next_21 post w o x gs lv ss va ws wq kk fi se sy (d + 1) (nI e) := by
  intro d
  induction d with
  | zero =>
    intro e he hj
    have ee : e = 24 := by omega
    subst ee
    exact br_t (nI_le (a := 24) (b := 24) (by omega) (by omega)) (K _ (Or.inl ⟨rfl, hj⟩))
  | succ d ih =>
    intro e he hj
    refine br_f (nI_ge (b := 24) (by omega) (by omega)) (br_c (fun z => nm_r (nI_1 e) (ih (e + 1) (by omega) (lt_s hj ?_))) (fun z => ay_fits (by omega) (fun hf => br_f (by decide) (K _ (Or.inr ⟨e, by omega, rfl, ?_, hj⟩))) (fun hf => br_t rfl (nm_r (nI_1 e) (ih (e + 1) (by omega) (lt_s hj ?_))))))
    · show (aw_ft lv ss w o e && !decide (nI e < x)) = false
      rw [decide_eq_true z]; exact Bool.and_false _
    · show (aw_ft lv ss w o e && !decide (nI e < x)) = true
      rw [decide_eq_false z, hf]; rfl
    · show (aw_ft lv ss w o e && !decide (nI e < x)) = false
      rw [hf]; rfl
theorem ay_next {post : Int32 → Prop} {w o : Nat} {x : Int32} (hw : w < 64) (ho : o < 64) (K : ∀ b, aw_Lm (aw_pf lv ss (nI w) (nI o) x) b → post b) : wpY_next post (gs, lv, ss, va, ws, wq, kk, fi, se, sy) (nI w) (nI o) x := by
  unfold wpY_next
  refine ay_is1 hw (br_f (by decide) ?_)
  refine ay_is1 ho (br_f (by decide) ?_)
  exact ⟨25, ay_nx21 K 24 0 (by omega) (fun j hj => by omega)⟩
theorem ay_sm32 {post : Int32 → Prop} {w o : Int32} {c : Nat} (hc : c < 6) (h : post (aw_sm (fun e => if aw_ft lv ss w o e && bt (ss e) c then va (6 * e + c) else 0) 24)) : ∀ d e, e + d = 24 → wY_sum_32 post w o (nI c) gs lv ss va ws wq kk fi se sy (d + 1) (aw_sm (fun e => if aw_ft lv ss w o e && bt (ss e) c then va (6 * e + c) else 0) e) (nI e) := by
  intro d
  induction d with
  | zero =>
    intro e he
    have ee : e = 24 := by omega
    subst ee
    exact br_t (nI_le (a := 24) (b := 24) (by omega) (by omega)) h
  | succ d ih =>
    intro e he
    have ce : (nI e).toNatClampNeg = e := nI_clamp (by omega)
    have ve : vp_in (nI e) 24 := vp_in_nI (by omega) (by omega)
    have hs : aw_sm (fun e => if aw_ft lv ss w o e && bt (ss e) c then va (6 * e + c) else 0) (e + 1) = aw_sm (fun e => if aw_ft lv ss w o e && bt (ss e) c then va (6 * e + c) else 0) e + (if aw_ft lv ss w o e && bt (ss e) c then va (6 * e + c) else 0) := rfl
    have hi := ih (e + 1) (by omega)
    refine br_f (nI_ge (b := 24) (by omega) (by omega)) (ay_fits (by omega) (fun hf => br_f (by decide) ⟨ve, ay_has (by omega) (fun hb => ?_) (fun hb => ?_)⟩) (fun hf => ?_))
    · rw [ce] at hb
      rw [hs, if_pos (by rw [hf, hb]; rfl)] at hi
      refine br_f (by decide) ⟨pk_in (6 * e + c) 144 (by omega) (aw_6 e c), nm_r ?_ (nm_r (nI_1 e) hi)⟩
      rw [aw_6, nI_clamp (by omega)]
    · rw [ce] at hb
      rw [hs, if_neg (by rw [hf, hb]; decide), Int32.add_zero] at hi
      exact br_t rfl (nm_r (nI_1 e) hi)
    · rw [hs, if_neg (by rw [hf, Bool.false_and]; decide), Int32.add_zero] at hi
      exact br_t rfl (nm_r (nI_1 e) hi)
theorem ay_sum {post : Int32 → Prop} {w o c : Nat} (hw : w < 64) (ho : o < 64) (hc : c < 6) (h : post (aw_sm (fun e => if aw_ft lv ss (nI w) (nI o) e && bt (ss e) c then va (6 * e + c) else 0) 24)) : wpY_sum post (gs, lv, ss, va, ws, wq, kk, fi, se, sy) (nI w) (nI o) (nI c) := by
  unfold wpY_sum
  refine ay_is1 hw (br_f (by decide) ?_)
  refine ay_is1 ho (br_f (by decide) ?_)
  refine ay_ic1 hc (br_f (by decide) ?_)
  exact ⟨25, ay_sm32 hc h 24 0 (by omega)⟩
theorem ay_kin15 {post : Int32 → Prop} {J : Int32 → Int32 → Prop} {x1 : Int32} {s : Nat} (hs : s < 64) (hJ : J (x1 + (if aw_any (fun e => !decide (lv e = 0) && decide (ss e = nI s)) 24 then 1 else 0)) (nI (s + 1))) : ∀ d e x3, e + d = 24 → x3 = (if aw_any (fun e => !decide (lv e = 0) && decide (ss e = nI s)) e then 1 else 0) → wY_kinds_15 post J x1 (nI s) gs lv ss va ws wq kk fi se sy (d + 1) x3 (nI e) := by
  intro d
  induction d with
  | zero =>
    intro e x3 he hx
    have ee : e = 24 := by omega
    subst ee
    refine br_t (nI_le (a := 24) (b := 24) (by omega) (by omega)) ?_
    by_cases h : aw_any (fun e => !decide (lv e = 0) && decide (ss e = nI s)) 24 = true
    · rw [if_pos h] at hx hJ
      subst hx
      exact br_f (by decide) (nm_e (nm_r (nI_1 s) hJ))
    · rw [if_neg h] at hx hJ
      rw [Int32.add_zero] at hJ
      subst hx
      exact br_t rfl (nm_r (nI_1 s) hJ)
  | succ d ih =>
    intro e x3 he hx
    have ce : (nI e).toNatClampNeg = e := nI_clamp (by omega)
    have ve : vp_in (nI e) 24 := vp_in_nI (by omega) (by omega)
    have hs1 : aw_any (fun e => !decide (lv e = 0) && decide (ss e = nI s)) (e + 1) = (aw_any (fun e => !decide (lv e = 0) && decide (ss e = nI s)) e || (!decide (lv e = 0) && decide (ss e = nI s))) := rfl
    refine br_f (nI_ge (b := 24) (by omega) (by omega)) ?_
    by_cases h : aw_any (fun e => !decide (lv e = 0) && decide (ss e = nI s)) e = true
    · rw [if_pos h] at hx
      subst hx
      exact br_f (by decide) (nm_r (nI_1 e) (ih (e + 1) 1 (by omega) (by rw [hs1, h, Bool.true_or, if_pos rfl])))
    · rw [if_neg h] at hx
      subst hx
      refine br_t rfl ⟨ve, br_c (fun z => nm_r (nI_1 e) (ih (e + 1) 0 (by omega) ?_)) (fun z => ⟨ve, br_c (fun y => nm_r (nI_1 e) (ih (e + 1) 1 (by omega) ?_)) (fun y => nm_r (nI_1 e) (ih (e + 1) 0 (by omega) ?_))⟩)⟩
      · rw [ce] at z
        rw [hs1, ts_nt h, decide_eq_true z]; rfl
      · rw [ce] at z y
        rw [hs1, ts_nt h, decide_eq_false z, decide_eq_true y]; rfl
      · rw [ce] at z y
        rw [hs1, ts_nt h, decide_eq_false z, decide_eq_false y]; rfl
theorem ay_kin4 {post : Int32 → Prop} (h : post (aw_sm (fun s => if aw_any (fun e => !decide (lv e = 0) && decide (ss e = nI s)) 24 then 1 else 0) 64)) : ∀ d s, s + d = 64 → wY_kinds_4 post gs lv ss va ws wq kk fi se sy (d + 1) (aw_sm (fun s => if aw_any (fun e => !decide (lv e = 0) && decide (ss e = nI s)) 24 then 1 else 0) s) (nI s) := by
  intro d
  induction d with
  | zero =>
    intro s hs
    have es : s = 64 := by omega
    subst es
    exact br_t (nI_le (a := 64) (b := 64) (by omega) (by omega)) h
  | succ d ih =>
    intro s hs
    exact br_f (nI_ge (b := 64) (by omega) (by omega)) ⟨25, ay_kin15 (by omega) (ih (s + 1) (by omega)) 24 0 0 (by omega) rfl⟩
theorem ay_kinds {post : Int32 → Prop} (h : post (aw_sm (fun s => if aw_any (fun e => !decide (lv e = 0) && decide (ss e = nI s)) 24 then 1 else 0) 64)) : wpY_kinds post (gs, lv, ss, va, ws, wq, kk, fi, se, sy) :=
  Exists.intro 65 (ay_kin4 h 64 0 (by omega))
/-! get, digest -/
def aw_gt (lv ss va : Nat → Int32) (e c : Nat) : Int32 := if lv e = 0 then 0 else if bt (ss e) c then va (6 * e + c) else 0
theorem ay_get {post : Int32 → Prop} {e c : Nat} (he : e < 24) (hc : c < 6) (h : post (aw_gt lv ss va e c)) : wpY_get post (gs, lv, ss, va, ws, wq, kk, fi, se, sy) (nI e) (nI c) := by
  have ce : (nI e).toNatClampNeg = e := nI_clamp (by omega)
  have ve : vp_in (nI e) 24 := vp_in_nI he (by omega)
  unfold aw_gt at h
  unfold wpY_get
  by_cases hl : lv e = 0
  · rw [if_pos hl] at h
    exact ay_al0 (fun j hj ej => by rw [← aw_inj ej (by omega) (by omega)]; exact hl) (br_t rfl h)
  · rw [if_neg hl] at h
    refine ay_al1 he hl (br_f (by decide) ?_)
    refine ay_ic1 hc (br_f (by decide) ⟨ve, ay_has (by omega) (fun hb => ?_) (fun hb => ?_)⟩)
    · rw [ce] at hb
      rw [if_pos hb] at h
      refine br_f (by decide) ⟨pk_in (6 * e + c) 144 (by omega) (aw_6 e c), ?_⟩
      rw [aw_6, nI_clamp (by omega)]
      exact h
    · rw [ce] at hb
      rw [if_neg (by rw [hb]; decide)] at h
      exact br_t rfl h
theorem ay_dg4 {post : Int32 → Prop} (h : post (aw_sm (fun i => nI (i + 1) * aw_gt lv ss va (i / 6) (i % 6)) 144)) : ∀ d i, i + d = 144 → wY_digest_4 post gs lv ss va ws wq kk fi se sy (d + 1) (aw_sm (fun i => nI (i + 1) * aw_gt lv ss va (i / 6) (i % 6)) i) (nI i) := by
  intro d
  induction d with
  | zero =>
    intro i hi
    have ei : i = 144 := by omega
    subst ei
    exact br_t (nI_le (a := 144) (b := 144) (by omega) (by omega)) h
  | succ d ih =>
    intro i hi
    have e1 : nI i / 6 = nI (i / 6) := pk_div (d := 6) (by omega) (by omega) (by omega)
    have e2 : nI i - nI i / 6 * 6 = nI (i % 6) := pk_rem (d := 6) (by omega) (by omega) (by omega)
    refine br_f (nI_ge (b := 144) (by omega) (by omega)) ⟨by decide, by decide, ?_⟩
    rw [e2, e1]
    refine ay_get (by omega) (by omega) (nm_r (e' := aw_sm (fun i => nI (i + 1) * aw_gt lv ss va (i / 6) (i % 6)) (i + 1)) ?_ (nm_r (nI_1 i) (ih (i + 1) (by omega))))
    rw [nI_1]; rfl
theorem ay_digest {post : Int32 → Prop} (h : post (aw_sm (fun i => nI (i + 1) * aw_gt lv ss va (i / 6) (i % 6)) 144)) : wpY_digest post (gs, lv, ss, va, ws, wq, kk, fi, se, sy) :=
  Exists.intro 145 (ay_dg4 h 144 0 (by omega))
end
end
section
/-! O: Y's layout and runs -/
section
variable {gs : Int32} {lv ss va ws wq kk fi se sy : Nat → Int32} {S : Nat}
theorem ay_dis {post : Int32 → Prop} {s r : Nat} (hs : s < 8) (hr : r < 8) (h1 : (fi s = fi r ∨ fi s = se r) → post 1) (h0 : ¬ (fi s = fi r ∨ fi s = se r) → post 0) : wpY_disturbs post (gs, lv, ss, va, ws, wq, kk, fi, se, sy) (nI s) (nI r) := by
  have cs : (nI s).toNatClampNeg = s := nI_clamp (by omega)
  have cr : (nI r).toNatClampNeg = r := nI_clamp (by omega)
  have vs : vp_in (nI s) 8 := vp_in_nI hs (by omega)
  have vr : vp_in (nI r) 8 := vp_in_nI hr (by omega)
  refine And.intro vs (And.intro vr (br_c (fun z => h1 ?_) (fun z => ⟨vs, vr, br_c (fun y => h1 ?_) (fun y => h0 ?_)⟩)))
  · rw [cs, cr] at z
    exact Or.inl z
  · rw [cs, cr] at y
    exact Or.inr y
  · rw [cs, cr] at z y
    exact fun x => x.elim z y
theorem ay_42 {s r : Nat} (hs8 : s < 8) (hr : r < s) {post : SY → Prop} {J2 J : Int32 → (Nat → Int32) → (Nat → Int32) → (Nat → Int32) → (Nat → Int32) → (Nat → Int32) → (Nat → Int32) → (Nat → Int32) → (Nat → Int32) → (Nat → Int32) → Prop} {a b : Nat} (ha : a < 2 ^ 30) (hb : b < 2 ^ 30) (hf : sy r = nI a) (hfs : sy s = nI b) (h1 : a < b → J (nI (r + 1)) lv ss va ws wq kk fi se sy) (h2 : b ≤ a → J (nI (r + 1)) lv ss va ws wq kk fi se (upd sy s (nI (a + 1)))) : wY_layStages_42 post J2 J (nI s) (nI r) gs lv ss va ws wq kk fi se sy := by
  have cs : (nI s).toNatClampNeg = s := nI_clamp (by omega)
  have cr : (nI r).toNatClampNeg = r := nI_clamp (by omega)
  have vs : vp_in (nI s) 8 := vp_in_nI (by omega) (by omega)
  have vr : vp_in (nI r) 8 := vp_in_nI (by omega) (by omega)
  exact And.intro vr (And.intro vs (pk_lt a b (fun z => nm_r (nI_1 r) (h1 z)) (fun z => ⟨vr, vs, nm_r (e' := upd sy s (nI (a + 1))) (by rw [cs, cr, hf, nI_1]) (nm_r (nI_1 r) (h2 z))⟩) (by rw [cr]; exact hf) (by rw [cs]; exact hfs) (by omega) (by omega)))
theorem ay_ls19 (hS8 : S ≤ 8) {s : Nat} (hs : s < S) {post : SY → Prop} {J : Int32 → (Nat → Int32) → (Nat → Int32) → (Nat → Int32) → (Nat → Int32) → (Nat → Int32) → (Nat → Int32) → (Nat → Int32) → (Nat → Int32) → (Nat → Int32) → Prop}
    (hJ : ∀ f : Nat → Int32, (∀ j, j < s + 1 → f j = nI (aw_L (aw_cf fi se) j)) → J (nI (s + 1)) lv ss va ws wq kk fi se f) : ∀ (d r : Nat) (f : Nat → Int32), r + d = s → (∀ j, j < s → f j = nI (aw_L (aw_cf fi se) j)) → f s = nI (aw_inn (aw_cf fi se s) (aw_L (aw_cf fi se)) r) → wY_layStages_19 post J (nI s) gs (d + 1) (nI r) lv ss va ws wq kk fi se f := by
  have hL : ∀ j, aw_L (aw_cf fi se) j ≤ j := aw_L_le _
  have hI : ∀ r, r ≤ s → aw_inn (aw_cf fi se s) (aw_L (aw_cf fi se)) r ≤ s := fun r hr => aw_inn_le r (fun i hi => by have := hL i; omega)
  intro d
  induction d with
  | zero =>
    intro r f hr hf hfs
    have er : r = s := by omega
    subst er
    rw [← aw_L_eq] at hfs
    exact br_t (nI_le (Nat.le_refl r) (by omega)) (nm_r (nI_1 r) (hJ f (lt_s hf hfs)))
  | succ d ih =>
    intro r f hr hf hfs
    have hLr := hL r
    have hIr := hI r (by omega)
    have hi := aw_inn_s (q := aw_cf fi se s) (f := aw_L (aw_cf fi se)) (r := r)
    have T : aw_cf fi se s r = true → wY_layStages_42 post J (wY_layStages_19 post J (nI s) gs (d + 1)) (nI s) (nI r) gs lv ss va ws wq kk fi se f := by
      intro h
      refine ay_42 (by omega) (by omega) (a := aw_L (aw_cf fi se) r) (b := aw_inn (aw_cf fi se s) (aw_L (aw_cf fi se)) r) (by omega) (by omega) (hf r (by omega)) hfs (fun z => ih (r + 1) f (by omega) hf ?_) (fun z => ih (r + 1) _ (by omega) (fun j hj => ?_) ?_)
      · rw [hi, if_neg (by omega)]; exact hfs
      · rw [pk_un (by omega)]; exact hf j hj
      · rw [pk_us, hi, if_pos ⟨h, z⟩]
    refine br_f (nI_ge (by omega) (by omega)) (ay_dis (by omega) (by omega) (fun h => br_f (by decide) (T ?_)) (fun h => br_t rfl (ay_dis (by omega) (by omega) (fun y => br_f (by decide) (T ?_)) (fun y => br_t rfl (nm_r (nI_1 r) (ih (r + 1) f (by omega) hf ?_))))))
    · unfold aw_cf
      rcases h with z | z
      · rw [decide_eq_true z, Bool.true_or, Bool.true_or]
      · rw [decide_eq_true z, Bool.or_true, Bool.true_or]
    · unfold aw_cf
      rcases y with z | z
      · rw [decide_eq_true z.symm, Bool.true_or, Bool.true_or]
      · rw [decide_eq_true z, Bool.or_true]
    · have hn : aw_cf fi se s r = false := by
        unfold aw_cf
        rw [decide_eq_false (fun z => h (Or.inl z)), decide_eq_false (fun z => h (Or.inr z)), decide_eq_false (fun z => y (Or.inr z))]; rfl
      rw [hi, if_neg (fun z => by rw [hn] at z; exact absurd z.1 (by decide))]; exact hfs
theorem ay_ls2 (hS8 : S ≤ 8) {post : SY → Prop} (K : ∀ f : Nat → Int32, (∀ j, j < S → f j = nI (aw_L (aw_cf fi se) j)) → post (nI S, lv, ss, va, ws, wq, kk, fi, se, f)) : ∀ (d s : Nat) (f : Nat → Int32), s + d = S → (∀ j, j < s → f j = nI (aw_L (aw_cf fi se) j)) → wY_layStages_2 post (nI S) (d + 1) (nI s) lv ss va ws wq kk fi se f := by
  intro d
  induction d with
  | zero =>
    intro s f hs hf
    have es : s = S := by omega
    subst es
    exact br_t (nI_le (Nat.le_refl s) (by omega)) (K f hf)
  | succ d ih =>
    intro s f hs hf
    have vs : vp_in (nI s) 8 := vp_in_nI (by omega) (by omega)
    refine br_f (nI_ge (by omega) (by omega)) ⟨vs, nm_r (e' := upd f s 0) (by rw [nI_clamp (by omega)]) ⟨s + 1, ?_⟩⟩
    exact ay_ls19 hS8 (by omega) (fun f' hf' => ih (s + 1) f' (by omega) hf') s 0 _ (by omega) (fun j hj => by rw [pk_un (by omega)]; exact hf j hj) pk_us
theorem ay_lay (hS8 : S ≤ 8) {post : SY → Prop} (K : ∀ f : Nat → Int32, (∀ j, j < S → f j = nI (aw_L (aw_cf fi se) j)) → post (nI S, lv, ss, va, ws, wq, kk, fi, se, f)) : wpY_layStages post (nI S, lv, ss, va, ws, wq, kk, fi, se, sy) :=
  Exists.intro (S + 1) (ay_ls2 hS8 K S 0 sy (by omega) (fun j hj => by omega))
theorem ay_sts8 (hS8 : S ≤ 8) {L : Nat → Nat} (hL : ∀ j, j < S → sy j = nI (L j)) (hL8 : ∀ j, L j ≤ j) {post : Int32 → SY → Prop} (h : post (nI (aw_mx L S)) (nI S, lv, ss, va, ws, wq, kk, fi, se, sy)) : ∀ d s, s + d = S → wY_stages_8 post (nI S) lv ss va ws wq kk fi se sy (d + 1) (nI (aw_mx L s)) (nI s) := by
  intro d
  induction d with
  | zero =>
    intro s hs
    have es : s = S := by omega
    subst es
    exact br_t (nI_le (Nat.le_refl s) (by omega)) h
  | succ d ih =>
    intro s hs
    have vs : vp_in (nI s) 8 := vp_in_nI (by omega) (by omega)
    have e1 : sy (nI s).toNatClampNeg + 1 = nI (L s + 1) := by rw [nI_clamp (by omega), hL s (by omega), nI_1]
    have hM : aw_mx L s ≤ s := aw_mx_le s (fun i hi => Nat.lt_of_le_of_lt (hL8 i) hi)
    have hLs := hL8 s
    have hi := ih (s + 1) (by omega)
    refine br_f (nI_ge (by omega) (by omega)) ⟨vs, pk_le (L s + 1) (aw_mx L s) (fun z => nm_r (nI_1 s) ?_) (fun z => ⟨vs, nm_r e1 (nm_r (nI_1 s) ?_)⟩) e1 rfl (by omega) (by omega)⟩
    · rw [aw_mx_s, if_pos (by omega)] at hi
      exact hi
    · rw [aw_mx_s, if_neg (by omega)] at hi
      exact hi
theorem ay_wk {post : SY → Prop} {s e a b : Nat} (hs : s < 8) (he : e < 24) (ha : a < 6) (hb : b < 6) (e1 : fi s = nI a) (e2 : se s = nI b) (h : post (gs, lv, ss, upd va (6 * e + a) (aw_wk (kk s) (va (6 * e + a)) (va (6 * e + b))), ws, wq, kk, fi, se, sy)) : wpY_work post (gs, lv, ss, va, ws, wq, kk, fi, se, sy) (nI s) (nI e) := by
  have cs : (nI s).toNatClampNeg = s := nI_clamp (by omega)
  have vs : vp_in (nI s) 8 := vp_in_nI hs (by omega)
  have ia : 6 * nI e + fi (nI s).toNatClampNeg = nI (6 * e + a) := by rw [cs, e1, aw_6]
  have ib : 6 * nI e + se (nI s).toNatClampNeg = nI (6 * e + b) := by rw [cs, e2, aw_6]
  have ca : (nI (6 * e + a)).toNatClampNeg = 6 * e + a := nI_clamp (by omega)
  have vA : vp_in (nI (6 * e + a)) 144 := vp_in_nI (by omega) (by omega)
  unfold aw_wk at h
  refine And.intro vs (nm_r ia ⟨vA, nm_r (e' := va (6 * e + a)) (by rw [ca]) ⟨vs, pk_in (6 * e + b) 144 (by omega) ib, nm_r (e' := va (6 * e + b)) (by rw [ib, nI_clamp (by omega)]) ⟨vs, br_c (fun z => ⟨vA, nm_r (e' := upd va (6 * e + a) (va (6 * e + a) + va (6 * e + b))) (by rw [ca]) ?_⟩) (fun z => ⟨vs, br_c (fun y => ⟨vA, nm_r (e' := upd va (6 * e + a) (va (6 * e + a) - va (6 * e + b))) (by rw [ca]) ?_⟩) (fun y => ⟨vs, br_c (fun x => ⟨vA, nm_r (e' := upd va (6 * e + a) (va (6 * e + b))) (by rw [ca]) ?_⟩) (fun x => ⟨vs, br_c (fun w => ⟨vA, nm_r (e' := upd va (6 * e + a) (va (6 * e + a) * va (6 * e + b))) (by rw [ca]) ?_⟩) (fun w => br_c (fun v => ?_) (fun v => ⟨vA, nm_r (e' := upd va (6 * e + a) 0) (by rw [ca]) ?_⟩))⟩)⟩)⟩)⟩⟩⟩)
  · rw [cs] at z
    rw [if_pos z] at h; exact h
  · rw [cs] at z y
    rw [if_neg z, if_pos y] at h; exact h
  · rw [cs] at z y x
    rw [if_neg z, if_neg y, if_pos x] at h; exact h
  · rw [cs] at z y x w
    rw [if_neg z, if_neg y, if_neg x, if_pos w] at h; exact h
  · rw [cs] at z y x w
    rw [if_neg z, if_neg y, if_neg x, if_neg w, if_pos v] at h
    have ee : upd va (6 * e + a) (va (6 * e + a)) = va := by
      funext j
      by_cases q : j = 6 * e + a
      · rw [q, pk_us]
      · rw [pk_un q]
    rw [ee] at h
    exact h
  · rw [cs] at z y x w
    rw [if_neg z, if_neg y, if_neg x, if_neg w, if_neg v] at h; exact h
theorem ay_rs4 {post : Int32 → SY → Prop} {s a b : Nat} {V : Nat → Nat → Int32} (hs : s < 8) (ha : a < 6) (hb : b < 6) (e1 : fi s = nI a) (e2 : se s = nI b)
    (K : ∀ va', aw_VY (aw_run (aw_ft lv ss (ws s) (wq s)) (kk s) a b V) va' → post (aw_sm (fun e => if aw_ft lv ss (ws s) (wq s) e then 1 else 0) 24) (gs, lv, ss, va', ws, wq, kk, fi, se, sy)) : ∀ d e va', e + d = 24 → aw_VY (aw_run (fun j => decide (j < e) && aw_ft lv ss (ws s) (wq s) j) (kk s) a b V) va' → wY_runSystem_4 post (nI s) (d + 1) (aw_sm (fun e => if aw_ft lv ss (ws s) (wq s) e then 1 else 0) e) (nI e) gs lv ss va' ws wq kk fi se sy := by
  have cs : (nI s).toNatClampNeg = s := nI_clamp (by omega)
  have vs : vp_in (nI s) 8 := vp_in_nI hs (by omega)
  intro d
  induction d with
  | zero =>
    intro e va' he hv
    have ee : e = 24 := by omega
    subst ee
    refine br_t (nI_le (a := 24) (b := 24) (by omega) (by omega)) (K va' (aw_VY_c (fun j c hj _ => aw_run_c ?_) hv))
    show (decide (j < 24) && aw_ft lv ss (ws s) (wq s) j) = _
    rw [decide_eq_true hj, Bool.true_and]
  | succ d ih =>
    intro e va' he hv
    have hs1 : aw_sm (fun e => if aw_ft lv ss (ws s) (wq s) e then (1 : Int32) else 0) (e + 1) = aw_sm (fun e => if aw_ft lv ss (ws s) (wq s) e then 1 else 0) e + (if aw_ft lv ss (ws s) (wq s) e then 1 else 0) := rfl
    refine br_f (nI_ge (b := 24) (by omega) (by omega)) ⟨vs, vs, ay_fits (by omega) (fun hf => ?_) (fun hf => ?_)⟩
    · rw [cs] at hf
      refine br_f (by decide) (ay_wk hs (by omega) ha hb e1 e2 ?_)
      have hi := ih (e + 1) (upd va' (6 * e + a) (aw_wk (kk s) (va' (6 * e + a)) (va' (6 * e + b)))) (by omega) (aw_VY_c (fun j c hj _ => ?_) (aw_VY_1 ha hb (e0 := e) (by omega) hv))
      · rw [hs1, if_pos hf] at hi
        exact nm_e (nm_r (nI_1 e) hi)
      · rw [aw_run_or (fun z => ?_)]
        · refine aw_run_c ?_
          show ((decide (j < e) && aw_ft lv ss (ws s) (wq s) j) || decide (j = e)) = (decide (j < e + 1) && aw_ft lv ss (ws s) (wq s) j)
          by_cases q : j = e
          · subst q
            rw [hf]; simp
          · have q2 : (j < e + 1) = (j < e) := propext ⟨fun _ => by omega, fun _ => by omega⟩
            simp only [q2, decide_eq_false q, Bool.or_false]
        · have ee : j = e := of_decide_eq_true z
          subst ee
          show (decide (j < j) && aw_ft lv ss (ws s) (wq s) j) = false
          simp
    · rw [cs] at hf
      refine br_t rfl (nm_r (nI_1 e) ?_)
      have hi := ih (e + 1) va' (by omega) (aw_VY_c (fun j c hj _ => aw_run_c ?_) hv)
      · rw [hs1, if_neg (by rw [hf]; decide), Int32.add_zero] at hi
        exact hi
      · show (decide (j < e) && aw_ft lv ss (ws s) (wq s) j) = (decide (j < e + 1) && aw_ft lv ss (ws s) (wq s) j)
        by_cases q : j = e
        · subst q
          rw [hf, Bool.and_false, Bool.and_false]
        · have q2 : (j < e + 1) = (j < e) := propext ⟨fun _ => by omega, fun _ => by omega⟩
          simp only [q2]
theorem ay_rsy (hS8 : S ≤ 8) (hQ : aw_S S fi se) {post : Int32 → SY → Prop} {s : Nat} (hs : s < S) {V : Nat → Nat → Int32} (hv : aw_VY V va)
    (K : ∀ va', aw_VY (aw_rs lv ss ws wq kk fi se s V) va' → post (aw_ct lv ss ws wq s) (gs, lv, ss, va', ws, wq, kk, fi, se, sy)) : wpY_runSystem post (gs, lv, ss, va, ws, wq, kk, fi, se, sy) (nI s) := by
  obtain ⟨a, b, ha, hb, e1, e2⟩ := hQ s hs
  have K2 : ∀ va', aw_VY (aw_run (aw_ft lv ss (ws s) (wq s)) (kk s) a b V) va' → post (aw_sm (fun e => if aw_ft lv ss (ws s) (wq s) e then 1 else 0) 24) (gs, lv, ss, va', ws, wq, kk, fi, se, sy) := by
    intro va' h
    refine K va' ?_
    unfold aw_rs
    rw [aw_cl e1 (by omega), aw_cl e2 (by omega)]
    exact h
  refine Exists.intro 25 (ay_rs4 (by omega) ha hb e1 e2 K2 24 0 va (by omega) (aw_VY_c (fun e c he _ => ?_) hv))
  exact (aw_run_n (by
    show (decide (e < 0) && aw_ft lv ss (ws s) (wq s) e) = false
    simp)).symm
theorem ay_rf12 (hS8 : S ≤ 8) (hQ : aw_S S fi se) {L : Nat → Nat} (hL : ∀ j, j < S → sy j = nI (L j)) (hL8 : ∀ j, L j ≤ j) {post : Int32 → SY → Prop} {J : Int32 → Int32 → Int32 → (Nat → Int32) → (Nat → Int32) → (Nat → Int32) → (Nat → Int32) → (Nat → Int32) → (Nat → Int32) → (Nat → Int32) → (Nat → Int32) → (Nat → Int32) → Prop} {g : Nat} (hg : g < 8) {base : Int32} {V : Nat → Nat → Int32}
    (hJ : ∀ va', aw_VY (aw_up (aw_rs lv ss ws wq kk fi se) (fun s => decide (L s = g)) S V) va' → J (base + aw_sm (aw_hs (aw_ct lv ss ws wq) L g) S) (nI (g + 1)) (nI S) lv ss va' ws wq kk fi se sy) : ∀ d s va', s + d = S → aw_VY (aw_up (aw_rs lv ss ws wq kk fi se) (fun s => decide (L s = g)) s V) va' → wY_runFrame_12 post J (nI g) (d + 1) (base + aw_sm (aw_hs (aw_ct lv ss ws wq) L g) s) (nI s) (nI S) lv ss va' ws wq kk fi se sy := by
  intro d
  induction d with
  | zero =>
    intro s va' hs hv
    have es : s = S := by omega
    subst es
    exact br_t (nI_le (Nat.le_refl s) (by omega)) (nm_r (nI_1 g) (hJ va' hv))
  | succ d ih =>
    intro s va' hs hv
    have cs : (nI s).toNatClampNeg = s := nI_clamp (by omega)
    have vs : vp_in (nI s) 8 := vp_in_nI (by omega) (by omega)
    have hLs := hL8 s
    have hs1 : aw_sm (aw_hs (aw_ct lv ss ws wq) L g) (s + 1) = aw_sm (aw_hs (aw_ct lv ss ws wq) L g) s + aw_hs (aw_ct lv ss ws wq) L g s := rfl
    refine br_f (nI_ge (by omega) (by omega)) ⟨vs, pk_eq (L s) g (fun z => ?_) (fun z => ?_) (by rw [cs]; exact hL s (by omega)) rfl (by omega) (by omega)⟩
    · refine ay_rsy hS8 hQ (by omega) hv (fun va2 hv2 => ?_)
      refine nm_r (e' := base + aw_sm (aw_hs (aw_ct lv ss ws wq) L g) (s + 1)) ?_ (nm_r (nI_1 s) (ih (s + 1) va2 (by omega) ?_))
      · rw [hs1, show aw_hs (aw_ct lv ss ws wq) L g s = aw_ct lv ss ws wq s from if_pos z, Int32.add_assoc]
      · rw [aw_up_s, if_pos (decide_eq_true z)]
        exact hv2
    · refine nm_r (nI_1 s) ?_
      have hi := ih (s + 1) va' (by omega) (by rw [aw_up_s, if_neg (fun y => z (of_decide_eq_true y))]; exact hv)
      rw [hs1, show aw_hs (aw_ct lv ss ws wq) L g s = 0 from if_neg z, Int32.add_zero] at hi
      exact hi
theorem ay_rf4 (hS8 : S ≤ 8) (hQ : aw_S S fi se) {L : Nat → Nat} (hL : ∀ j, j < S → sy j = nI (L j)) (hL8 : ∀ j, L j ≤ j) {post : Int32 → SY → Prop} {V : Nat → Nat → Int32}
    (K : ∀ va', aw_VY (aw_sts (aw_rs lv ss ws wq kk fi se) L S 8 V) va' → post (aw_tot (aw_ct lv ss ws wq) L S 8) (nI S, lv, ss, va', ws, wq, kk, fi, se, sy)) : ∀ d g va', g + d = 8 → aw_VY (aw_sts (aw_rs lv ss ws wq kk fi se) L S g V) va' → wY_runFrame_4 post (d + 1) (aw_tot (aw_ct lv ss ws wq) L S g) (nI g) (nI S) lv ss va' ws wq kk fi se sy := by
  intro d
  induction d with
  | zero =>
    intro g va' hg hv
    have eg : g = 8 := by omega
    subst eg
    exact br_t (nI_le (a := 8) (b := 8) (by omega) (by omega)) (K va' hv)
  | succ d ih =>
    intro g va' hg hv
    refine br_f (nI_ge (b := 8) (by omega) (by omega)) ⟨S + 1, ?_⟩
    have key := ay_rf12 (post := post) hS8 hQ hL hL8 (g := g) (by omega) (base := aw_tot (aw_ct lv ss ws wq) L S g) (V := aw_sts (aw_rs lv ss ws wq kk fi se) L S g V) (fun va2 hv2 => ih (g + 1) va2 (by omega) hv2) S 0 va' (by omega) hv
    rw [show aw_sm (aw_hs (aw_ct lv ss ws wq) L g) 0 = 0 from rfl, Int32.add_zero] at key
    exact key
theorem ay_fr8 (hS8 : S ≤ 8) (hQ : aw_S S fi se) {L : Nat → Nat} (hL : ∀ j, j < S → sy j = nI (L j)) (hL8 : ∀ j, L j ≤ j) {post : Int32 → SY → Prop} {x : Int32} {m : Nat} (hm10 : m ≤ 10) (hx1 : ∀ i, i < m → ¬ x ≤ nI i) (hx2 : m = 10 ∨ x ≤ nI m) {V : Nat → Nat → Int32}
    (K : ∀ va', aw_VY (aw_it (aw_sts (aw_rs lv ss ws wq kk fi se) L S 8) m V) va' → post (aw_sm (fun _ => aw_tot (aw_ct lv ss ws wq) L S 8) m) (nI S, lv, ss, va', ws, wq, kk, fi, se, sy)) : ∀ d i va', i + d = m → aw_VY (aw_it (aw_sts (aw_rs lv ss ws wq kk fi se) L S 8) i V) va' → wY_frame_8 post x (d + 1) (aw_sm (fun _ => aw_tot (aw_ct lv ss ws wq) L S 8) i) (nI i) (nI S) lv ss va' ws wq kk fi se sy := by
  intro d
  induction d with
  | zero =>
    intro i va' hi hv
    have ei : i = m := by omega
    subst ei
    refine br_c (fun _ => K va' hv) (fun z => ?_)
    rcases hx2 with h | h
    · subst h
      exact absurd (nI_le (a := 10) (b := 10) (by omega) (by omega)) z
    · exact br_t h (K va' hv)
  | succ d ih =>
    intro i va' hi hv
    refine br_f (nI_ge (b := 10) (by omega) (by omega)) (br_f (hx1 i (by omega)) ?_)
    unfold wpY_runFrame
    refine ⟨9, ay_rf4 hS8 hQ hL hL8 (V := aw_it (aw_sts (aw_rs lv ss ws wq kk fi se) L S 8) i V) (fun va2 hv2 => ?_) 8 0 va' (by omega) hv⟩
    exact nm_e (nm_r (nI_1 i) (ih (i + 1) va2 (by omega) hv2))
theorem ay_frame (hS8 : S ≤ 8) (hQ : aw_S S fi se) {post : Int32 → SY → Prop} {x : Int32} {m : Nat} (hm10 : m ≤ 10) (hx1 : ∀ i, i < m → ¬ x ≤ nI i) (hx2 : m = 10 ∨ x ≤ nI m) {V : Nat → Nat → Int32} (hv : aw_VY V va)
    (K : ∀ sy' va' : Nat → Int32, aw_VY (aw_it (aw_sts (aw_rs lv ss ws wq kk fi se) (aw_L (aw_cf fi se)) S 8) m V) va' → post (aw_sm (fun _ => aw_tot (aw_ct lv ss ws wq) (aw_L (aw_cf fi se)) S 8) m) (nI S, lv, ss, va', ws, wq, kk, fi, se, sy')) : wpY_frame post (nI S, lv, ss, va, ws, wq, kk, fi, se, sy) x := by
  unfold wpY_frame
  refine ay_lay hS8 (fun sy' hsy => ?_)
  exact ⟨m + 1, ay_fr8 hS8 hQ hsy (aw_L_le _) hm10 hx1 hx2 (fun va' h => K sy' va' h) m 0 va (by omega) hv⟩
end
end
section
/-! P: system, on both sides -/
def aw_ok (p q : Nat) : Prop := q % 8 ≤ 4 ∧ q / 8 % 8 < 6 ∧ q / 64 < 6 ∧ bt (nI p) (q / 8 % 8) = true ∧ bt (nI p) (q / 64) = true
theorem aw_b64 {p a : Nat} (hp : p < 2 ^ 32) (ha : a < 6) : bt (nI (p % 64)) a = bt (nI p) a := by
  have e : nI p &&& 63 = nI (p % 64) := pk_andN hp 6 (by decide)
  rw [← e, b_and, aw_b63, decide_eq_true ha, Bool.and_true]
section
variable {ft fs fl fc fm : Int32} {tS tO rn rA tb pl co wi wo ki ta so sg : Nat → Int32} {ma : Nat → Int64} {gs : Int32} {lv ss va ws wq kk fi se sy : Nat → Int32} {S : Nat}
theorem ax_sys (hS8 : S ≤ 8) {p q : Nat} (hp : p ≤ 4095) (hq : q < 2 ^ 31) {post : Int32 → SX → Prop} (hB : ¬ aw_ok p q → post (-1) (ft, nI S, fl, fc, fm, tS, tO, rn, rA, tb, pl, co, wi, wo, ki, ta, so, sg, ma)) (hF : aw_ok p q → S = 8 → post (-2) (ft, nI S, fl, fc, fm, tS, tO, rn, rA, tb, pl, co, wi, wo, ki, ta, so, sg, ma))
    (hK : aw_ok p q → S < 8 → post (nI S) (ft, nI (S + 1), 0, fc, 0, tS, tO, rn, rA, tb, pl, co, upd wi S (nI (p % 64)), upd wo S (nI (p / 64)), upd ki S (nI (q % 8)), upd ta S (nI (q / 8 % 8)), upd so S (nI (q / 64)), sg, ma)) : wpX_system post (ft, nI S, fl, fc, fm, tS, tO, rn, rA, tb, pl, co, wi, wo, ki, ta, so, sg, ma) (nI p) (nI q) := by
  have e1 : nI p &&& 63 = nI (p % 64) := pk_andN (by omega) 6 (by decide)
  have e2 : nI q &&& 7 = nI (q % 8) := pk_andN (by omega) 3 (by decide)
  have e3 : (nI q >>> ((3 : Int32) &&& 31)) &&& 7 = nI (q / 8 % 8) := by
    rw [pk_shrN hq ((3 : Int32) &&& 31) 3 (by decide)]
    exact pk_andN (by omega) 3 (by decide)
  have e4 : nI q >>> ((6 : Int32) &&& 31) = nI (q / 64) := pk_shrN hq ((6 : Int32) &&& 31) 6 (by decide)
  have e5 : nI p >>> ((6 : Int32) &&& 31) = nI (p / 64) := pk_shrN (by omega) ((6 : Int32) &&& 31) 6 (by decide)
  refine nm_r e1 (nm_r e2 (nm_r e3 (nm_r e4 (br_f (nI_pos (by omega)) (br_f (fun z => absurd ((nI_ltI (a := 4095) (b := p) (by omega) (by omega)).mp z) (by omega)) (br_f (nI_pos hq) (br_c (fun z => hB ?_) (fun z => ?_))))))))
  · intro y
    have := (nI_ltI (a := 4) (b := q % 8) (by omega) (by omega)).mp z
    have := y.1
    omega
  · have z1 : q % 8 ≤ 4 := Nat.not_lt.mp (fun y => z (nI_lt (a := 4) y (by omega)))
    by_cases z2 : q / 8 % 8 < 6
    · refine ax_bp0 z2 (br_t rfl ?_)
      by_cases z3 : q / 64 < 6
      · refine ax_bp0 z3 (br_t rfl (br_c (fun z4 => hB ?_) (fun z4 => br_c (fun z5 => hB ?_) (fun z5 => ?_))))
        · intro y
          rw [aw_bit0 (by omega), aw_b64 (by omega) z2, y.2.2.2.1] at z4
          exact absurd z4 (by decide)
        · intro y
          rw [aw_bit0 (by omega), aw_b64 (by omega) z3, y.2.2.2.2] at z5
          exact absurd z5 (by decide)
        · rw [aw_bit0 (by omega), aw_b64 (by omega) z2] at z4
          rw [aw_bit0 (by omega), aw_b64 (by omega) z3] at z5
          have ok : aw_ok p q := ⟨z1, z2, z3, ts_nf z4, ts_nf z5⟩
          have cS : (nI S).toNatClampNeg = S := nI_clamp (by omega)
          refine pk_eq S 8 (fun z => hF ok z) (fun z => ?_) rfl rfl (by omega) (by omega)
          have vS : vp_in (nI S) 8 := vp_in_nI (by omega) (by omega)
          refine ⟨vS, nm_r (e' := upd wi S (nI (p % 64))) (by rw [cS]) ⟨vS, nm_r (e' := upd wo S (nI (p / 64))) (by rw [cS, e5]) ⟨vS, nm_r (e' := upd ki S (nI (q % 8))) (by rw [cS]) ⟨vS, nm_r (e' := upd ta S (nI (q / 8 % 8))) (by rw [cS]) ⟨vS, nm_r (e' := upd so S (nI (q / 64))) (by rw [cS]) (nm_r (nI_1 S) ?_)⟩⟩⟩⟩⟩
          rw [nI_pred]
          exact hK ok (by omega)
      · exact ax_bp1 (fun c hc y => by have := aw_inj y (by omega) (by omega); omega) (br_f (by decide) (hB (fun y => z3 y.2.2.1)))
    · exact ax_bp1 (fun c hc y => by have := aw_inj y (by omega) (by omega); omega) (br_f (by decide) (hB (fun y => z2 y.2.1)))
theorem ay_sys (hS8 : S ≤ 8) {p q : Nat} (hp : p ≤ 4095) (hq : q < 2 ^ 31) {post : Int32 → SY → Prop} (hB : ¬ aw_ok p q → post (-1) (nI S, lv, ss, va, ws, wq, kk, fi, se, sy)) (hF : aw_ok p q → S = 8 → post (-2) (nI S, lv, ss, va, ws, wq, kk, fi, se, sy))
    (hK : aw_ok p q → S < 8 → post (nI S) (nI (S + 1), lv, ss, va, upd ws S (nI (p % 64)), upd wq S (nI (p / 64)), upd kk S (nI (q % 8)), upd fi S (nI (q / 8 % 8)), upd se S (nI (q / 64)), sy)) : wpY_system post (nI S, lv, ss, va, ws, wq, kk, fi, se, sy) (nI p) (nI q) := by
  have e1 : nI p - nI p / 64 * 64 = nI (p % 64) := pk_rem (d := 64) (by omega) (by omega) (by omega)
  have e2 : nI q - nI q / 8 * 8 = nI (q % 8) := pk_rem (d := 8) (by omega) (by omega) (by omega)
  have d1 : nI q / 8 = nI (q / 8) := pk_div (d := 8) (by omega) (by omega) (by omega)
  have e3 : nI q / 8 - nI q / 8 / 8 * 8 = nI (q / 8 % 8) := by
    rw [d1]
    exact pk_rem (d := 8) (by omega) (by omega) (by omega)
  have e4 : nI q / 64 = nI (q / 64) := pk_div (d := 64) (by omega) (by omega) (by omega)
  have e5 : nI p / 64 = nI (p / 64) := pk_div (d := 64) (by omega) (by omega) (by omega)
  have n8 : ¬ (8 : Int32) = 0 := by decide
  have n64 : ¬ (64 : Int32) = 0 := by decide
  refine br_f (nI_pos (by omega)) (br_f (fun z => absurd ((nI_ltI (a := 4095) (b := p) (by omega) (by omega)).mp z) (by omega)) (br_t (nI_pos' hq) ⟨n8, nm_r e2 ⟨n8, n8, nm_r e3 ⟨n64, nm_r e4 ?_⟩⟩⟩))
  refine pk_lt 4 (q % 8) (fun z => hB (fun y => by have := y.1; omega)) (fun z1 => ?_) rfl rfl (by omega) (by omega)
  refine pk_lt 5 (q / 8 % 8) (fun z => hB (fun y => by have := y.2.1; omega)) (fun z2 => ?_) rfl rfl (by omega) (by omega)
  refine pk_lt 5 (q / 64) (fun z => hB (fun y => by have := y.2.2.1; omega)) (fun z3 => ?_) rfl rfl (by omega) (by omega)
  refine ay_has (by omega) (fun z4 => br_f (by decide) ?_) (fun z4 => br_t rfl (hB (fun y => by rw [y.2.2.2.1] at z4; exact absurd z4 (by decide))))
  refine ay_has (by omega) (fun z5 => br_f (by decide) ?_) (fun z5 => br_t rfl (hB (fun y => by rw [y.2.2.2.2] at z5; exact absurd z5 (by decide))))
  have ok : aw_ok p q := ⟨z1, by omega, by omega, z4, z5⟩
  have cS : (nI S).toNatClampNeg = S := nI_clamp (by omega)
  refine pk_eq S 8 (fun z => hF ok z) (fun z => ?_) rfl rfl (by omega) (by omega)
  have vS : vp_in (nI S) 8 := vp_in_nI (by omega) (by omega)
  refine ⟨n64, vS, nm_r (e' := upd ws S (nI (p % 64))) (by rw [cS, e1]) ⟨n64, vS, nm_r (e' := upd wq S (nI (p / 64))) (by rw [cS, e5]) ⟨vS, nm_r (e' := upd kk S (nI (q % 8))) (by rw [cS]) ⟨vS, nm_r (e' := upd fi S (nI (q / 8 % 8))) (by rw [cS]) ⟨vS, nm_r (e' := upd se S (nI (q / 64))) (by rw [cS]) (nm_r (nI_1 S) ?_)⟩⟩⟩⟩⟩
  rw [nI_pred]
  exact hK ok (by omega)
end
end
section
/-! Q: the relation -/
def aw_V (co va : Nat → Int32) : Prop := ∀ e c, e < 24 → c < 6 → co (c * 24 + e) = va (6 * e + c)
def aw_I (ft fs fl fc fm : Int32) (tS tO rn rA tb pl co wi wo ki ta so sg : Nat → Int32) (ma : Nat → Int64) (gs : Int32) (lv ss va ws wq kk fi se sy : Nat → Int32) : Prop :=
  ∃ T S M : Nat, ft = nI T ∧ fs = nI S ∧ fm = nI M ∧ gs = nI S ∧ ws = wi ∧ wq = wo ∧ kk = ki ∧ fi = ta ∧ se = so ∧ S ≤ 8 ∧ M ≤ T ∧ aw_R T tS tO rn rA tb pl lv ss ∧ aw_V co va ∧ aw_S S ta so ∧ aw_M S M tS wi wo ma ∧ aw_G fl fc S ta so sg
/-- the relation at the head of a turn -/
def i_Rel (_ : Nat) (u : SX) (v : SY) : Prop := match u, v with
  | (ft, fs, fl, fc, fm, tS, tO, rn, rA, tb, pl, co, wi, wo, ki, ta, so, sg, ma), (gs, lv, ss, va, ws, wq, kk, fi, se, sy) => aw_I ft fs fl fc fm tS tO rn rA tb pl co wi wo ki ta so sg ma gs lv ss va ws wq kk fi se sy
theorem i_up {k : Nat} {u : SX} {v : SY} (h : i_Rel k u v) : i_Rel (k + 4) u v := h
theorem aw_mk {fl fc : Int32} {tS tO rn rA tb pl co wi wo ki ta so sg : Nat → Int32} {ma : Nat → Int64} {lv ss va sy : Nat → Int32} {k T S M : Nat} (hS : S ≤ 8) (hM : M ≤ T) (R : aw_R T tS tO rn rA tb pl lv ss) (hV : aw_V co va) (hQ : aw_S S ta so) (hm : aw_M S M tS wi wo ma) (hG : aw_G fl fc S ta so sg) : i_Rel k (nI T, nI S, fl, fc, nI M, tS, tO, rn, rA, tb, pl, co, wi, wo, ki, ta, so, sg, ma) (nI S, lv, ss, va, wi, wo, ki, ta, so, sy) := by
  show aw_I (nI T) (nI S) fl fc (nI M) tS tO rn rA tb pl co wi wo ki ta so sg ma (nI S) lv ss va wi wo ki ta so sy
  exact Exists.intro T (Exists.intro S (Exists.intro M ⟨rfl, rfl, rfl, rfl, rfl, rfl, rfl, rfl, rfl, hS, hM, R, hV, hQ, hm, hG⟩))
theorem aw_el {P : SX → SY → Prop} (h : ∀ (T S M : Nat) (fl fc : Int32) (tS tO rn rA tb pl co wi wo ki ta so sg : Nat → Int32) (ma : Nat → Int64) (lv ss va sy : Nat → Int32), S ≤ 8 → M ≤ T → aw_R T tS tO rn rA tb pl lv ss → aw_V co va → aw_S S ta so → aw_M S M tS wi wo ma → aw_G fl fc S ta so sg → P (nI T, nI S, fl, fc, nI M, tS, tO, rn, rA, tb, pl, co, wi, wo, ki, ta, so, sg, ma) (nI S, lv, ss, va, wi, wo, ki, ta, so, sy)) {k : Nat} {u : SX} {v : SY} (I : i_Rel k u v) : P u v := by
  obtain ⟨ft, fs, fl, fc, fm, tS, tO, rn, rA, tb, pl, co, wi, wo, ki, ta, so, sg, ma⟩ := u
  obtain ⟨gs, lv, ss, va, ws, wq, kk, fi, se, sy⟩ := v
  have I2 : aw_I ft fs fl fc fm tS tO rn rA tb pl co wi wo ki ta so sg ma gs lv ss va ws wq kk fi se sy := I
  obtain ⟨T, S, M, e1, e2, e3, e4, e5, e6, e7, e8, e9, h1, h2, h3, h4, h5, h6, h7⟩ := I2
  subst e1 e2 e3 e4 e5 e6 e7 e8 e9
  exact h T S M fl fc tS tO rn rA tb pl co _ _ _ _ _ sg ma lv ss va sy h1 h2 h3 h4 h5 h6 h7
theorem aw_M_up {S M T : Nat} {tS tS' wi wo : Nat → Int32} {ma : Nat → Int64} (hM : M ≤ T) (h : ∀ j, j < T → tS' j = tS j) (hm : aw_M S M tS wi wo ma) : aw_M S M tS' wi wo ma := by
  rcases hm with z | z
  · exact Or.inl z
  · refine Or.inr (fun i hi j hj => ?_)
    rw [z i hi j hj]
    by_cases q : j < M
    · rw [h j (by omega)]
    · rw [decide_eq_false q, Bool.false_and, Bool.false_and]
theorem aw_10 (x : Int32) : ∃ m, m ≤ 10 ∧ (∀ i, i < m → ¬ x ≤ nI i) ∧ (m = 10 ∨ x ≤ nI m) := by
  rcases pk_ix x (n := 10) (by omega) with a | a | ⟨j, hj, rfl⟩
  · exact ⟨0, by omega, fun i hi => by omega, Or.inr (Int32.le_of_lt a)⟩
  · exact ⟨10, Nat.le_refl 10, fun i hi z => absurd ((nI_leI (by omega) (by omega)).mp (Int32.le_trans a z)) (by omega), Or.inl rfl⟩
  · exact ⟨j, by omega, fun i hi => nI_ge hi (by omega), Or.inr (nI_le (Nat.le_refl j) (by omega))⟩
theorem aw_V_sp {co va : Nat → Int32} {e0 : Nat} {v : Int32} (he0 : e0 < 24) (h : aw_V co va) : aw_V (aw_fx co e0 v 6) (aw_fy va e0 v 6) := by
  intro e c he hc
  show (if (c * 24 + e) % 24 = e0 ∧ (c * 24 + e) / 24 < 6 then v else co (c * 24 + e)) = if 6 * e0 ≤ 6 * e + c ∧ 6 * e + c < 6 * e0 + 6 then v else va (6 * e + c)
  by_cases z : e = e0
  · rw [if_pos (by omega), if_pos (by omega)]
  · rw [if_neg (by omega), if_neg (by omega)]
    exact h e c he hc
theorem aw_V_up {co va : Nat → Int32} {e0 c0 : Nat} {v : Int32} (he0 : e0 < 24) (hc0 : c0 < 6) (h : aw_V co va) : aw_V (upd co (c0 * 24 + e0) v) (upd va (6 * e0 + c0) v) := by
  intro e c he hc
  by_cases z : e = e0 ∧ c = c0
  · obtain ⟨z1, z2⟩ := z
    subst z1 z2
    rw [pk_us, pk_us]
  · rw [pk_un (by omega), pk_un (by omega)]
    exact h e c he hc
theorem aw_dgs {co va lv ss : Nat → Int32} (hV : aw_V co va) : aw_sm (fun e => if lv e = 0 then 0 else aw_sm (aw_dg co (ss e) e) 6) 24 = aw_sm (fun i => nI (i + 1) * aw_gt lv ss va (i / 6) (i % 6)) 144 := by
  rw [show (144 : Nat) = 24 * 6 from rfl, aw_sm_m]
  refine aw_sm_c 24 (fun e he => ?_)
  have ix : ∀ c, c < 6 → (6 * e + c) / 6 = e ∧ (6 * e + c) % 6 = c := fun c hc => by omega
  show (if lv e = 0 then 0 else aw_sm (aw_dg co (ss e) e) 6) = aw_sm (fun c => nI (6 * e + c + 1) * aw_gt lv ss va ((6 * e + c) / 6) ((6 * e + c) % 6)) 6
  by_cases hl : lv e = 0
  · rw [if_pos hl, ← aw_sm_0 6]
    refine aw_sm_c 6 (fun c hc => ?_)
    obtain ⟨i1, i2⟩ := ix c hc
    show 0 = nI (6 * e + c + 1) * aw_gt lv ss va ((6 * e + c) / 6) ((6 * e + c) % 6)
    rw [i1, i2, show aw_gt lv ss va e c = 0 from if_pos hl, Int32.mul_zero]
  · rw [if_neg hl]
    refine aw_sm_c 6 (fun c hc => ?_)
    obtain ⟨i1, i2⟩ := ix c hc
    show (((ss e >>> (nI c &&& 31)) &&& 1) * nI (6 * e + c + 1)) * co (c * 24 + e) = nI (6 * e + c + 1) * aw_gt lv ss va ((6 * e + c) / 6) ((6 * e + c) % 6)
    rw [i1, i2, aw_bit (by omega), hV e c he hc, show aw_gt lv ss va e c = (if bt (ss e) c then va (6 * e + c) else 0) from if_neg hl]
    by_cases b : bt (ss e) c = true
    · rw [if_pos b, if_pos b, Int32.one_mul]
    · rw [if_neg b, if_neg b, Int32.zero_mul, Int32.zero_mul, Int32.mul_zero]
/-- a live entity's set is below 64 -/
theorem aw_s64 {T : Nat} {tS tO rn rA tb pl lv ss : Nat → Int32} (R : aw_R T tS tO rn rA tb pl lv ss) {e : Nat} (he : e < 24) (hl : ¬ lv e = 0) : ∃ s, s < 64 ∧ ss e = nI s := by
  obtain ⟨t, k, r, h1, h2, h3, h4, h5, h6, h7, h8⟩ := aw_lv R he hl
  obtain ⟨s, g1, g2, _⟩ := R.2.1 t h1
  exact ⟨s, g1, h8.trans g2⟩
theorem aw_ex {x : Int32} {lv : Nat → Int32} : (∃ e, e < 24 ∧ x = nI e ∧ ¬ lv e = 0) ∨ (∀ e, e < 24 → x = nI e → lv e = 0) := by
  by_cases h : ∃ e, e < 24 ∧ x = nI e ∧ ¬ lv e = 0
  · exact Or.inl h
  · exact Or.inr (fun e he hx => Classical.byContradiction (fun z => h ⟨e, he, hx, z⟩))
theorem aw_em {n : Nat} {x : Int32} : (∃ c, c < n ∧ x = nI c) ∨ (∀ c, c < n → ¬ x = nI c) := by
  by_cases h : ∃ c, c < n ∧ x = nI c
  · exact Or.inl h
  · exact Or.inr (fun c hc z => h ⟨c, hc, z⟩)
end
section
/-! R: what is owed -/
theorem i_vc0 : wpX_init (fun u => wpY_init (fun v => i_Rel 0 u v)) := by
  refine ax_init ?_
  unfold wpY_init
  exact aw_mk (k := 0) (T := 0) (S := 0) (M := 0) (sy := fun _ => 0) (by omega) (by omega) ⟨by omega, fun t h => by omega, fun s h => Or.inl (if_pos h), fun e h => Or.inl ⟨if_pos h, rfl⟩, fun t h => by omega⟩ (fun e c _ _ => rfl) (fun s h => by omega) (Or.inl rfl) (Or.inl rfl)
theorem i_vc_spawn {k : Nat} {u : SX} {v : SY} (I : i_Rel k u v) (hk : k + 4 ≤ 2048) (v1 : Int32) (v2 : Int32) : wpX_spawn (fun r u' => wpY_spawn (fun r' v' => r' = r ∧ i_Rel (k + 4) u' v') v v1 v2) u v1 v2 := by
  refine aw_el (P := fun u v => wpX_spawn (fun r u' => wpY_spawn (fun r' v' => r' = r ∧ i_Rel (k + 4) u' v') v v1 v2) u v1 v2) ?_ I
  intro T S M fl fc tS tO rn rA tb pl co wi wo ki ta so sg ma lv ss va sy hS hM R hV hQ hm hG
  rcases aw_em (n := 64) (x := v1) with ⟨s, hs, rfl⟩ | hn
  · by_cases ha : ∃ e, e < 24 ∧ lv e = 0
    · obtain ⟨e0, ⟨he0, hd⟩, hmin⟩ := pk_least (fun e => e < 24 ∧ lv e = 0) ha
      have hl : ∀ e, e < e0 → ¬ lv e = 0 := fun e he z => hmin e he ⟨by omega, z⟩
      refine ax_spE R hs he0 hd hl (fun T' tS' tO' rn' rA' tb' pl' R' hT' hS' => ?_)
      exact ay_spE hs he0 hd hl ⟨rfl, aw_mk hS (by omega) R' (aw_V_sp he0 hV) hQ (aw_M_up hM hS' hm) hG⟩
    · have hl : ∀ e, e < 24 → ¬ lv e = 0 := fun e he z => ha ⟨e, he, z⟩
      refine ax_spF R hs hl ?_
      exact ay_spF hs hl ⟨rfl, aw_mk hS hM R hV hQ hm hG⟩
  · unfold wpX_spawn
    refine ax_bs1 hn (br_f (by decide) ?_)
    unfold wpY_spawn
    exact ay_is0 hn (br_t rfl ⟨rfl, aw_mk hS hM R hV hQ hm hG⟩)
theorem i_vc_kill {k : Nat} {u : SX} {v : SY} (I : i_Rel k u v) (hk : k + 4 ≤ 2048) (v1 : Int32) : wpX_kill (fun r u' => wpY_kill (fun r' v' => r' = r ∧ i_Rel (k + 4) u' v') v v1) u v1 := by
  refine aw_el (P := fun u v => wpX_kill (fun r u' => wpY_kill (fun r' v' => r' = r ∧ i_Rel (k + 4) u' v') v v1) u v1) ?_ I
  intro T S M fl fc tS tO rn rA tb pl co wi wo ki ta so sg ma lv ss va sy hS hM R hV hQ hm hG
  rcases aw_ex (x := v1) (lv := lv) with ⟨e, he, rfl, hl⟩ | hn
  · have ce : (nI e).toNatClampNeg = e := nI_clamp (by omega)
    have ve : vp_in (nI e) 24 := vp_in_nI he (by omega)
    unfold wpX_kill
    refine ax_lives1 R he hl (br_f (by decide) ?_)
    refine ax_setOf R he hl ?_
    refine ax_le R he hl (lv' := upd lv e 0) (ss' := ss) pk_us (fun j _ hj => ⟨pk_un hj, rfl⟩) (fun rn' rA' tb' pl' R' => ?_)
    dsimp only
    unfold wpY_kill
    refine ay_al1 he hl (br_f (by decide) ⟨ve, nm_r (e' := upd lv e 0) (by rw [ce, aw_vb0]) ⟨ve, ?_⟩⟩)
    exact ⟨by rw [ce], aw_mk hS hM R' hV hQ hm hG⟩
  · unfold wpX_kill
    refine ax_lives0 R hn (br_t rfl ?_)
    unfold wpY_kill
    exact ay_al0 hn (br_t rfl ⟨rfl, aw_mk hS hM R hV hQ hm hG⟩)
theorem i_vc_put {k : Nat} {u : SX} {v : SY} (I : i_Rel k u v) (hk : k + 4 ≤ 2048) (v1 : Int32) (v2 : Int32) (v3 : Int32) : wpX_put (fun r u' => wpY_put (fun r' v' => r' = r ∧ i_Rel (k + 4) u' v') v v1 v2 v3) u v1 v2 v3 := by
  refine aw_el (P := fun u v => wpX_put (fun r u' => wpY_put (fun r' v' => r' = r ∧ i_Rel (k + 4) u' v') v v1 v2 v3) u v1 v2 v3) ?_ I
  intro T S M fl fc tS tO rn rA tb pl co wi wo ki ta so sg ma lv ss va sy hS hM R hV hQ hm hG
  rcases aw_ex (x := v1) (lv := lv) with ⟨e, he, rfl, hl⟩ | hn
  · have ce : (nI e).toNatClampNeg = e := nI_clamp (by omega)
    have ve : vp_in (nI e) 24 := vp_in_nI he (by omega)
    unfold wpX_put
    refine ax_lives1 R he hl (br_f (by decide) ?_)
    rcases aw_em (n := 6) (x := v2) with ⟨c, hc, rfl⟩ | hn
    · refine ax_bp0 hc (br_t rfl ?_)
      refine ax_setOf R he hl ?_
      obtain ⟨s0, hs0, es0⟩ := aw_s64 R he hl
      obtain ⟨s', hs', es'⟩ := aw_or hs0 hc
      have ea : ss e ||| ((1 : Int32) <<< (nI c &&& 31)) = nI s' := by rw [es0]; exact es'
      rw [ea]
      refine ax_ch R he hl hs' (fun T' tS' tO' rn' rA' tb' pl' R' hT' hS' => ?_)
      refine And.intro (pk_in (c * 24 + e) 144 (by omega) (aw_ix c e)) (nm_r (e' := upd co (c * 24 + e) v3) (by rw [aw_ix, nI_clamp (by omega)]) ?_)
      unfold wpY_put
      refine ay_al1 he hl (br_f (by decide) ?_)
      refine ay_ic1 hc (br_f (by decide) ⟨ve, nm_e ⟨ve, ve, nm_r (e' := upd ss e (nI s')) (by rw [ce, ea]) ⟨pk_in (6 * e + c) 144 (by omega) (aw_6 e c), nm_r (e' := upd va (6 * e + c) v3) (by rw [aw_6, nI_clamp (by omega)]) ⟨by rw [ce], ?_⟩⟩⟩⟩)
      exact aw_mk hS (by omega) R' (aw_V_up he hc hV) hQ (aw_M_up hM hS' hm) hG
    · refine ax_bp1 hn (br_f (by decide) ?_)
      unfold wpY_put
      refine ay_al1 he hl (br_f (by decide) ?_)
      exact ay_ic0 hn (br_t rfl ⟨rfl, aw_mk hS hM R hV hQ hm hG⟩)
  · unfold wpX_put
    refine ax_lives0 R hn (br_t rfl ?_)
    unfold wpY_put
    exact ay_al0 hn (br_t rfl ⟨rfl, aw_mk hS hM R hV hQ hm hG⟩)
theorem i_vc_drop {k : Nat} {u : SX} {v : SY} (I : i_Rel k u v) (hk : k + 4 ≤ 2048) (v1 : Int32) (v2 : Int32) : wpX_drop (fun r u' => wpY_drop (fun r' v' => r' = r ∧ i_Rel (k + 4) u' v') v v1 v2) u v1 v2 := by
  refine aw_el (P := fun u v => wpX_drop (fun r u' => wpY_drop (fun r' v' => r' = r ∧ i_Rel (k + 4) u' v') v v1 v2) u v1 v2) ?_ I
  intro T S M fl fc tS tO rn rA tb pl co wi wo ki ta so sg ma lv ss va sy hS hM R hV hQ hm hG
  rcases aw_ex (x := v1) (lv := lv) with ⟨e, he, rfl, hl⟩ | hn
  · have ce : (nI e).toNatClampNeg = e := nI_clamp (by omega)
    have ve : vp_in (nI e) 24 := vp_in_nI he (by omega)
    unfold wpX_drop
    refine ax_lives1 R he hl (br_f (by decide) ?_)
    rcases aw_em (n := 6) (x := v2) with ⟨c, hc, rfl⟩ | hn
    · refine ax_bp0 hc (br_t rfl ?_)
      refine ax_setOf R he hl ?_
      obtain ⟨s0, hs0, es0⟩ := aw_s64 R he hl
      obtain ⟨s', hs', es'⟩ := aw_an hs0 hc
      have ea : ss e &&& (((1 : Int32) <<< (nI c &&& 31)) ^^^ (-1)) = nI s' := by rw [es0]; exact es'
      rw [ea]
      refine ax_ch R he hl hs' (fun T' tS' tO' rn' rA' tb' pl' R' hT' hS' => ?_)
      dsimp only
      unfold wpY_drop
      refine ay_al1 he hl (br_f (by decide) ?_)
      refine ay_ic1 hc (br_f (by decide) ⟨ve, nm_e ⟨ve, ve, nm_r (e' := upd ss e (nI s')) (by rw [ce, ea]) ⟨by rw [ce], ?_⟩⟩⟩)
      exact aw_mk hS (by omega) R' hV hQ (aw_M_up hM hS' hm) hG
    · refine ax_bp1 hn (br_f (by decide) ?_)
      unfold wpY_drop
      refine ay_al1 he hl (br_f (by decide) ?_)
      exact ay_ic0 hn (br_t rfl ⟨rfl, aw_mk hS hM R hV hQ hm hG⟩)
  · unfold wpX_drop
    refine ax_lives0 R hn (br_t rfl ?_)
    unfold wpY_drop
    exact ay_al0 hn (br_t rfl ⟨rfl, aw_mk hS hM R hV hQ hm hG⟩)
theorem i_vc_get {k : Nat} {u : SX} {v : SY} (I : i_Rel k u v) (hk : k + 4 ≤ 2048) (v1 : Int32) (v2 : Int32) : wpX_get (fun r => wpY_get (fun r' => r' = r ∧ i_Rel (k + 4) u v) v v1 v2) u v1 v2 := by
  refine aw_el (P := fun u v => wpX_get (fun r => wpY_get (fun r' => r' = r ∧ i_Rel (k + 4) u v) v v1 v2) u v1 v2) ?_ I
  intro T S M fl fc tS tO rn rA tb pl co wi wo ki ta so sg ma lv ss va sy hS hM R hV hQ hm hG
  have E : ∀ k' : Nat, i_Rel k' (nI T, nI S, fl, fc, nI M, tS, tO, rn, rA, tb, pl, co, wi, wo, ki, ta, so, sg, ma) (nI S, lv, ss, va, wi, wo, ki, ta, so, sy) := fun k' => aw_mk hS hM R hV hQ hm hG
  rcases aw_ex (x := v1) (lv := lv) with ⟨e, he, rfl, hl⟩ | hn
  · unfold wpX_get
    refine ax_lives1 R he hl (br_f (by decide) ?_)
    rcases aw_em (n := 6) (x := v2) with ⟨c, hc, rfl⟩ | hn
    · have eg : aw_gt lv ss va e c = (if bt (ss e) c then va (6 * e + c) else 0) := if_neg hl
      refine ax_bp0 hc (br_t rfl ?_)
      refine ax_setOf R he hl (br_c (fun z => ?_) (fun z => ⟨pk_in (c * 24 + e) 144 (by omega) (aw_ix c e), ?_⟩))
      · rw [aw_bit0 (by omega)] at z
        refine ay_get he hc ⟨?_, E _⟩
        rw [eg, if_neg (by rw [z]; decide)]
      · rw [aw_bit0 (by omega)] at z
        refine ay_get he hc ⟨?_, E _⟩
        rw [eg, if_pos (ts_nf z), aw_ix, nI_clamp (by omega), hV e c he hc]
    · refine ax_bp1 hn (br_f (by decide) ?_)
      unfold wpY_get
      refine ay_al1 he hl (br_f (by decide) ?_)
      exact ay_ic0 hn (br_t rfl ⟨rfl, E _⟩)
  · unfold wpX_get
    refine ax_lives0 R hn (br_t rfl ?_)
    unfold wpY_get
    exact ay_al0 hn (br_t rfl ⟨rfl, E _⟩)
theorem i_vc_parts {k : Nat} {u : SX} {v : SY} (I : i_Rel k u v) (hk : k + 4 ≤ 2048) (v1 : Int32) : wpX_parts (fun r => wpY_parts (fun r' => r' = r ∧ i_Rel (k + 4) u v) v v1) u v1 := by
  refine aw_el (P := fun u v => wpX_parts (fun r => wpY_parts (fun r' => r' = r ∧ i_Rel (k + 4) u v) v v1) u v1) ?_ I
  intro T S M fl fc tS tO rn rA tb pl co wi wo ki ta so sg ma lv ss va sy hS hM R hV hQ hm hG
  have E : ∀ k' : Nat, i_Rel k' (nI T, nI S, fl, fc, nI M, tS, tO, rn, rA, tb, pl, co, wi, wo, ki, ta, so, sg, ma) (nI S, lv, ss, va, wi, wo, ki, ta, so, sy) := fun k' => aw_mk hS hM R hV hQ hm hG
  rcases aw_ex (x := v1) (lv := lv) with ⟨e, he, rfl, hl⟩ | hn
  · have ce : (nI e).toNatClampNeg = e := nI_clamp (by omega)
    have ve : vp_in (nI e) 24 := vp_in_nI he (by omega)
    unfold wpX_parts
    refine ax_lives1 R he hl (br_f (by decide) ?_)
    refine ax_setOf R he hl ?_
    unfold wpY_parts
    exact ay_al1 he hl (br_f (by decide) ⟨ve, by rw [ce], E _⟩)
  · unfold wpX_parts
    refine ax_lives0 R hn (br_t rfl ?_)
    unfold wpY_parts
    exact ay_al0 hn (br_t rfl ⟨rfl, E _⟩)
theorem i_vc_living {k : Nat} {u : SX} {v : SY} (I : i_Rel k u v) (hk : k + 4 ≤ 2048) : wpX_living (fun r => wpY_living (fun r' => r' = r ∧ i_Rel (k + 4) u v) v) u := by
  refine aw_el (P := fun u v => wpX_living (fun r => wpY_living (fun r' => r' = r ∧ i_Rel (k + 4) u v) v) u) ?_ I
  intro T S M fl fc tS tO rn rA tb pl co wi wo ki ta so sg ma lv ss va sy hS hM R hV hQ hm hG
  refine ax_living R ?_
  unfold wpY_living
  exact ay_count (w := 0) (o := 0) (by omega) (by omega) ⟨rfl, aw_mk hS hM R hV hQ hm hG⟩
theorem i_vc_count {k : Nat} {u : SX} {v : SY} (I : i_Rel k u v) (hk : k + 4 ≤ 2048) (v1 : Int32) (v2 : Int32) : wpX_count (fun r => wpY_count (fun r' => r' = r ∧ i_Rel (k + 4) u v) v v1 v2) u v1 v2 := by
  refine aw_el (P := fun u v => wpX_count (fun r => wpY_count (fun r' => r' = r ∧ i_Rel (k + 4) u v) v v1 v2) u v1 v2) ?_ I
  intro T S M fl fc tS tO rn rA tb pl co wi wo ki ta so sg ma lv ss va sy hS hM R hV hQ hm hG
  have E : ∀ k' : Nat, i_Rel k' (nI T, nI S, fl, fc, nI M, tS, tO, rn, rA, tb, pl, co, wi, wo, ki, ta, so, sg, ma) (nI S, lv, ss, va, wi, wo, ki, ta, so, sy) := fun k' => aw_mk hS hM R hV hQ hm hG
  rcases aw_em (n := 64) (x := v1) with ⟨w, hw, rfl⟩ | hn
  · rcases aw_em (n := 64) (x := v2) with ⟨o, ho, rfl⟩ | hn
    · refine ax_count R hw ho ?_
      exact ay_count hw ho ⟨rfl, E _⟩
    · unfold wpX_count
      refine ax_bs0 hw (br_t rfl ?_)
      refine ax_bs1 hn (br_f (by decide) ?_)
      unfold wpY_count
      refine ay_is1 hw (br_f (by decide) ?_)
      exact ay_is0 hn (br_t rfl ⟨rfl, E _⟩)
  · unfold wpX_count
    refine ax_bs1 hn (br_f (by decide) ?_)
    unfold wpY_count
    exact ay_is0 hn (br_t rfl ⟨rfl, E _⟩)
theorem i_vc_next {k : Nat} {u : SX} {v : SY} (I : i_Rel k u v) (hk : k + 4 ≤ 2048) (v1 : Int32) (v2 : Int32) (v3 : Int32) : wpX_next (fun r => wpY_next (fun r' => r' = r ∧ i_Rel (k + 4) u v) v v1 v2 v3) u v1 v2 v3 := by
  refine aw_el (P := fun u v => wpX_next (fun r => wpY_next (fun r' => r' = r ∧ i_Rel (k + 4) u v) v v1 v2 v3) u v1 v2 v3) ?_ I
  intro T S M fl fc tS tO rn rA tb pl co wi wo ki ta so sg ma lv ss va sy hS hM R hV hQ hm hG
  have E : ∀ k' : Nat, i_Rel k' (nI T, nI S, fl, fc, nI M, tS, tO, rn, rA, tb, pl, co, wi, wo, ki, ta, so, sg, ma) (nI S, lv, ss, va, wi, wo, ki, ta, so, sy) := fun k' => aw_mk hS hM R hV hQ hm hG
  rcases aw_em (n := 64) (x := v1) with ⟨w, hw, rfl⟩ | hn
  · rcases aw_em (n := 64) (x := v2) with ⟨o, ho, rfl⟩ | hn
    · refine ax_next R hw ho (fun b hb => ?_)
      exact ay_next hw ho (fun b' hb' => ⟨aw_Lm_u hb hb', E _⟩)
    · unfold wpX_next
      refine ax_bs0 hw (br_t rfl ?_)
      refine ax_bs1 hn (br_f (by decide) ?_)
      unfold wpY_next
      refine ay_is1 hw (br_f (by decide) ?_)
      exact ay_is0 hn (br_t rfl ⟨rfl, E _⟩)
  · unfold wpX_next
    refine ax_bs1 hn (br_f (by decide) ?_)
    unfold wpY_next
    exact ay_is0 hn (br_t rfl ⟨rfl, E _⟩)
theorem i_vc_sum {k : Nat} {u : SX} {v : SY} (I : i_Rel k u v) (hk : k + 4 ≤ 2048) (v1 : Int32) (v2 : Int32) (v3 : Int32) : wpX_sum (fun r => wpY_sum (fun r' => r' = r ∧ i_Rel (k + 4) u v) v v1 v2 v3) u v1 v2 v3 := by
  refine aw_el (P := fun u v => wpX_sum (fun r => wpY_sum (fun r' => r' = r ∧ i_Rel (k + 4) u v) v v1 v2 v3) u v1 v2 v3) ?_ I
  intro T S M fl fc tS tO rn rA tb pl co wi wo ki ta so sg ma lv ss va sy hS hM R hV hQ hm hG
  have E : ∀ k' : Nat, i_Rel k' (nI T, nI S, fl, fc, nI M, tS, tO, rn, rA, tb, pl, co, wi, wo, ki, ta, so, sg, ma) (nI S, lv, ss, va, wi, wo, ki, ta, so, sy) := fun k' => aw_mk hS hM R hV hQ hm hG
  rcases aw_em (n := 64) (x := v1) with ⟨w, hw, rfl⟩ | hn
  · rcases aw_em (n := 64) (x := v2) with ⟨o, ho, rfl⟩ | hn
    · rcases aw_em (n := 6) (x := v3) with ⟨c, hc, rfl⟩ | hn
      · refine ax_sum R hw ho hc ?_
        refine ay_sum hw ho hc ⟨?_, E _⟩
        refine aw_sm_c 24 (fun e he => ?_)
        show (if (aw_ft lv ss (nI w) (nI o) e && bt (ss e) c) = true then va (6 * e + c) else 0) = if (aw_ft lv ss (nI w) (nI o) e && bt (ss e) c) = true then co (c * 24 + e) else 0
        rw [hV e c he hc]
      · unfold wpX_sum
        refine ax_bs0 hw (br_t rfl ?_)
        refine ax_bs0 ho (br_t rfl ?_)
        refine ax_bp1 hn (br_f (by decide) ?_)
        unfold wpY_sum
        refine ay_is1 hw (br_f (by decide) ?_)
        refine ay_is1 ho (br_f (by decide) ?_)
        exact ay_ic0 hn (br_t rfl ⟨rfl, E _⟩)
    · unfold wpX_sum
      refine ax_bs0 hw (br_t rfl ?_)
      refine ax_bs1 hn (br_f (by decide) ?_)
      unfold wpY_sum
      refine ay_is1 hw (br_f (by decide) ?_)
      exact ay_is0 hn (br_t rfl ⟨rfl, E _⟩)
  · unfold wpX_sum
    refine ax_bs1 hn (br_f (by decide) ?_)
    unfold wpY_sum
    exact ay_is0 hn (br_t rfl ⟨rfl, E _⟩)
theorem i_vc_kinds {k : Nat} {u : SX} {v : SY} (I : i_Rel k u v) (hk : k + 4 ≤ 2048) : wpX_kinds (fun r => wpY_kinds (fun r' => r' = r ∧ i_Rel (k + 4) u v) v) u := by
  refine aw_el (P := fun u v => wpX_kinds (fun r => wpY_kinds (fun r' => r' = r ∧ i_Rel (k + 4) u v) v) u) ?_ I
  intro T S M fl fc tS tO rn rA tb pl co wi wo ki ta so sg ma lv ss va sy hS hM R hV hQ hm hG
  refine ax_kinds R ?_
  exact ay_kinds ⟨rfl, aw_mk hS hM R hV hQ hm hG⟩
theorem i_vc_system {k : Nat} {u : SX} {v : SY} (I : i_Rel k u v) (hk : k + 4 ≤ 2048) (v1 : Int32) (v2 : Int32) : wpX_system (fun r u' => wpY_system (fun r' v' => r' = r ∧ i_Rel (k + 4) u' v') v v1 v2) u v1 v2 := by
  refine aw_el (P := fun u v => wpX_system (fun r u' => wpY_system (fun r' v' => r' = r ∧ i_Rel (k + 4) u' v') v v1 v2) u v1 v2) ?_ I
  intro T S M fl fc tS tO rn rA tb pl co wi wo ki ta so sg ma lv ss va sy hS hM R hV hQ hm hG
  have E : ∀ k' : Nat, i_Rel k' (nI T, nI S, fl, fc, nI M, tS, tO, rn, rA, tb, pl, co, wi, wo, ki, ta, so, sg, ma) (nI S, lv, ss, va, wi, wo, ki, ta, so, sy) := fun k' => aw_mk hS hM R hV hQ hm hG
  by_cases h1 : v1 < 0
  · refine nm_e (nm_e (nm_e (nm_e (br_t h1 ?_))))
    exact br_t h1 ⟨rfl, E _⟩
  · by_cases h2 : 4095 < v1
    · refine nm_e (nm_e (nm_e (nm_e (br_f h1 (br_t h2 ?_)))))
      exact br_f h1 (br_t h2 ⟨rfl, E _⟩)
    · by_cases h3 : v2 < 0
      · refine nm_e (nm_e (nm_e (nm_e (br_f h1 (br_f h2 (br_t h3 ?_))))))
        exact br_f h1 (br_f h2 (br_f (Int32.not_le.mpr h3) ⟨rfl, E _⟩))
      · obtain ⟨q, hq, rfl⟩ := nI_of h3
        obtain ⟨p, hp, rfl⟩ := nI_of h1
        have hp2 : p ≤ 4095 := Nat.not_lt.mp (fun z => h2 (nI_lt (a := 4095) z hp))
        refine ax_sys hS hp2 hq (fun hb => ?_) (fun ho h8 => ?_) (fun ho h8 => ?_)
        · exact ay_sys hS hp2 hq (fun _ => ⟨rfl, E _⟩) (fun ho => absurd ho hb) (fun ho => absurd ho hb)
        · exact ay_sys hS hp2 hq (fun hb => absurd ho hb) (fun _ _ => ⟨rfl, E _⟩) (fun _ z => absurd z (by omega))
        · refine ay_sys hS hp2 hq (fun hb => absurd ho hb) (fun _ z => absurd z (by omega)) (fun _ _ => ⟨rfl, ?_⟩)
          refine aw_mk (M := 0) (by omega) (by omega) R hV (fun s hs => ?_) (Or.inl rfl) (Or.inl rfl)
          by_cases es : s = S
          · subst es
            exact ⟨_, _, ho.2.1, ho.2.2.1, pk_us, pk_us⟩
          · rw [pk_un es, pk_un es]
            exact hQ s (by omega)
theorem i_vc_unsystem {k : Nat} {u : SX} {v : SY} (I : i_Rel k u v) (hk : k + 4 ≤ 2048) : wpX_unsystem (fun r u' => wpY_unsystem (fun r' v' => r' = r ∧ i_Rel (k + 4) u' v') v) u := by
  refine aw_el (P := fun u v => wpX_unsystem (fun r u' => wpY_unsystem (fun r' v' => r' = r ∧ i_Rel (k + 4) u' v') v) u) ?_ I
  intro T S M fl fc tS tO rn rA tb pl co wi wo ki ta so sg ma lv ss va sy hS hM R hV hQ hm hG
  have E : ∀ k' : Nat, i_Rel k' (nI T, nI S, fl, fc, nI M, tS, tO, rn, rA, tb, pl, co, wi, wo, ki, ta, so, sg, ma) (nI S, lv, ss, va, wi, wo, ki, ta, so, sy) := fun k' => aw_mk hS hM R hV hQ hm hG
  by_cases z : S = 0
  · subst z
    exact br_t rfl (br_t rfl ⟨rfl, E _⟩)
  · obtain ⟨s, rfl⟩ : ∃ s, S = s + 1 := ⟨S - 1, by omega⟩
    have ne : ¬ nI (s + 1) = 0 := nI_ne0 (by omega) (by omega)
    refine br_f ne (nm_r (nI_pred s) (br_f ne (nm_r (nI_pred s) ⟨rfl, ?_⟩)))
    refine aw_mk (by omega) hM R hV (fun i hi => hQ i (by omega)) ?_ (Or.inl rfl)
    rcases hm with h | h
    · exact Or.inl h
    · exact Or.inr (fun i hi => h i (by omega))
theorem i_vc_stage {k : Nat} {u : SX} {v : SY} (I : i_Rel k u v) (hk : k + 4 ≤ 2048) (v1 : Int32) : wpX_stage (fun r u' => wpY_stage (fun r' v' => r' = r ∧ i_Rel (k + 4) u' v') v v1) u v1 := by
  refine aw_el (P := fun u v => wpX_stage (fun r u' => wpY_stage (fun r' v' => r' = r ∧ i_Rel (k + 4) u' v') v v1) u v1) ?_ I
  intro T S M fl fc tS tO rn rA tb pl co wi wo ki ta so sg ma lv ss va sy hS hM R hV hQ hm hG
  rcases pk_ix v1 (n := S) (by omega) with a | a | ⟨j, hj, rfl⟩
  · refine br_t a ?_
    unfold wpY_stage
    refine ay_lay hS (fun f hf => ?_)
    exact br_t a ⟨rfl, aw_mk hS hM R hV hQ hm hG⟩
  · have n : ¬ v1 < 0 := fun z => absurd (Int32.lt_of_le_of_lt a z) (nI_pos (by omega))
    refine br_f n (br_f (Int32.not_lt.mpr a) ?_)
    unfold wpY_stage
    refine ay_lay hS (fun f hf => ?_)
    exact br_f n (br_t a ⟨rfl, aw_mk hS hM R hV hQ hm hG⟩)
  · have cj : (nI j).toNatClampNeg = j := nI_clamp (by omega)
    have vj : vp_in (nI j) 8 := vp_in_nI (by omega) (by omega)
    refine br_f (nI_pos (by omega)) (br_t (nI_lt hj (by omega)) (ax_lay hS hQ hG (fun fl' f hf => ?_)))
    refine And.intro vj ?_
    unfold wpY_stage
    refine ay_lay hS (fun f' hf' => ?_)
    refine br_f (nI_pos (by omega)) (br_f (nI_ge hj (by omega)) ⟨vj, ?_, ?_⟩)
    · rw [cj, hf j hj, hf' j hj]
    · exact aw_mk hS hM R hV hQ hm (Or.inr ⟨rfl, hf⟩)
theorem i_vc_stages {k : Nat} {u : SX} {v : SY} (I : i_Rel k u v) (hk : k + 4 ≤ 2048) : wpX_stages (fun r u' => wpY_stages (fun r' v' => r' = r ∧ i_Rel (k + 4) u' v') v) u := by
  refine aw_el (P := fun u v => wpX_stages (fun r u' => wpY_stages (fun r' v' => r' = r ∧ i_Rel (k + 4) u' v') v) u) ?_ I
  intro T S M fl fc tS tO rn rA tb pl co wi wo ki ta so sg ma lv ss va sy hS hM R hV hQ hm hG
  unfold wpX_stages
  refine ax_lay hS hQ hG (fun fl' f hf => ?_)
  dsimp only
  unfold wpY_stages
  refine ay_lay hS (fun f' hf' => ?_)
  exact ⟨S + 1, ay_sts8 hS hf' (aw_L_le _) ⟨rfl, aw_mk hS hM R hV hQ hm (Or.inr ⟨rfl, hf⟩)⟩ S 0 (by omega)⟩
theorem i_vc_frame {k : Nat} {u : SX} {v : SY} (I : i_Rel k u v) (hk : k + 4 ≤ 2048) (v1 : Int32) : wpX_frame (fun r u' => wpY_frame (fun r' v' => r' = r ∧ i_Rel (k + 4) u' v') v v1) u v1 := by
  refine aw_el (P := fun u v => wpX_frame (fun r u' => wpY_frame (fun r' v' => r' = r ∧ i_Rel (k + 4) u' v') v v1) u v1) ?_ I
  intro T S M fl fc tS tO rn rA tb pl co wi wo ki ta so sg ma lv ss va sy hS hM R hV hQ hm hG
  obtain ⟨m, h10, hx1, hx2⟩ := aw_10 v1
  refine ax_frame (V := fun e c => va (6 * e + c)) R hS hQ hG hM hm h10 hx1 hx2 hV (fun fl' sg' ma' co2 hsg hma hv => ?_)
  refine ay_frame (V := fun e c => va (6 * e + c)) hS hQ h10 hx1 hx2 (fun e c _ _ => rfl) (fun sy' va' hv' => ⟨rfl, ?_⟩)
  exact aw_mk hS (Nat.le_refl T) R (fun e c he hc => (hv e c he hc).trans (hv' e c he hc).symm) hQ hma (Or.inr ⟨rfl, hsg⟩)
theorem i_vc_digest {k : Nat} {u : SX} {v : SY} (I : i_Rel k u v) (hk : k + 4 ≤ 2048) : wpX_digest (fun r => wpY_digest (fun r' => r' = r ∧ i_Rel (k + 4) u v) v) u := by
  refine aw_el (P := fun u v => wpX_digest (fun r => wpY_digest (fun r' => r' = r ∧ i_Rel (k + 4) u v) v) u) ?_ I
  intro T S M fl fc tS tO rn rA tb pl co wi wo ki ta so sg ma lv ss va sy hS hM R hV hQ hm hG
  refine ax_digest R ?_
  exact ay_digest ⟨(aw_dgs hV).symm, aw_mk hS hM R hV hQ hm hG⟩
end
