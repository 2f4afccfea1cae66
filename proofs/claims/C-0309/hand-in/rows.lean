section
theorem pk_us {f : Nat → Int32} {k : Nat} {x : Int32} : upd f k x k = x := if_pos rfl
theorem pk_un {f : Nat → Int32} {k j : Nat} {x : Int32} (h : j ≠ k) : upd f k x j = f j := if_neg h
theorem pk_uLs {f : Nat → Int64} {k : Nat} {x : Int64} : vp_updL f k x k = x := if_pos rfl
theorem pk_uLn {f : Nat → Int64} {k j : Nat} {x : Int64} (h : j ≠ k) : vp_updL f k x j = f j := if_neg h
theorem pk_sub {a b : Nat} (h : b ≤ a) : nI a - nI b = nI (a - b) := by
  obtain ⟨c, rfl⟩ : ∃ c, a = c + b := ⟨a - b, by omega⟩
  rw [← nI_add, Int32.add_sub_cancel, Nat.add_sub_cancel]
theorem pk_m1 (n : Nat) : nI (n + 1) + (-1) = nI n := by
  rw [← nI_1, Int32.add_assoc, show (1 : Int32) + (-1) = 0 from rfl, Int32.add_zero]
theorem pk_mul (a b : Nat) : nI a * nI b = nI (a * b) := (Int32.ofNat_mul a b).symm
theorem pk_le {x y : Int32} {A B : Prop} (a b : Nat) (f : a ≤ b → A) (g : b < a → B) (hx : x = nI a := by rfl) (hy : y = nI b := by rfl) (ha : a < 2 ^ 31 := by omega) (hb : b < 2 ^ 31 := by omega) : (x ≤ y → A) ∧ (¬ x ≤ y → B) := by
  subst hx hy
  rw [nI_leI ha hb]
  exact ⟨f, fun z => g (by omega)⟩
theorem pk_lt {x y : Int32} {A B : Prop} (a b : Nat) (f : a < b → A) (g : b ≤ a → B) (hx : x = nI a := by rfl) (hy : y = nI b := by rfl) (ha : a < 2 ^ 31 := by omega) (hb : b < 2 ^ 31 := by omega) : (x < y → A) ∧ (¬ x < y → B) := by
  subst hx hy
  rw [nI_ltI ha hb]
  exact ⟨f, fun z => g (by omega)⟩
theorem pk_eq {x y : Int32} {A B : Prop} (a b : Nat) (f : a = b → A) (g : a ≠ b → B) (hx : x = nI a := by rfl) (hy : y = nI b := by rfl) (ha : a < 2 ^ 31 := by omega) (hb : b < 2 ^ 31 := by omega) : (x = y → A) ∧ (¬ x = y → B) := by
  subst hx hy
  rw [nI_eq ha hb]
  exact ⟨f, g⟩
theorem pk_in {x : Int32} (n N : Nat) (h : n < N) (hx : x = nI n := by rfl) (hN : N < 2 ^ 31 := by omega) : vp_in x N := by
  subst hx
  exact vp_in_nI h hN
theorem pk_cl {x : Int32} (n : Nat) (hx : x = nI n := by rfl) (h : n < 2 ^ 31 := by omega) : x.toNatClampNeg = n := by
  subst hx
  exact nI_clamp h
theorem pk_tn {n : Nat} (h : n < 2 ^ 32) : (nI n).toBitVec.toNat = n := Nat.mod_eq_of_lt h
theorem pk_and (x : Int32) {m : Int32} (k : Nat) (hm : m.toBitVec.toNat = 2 ^ k - 1) : x &&& m = nI (x.toBitVec.toNat % 2 ^ k) := by
  apply Int32.toBitVec_inj.mp
  apply BitVec.eq_of_toNat_eq
  rw [Int32.toBitVec_and, BitVec.toNat_and, hm, Nat.and_two_pow_sub_one_eq_mod]
  show _ = (BitVec.ofNat 32 _).toNat
  rw [BitVec.toNat_ofNat]
  exact (Nat.mod_eq_of_lt (Nat.lt_of_le_of_lt (Nat.mod_le _ _) x.toBitVec.isLt)).symm
theorem pk_andN {n : Nat} (h : n < 2 ^ 32) {m : Int32} (k : Nat) (hm : m.toBitVec.toNat = 2 ^ k - 1) : nI n &&& m = nI (n % 2 ^ k) := by
  rw [pk_and _ k hm, pk_tn h]
theorem pk_shr (a s : Int32) (k : Nat) (hs : (s.toBitVec.smod 32).toNat = k) : (a >>> s).toInt = a.toInt >>> k := by
  show (a.toBitVec.sshiftRight (s.toBitVec.smod 32).toNat).toInt = _
  rw [hs, BitVec.toInt_sshiftRight]
  rfl
theorem pk_shrN {n : Nat} (h : n < 2 ^ 31) (s : Int32) (k : Nat) (hs : (s.toBitVec.smod 32).toNat = k) : nI n >>> s = nI (n / 2 ^ k) := by
  apply Int32.toInt_inj.mp
  have h2 : n / 2 ^ k ≤ n := Nat.div_le_self _ _
  rw [pk_shr _ _ k hs, nI_toInt h, nI_toInt (by omega), Int.shiftRight_eq_div_pow]
  rfl
theorem pk_vb (z : Int32) : vp_nar .byte z.toInt8.toInt32 = z.toInt8.toInt32 := by rw [vp_nar_byte]; simp
theorem pk_vs (z : Int32) : vp_nar .short z.toInt16.toInt32 = z.toInt16.toInt32 := by rw [vp_nar_short]; simp
theorem s_l : ∀ n, n < 32 → ((nI n &&& 31).toBitVec.smod 32).toNat = n := by decide +kernel
theorem nx_xor (a b : Nat) : nI a ^^^ nI b = nI (a ^^^ b) := by
  apply Int32.toBitVec_inj.1
  show BitVec.ofNat 32 a ^^^ BitVec.ofNat 32 b = BitVec.ofNat 32 (a ^^^ b)
  apply BitVec.eq_of_getLsbD_eq
  intro i hi
  simp [hi]
end
section
/-! sums over an initial segment, an update of a function, prefixes of a key -/
def ar_u {α : Type} (f : Nat → α) (k : Nat) (x : α) : Nat → α := fun j => if j = k then x else f j
theorem ar_us {α : Type} {f : Nat → α} {k : Nat} {x : α} : ar_u f k x k = x := if_pos rfl
theorem ar_un {α : Type} {f : Nat → α} {k j : Nat} {x : α} (h : j ≠ k) : ar_u f k x j = f j := if_neg h
def ar_sN (f : Nat → Nat) : Nat → Nat
  | 0 => 0
  | n + 1 => ar_sN f n + f n
theorem ar_sN_s (f : Nat → Nat) (n : Nat) : ar_sN f (n + 1) = ar_sN f n + f n := rfl
theorem ar_sN_congr {f g : Nat → Nat} : ∀ n : Nat, (∀ i, i < n → f i = g i) → ar_sN f n = ar_sN g n := by
  intro n
  induction n with
  | zero => intro _; rfl
  | succ n ih =>
    intro h
    rw [ar_sN_s, ar_sN_s, ih (fun i hi => h i (by omega)), h n (by omega)]
theorem ar_sN_off {f g : Nat → Nat} {k : Nat} (h : ∀ i, i ≠ k → f i = g i) (n : Nat) (hk : n ≤ k) : ar_sN f n = ar_sN g n :=
  ar_sN_congr n (fun i hi => h i (by omega))
theorem ar_sN_one {f g : Nat → Nat} {k : Nat} (h : ∀ i, i ≠ k → f i = g i) : ∀ n, k < n → ar_sN f n + g k = ar_sN g n + f k := by
  intro n
  induction n with
  | zero => intro hk; omega
  | succ n ih =>
    intro hk
    rw [ar_sN_s, ar_sN_s]
    by_cases e : k = n
    · subst e
      have := ar_sN_off h k (by omega)
      omega
    · have h1 := ih (by omega)
      have h2 := h n (by omega)
      omega
theorem ar_sN_le {f g : Nat → Nat} : ∀ n : Nat, (∀ i, i < n → f i ≤ g i) → ar_sN f n ≤ ar_sN g n := by
  intro n
  induction n with
  | zero => intro _; exact Nat.le_refl _
  | succ n ih =>
    intro h
    have h1 := ih (fun i hi => h i (by omega))
    have h2 := h n (by omega)
    rw [ar_sN_s, ar_sN_s]
    omega
theorem ar_sN_mono (f : Nat → Nat) {a : Nat} : ∀ b : Nat, a ≤ b → ar_sN f a ≤ ar_sN f b := by
  intro b
  induction b with
  | zero => intro h; rw [Nat.le_zero.mp h]; exact Nat.le_refl _
  | succ b ih =>
    intro h
    by_cases e : a = b + 1
    · rw [e]; exact Nat.le_refl _
    · have := ih (by omega)
      rw [ar_sN_s]
      omega
theorem ar_sN_z {f : Nat → Nat} {a : Nat} : ∀ b : Nat, a ≤ b → (∀ i, a ≤ i → i < b → f i = 0) → ar_sN f b = ar_sN f a := by
  intro b
  induction b with
  | zero => intro h _; rw [Nat.le_zero.mp h]
  | succ b ih =>
    intro h hz
    by_cases e : a = b + 1
    · rw [e]
    · rw [ar_sN_s, ih (by omega) (fun i h1 h2 => hz i h1 (by omega)), hz b (by omega) (by omega)]
      rfl
theorem ar_sN_single {f : Nat → Nat} {a k b : Nat} (h1 : a ≤ k) (h2 : k < b) (hz : ∀ i, a ≤ i → i < b → i ≠ k → f i = 0) : ar_sN f b = ar_sN f a + f k := by
  rw [ar_sN_z (a := k + 1) b (by omega) (fun i h3 h4 => hz i (by omega) h4 (by omega)), ar_sN_s,
    ar_sN_z (a := a) k h1 (fun i h3 h4 => hz i h3 (by omega) (by omega))]
theorem ar_sN_pos (f : Nat → Nat) {k n : Nat} (h : k < n) : f k ≤ ar_sN f n := by
  have := ar_sN_mono f (a := k + 1) n h
  rw [ar_sN_s] at this
  omega
theorem ar_sN_two (f : Nat → Nat) {i j n : Nat} (h : i < j) (hn : j < n) : f i + f j ≤ ar_sN f n := by
  have h1 := ar_sN_mono f (a := j + 1) n hn
  have h2 := ar_sN_pos f h
  rw [ar_sN_s] at h1
  omega
theorem ar_sN_mul (f : Nat → Nat) (c : Nat) : ∀ n, ar_sN (fun i => c * f i) n = c * ar_sN f n := by
  intro n
  induction n with
  | zero => rfl
  | succ n ih => rw [ar_sN_s, ar_sN_s, ih, Nat.mul_add]
theorem ar_sN_split (f : Nat → Nat) (a : Nat) : ∀ b, ar_sN f (a + b) = ar_sN f a + ar_sN (fun i => f (a + i)) b := by
  intro b
  induction b with
  | zero => rfl
  | succ b ih => rw [← Nat.add_assoc, ar_sN_s, ar_sN_s, ih, Nat.add_assoc]
theorem ar_sN_bound (f : Nat → Nat) (h : ∀ i, f i ≤ 1) : ∀ n, ar_sN f n ≤ n := by
  intro n
  induction n with
  | zero => exact Nat.le_refl _
  | succ n ih => rw [ar_sN_s]; have := h n; omega
theorem ar_sN_0 {f : Nat → Nat} {n : Nat} (h : ar_sN f n = 0) : ∀ i, i < n → f i = 0 := fun i hi => by
  have := ar_sN_pos f hi
  omega
/-! the same over longs -/
def ar_sL (f : Nat → Int64) : Nat → Int64
  | 0 => 0
  | n + 1 => ar_sL f n + f n
theorem ar_sL_s (f : Nat → Int64) (n : Nat) : ar_sL f (n + 1) = ar_sL f n + f n := rfl
theorem ar_sL_congr {f g : Nat → Int64} : ∀ n : Nat, (∀ i, i < n → f i = g i) → ar_sL f n = ar_sL g n := by
  intro n
  induction n with
  | zero => intro _; rfl
  | succ n ih =>
    intro h
    rw [ar_sL_s, ar_sL_s, ih (fun i hi => h i (by omega)), h n (by omega)]
theorem ar_sL_off {f g : Nat → Int64} {k : Nat} (h : ∀ i, i ≠ k → f i = g i) (n : Nat) (hk : n ≤ k) : ar_sL f n = ar_sL g n :=
  ar_sL_congr n (fun i hi => h i (by omega))
theorem ar_sL_one {f g : Nat → Int64} {k : Nat} (h : ∀ i, i ≠ k → f i = g i) : ∀ n, k < n → ar_sL f n + g k = ar_sL g n + f k := by
  intro n
  induction n with
  | zero => intro hk; omega
  | succ n ih =>
    intro hk
    rw [ar_sL_s, ar_sL_s]
    by_cases e : k = n
    · subst e
      rw [ar_sL_off h k (by omega)]
      grind
    · have h1 := ih (by omega)
      have h2 := h n (by omega)
      rw [h2]
      grind
theorem ar_sL_z {f : Nat → Int64} {a : Nat} : ∀ b : Nat, a ≤ b → (∀ i, a ≤ i → i < b → f i = 0) → ar_sL f b = ar_sL f a := by
  intro b
  induction b with
  | zero => intro h _; rw [Nat.le_zero.mp h]
  | succ b ih =>
    intro h hz
    by_cases e : a = b + 1
    · rw [e]
    · rw [ar_sL_s, ih (by omega) (fun i h1 h2 => hz i h1 (by omega)), hz b (by omega) (by omega), Int64.add_zero]
theorem ar_sL_single {f : Nat → Int64} {a k b : Nat} (h1 : a ≤ k) (h2 : k < b) (hz : ∀ i, a ≤ i → i < b → i ≠ k → f i = 0) : ar_sL f b = ar_sL f a + f k := by
  rw [ar_sL_z (a := k + 1) b (by omega) (fun i h3 h4 => hz i (by omega) h4 (by omega)), ar_sL_s,
    ar_sL_z (a := a) k h1 (fun i h3 h4 => hz i h3 (by omega) (by omega))]
/-! a sum over a part that is an interval -/
theorem ar_sN_int (f : Nat → Nat) {a : Nat} : ∀ b, a ≤ b → ar_sN (fun i => if a ≤ i ∧ i < b then f i else 0) b + ar_sN f a = ar_sN f b := by
  intro b hab
  have key : ∀ c, c ≤ b → a ≤ c → ar_sN (fun i => if a ≤ i ∧ i < b then f i else 0) c + ar_sN f a = ar_sN f c := by
    intro c
    induction c with
    | zero =>
      intro _ h
      have : a = 0 := by omega
      subst this
      rfl
    | succ c ih =>
      intro hc ha
      by_cases e : a = c + 1
      · rw [ar_sN_z (f := fun i => if a ≤ i ∧ i < b then f i else 0) (a := 0) (c + 1) (by omega) (fun i _ h2 => if_neg (by omega)), e]
        show 0 + _ = _
        omega
      · have h1 := ih (by omega) (by omega)
        rw [ar_sN_s, ar_sN_s, if_pos (by omega)]
        omega
  exact key b (Nat.le_refl _) hab
theorem ar_sL_int (f : Nat → Int64) {a : Nat} : ∀ b, a ≤ b → ar_sL (fun i => if a ≤ i ∧ i < b then f i else 0) b + ar_sL f a = ar_sL f b := by
  intro b hab
  have key : ∀ c, c ≤ b → a ≤ c → ar_sL (fun i => if a ≤ i ∧ i < b then f i else 0) c + ar_sL f a = ar_sL f c := by
    intro c
    induction c with
    | zero =>
      intro _ h
      have : a = 0 := by omega
      subst this
      exact Int64.add_zero _
    | succ c ih =>
      intro hc ha
      by_cases e : a = c + 1
      · rw [ar_sL_z (f := fun i => if a ≤ i ∧ i < b then f i else 0) (a := 0) (c + 1) (by omega) (fun i _ h2 => if_neg (by omega)), e]
        exact Int64.zero_add _
      · have h1 := ih (by omega) (by omega)
        rw [ar_sL_s, ar_sL_s, if_pos (by omega), ← h1]
        grind
  exact key b (Nat.le_refl _) hab
/-! prefixes and digits of a key of four hexadecimal digits -/
def ar_B (d : Nat) : Nat := 16 ^ (4 - d)
theorem ar_B_pos (d : Nat) : 0 < ar_B d := Nat.pow_pos (by decide)
theorem ar_B_s {d : Nat} (h : d < 4) : ar_B d = ar_B (d + 1) * 16 := by
  show 16 ^ (4 - d) = 16 ^ (4 - (d + 1)) * 16
  rw [← Nat.pow_succ]
  congr 1
  omega
theorem ar_B_le {d e : Nat} (h : d ≤ e) : ar_B e ≤ ar_B d := Nat.pow_le_pow_right (by decide) (by omega)
theorem ar_B_div {d e : Nat} (h : d ≤ e) (he : e ≤ 4) : ar_B d = ar_B e * 16 ^ (e - d) := by
  show 16 ^ (4 - d) = 16 ^ (4 - e) * 16 ^ (e - d)
  rw [← Nat.pow_add]
  congr 1
  omega
def ar_t (k d : Nat) : Nat := k / ar_B d
def ar_g (k d : Nat) : Nat := ar_t k (d + 1) % 16
theorem ar_g_lt (k d : Nat) : ar_g k d < 16 := Nat.mod_lt _ (by decide)
theorem ar_t_div {k d e : Nat} (h : d ≤ e) (he : e ≤ 4) : ar_t k d = ar_t k e / 16 ^ (e - d) := by
  show k / ar_B d = k / ar_B e / 16 ^ (e - d)
  rw [Nat.div_div_eq_div_mul, ← ar_B_div h he]
theorem ar_t_s {k d : Nat} (h : d < 4) : ar_t k d = ar_t k (d + 1) / 16 := by
  have := ar_t_div (k := k) (d := d) (e := d + 1) (by omega) (by omega)
  rw [this, show d + 1 - d = 1 by omega]
theorem ar_t_g {k d : Nat} (h : d < 4) : ar_t k (d + 1) = 16 * ar_t k d + ar_g k d := by
  rw [ar_t_s h]
  exact (Nat.div_add_mod _ _).symm
theorem ar_t_dn {j k d e : Nat} (h : d ≤ e) (he : e ≤ 4) (hj : ar_t j e = ar_t k e) : ar_t j d = ar_t k d := by
  rw [ar_t_div h he, ar_t_div (k := k) h he, hj]
theorem ar_t_4 (k : Nat) : ar_t k 4 = k := Nat.div_one k
theorem ar_t_0 {k : Nat} (h : k < 65536) : ar_t k 0 = 0 := Nat.div_eq_of_lt h
theorem ar_t_lt {k : Nat} (h : k < 65536) (d : Nat) : ar_t k d < 65536 := Nat.lt_of_le_of_lt (Nat.div_le_self _ _) h
theorem ar_t_iff {k d p : Nat} : ar_t k d = p ↔ p * ar_B d ≤ k ∧ k < (p + 1) * ar_B d := by
  have hb := ar_B_pos d
  constructor
  · intro h
    subst h
    exact ⟨(Nat.le_div_iff_mul_le hb).mp (Nat.le_refl _), (Nat.div_lt_iff_lt_mul hb).mp (Nat.lt_succ_self _)⟩
  · intro ⟨h1, h2⟩
    have h3 := (Nat.le_div_iff_mul_le hb).mpr h1
    have h4 := (Nat.div_lt_iff_lt_mul hb).mpr h2
    show k / ar_B d = p
    omega
theorem ar_t_lo (p d : Nat) : ar_t (p * ar_B d) d = p := Nat.mul_div_cancel _ (ar_B_pos d)
theorem ar_t_hi (p d : Nat) : ar_t ((p + 1) * ar_B d - 1) d = p := by
  have hb := ar_B_pos d
  rw [ar_t_iff, Nat.add_mul, Nat.one_mul]
  omega
theorem ar_t_le {j k : Nat} (h : j ≤ k) (d : Nat) : ar_t j d ≤ ar_t k d := Nat.div_le_div_right h
/-- equal prefixes: equal digits -/
theorem ar_t_eqs {j k d : Nat} (h : d < 4) : ar_t j (d + 1) = ar_t k (d + 1) ↔ ar_t j d = ar_t k d ∧ ar_g j d = ar_g k d := by
  have h1 := ar_t_g (k := j) h
  have h2 := ar_t_g (k := k) h
  have h3 := ar_g_lt j d
  have h4 := ar_g_lt k d
  omega
/-! the shifts of the program -/
theorem ar_shr {k j : Nat} (hk : k < 2 ^ 31) (hj : j < 32) : nI k >>> (nI j &&& 31) = nI (k / 2 ^ j) := pk_shrN hk _ j (s_l j hj)
theorem ar_lit16 : (16 : Int32) = nI 16 := rfl
theorem ar_lit12 : (12 : Int32) = nI 12 := rfl
theorem ar_lit4 : (4 : Int32) = nI 4 := rfl
theorem ar_top {k d : Nat} (hk : k < 65536) (hd : d ≤ 4) : nI k >>> ((16 - (4 * nI d)) &&& 31) = nI (ar_t k d) := by
  rw [ar_lit16, ar_lit4, pk_mul, pk_sub (by omega), ar_shr (by omega) (by omega)]
  show nI (k / 2 ^ (16 - 4 * d)) = nI (k / 16 ^ (4 - d))
  rw [show 16 - 4 * d = 4 * (4 - d) by omega, Nat.pow_mul]
theorem ar_dig {k d : Nat} (hk : k < 65536) (hd : d ≤ 3) : (nI k >>> ((12 - (4 * nI d)) &&& 31)) &&& 15 = nI (ar_g k d) := by
  have h := Nat.div_le_self k (2 ^ (12 - 4 * d))
  rw [ar_lit12, ar_lit4, pk_mul, pk_sub (by omega), ar_shr (by omega) (by omega), pk_andN (by omega) 4 (by decide)]
  show nI (k / 2 ^ (12 - 4 * d) % 2 ^ 4) = nI (k / 16 ^ (4 - (d + 1)) % 16)
  rw [show 12 - 4 * d = 4 * (4 - (d + 1)) by omega, Nat.pow_mul]
theorem ar_pshr {p d e : Nat} (hp : p < 65536) (hd : d ≤ e) (he : e ≤ 4) : nI p >>> ((4 * (nI e - nI d)) &&& 31) = nI (p / 16 ^ (e - d)) := by
  rw [pk_sub hd, ar_lit4, pk_mul, ar_shr (by omega) (by omega), Nat.pow_mul]
theorem ar_xor0 {a b : Nat} : a ^^^ b = 0 ↔ a = b := by
  constructor
  · intro h
    apply Nat.eq_of_testBit_eq
    intro i
    have h1 : (a ^^^ b).testBit i = false := by rw [h]; exact Nat.zero_testBit i
    rw [Nat.testBit_xor] at h1
    revert h1
    cases a.testBit i <;> cases b.testBit i <;> decide
  · intro h
    rw [h]
    exact Nat.xor_self b
theorem ar_xor16 (a b : Nat) : (a ^^^ b) / 16 = (a / 16) ^^^ (b / 16) := Nat.xor_div_two_pow (n := 4)
theorem ar_xor_lt {a b : Nat} (ha : a < 65536) (hb : b < 65536) : a ^^^ b < 65536 := Nat.xor_lt_two_pow (n := 16) ha hb
/-! small stores -/
theorem ar_byte {n : Nat} (h : n < 128) : (nI n).toInt8.toInt32 = nI n := by
  have e := nI_toInt (n := n) (by omega)
  exact lg_i2b_small (by omega) (by omega)
theorem ar_short {n : Nat} (h : n < 32768) : (nI n).toInt16.toInt32 = nI n := by
  have e := nI_toInt (n := n) (by omega)
  exact lg_i2s_small (by omega) (by omega)
theorem ar_nb {n : Nat} (h : n < 128) : vp_nar .byte (nI n).toInt8.toInt32 = nI n := by rw [pk_vb, ar_byte h]
theorem ar_nb' {n : Nat} (h : n < 128) : vp_nar .byte (nI n) = nI n := by rw [vp_nar_byte, ar_byte h]
theorem ar_ns {n : Nat} (h : n < 32768) : vp_nar .short (nI n).toInt16.toInt32 = nI n := by rw [pk_vs, ar_short h]
theorem ar_ns' {n : Nat} (h : n < 32768) : vp_nar .short (nI n) = nI n := by rw [vp_nar_short, ar_short h]
theorem ar_ns1 : vp_nar .short (-1) = -1 := by rw [vp_nar_short]; decide
theorem ar_nb0 : vp_nar .byte 0 = 0 := by rw [vp_nar_byte]; decide
end
section
/-! the tree, pure: LF key -> leaf, lv live nodes, dp pf digit and prefix of a node, SL d p o: there is a slot for prefix p of d digits with link o -/
def ar_Lk (LF : Nat → Option Nat) (lv : Nat → Bool) (dp pf : Nat → Nat) (d p : Nat) (o : Option Nat) : Prop :=
  (o = none ∧ ∀ k, ar_t k d = p → LF k = none) ∨
  (∃ l k, o = some l ∧ l < 64 ∧ LF k = some l ∧ ar_t k d = p ∧ ∀ j, ar_t j d = p → LF j ≠ none → j = k) ∨
  (∃ m, o = some (64 + m) ∧ m < 80 ∧ lv m = true ∧ d ≤ dp m ∧ (∀ k, ar_t k (dp m) = pf m → ar_t k d = p) ∧ (∀ k, LF k ≠ none → ar_t k d = p → ar_t k (dp m) = pf m))
def ar_Br (LF : Nat → Option Nat) (dp pf : Nat → Nat) (n : Nat) : Prop :=
  ∃ j k, LF j ≠ none ∧ LF k ≠ none ∧ ar_t j (dp n) = pf n ∧ ar_t k (dp n) = pf n ∧ ar_t j (dp n + 1) ≠ ar_t k (dp n + 1)
def ar_G (LF : Nat → Option Nat) (lv : Nat → Bool) (dp pf : Nat → Nat) (SL : Nat → Nat → Option Nat → Prop) : Prop :=
  (∀ d p o, SL d p o → ar_Lk LF lv dp pf d p o) ∧
  (∀ n, n < 80 → lv n = true → dp n ≤ 3 ∧ ar_Br LF dp pf n) ∧
  (∀ n m, n < 80 → m < 80 → lv n = true → lv m = true → dp n = dp m → pf n = pf m → n = m)
def ar_SL (lv : Nat → Bool) (dp pf : Nat → Nat) (ch : Nat → Nat → Option Nat) (rt : Option Nat) (d p : Nat) (o : Option Nat) : Prop :=
  (d = 0 ∧ p = 0 ∧ o = rt) ∨ (∃ n g, n < 80 ∧ lv n = true ∧ g < 16 ∧ d = dp n + 1 ∧ p = 16 * pf n + g ∧ o = ch n g)
def ar_e (dp pn : Nat → Nat) : Nat → Nat
  | 0 => 0
  | i + 1 => dp (pn i) + 1
def ar_PT (lv : Nat → Bool) (dp pf : Nat → Nat) (SL : Nat → Nat → Option Nat → Prop) (k L : Nat) (pn : Nat → Nat) (o : Option Nat) : Prop :=
  k < 65536 ∧ SL (ar_e dp pn L) (ar_t k (ar_e dp pn L)) o ∧
  (∀ i, i < L → pn i < 80 ∧ lv (pn i) = true ∧ ar_t k (dp (pn i)) = pf (pn i) ∧ ar_e dp pn i ≤ dp (pn i) ∧ SL (ar_e dp pn i) (ar_t k (ar_e dp pn i)) (some (64 + pn i))) ∧
  (∀ q, q < 80 → lv q = true → ar_t k (dp q) = pf q → (∃ i, i < L ∧ pn i = q) ∨ ar_e dp pn L ≤ dp q)
def ar_PF (lv : Nat → Bool) (dp pf : Nat → Nat) (SL : Nat → Nat → Option Nat → Prop) (k L : Nat) (pn : Nat → Nat) (o : Option Nat) : Prop :=
  k < 65536 ∧ SL (ar_e dp pn L) (ar_t k (ar_e dp pn L)) o ∧
  (∀ i, i < L → pn i < 80 ∧ lv (pn i) = true ∧ ar_t k (dp (pn i)) = pf (pn i) ∧ ar_e dp pn i ≤ dp (pn i) ∧ SL (ar_e dp pn i) (ar_t k (ar_e dp pn i)) (some (64 + pn i))) ∧
  (∀ q, q < 80 → lv q = true → ar_t k (dp q) = pf q → (∃ i, i < L ∧ pn i = q))
/-- slots that hold key k, but that at depth d0, point to nodes that hold k -/
def ar_H (dp pf : Nat → Nat) (SL : Nat → Nat → Option Nat → Prop) (k d0 : Nat) : Prop :=
  ∀ d p o, SL d p o → ar_t k d = p → d = d0 ∨ ∃ m, m < 80 ∧ o = some (64 + m) ∧ ar_t k (dp m) = pf m
section
variable {LF : Nat → Option Nat} {lv : Nat → Bool} {dp pf : Nat → Nat} {SL : Nat → Nat → Option Nat → Prop} {ch : Nat → Nat → Option Nat} {rt : Option Nat}
theorem ar_Lk_none {d p : Nat} (h : ar_Lk LF lv dp pf d p none) : ∀ k, ar_t k d = p → LF k = none := by
  rcases h with ⟨_, h⟩ | ⟨l, k, e, _⟩ | ⟨m, e, _⟩
  · exact h
  · exact absurd e (by simp)
  · exact absurd e (by simp)
theorem ar_Lk_leaf {d p l : Nat} (hl : l < 64) (h : ar_Lk LF lv dp pf d p (some l)) : ∃ k, LF k = some l ∧ ar_t k d = p ∧ ∀ j, ar_t j d = p → LF j ≠ none → j = k := by
  rcases h with ⟨e, _⟩ | ⟨l', k, e, h1, h2⟩ | ⟨m, e, h1, _⟩
  · exact absurd e (by simp)
  · cases e
    exact ⟨k, h2⟩
  · have : l = 64 + m := Option.some.inj e
    omega
theorem ar_Lk_node {d p m : Nat} (h : ar_Lk LF lv dp pf d p (some (64 + m))) : m < 80 ∧ lv m = true ∧ d ≤ dp m ∧ (∀ k, ar_t k (dp m) = pf m → ar_t k d = p) ∧ (∀ k, LF k ≠ none → ar_t k d = p → ar_t k (dp m) = pf m) := by
  rcases h with ⟨e, _⟩ | ⟨l, k, e, h1, _⟩ | ⟨m', e, h⟩
  · exact absurd e (by simp)
  · have : 64 + m = l := Option.some.inj e
    omega
  · have : m = m' := by have := Option.some.inj e; omega
    subst this
    exact h
theorem ar_Lk_fr {lv' : Nat → Bool} {dp' pf' : Nat → Nat} {d p : Nat} {o : Option Nat} (h : ar_Lk LF lv dp pf d p o)
    (hf : ∀ m, m < 80 → o = some (64 + m) → lv m = true → lv' m = true ∧ dp' m = dp m ∧ pf' m = pf m) : ar_Lk LF lv' dp' pf' d p o := by
  rcases h with h | h | ⟨m, e, h1, h2, h3, h4, h5⟩
  · exact Or.inl h
  · exact Or.inr (Or.inl h)
  · obtain ⟨a, b, c⟩ := hf m h1 e h2
    refine Or.inr (Or.inr ⟨m, e, h1, a, ?_, ?_, ?_⟩)
    · rw [b]; exact h3
    · rw [b, c]; exact h4
    · rw [b, c]; exact h5
theorem ar_SL_fun (hD : ∀ n m, n < 80 → m < 80 → lv n = true → lv m = true → dp n = dp m → pf n = pf m → n = m)
    {d p : Nat} {o o' : Option Nat} (h : ar_SL lv dp pf ch rt d p o) (h' : ar_SL lv dp pf ch rt d p o') : o = o' := by
  rcases h with ⟨a, b, c⟩ | ⟨n, g, h1, h2, h3, h4, h5, h6⟩ <;> rcases h' with ⟨a', b', c'⟩ | ⟨n', g', h1', h2', h3', h4', h5', h6'⟩
  · rw [c, c']
  · omega
  · omega
  · have e : n = n' := hD n n' h1 h1' h2 h2' (by omega) (by omega)
    subst e
    have e2 : g = g' := by omega
    rw [h6, h6', e2]
theorem ar_e_u {pn : Nat → Nat} {L m : Nat} : ∀ i, i ≤ L → ar_e dp (ar_u pn L m) i = ar_e dp pn i := by
  intro i hi
  cases i with
  | zero => rfl
  | succ i =>
    show dp (ar_u pn L m i) + 1 = dp (pn i) + 1
    rw [ar_un (by omega)]
theorem ar_e_ge {pn : Nat → Nat} {L : Nat} (h : ∀ i, i < L → ar_e dp pn i ≤ dp (pn i)) : ∀ i, i ≤ L → i ≤ ar_e dp pn i := by
  intro i
  induction i with
  | zero => intro _; exact Nat.zero_le _
  | succ i ih =>
    intro hi
    have h1 := ih (by omega)
    have h2 := h i (by omega)
    show i + 1 ≤ dp (pn i) + 1
    omega
theorem ar_e_lt {pn : Nat → Nat} {L : Nat} (h : ∀ i, i < L → ar_e dp pn i ≤ dp (pn i)) : ∀ j, j ≤ L → ∀ i, i < j → dp (pn i) < ar_e dp pn j := by
  intro j
  induction j with
  | zero => intro _ i hi; omega
  | succ j ih =>
    intro hj i hi
    show dp (pn i) < dp (pn j) + 1
    by_cases e : i = j
    · rw [e]; omega
    · have h1 := ih (by omega) i (by omega)
      have h2 := h j (by omega)
      omega
theorem ar_e_4 (G : ar_G LF lv dp pf SL) {pn : Nat → Nat} {L : Nat} (h : ∀ i, i < L → pn i < 80 ∧ lv (pn i) = true) : ar_e dp pn L ≤ 4 := by
  cases L with
  | zero => exact Nat.zero_le _
  | succ L =>
    have h1 := h L (by omega)
    have h2 := (G.2.1 _ h1.1 h1.2).1
    show dp (pn L) + 1 ≤ 4
    omega
theorem ar_PT_len (G : ar_G LF lv dp pf SL) {k L : Nat} {pn : Nat → Nat} {o : Option Nat} (P : ar_PT lv dp pf SL k L pn o) : L ≤ ar_e dp pn L ∧ ar_e dp pn L ≤ 4 :=
  ⟨ar_e_ge (fun i hi => (P.2.2.1 i hi).2.2.2.1) L (Nat.le_refl _), ar_e_4 G (fun i hi => ⟨(P.2.2.1 i hi).1, (P.2.2.1 i hi).2.1⟩)⟩
theorem ar_PF_inj {k L : Nat} {pn : Nat → Nat} {o : Option Nat} (P : ar_PF lv dp pf SL k L pn o) {i j : Nat} (hi : i < L) (hj : j < L) (e : pn i = pn j) : i = j := by
  have h := ar_e_lt (fun i hi => (P.2.2.1 i hi).2.2.2.1)
  rcases Nat.lt_trichotomy i j with h1 | h1 | h1
  · have a := h j (by omega) i h1
    have b := (P.2.2.1 j hj).2.2.2.1
    rw [e] at a
    omega
  · exact h1
  · have a := h i (by omega) j h1
    have b := (P.2.2.1 i hi).2.2.2.1
    rw [e] at b
    omega
theorem ar_PT_0 {k : Nat} {pn : Nat → Nat} (hk : k < 65536) (h : SL 0 0 rt) : ar_PT lv dp pf SL k 0 pn rt := by
  refine ⟨hk, ?_, fun i hi => by omega, fun q _ _ _ => Or.inr (Nat.zero_le _)⟩
  show SL 0 (ar_t k 0) rt
  rw [ar_t_0 hk]
  exact h
theorem ar_PT_step (G : ar_G LF lv dp pf SL) {k L m : Nat} {pn : Nat → Nat} (P : ar_PT lv dp pf SL k L pn (some (64 + m))) (hk : ar_t k (dp m) = pf m)
    {o' : Option Nat} (ho : SL (dp m + 1) (ar_t k (dp m + 1)) o') : ar_PT lv dp pf SL k (L + 1) (ar_u pn L m) o' := by
  obtain ⟨h80, hl, hd, hin, hall⟩ := ar_Lk_node (G.1 _ _ _ P.2.1)
  have hdm := (G.2.1 m h80 hl).1
  refine ⟨P.1, ?_, ?_, ?_⟩
  · show SL (dp (ar_u pn L m L) + 1) (ar_t k (dp (ar_u pn L m L) + 1)) o'
    rw [ar_us]
    exact ho
  · intro i hi
    by_cases e : i = L
    · subst e
      rw [ar_us, ar_e_u i (Nat.le_refl _)]
      exact ⟨h80, hl, hk, hd, P.2.1⟩
    · rw [ar_un e, ar_e_u i (by omega)]
      exact P.2.2.1 i (by omega)
  · intro q hq hlq hkq
    rcases P.2.2.2 q hq hlq hkq with ⟨i, hi, e⟩ | h
    · exact Or.inl ⟨i, by omega, by rw [ar_un (by omega)]; exact e⟩
    · obtain ⟨hd3, j1, j2, n1, n2, e1, e2, ne⟩ := G.2.1 q hq hlq
      have a1 := hall j1 n1 (ar_t_dn h (by omega) (e1.trans hkq.symm))
      have a2 := hall j2 n2 (ar_t_dn h (by omega) (e2.trans hkq.symm))
      rcases Nat.lt_trichotomy (dp q) (dp m) with c | c | c
      · exact absurd (ar_t_dn (d := dp q + 1) c (by omega) (a1.trans a2.symm)) ne
      · have e : q = m := G.2.2 q m hq h80 hlq hl c (by rw [← hkq, c, hk])
        exact Or.inl ⟨L, by omega, by rw [ar_us, e]⟩
      · refine Or.inr ?_
        show dp (ar_u pn L m L) + 1 ≤ dp q
        rw [ar_us]
        exact c
theorem ar_PT_end (G : ar_G LF lv dp pf SL) {k L : Nat} {pn : Nat → Nat} {o : Option Nat} (P : ar_PT lv dp pf SL k L pn o)
    (ho : ∀ m, o = some (64 + m) → ar_t k (dp m) ≠ pf m) : ar_PF lv dp pf SL k L pn o := by
  refine ⟨P.1, P.2.1, P.2.2.1, ?_⟩
  intro q hq hlq hkq
  rcases P.2.2.2 q hq hlq hkq with h | h
  · exact h
  · exfalso
    obtain ⟨hd3, j1, j2, n1, n2, e1, e2, ne⟩ := G.2.1 q hq hlq
    have s1 := ar_t_dn h (by omega) (e1.trans hkq.symm)
    have s2 := ar_t_dn h (by omega) (e2.trans hkq.symm)
    rcases G.1 _ _ _ P.2.1 with ⟨_, hz⟩ | ⟨l, x, _, _, _, _, hx⟩ | ⟨m, em, hm, hlm, hdm, _, hall⟩
    · exact n1 (hz j1 s1)
    · exact ne (by rw [hx j1 s1 n1, hx j2 s2 n2])
    · have a1 := hall j1 n1 s1
      have a2 := hall j2 n2 s2
      have hd4 := (G.2.1 m hm hlm).1
      by_cases c : dp q < dp m
      · exact absurd (ar_t_dn (d := dp q + 1) c (by omega) (a1.trans a2.symm)) ne
      · exact ho m em ((ar_t_dn (d := dp m) (by omega) (by omega) (hkq.trans e1.symm)).trans a1)
theorem ar_SLk {n g k : Nat} (hd : dp n ≤ 3) (h : ar_t k (dp n + 1) = 16 * pf n + g) (hg : g < 16) : ar_t k (dp n) = pf n := by
  rw [ar_t_s (by omega), h]
  omega
theorem ar_slots (G : ar_G LF lv dp pf (ar_SL lv dp pf ch rt)) {k L : Nat} {pn : Nat → Nat} {o : Option Nat} (P : ar_PF lv dp pf (ar_SL lv dp pf ch rt) k L pn o)
    {d p : Nat} {o' : Option Nat} (h : ar_SL lv dp pf ch rt d p o') (hk : ar_t k d = p) : ∃ i, i ≤ L ∧ d = ar_e dp pn i ∧ (i < L → o' = some (64 + pn i)) ∧ (i = L → o' = o) := by
  have hi : ∃ i, i ≤ L ∧ d = ar_e dp pn i := by
    rcases h with ⟨a, b, c⟩ | ⟨n, g, h1, h2, h3, h4, h5, h6⟩
    · exact ⟨0, Nat.zero_le _, a⟩
    · have hd := (G.2.1 n h1 h2).1
      obtain ⟨i, hi, e⟩ := P.2.2.2 n h1 h2 (ar_SLk hd (by rw [← h4, hk, h5]) h3)
      exact ⟨i + 1, hi, by show d = dp (pn i) + 1; rw [e, h4]⟩
  obtain ⟨i, hi, e⟩ := hi
  subst e
  subst hk
  refine ⟨i, hi, rfl, ?_, ?_⟩
  · intro c
    exact ar_SL_fun G.2.2 h (P.2.2.1 i c).2.2.2.2
  · intro c
    subst c
    exact ar_SL_fun G.2.2 h P.2.1
theorem ar_PF_H (G : ar_G LF lv dp pf (ar_SL lv dp pf ch rt)) {k L : Nat} {pn : Nat → Nat} {o : Option Nat} (P : ar_PF lv dp pf (ar_SL lv dp pf ch rt) k L pn o) : ar_H dp pf (ar_SL lv dp pf ch rt) k (ar_e dp pn L) := by
  intro d p o' h hk
  obtain ⟨i, hi, e, h1, h2⟩ := ar_slots G P h hk
  by_cases c : i = L
  · subst c
    exact Or.inl e
  · have hi' : i < L := by omega
    have hp := P.2.2.1 i hi'
    exact Or.inr ⟨pn i, hp.1, h1 hi', hp.2.2.1⟩
/-- the last node of the path has one slot that points to it -/
theorem ar_PF_U (G : ar_G LF lv dp pf (ar_SL lv dp pf ch rt)) {k L : Nat} {pn : Nat → Nat} {o : Option Nat} (P : ar_PF lv dp pf (ar_SL lv dp pf ch rt) k (L + 1) pn o) :
    ∀ d p, ar_SL lv dp pf ch rt d p (some (64 + pn L)) → d = ar_e dp pn L ∧ p = ar_t k (ar_e dp pn L) := by
  intro d p h
  have hp := P.2.2.1 L (by omega)
  obtain ⟨_, _, hd, hin, _⟩ := ar_Lk_node (G.1 _ _ _ h)
  have hk := hin k hp.2.2.1
  obtain ⟨i, hi, e, h1, h2⟩ := ar_slots G P h hk
  by_cases c : i = L + 1
  · exfalso
    subst c
    have : d = dp (pn L) + 1 := e
    omega
  · have h3 := Option.some.inj (h1 (by omega))
    have h4 : L = i := ar_PF_inj P (by omega) (by omega) (by omega)
    subst h4
    exact ⟨e, by rw [← hk, e]⟩
/-! a key comes in -/
theorem ar_LF_ins {k l j : Nat} (h : LF j ≠ none) : ar_u LF k (some l) j ≠ none := by
  by_cases e : j = k
  · rw [e, ar_us]; simp
  · rw [ar_un e]; exact h
theorem ar_Br_ins {k l n : Nat} (h : ar_Br LF dp pf n) : ar_Br (ar_u LF k (some l)) dp pf n := by
  obtain ⟨a, b, h1, h2, h3⟩ := h
  exact ⟨a, b, ar_LF_ins h1, ar_LF_ins h2, h3⟩
theorem ar_Lk_ins {k l d p : Nat} {o : Option Nat} (h : ar_Lk LF lv dp pf d p o) (hk : ar_t k d = p → ∃ m, m < 80 ∧ o = some (64 + m) ∧ ar_t k (dp m) = pf m) :
    ar_Lk (ar_u LF k (some l)) lv dp pf d p o := by
  rcases h with ⟨e, h⟩ | ⟨c, x, e, h1, h2, h3, h4⟩ | ⟨m, e, h1, h2, h3, h4, h5⟩
  · refine Or.inl ⟨e, fun j hj => ?_⟩
    by_cases c : j = k
    · exfalso
      obtain ⟨m, _, e2, _⟩ := hk (c ▸ hj)
      rw [e] at e2
      exact absurd e2 (by simp)
    · rw [ar_un c]; exact h j hj
  · have nk : ar_t k d ≠ p := by
      intro z
      obtain ⟨m, _, e2, _⟩ := hk z
      rw [e] at e2
      have := Option.some.inj e2
      omega
    refine Or.inr (Or.inl ⟨c, x, e, h1, ?_, h3, fun j hj hn => ?_⟩)
    · rw [ar_un (j := x) (k := k) (fun z => nk (by rw [← z]; exact h3))]; exact h2
    · refine h4 j hj ?_
      rw [ar_un (j := j) (k := k) (fun z => nk (by rw [← z]; exact hj))] at hn
      exact hn
  · refine Or.inr (Or.inr ⟨m, e, h1, h2, h3, h4, fun j hn hj => ?_⟩)
    by_cases c : j = k
    · subst c
      obtain ⟨m', _, e2, h6⟩ := hk hj
      rw [e] at e2
      have : m = m' := by have := Option.some.inj e2; omega
      subst this
      exact h6
    · rw [ar_un c] at hn
      exact h5 j hn hj
theorem ar_ins {SL' : Nat → Nat → Option Nat → Prop} (G : ar_G LF lv dp pf SL) {k l d0 : Nat} (hl : l < 64) (hH : ar_H dp pf SL k d0) (h0 : SL d0 (ar_t k d0) none)
    (hS : ∀ d p o, SL' d p o → (d = d0 ∧ p = ar_t k d0 ∧ o = some l) ∨ ((d = d0 → p ≠ ar_t k d0) ∧ SL d p o)) : ar_G (ar_u LF k (some l)) lv dp pf SL' := by
  refine ⟨?_, fun n h1 h2 => ⟨(G.2.1 n h1 h2).1, ar_Br_ins (G.2.1 n h1 h2).2⟩, G.2.2⟩
  intro d p o h
  rcases hS d p o h with ⟨rfl, rfl, rfl⟩ | ⟨hn, h⟩
  · refine Or.inr (Or.inl ⟨l, k, rfl, hl, ar_us, rfl, fun j hj hne => ?_⟩)
    by_cases c : j = k
    · exact c
    · rw [ar_un c] at hne
      exact absurd (ar_Lk_none (G.1 _ _ _ h0) j hj) hne
  · refine ar_Lk_ins (G.1 _ _ _ h) (fun hk => ?_)
    rcases hH d p o h hk with e | e
    · subst e
      exact absurd hk.symm (hn rfl)
    · exact e
theorem ar_fork {SL' : Nat → Nat → Option Nat → Prop} (G : ar_G LF lv dp pf SL) {k l d0 f c od : Nat} {o1 : Option Nat} (hl : l < 64) (hf : f < 80) (hfl : lv f = false)
    (hH : ar_H dp pf SL k d0) (h0 : SL d0 (ar_t k d0) o1) (ho : o1 ≠ none) (hc : d0 ≤ c) (hc3 : c ≤ 3)
    (hlast : ∀ q, q < 80 → lv q = true → ar_t k (dp q) = pf q → dp q < d0)
    (h1 : ∀ j, LF j ≠ none → ar_t j d0 = ar_t k d0 → ar_t j (c + 1) = od) (hod : od / 16 = ar_t k c) (hne : od ≠ ar_t k (c + 1))
    (hex : ∃ j, LF j ≠ none ∧ ar_t j d0 = ar_t k d0) (hm : ∀ m, m < 80 → o1 = some (64 + m) → c < dp m)
    (hS : ∀ d p o, SL' d p o → (d = d0 ∧ p = ar_t k d0 ∧ o = some (64 + f)) ∨ (d = c + 1 ∧ p = ar_t k (c + 1) ∧ o = some l) ∨ (d = c + 1 ∧ p = od ∧ o = o1) ∨
      (d = c + 1 ∧ p / 16 = ar_t k c ∧ p ≠ od ∧ p ≠ ar_t k (c + 1) ∧ o = none) ∨ ((d = d0 → p ≠ ar_t k d0) ∧ SL d p o)) :
    ar_G (ar_u LF k (some l)) (ar_u lv f true) (ar_u dp f c) (ar_u pf f (ar_t k c)) SL' := by
  have L0 := G.1 _ _ _ h0
  have h1c : ∀ j, LF j ≠ none → ar_t j d0 = ar_t k d0 → ar_t j c = ar_t k c := fun j hn hj => by
    rw [ar_t_s (by omega), h1 j hn hj, hod]
  have hfm : ∀ m, lv m = true → m ≠ f := fun m h z => by rw [z, hfl] at h; exact absurd h (by simp)
  refine ⟨?_, ?_, ?_⟩
  · intro d p o h
    rcases hS d p o h with ⟨rfl, rfl, rfl⟩ | ⟨rfl, rfl, rfl⟩ | ⟨rfl, rfl, rfl⟩ | ⟨rfl, e1, e2, e3, rfl⟩ | ⟨hn, h⟩
    · refine Or.inr (Or.inr ⟨f, rfl, hf, ar_us, ?_, ?_, ?_⟩)
      · rw [ar_us]; exact hc
      · intro j hj
        rw [ar_us, ar_us] at hj
        exact ar_t_dn hc (by omega) hj
      · intro j hn hj
        rw [ar_us, ar_us]
        by_cases e : j = k
        · rw [e]
        · rw [ar_un e] at hn
          exact h1c j hn hj
    · refine Or.inr (Or.inl ⟨l, k, rfl, hl, ar_us, rfl, fun j hj hn => ?_⟩)
      by_cases e : j = k
      · exact e
      · rw [ar_un e] at hn
        exact absurd ((h1 j hn (ar_t_dn (by omega) (by omega) hj)).symm.trans hj) hne
    · have nk : ∀ j, ar_t j (c + 1) = p → j ≠ k := fun j hj z => hne (by rw [← hj, z])
      obtain ⟨j0, hj0, hj0s⟩ := hex
      have hj0c := h1 j0 hj0 hj0s
      have up : ∀ j, ar_t j (c + 1) = p → ar_t j d0 = ar_t k d0 := fun j hj => (ar_t_dn (by omega) (by omega) (hj.trans hj0c.symm)).trans hj0s
      rcases L0 with ⟨e, _⟩ | ⟨l0, k0, e, a1, a2, a3, a4⟩ | ⟨m, e, a1, a2, a3, a4, a5⟩
      · exact absurd e ho
      · have ek : ar_t k0 (c + 1) = p := h1 k0 (by rw [a2]; simp) a3
        refine Or.inr (Or.inl ⟨l0, k0, e, a1, ?_, ek, fun j hj hn => ?_⟩)
        · rw [ar_un (nk k0 ek)]; exact a2
        · rw [ar_un (nk j hj)] at hn
          exact a4 j (up j hj) hn
      · have nf := hfm m a2
        refine Or.inr (Or.inr ⟨m, e, a1, ?_, ?_, ?_, ?_⟩)
        · rw [ar_un nf]; exact a2
        · rw [ar_un nf]; exact hm m a1 e
        · intro j hj
          rw [ar_un nf, ar_un nf] at hj
          have b := a5 j0 hj0 hj0s
          have hd3 := (G.2.1 m a1 a2).1
          have cm := hm m a1 e
          exact (ar_t_dn (d := c + 1) (by omega) (by omega) (hj.trans b.symm)).trans hj0c
        · intro j hn hj
          rw [ar_un nf, ar_un nf]
          rw [ar_un (nk j hj)] at hn
          exact a5 j hn (up j hj)
    · refine Or.inl ⟨rfl, fun j hj => ?_⟩
      have ek : j ≠ k := fun z => e3 (by rw [← hj, z])
      rw [ar_un ek]
      cases hL : LF j with
      | none => rfl
      | some x =>
        exfalso
        have hn : LF j ≠ none := by rw [hL]; simp
        have b : ar_t j c = ar_t k c := by rw [ar_t_s (by omega), hj, e1]
        exact e2 (hj.symm.trans (h1 j hn (ar_t_dn hc (by omega) b)))
    · have h2 : ar_Lk (ar_u LF k (some l)) lv dp pf d p o := by
        refine ar_Lk_ins (G.1 _ _ _ h) (fun hk => ?_)
        rcases hH d p o h hk with e | e
        · subst e
          exact absurd hk.symm (hn rfl)
        · exact e
      exact ar_Lk_fr h2 (fun m _ _ hlm => ⟨by rw [ar_un (hfm m hlm)]; exact hlm, ar_un (hfm m hlm), ar_un (hfm m hlm)⟩)
  · intro n hn hln
    by_cases e : n = f
    · subst e
      rw [ar_us]
      refine ⟨hc3, ?_⟩
      obtain ⟨j0, hj0, hj0s⟩ := hex
      refine ⟨j0, k, ar_LF_ins hj0, by rw [ar_us]; simp, ?_, ?_, ?_⟩
      · rw [ar_us, ar_us]; exact h1c j0 hj0 hj0s
      · rw [ar_us, ar_us]
      · rw [ar_us, h1 j0 hj0 hj0s]; exact hne
    · rw [ar_un e] at hln
      obtain ⟨a, b⟩ := G.2.1 n hn hln
      rw [ar_un e]
      refine ⟨a, ?_⟩
      obtain ⟨i, j, b1, b2, b3, b4, b5⟩ := b
      refine ⟨i, j, ar_LF_ins b1, ar_LF_ins b2, ?_, ?_, ?_⟩
      · rw [ar_un e, ar_un e]; exact b3
      · rw [ar_un e, ar_un e]; exact b4
      · rw [ar_un e]; exact b5
  · intro n m hn hmm hln hlm ed ep
    by_cases en : n = f <;> by_cases em : m = f
    · rw [en, em]
    · exfalso
      rw [ar_un em] at hlm ed ep
      rw [en, ar_us] at ed ep
      have := hlast m hmm hlm (by rw [← ed, ep])
      omega
    · exfalso
      rw [ar_un en] at hln ed ep
      rw [em, ar_us] at ed ep
      have := hlast n hn hln (by rw [ed, ep])
      omega
    · rw [ar_un en] at hln ed ep
      rw [ar_un em] at hlm ed ep
      exact G.2.2 n m hn hmm hln hlm ed ep
/-! a node gets another number -/
theorem ar_ren {SL' : Nat → Nat → Option Nat → Prop} (G : ar_G LF lv dp pf SL) {n n' d0 p0 : Nat} (hn : n < 80) (hln : lv n = true) (hn' : n' < 80) (hln' : lv n' = false)
    (hU : ∀ d p, SL d p (some (64 + n)) → d = d0 ∧ p = p0) (hA : SL d0 p0 (some (64 + n)))
    (hS : ∀ d p o, SL' d p o → (d = d0 ∧ p = p0 ∧ o = some (64 + n')) ∨ ((d = d0 → p ≠ p0) ∧ SL d p o)) :
    ar_G LF (ar_u (ar_u lv n' true) n false) (ar_u dp n' (dp n)) (ar_u pf n' (pf n)) SL' := by
  have hnn : n' ≠ n := fun z => by rw [z, hln] at hln'; exact absurd hln' (by simp)
  have lvn' : ar_u (ar_u lv n' true) n false n' = true := by rw [ar_un hnn, ar_us]
  have lvo : ∀ m, lv m = true → m ≠ n → ar_u (ar_u lv n' true) n false m = true ∧ ar_u dp n' (dp n) m = dp m ∧ ar_u pf n' (pf n) m = pf m := by
    intro m hm e
    have e' : m ≠ n' := fun z => by rw [z, hln'] at hm; exact absurd hm (by simp)
    rw [ar_un e, ar_un e', ar_un e', ar_un e']
    exact ⟨hm, rfl, rfl⟩
  have lvi : ∀ m, ar_u (ar_u lv n' true) n false m = true → m = n' ∨ (m ≠ n' ∧ m ≠ n ∧ lv m = true) := by
    intro m hm
    by_cases e : m = n
    · rw [e, ar_us] at hm
      exact absurd hm (by simp)
    · rw [ar_un e] at hm
      by_cases e' : m = n'
      · exact Or.inl e'
      · rw [ar_un e'] at hm
        exact Or.inr ⟨e', e, hm⟩
  refine ⟨?_, ?_, ?_⟩
  · intro d p o h
    rcases hS d p o h with ⟨rfl, rfl, rfl⟩ | ⟨hne, h⟩
    · obtain ⟨_, _, a3, a4, a5⟩ := ar_Lk_node (G.1 _ _ _ hA)
      refine Or.inr (Or.inr ⟨n', rfl, hn', lvn', ?_, ?_, ?_⟩)
      · rw [ar_us]; exact a3
      · rw [ar_us, ar_us]; exact a4
      · rw [ar_us, ar_us]; exact a5
    · refine ar_Lk_fr (G.1 _ _ _ h) (fun m _ em hlm => lvo m hlm ?_)
      intro z
      subst z
      subst em
      obtain ⟨e1, e2⟩ := hU d p h
      exact hne e1 e2
  · intro m hm hlm
    rcases lvi m hlm with e | ⟨e, _, h⟩
    · rw [e]
      obtain ⟨a, j, k, b1, b2, b3, b4, b5⟩ := G.2.1 n hn hln
      refine ⟨by rw [ar_us]; exact a, j, k, b1, b2, ?_, ?_, ?_⟩
      · rw [ar_us, ar_us]; exact b3
      · rw [ar_us, ar_us]; exact b4
      · rw [ar_us]; exact b5
    · obtain ⟨a, j, k, b1, b2, b3, b4, b5⟩ := G.2.1 m hm h
      refine ⟨by rw [ar_un e]; exact a, j, k, b1, b2, ?_, ?_, ?_⟩
      · rw [ar_un e, ar_un e]; exact b3
      · rw [ar_un e, ar_un e]; exact b4
      · rw [ar_un e]; exact b5
  · intro m q hm hq hlm hlq ed ep
    rcases lvi m hlm with e | ⟨e, e2, h⟩ <;> rcases lvi q hlq with c | ⟨c, c2, h'⟩
    · rw [e, c]
    · rw [e, ar_us, ar_un c] at ed ep
      exact absurd (G.2.2 n q hn hq hln h' ed ep).symm c2
    · rw [c, ar_us, ar_un e] at ed ep
      exact absurd (G.2.2 m n hm hn h hln ed ep) e2
    · rw [ar_un e, ar_un c] at ed ep
      exact G.2.2 m q hm hq h h' ed ep
/-! a key goes -/
theorem ar_LF_del {k j : Nat} (h : LF j ≠ none) (e : j ≠ k) : ar_u LF k none j ≠ none := by rw [ar_un e]; exact h
theorem ar_LF_del' {k j : Nat} (h : ar_u LF k none j ≠ none) : LF j ≠ none ∧ j ≠ k := by
  by_cases e : j = k
  · rw [e, ar_us] at h
    exact absurd rfl h
  · rw [ar_un e] at h
    exact ⟨h, e⟩
theorem ar_Lk_del {k d p : Nat} {o : Option Nat} (h : ar_Lk LF lv dp pf d p o) (hk : ar_t k d = p → ∃ m, m < 80 ∧ o = some (64 + m) ∧ ar_t k (dp m) = pf m) :
    ar_Lk (ar_u LF k none) lv dp pf d p o := by
  rcases h with ⟨e, h⟩ | ⟨c, x, e, h1, h2, h3, h4⟩ | ⟨m, e, h1, h2, h3, h4, h5⟩
  · refine Or.inl ⟨e, fun j hj => ?_⟩
    by_cases c : j = k
    · rw [c, ar_us]
    · rw [ar_un c]; exact h j hj
  · have nk : x ≠ k := by
      intro z
      obtain ⟨m, _, e2, _⟩ := hk (z ▸ h3)
      rw [e] at e2
      have := Option.some.inj e2
      omega
    exact Or.inr (Or.inl ⟨c, x, e, h1, by rw [ar_un nk]; exact h2, h3, fun j hj hn => h4 j hj (ar_LF_del' hn).1⟩)
  · exact Or.inr (Or.inr ⟨m, e, h1, h2, h3, h4, fun j hn hj => h5 j (ar_LF_del' hn).1 hj⟩)
theorem ar_Br_del (G : ar_G LF lv dp pf SL) {k d0 n : Nat} (hH : ar_H dp pf SL k d0) (hn : n < 80) (hln : lv n = true)
    (hs : ar_t k (dp n) = pf n → ∃ o, SL (dp n + 1) (ar_t k (dp n + 1)) o) (hd : ar_t k (dp n) = pf n → dp n + 1 ≠ d0) : ar_Br (ar_u LF k none) dp pf n := by
  obtain ⟨hd3, a, b, h1, h2, h3, h4, h5⟩ := G.2.1 n hn hln
  have alt : ∀ x, LF x ≠ none → ar_t x (dp n) = pf n → ∃ y, ar_u LF k none y ≠ none ∧ ar_t y (dp n) = pf n ∧ ar_t y (dp n + 1) = ar_t x (dp n + 1) := by
    intro x hx hxn
    by_cases e : x = k
    · subst e
      obtain ⟨o, ho⟩ := hs hxn
      rcases hH _ _ _ ho rfl with z | ⟨m, hm, em, _⟩
      · exact absurd z (hd hxn)
      · subst em
        obtain ⟨_, hlm, c1, c2, c3⟩ := ar_Lk_node (G.1 _ _ _ ho)
        obtain ⟨hm3, i, j, b1, b2, b3, b4, b5⟩ := G.2.1 m hm hlm
        have pick : ∃ y, LF y ≠ none ∧ y ≠ x ∧ ar_t y (dp m) = pf m := by
          by_cases ei : i = x
          · by_cases ej : j = x
            · exact absurd (by rw [ei, ej]) b5
            · exact ⟨j, b2, ej, b4⟩
          · exact ⟨i, b1, ei, b3⟩
        obtain ⟨y, y1, y2, y3⟩ := pick
        have y4 := c2 y y3
        exact ⟨y, ar_LF_del y1 y2, (ar_t_dn (by omega) (by omega) y4).trans hxn, y4⟩
    · exact ⟨x, ar_LF_del hx e, hxn, rfl⟩
  obtain ⟨a', a1, a2, a3⟩ := alt a h1 h3
  obtain ⟨b', b1, b2, b3⟩ := alt b h2 h4
  exact ⟨a', b', a1, b1, a2, b2, by rw [a3, b3]; exact h5⟩
theorem ar_Lk_key (G : ar_G LF lv dp pf SL) {d p c : Nat} (h : ar_Lk LF lv dp pf d p (some c)) : ∃ j, LF j ≠ none ∧ ar_t j d = p := by
  rcases h with ⟨e, _⟩ | ⟨l, k, e, h1, h2, h3, _⟩ | ⟨m, e, h1, h2, h3, h4, _⟩
  · exact absurd e (by simp)
  · exact ⟨k, by rw [h2]; simp, h3⟩
  · obtain ⟨_, j, _, b1, _, b3, _⟩ := G.2.1 m h1 h2
    exact ⟨j, b1, h4 j b3⟩
theorem ar_del {SL' : Nat → Nat → Option Nat → Prop} (G : ar_G LF lv dp pf SL) {k l d0 : Nat} (hl : l < 64) (hk : LF k ≠ none) (hH : ar_H dp pf SL k d0) (h0 : SL d0 (ar_t k d0) (some l))
    (hB : ∀ n, n < 80 → lv n = true → ar_Br (ar_u LF k none) dp pf n)
    (hS : ∀ d p o, SL' d p o → (d = d0 ∧ p = ar_t k d0 ∧ o = none) ∨ ((d = d0 → p ≠ ar_t k d0) ∧ SL d p o)) : ar_G (ar_u LF k none) lv dp pf SL' := by
  refine ⟨?_, fun n h1 h2 => ⟨(G.2.1 n h1 h2).1, hB n h1 h2⟩, G.2.2⟩
  intro d p o h
  rcases hS d p o h with ⟨rfl, rfl, rfl⟩ | ⟨hn, h⟩
  · refine Or.inl ⟨rfl, fun j hj => ?_⟩
    obtain ⟨x, a1, a2, a3⟩ := ar_Lk_leaf hl (G.1 _ _ _ h0)
    by_cases c : j = k
    · rw [c, ar_us]
    · rw [ar_un c]
      cases hL : LF j with
      | none => rfl
      | some y =>
        exfalso
        exact c ((a3 j hj (by rw [hL]; simp)).trans (a3 k rfl hk).symm)
  · refine ar_Lk_del (G.1 _ _ _ h) (fun hk => ?_)
    rcases hH d p o h hk with e | e
    · subst e
      exact absurd hk.symm (hn rfl)
    · exact e
theorem ar_col {SL' : Nat → Nat → Option Nat → Prop} (G : ar_G LF lv dp pf SL) {k l n p1 dP pP : Nat} {o1 : Option Nat} (hl : l < 64) (hk : LF k ≠ none) (hn : n < 80) (hln : lv n = true)
    (hkn : ar_t k (dp n) = pf n) (hH : ar_H dp pf SL k (dp n + 1)) (h0 : SL (dp n + 1) (ar_t k (dp n + 1)) (some l)) (h1 : SL (dp n + 1) p1 o1) (hp1 : p1 ≠ ar_t k (dp n + 1)) (hp16 : p1 / 16 = pf n) (ho1 : o1 ≠ none)
    (hz : ∀ p, p / 16 = pf n → p ≠ p1 → p ≠ ar_t k (dp n + 1) → SL (dp n + 1) p none)
    (hs : ∀ q, q < 80 → lv q = true → ar_t k (dp q) = pf q → ∃ o, SL (dp q + 1) (ar_t k (dp q + 1)) o)
    (hU : ∀ d p, SL d p (some (64 + n)) → d = dP ∧ p = pP) (hA : SL dP pP (some (64 + n)))
    (hS : ∀ d p o, SL' d p o → (d = dP ∧ p = pP ∧ o = o1) ∨ ((d = dP → p ≠ pP) ∧ SL d p o ∧ (d = dp n + 1 → p / 16 ≠ pf n))) : ar_G (ar_u LF k none) (ar_u lv n false) dp pf SL' := by
  have hd3 := (G.2.1 n hn hln).1
  have lvo : ∀ m, lv m = true → m ≠ n → ar_u lv n false m = true := fun m h e => by rw [ar_un e]; exact h
  have lvi : ∀ m, ar_u lv n false m = true → m ≠ n ∧ lv m = true := by
    intro m hm
    by_cases e : m = n
    · rw [e, ar_us] at hm
      exact absurd hm (by simp)
    · rw [ar_un e] at hm
      exact ⟨e, hm⟩
  obtain ⟨_, _, aP, bP, cP⟩ := ar_Lk_node (G.1 _ _ _ hA)
  obtain ⟨x, x1, x2, x3⟩ := ar_Lk_leaf hl (G.1 _ _ _ h0)
  have hx : x = k := (x3 k rfl hk).symm
  have all1 : ∀ j, LF j ≠ none → j ≠ k → ar_t j dP = pP → ar_t j (dp n + 1) = p1 := by
    intro j hj ejk hjP
    have hjn := cP j hj hjP
    have h16 : ar_t j (dp n + 1) / 16 = pf n := by rw [← ar_t_s (by omega)]; exact hjn
    by_cases c1 : ar_t j (dp n + 1) = p1
    · exact c1
    · exfalso
      by_cases c2 : ar_t j (dp n + 1) = ar_t k (dp n + 1)
      · exact ejk ((x3 j c2 hj).trans hx)
      · exact hj (ar_Lk_none (G.1 _ _ _ (hz _ h16 c1 c2)) j rfl)
  have in1 : ∀ j, ar_t j (dp n + 1) = p1 → ar_t j dP = pP := by
    intro j hj
    refine bP j ?_
    rw [ar_t_s (by omega), hj]
    exact hp16
  refine ⟨?_, ?_, ?_⟩
  · intro d p o h
    rcases hS d p o h with ⟨rfl, rfl, rfl⟩ | ⟨hne, h, hnn⟩
    · rcases G.1 _ _ _ h1 with ⟨e, _⟩ | ⟨l0, k0, e, a1, a2, a3, a4⟩ | ⟨m, e, a1, a2, a3, a4, a5⟩
      · exact absurd e ho1
      · refine Or.inr (Or.inl ⟨l0, k0, e, a1, ?_, in1 k0 a3, fun j hj hn => ?_⟩)
        · have : k0 ≠ k := fun z => hp1 (by rw [← a3, z])
          rw [ar_un this]; exact a2
        · obtain ⟨b1, b2⟩ := ar_LF_del' hn
          exact a4 j (all1 j b1 b2 hj) b1
      · refine Or.inr (Or.inr ⟨m, e, a1, lvo m a2 (fun z => by rw [z] at a3; omega), by omega, fun j hj => in1 j (a4 j hj), fun j hn hj => ?_⟩)
        obtain ⟨b1, b2⟩ := ar_LF_del' hn
        exact a5 j b1 (all1 j b1 b2 hj)
    · refine ar_Lk_fr (ar_Lk_del (G.1 _ _ _ h) (fun hk => ?_)) (fun m _ em hlm => ⟨lvo m hlm ?_, rfl, rfl⟩)
      · rcases hH d p o h hk with e | e
        · subst e
          exact absurd (by rw [← hk, ← ar_t_s (by omega)]; exact hkn) (hnn rfl)
        · exact e
      · intro z
        subst z
        subst em
        obtain ⟨e1, e2⟩ := hU d p h
        exact hne e1 e2
  · intro m hm hlm
    obtain ⟨e, h⟩ := lvi m hlm
    refine ⟨(G.2.1 m hm h).1, ar_Br_del G hH hm h (fun z => hs m hm h z) (fun z c => ?_)⟩
    have ed : dp m = dp n := by omega
    exact e (G.2.2 m n hm hn h hln ed (by rw [← z, ed, hkn]))
  · intro m q hm hq hlm hlq ed ep
    exact G.2.2 m q hm hq (lvi m hlm).2 (lvi q hlq).2 ed ep
end
end
section
/-! counts and sums of the keys below a bound -/
def ar_c1 {α : Type} (o : Option α) : Nat := match o with
  | none => 0
  | some _ => 1
theorem ar_c1_ne {α : Type} {o : Option α} (h : o ≠ none) : ar_c1 o = 1 := by
  cases o with
  | none => exact absurd rfl h
  | some _ => rfl
theorem ar_c1_le {α : Type} (o : Option α) : ar_c1 o ≤ 1 := by cases o <;> simp [ar_c1]
def ar_v (o : Option Int32) : Int64 := match o with
  | none => 0
  | some v => v.toInt64
def ar_C {α : Type} (F : Nat → Option α) (b : Nat) : Nat := ar_sN (fun k => ar_c1 (F k)) b
def ar_S (M : Nat → Option Int32) (b : Nat) : Int64 := ar_sL (fun k => ar_v (M k)) b
def ar_M (LF : Nat → Option Nat) (va : Nat → Int32) : Nat → Option Int32 := fun k => match LF k with
  | none => none
  | some l => some (va l)
theorem ar_M_none {LF : Nat → Option Nat} {va : Nat → Int32} {k : Nat} (h : LF k = none) : ar_M LF va k = none := by
  show (match LF k with | none => none | some l => some (va l)) = none
  rw [h]
theorem ar_M_some {LF : Nat → Option Nat} {va : Nat → Int32} {k l : Nat} (h : LF k = some l) : ar_M LF va k = some (va l) := by
  show (match LF k with | none => none | some l => some (va l)) = some (va l)
  rw [h]
theorem ar_M_iff {LF : Nat → Option Nat} {va : Nat → Int32} {k : Nat} : ar_M LF va k = none ↔ LF k = none := by
  cases h : LF k with
  | none => rw [ar_M_none h]; simp
  | some l => rw [ar_M_some h]; simp
theorem ar_C_M {LF : Nat → Option Nat} {va : Nat → Int32} (b : Nat) : ar_C (ar_M LF va) b = ar_C LF b := by
  refine ar_sN_congr b (fun i _ => ?_)
  cases h : LF i with
  | none => rw [ar_M_none h]; rfl
  | some l => rw [ar_M_some h]; rfl
theorem ar_C_chg {α : Type} {F F' : Nat → Option α} {k : Nat} (h : ∀ i, i ≠ k → F' i = F i) (b : Nat) :
    ar_C F' b + (if k < b then ar_c1 (F k) else 0) = ar_C F b + (if k < b then ar_c1 (F' k) else 0) := by
  by_cases c : k < b
  · rw [if_pos c, if_pos c]
    exact ar_sN_one (f := fun i => ar_c1 (F' i)) (g := fun i => ar_c1 (F i)) (fun i hi => by show ar_c1 (F' i) = ar_c1 (F i); rw [h i hi]) b c
  · rw [if_neg c, if_neg c]
    exact ar_sN_off (f := fun i => ar_c1 (F' i)) (g := fun i => ar_c1 (F i)) (fun i hi => by show ar_c1 (F' i) = ar_c1 (F i); rw [h i hi]) b (by omega)
theorem ar_S_chg {M M' : Nat → Option Int32} {k : Nat} (h : ∀ i, i ≠ k → M' i = M i) (b : Nat) :
    ar_S M' b + (if k < b then ar_v (M k) else 0) = ar_S M b + (if k < b then ar_v (M' k) else 0) := by
  by_cases c : k < b
  · rw [if_pos c, if_pos c]
    exact ar_sL_one (f := fun i => ar_v (M' i)) (g := fun i => ar_v (M i)) (fun i hi => by show ar_v (M' i) = ar_v (M i); rw [h i hi]) b c
  · rw [if_neg c, if_neg c]
    exact congrArg (· + (0 : Int64)) (ar_sL_off (f := fun i => ar_v (M' i)) (g := fun i => ar_v (M i)) (fun i hi => by show ar_v (M' i) = ar_v (M i); rw [h i hi]) b (by omega))
theorem ar_C_z {α : Type} {F : Nat → Option α} {a b : Nat} (h : a ≤ b) (hz : ∀ i, a ≤ i → i < b → F i = none) : ar_C F b = ar_C F a :=
  ar_sN_z b h (fun i h1 h2 => by show ar_c1 (F i) = 0; rw [hz i h1 h2]; rfl)
theorem ar_S_z {M : Nat → Option Int32} {a b : Nat} (h : a ≤ b) (hz : ∀ i, a ≤ i → i < b → M i = none) : ar_S M b = ar_S M a :=
  ar_sL_z b h (fun i h1 h2 => by show ar_v (M i) = 0; rw [hz i h1 h2]; rfl)
theorem ar_C_mono {α : Type} (F : Nat → Option α) {a b : Nat} (h : a ≤ b) : ar_C F a ≤ ar_C F b := ar_sN_mono _ b h
theorem ar_C_lt {α : Type} {F : Nat → Option α} {k b : Nat} (hk : F k ≠ none) (h : k < b) : ar_C F k + 1 ≤ ar_C F b := by
  have h1 := ar_C_mono F (a := k + 1) (b := b) h
  have h2 : ar_C F (k + 1) = ar_C F k + ar_c1 (F k) := rfl
  rw [ar_c1_ne hk] at h2
  omega
theorem ar_C_s {α : Type} (F : Nat → Option α) (k : Nat) : ar_C F (k + 1) = ar_C F k + ar_c1 (F k) := rfl
theorem ar_C_big {α : Type} {F : Nat → Option α} (hF : ∀ k, F k ≠ none → k < 65536) {b : Nat} (h : 65536 ≤ b) : ar_C F b = ar_C F 65536 := by
  refine ar_C_z h (fun i h1 _ => ?_)
  by_cases c : F i = none
  · exact c
  · have := hF i c
    omega
theorem ar_C_le {α : Type} {F : Nat → Option α} (hF : ∀ k, F k ≠ none → k < 65536) (b : Nat) : ar_C F b ≤ ar_C F 65536 := by
  by_cases c : b ≤ 65536
  · exact ar_C_mono F c
  · rw [ar_C_big hF (by omega)]
    exact Nat.le_refl _
/-- two keys with equally many keys below them are the same -/
theorem ar_C_inj {α : Type} {F : Nat → Option α} {i j : Nat} (hi : F i ≠ none) (hj : F j ≠ none) (h : ar_C F i = ar_C F j) : i = j := by
  rcases Nat.lt_trichotomy i j with c | c | c
  · have := ar_C_lt hi c
    omega
  · exact c
  · have := ar_C_lt hj c
    omega
/-! what a node and a link hold -/
def ar_K (LF : Nat → Option Nat) (M : Nat → Option Int32) (dp pf kb : Nat → Nat) (sb : Nat → Int64) (n : Nat) : Prop :=
  ar_C LF (pf n * ar_B (dp n)) + kb n = ar_C LF ((pf n + 1) * ar_B (dp n)) ∧ ar_S M ((pf n + 1) * ar_B (dp n)) = ar_S M (pf n * ar_B (dp n)) + sb n
def ar_kO (kb : Nat → Nat) (o : Option Nat) : Nat := match o with
  | none => 0
  | some c => if c < 64 then 1 else kb (c - 64)
def ar_sO (va : Nat → Int32) (sb : Nat → Int64) (o : Option Nat) : Int64 := match o with
  | none => 0
  | some c => if c < 64 then (va c).toInt64 else sb (c - 64)
theorem ar_kO_l {kb : Nat → Nat} {c : Nat} (h : c < 64) : ar_kO kb (some c) = 1 := if_pos h
theorem ar_sO_l {va : Nat → Int32} {sb : Nat → Int64} {c : Nat} (h : c < 64) : ar_sO va sb (some c) = (va c).toInt64 := if_pos h
theorem ar_kO_n {kb : Nat → Nat} {m : Nat} : ar_kO kb (some (64 + m)) = kb m := by
  show (if 64 + m < 64 then 1 else kb (64 + m - 64)) = kb m
  rw [if_neg (by omega), Nat.add_sub_cancel_left]
theorem ar_sO_n {va : Nat → Int32} {sb : Nat → Int64} {m : Nat} : ar_sO va sb (some (64 + m)) = sb m := by
  show (if 64 + m < 64 then (va (64 + m)).toInt64 else sb (64 + m - 64)) = sb m
  rw [if_neg (by omega), Nat.add_sub_cancel_left]
theorem ar_K_chg {LF LF' : Nat → Option Nat} {M M' : Nat → Option Int32} {dp pf kb kb' : Nat → Nat} {sb sb' : Nat → Int64} {k n : Nat}
    (hF : ∀ i, i ≠ k → LF' i = LF i) (hM : ∀ i, i ≠ k → M' i = M i) (K : ar_K LF M dp pf kb sb n)
    (hin : ar_t k (dp n) = pf n → kb' n + ar_c1 (LF k) = kb n + ar_c1 (LF' k) ∧ sb' n + ar_v (M k) = sb n + ar_v (M' k))
    (hout : ar_t k (dp n) ≠ pf n → kb' n = kb n ∧ sb' n = sb n) : ar_K LF' M' dp pf kb' sb' n := by
  obtain ⟨K1, K2⟩ := K
  unfold ar_K
  have hlh : pf n * ar_B (dp n) ≤ (pf n + 1) * ar_B (dp n) := Nat.mul_le_mul_right _ (by omega)
  have hit := ar_t_iff (k := k) (d := dp n) (p := pf n)
  generalize pf n * ar_B (dp n) = lo at *
  generalize (pf n + 1) * ar_B (dp n) = hi at *
  have c1 := ar_C_chg hF lo
  have c2 := ar_C_chg hF hi
  have s1 := ar_S_chg hM lo
  have s2 := ar_S_chg hM hi
  by_cases h : ar_t k (dp n) = pf n
  · obtain ⟨a, b⟩ := hit.mp h
    obtain ⟨e1, e2⟩ := hin h
    rw [if_neg (by omega), if_neg (by omega)] at c1 s1
    rw [if_pos b, if_pos b] at c2 s2
    refine ⟨by omega, ?_⟩
    rw [Int64.add_zero, Int64.add_zero] at s1
    rw [s1]
    rw [K2] at s2
    grind
  · obtain ⟨e1, e2⟩ := hout h
    rw [e1, e2]
    by_cases a : k < lo
    · rw [if_pos a, if_pos a] at c1 s1
      rw [if_pos (by omega), if_pos (by omega)] at c2 s2
      refine ⟨by omega, ?_⟩
      rw [K2] at s2
      grind
    · have b : ¬ k < hi := fun z => h (hit.mpr ⟨by omega, z⟩)
      rw [if_neg a, if_neg a] at c1 s1
      rw [if_neg b, if_neg b] at c2 s2
      refine ⟨by omega, ?_⟩
      rw [Int64.add_zero, Int64.add_zero] at s1 s2
      rw [s1, s2]
      exact K2
section
variable {LF : Nat → Option Nat} {va : Nat → Int32} {lv : Nat → Bool} {dp pf kb : Nat → Nat} {sb : Nat → Int64}
theorem ar_kL {d p : Nat} {o : Option Nat} (h : ar_Lk LF lv dp pf d p o) (hK : ∀ m, m < 80 → o = some (64 + m) → ar_K LF (ar_M LF va) dp pf kb sb m) :
    ar_C LF (p * ar_B d) + ar_kO kb o = ar_C LF ((p + 1) * ar_B d) ∧ ar_S (ar_M LF va) ((p + 1) * ar_B d) = ar_S (ar_M LF va) (p * ar_B d) + ar_sO va sb o := by
  have hlh : p * ar_B d ≤ (p + 1) * ar_B d := Nat.mul_le_mul_right _ (by omega)
  rcases h with ⟨e, h⟩ | ⟨l, k, e, h1, h2, h3, h4⟩ | ⟨m, e, h1, h2, h3, h4, h5⟩
  · subst e
    have hz : ∀ i, p * ar_B d ≤ i → i < (p + 1) * ar_B d → LF i = none := fun i a b => h i (ar_t_iff.mpr ⟨a, b⟩)
    rw [ar_C_z hlh hz, ar_S_z hlh (fun i a b => ar_M_none (hz i a b))]
    exact ⟨rfl, (Int64.add_zero _).symm⟩
  · subst e
    obtain ⟨a, b⟩ := ar_t_iff.mp h3
    have hz : ∀ i, p * ar_B d ≤ i → i < (p + 1) * ar_B d → i ≠ k → LF i = none := by
      intro i a' b' c
      by_cases z : LF i = none
      · exact z
      · exact absurd (h4 i (ar_t_iff.mpr ⟨a', b'⟩) z) c
    have e1 := ar_sN_single (f := fun i => ar_c1 (LF i)) a b (fun i x y z => by show ar_c1 (LF i) = 0; rw [hz i x y z]; rfl)
    have e2 := ar_sL_single (f := fun i => ar_v (ar_M LF va i)) a b (fun i x y z => by show ar_v (ar_M LF va i) = 0; rw [ar_M_none (hz i x y z)]; rfl)
    have e3 : ar_c1 (LF k) = 1 := by rw [h2]; rfl
    have e4 : ar_v (ar_M LF va k) = (va l).toInt64 := by rw [ar_M_some h2]; rfl
    rw [ar_kO_l h1, ar_sO_l h1]
    constructor
    · show ar_sN _ _ + 1 = ar_sN _ _
      rw [e1]
      show _ = _ + ar_c1 (LF k)
      rw [e3]
    · show ar_sL _ _ = ar_sL _ _ + _
      rw [e2]
      show _ + ar_v (ar_M LF va k) = _
      rw [e4]
  · subst e
    obtain ⟨K1, K2⟩ := hK m h1 rfl
    rw [ar_kO_n, ar_sO_n]
    have b1 := ar_t_iff.mp (h4 _ (ar_t_lo (pf m) (dp m)))
    have b2 := ar_t_iff.mp (h4 _ (ar_t_hi (pf m) (dp m)))
    have b3 := ar_B_pos (dp m)
    have b4 : pf m * ar_B (dp m) + ar_B (dp m) = (pf m + 1) * ar_B (dp m) := by rw [Nat.add_mul, Nat.one_mul]
    have key : ∀ i, p * ar_B d ≤ i → i < (p + 1) * ar_B d → LF i ≠ none → pf m * ar_B (dp m) ≤ i ∧ i < (pf m + 1) * ar_B (dp m) :=
      fun i x y z => ar_t_iff.mp (h5 i z (ar_t_iff.mpr ⟨x, y⟩))
    generalize pf m * ar_B (dp m) = lo at *
    generalize (pf m + 1) * ar_B (dp m) = hi at *
    generalize p * ar_B d = a at *
    generalize (p + 1) * ar_B d = b at *
    have z1 : ∀ i, a ≤ i → i < lo → LF i = none := by
      intro i x y
      by_cases c : LF i = none
      · exact c
      · have := key i x (by omega) c
        omega
    have z2 : ∀ i, hi ≤ i → i < b → LF i = none := by
      intro i x y
      by_cases c : LF i = none
      · exact c
      · have := key i (by omega) y c
        omega
    rw [← ar_C_z b1.1 z1, ar_C_z (a := hi) (b := b) (by omega) z2, ← ar_S_z b1.1 (fun i x y => ar_M_none (z1 i x y)), ar_S_z (a := hi) (b := b) (by omega) (fun i x y => ar_M_none (z2 i x y))]
    exact ⟨K1, K2⟩
/-- the children of a node, one after another -/
theorem ar_kT {d p : Nat} {c : Nat → Option Nat} (hd : d < 4) (hL : ∀ g, g < 16 → ar_Lk LF lv dp pf (d + 1) (16 * p + g) (c g))
    (hK : ∀ g m, g < 16 → m < 80 → c g = some (64 + m) → ar_K LF (ar_M LF va) dp pf kb sb m) : ∀ j, j ≤ 16 →
    ar_C LF (p * ar_B d) + ar_sN (fun g => ar_kO kb (c g)) j = ar_C LF ((16 * p + j) * ar_B (d + 1)) ∧
    ar_S (ar_M LF va) ((16 * p + j) * ar_B (d + 1)) = ar_S (ar_M LF va) (p * ar_B d) + ar_sL (fun g => ar_sO va sb (c g)) j := by
  have e0 : p * ar_B d = (16 * p) * ar_B (d + 1) := by
    rw [ar_B_s hd, Nat.mul_comm 16 p, Nat.mul_assoc, Nat.mul_comm 16]
  intro j
  induction j with
  | zero =>
    intro _
    rw [e0]
    exact ⟨rfl, (Int64.add_zero _).symm⟩
  | succ j ih =>
    intro hj
    obtain ⟨a, b⟩ := ih (by omega)
    obtain ⟨x, y⟩ := ar_kL (hL j (by omega)) (fun m hm e => hK j m (by omega) hm e)
    rw [ar_sN_s, ar_sL_s, ← Nat.add_assoc (16 * p) j 1]
    constructor
    · omega
    · rw [y, b]
      grind
end
theorem ar_hi16 {p d : Nat} (hd : d < 4) : (16 * p + 16) * ar_B (d + 1) = (p + 1) * ar_B d := by
  rw [ar_B_s hd, show 16 * p + 16 = (p + 1) * 16 by omega, Nat.mul_assoc, Nat.mul_comm 16]
/-! how many children; what the nodes weigh -/
def ar_cnt (c : Nat → Option Nat) : Nat := ar_sN (fun g => ar_c1 (c g)) 16
theorem ar_cnt_le (c : Nat → Option Nat) : ar_cnt c ≤ 16 := ar_sN_bound _ (fun i => ar_c1_le (c i)) 16
theorem ar_cnt_0 : ar_cnt (fun _ => none) = 0 := by decide
theorem ar_cnt_ext {c c' : Nat → Option Nat} (h : ∀ g, g < 16 → c g = c' g) : ar_cnt c = ar_cnt c' :=
  ar_sN_congr 16 (fun i hi => by show ar_c1 (c i) = ar_c1 (c' i); rw [h i hi])
theorem ar_cnt_u {c : Nat → Option Nat} {g : Nat} (o : Option Nat) (hg : g < 16) : ar_cnt (ar_u c g o) + ar_c1 (c g) = ar_cnt c + ar_c1 o := by
  have h := ar_sN_one (f := fun i => ar_c1 (ar_u c g o i)) (g := fun i => ar_c1 (c i)) (k := g) (fun i hi => by show ar_c1 (ar_u c g o i) = ar_c1 (c i); rw [ar_un hi]) 16 hg
  have e : ar_c1 (ar_u c g o g) = ar_c1 o := by rw [ar_us]
  show ar_sN _ 16 + _ = ar_sN _ 16 + _
  rw [← e]
  exact h
theorem ar_cnt_add {c : Nat → Option Nat} {g x : Nat} (hg : g < 16) (h : c g = none) : ar_cnt (ar_u c g (some x)) = ar_cnt c + 1 := by
  have := ar_cnt_u (c := c) (some x) hg
  rw [h] at this
  exact this
theorem ar_cnt_del {c : Nat → Option Nat} {g : Nat} (hg : g < 16) (h : c g ≠ none) : ar_cnt (ar_u c g none) + 1 = ar_cnt c := by
  have := ar_cnt_u (c := c) none hg
  rw [ar_c1_ne h] at this
  exact this
theorem ar_cnt_set {c : Nat → Option Nat} {g x : Nat} (hg : g < 16) (h : c g ≠ none) : ar_cnt (ar_u c g (some x)) = ar_cnt c := by
  have := ar_cnt_u (c := c) (some x) hg
  rw [ar_c1_ne h] at this
  have e : ar_c1 (some x) = 1 := rfl
  omega
theorem ar_cnt_pos {c : Nat → Option Nat} {g : Nat} (hg : g < 16) (h : c g ≠ none) : 1 ≤ ar_cnt c := by
  have := ar_sN_pos (fun i => ar_c1 (c i)) hg
  have e : ar_c1 (c g) = 1 := ar_c1_ne h
  show 1 ≤ ar_sN _ 16
  omega
theorem ar_cnt_2 {c : Nat → Option Nat} {g g' : Nat} (hg : g < 16) (hg' : g' < 16) (hn : g ≠ g') (h : c g ≠ none) (h' : c g' ≠ none) : 2 ≤ ar_cnt c := by
  have e : ar_c1 (c g) = 1 := ar_c1_ne h
  have e' : ar_c1 (c g') = 1 := ar_c1_ne h'
  show 2 ≤ ar_sN _ 16
  rcases Nat.lt_or_gt_of_ne hn with z | z
  · have := ar_sN_two (fun i => ar_c1 (c i)) z hg'
    omega
  · have := ar_sN_two (fun i => ar_c1 (c i)) z hg
    omega
theorem ar_cnt_ex {c : Nat → Option Nat} : ∀ n, 1 ≤ ar_sN (fun g => ar_c1 (c g)) n → ∃ g, g < n ∧ c g ≠ none := by
  intro n
  induction n with
  | zero =>
    intro h
    have h' : 1 ≤ 0 := h
    omega
  | succ n ih =>
    intro h
    by_cases z : c n = none
    · rw [ar_sN_s] at h
      have e : ar_c1 (c n) = 0 := by rw [z]; rfl
      obtain ⟨g, a, b⟩ := ih (by omega)
      exact ⟨g, by omega, b⟩
    · exact ⟨n, by omega, z⟩
theorem ar_cnt_one {c : Nat → Option Nat} {g g' : Nat} (h1 : ar_cnt c = 1) (hg : g < 16) (h : c g ≠ none) (hg' : g' < 16) (hn : g' ≠ g) : c g' = none := by
  by_cases z : c g' = none
  · exact z
  · have := ar_cnt_2 hg hg' (fun e => hn e.symm) h z
    omega
def ar_pot (lv : Nat → Bool) (ch : Nat → Nat → Option Nat) (n : Nat) : Nat := if lv n = true then ar_cnt (ch n) - 1 else 0
def ar_b (x : Bool) : Nat := if x = true then 1 else 0
theorem ar_b_t : ar_b true = 1 := rfl
theorem ar_b_f : ar_b false = 0 := rfl
theorem ar_b_le (x : Bool) : ar_b x ≤ 1 := by cases x <;> decide
theorem ar_G_2 {LF : Nat → Option Nat} {lv : Nat → Bool} {dp pf : Nat → Nat} {ch : Nat → Nat → Option Nat} {rt : Option Nat} (G : ar_G LF lv dp pf (ar_SL lv dp pf ch rt)) {n : Nat} (hn : n < 80) (hl : lv n = true) : 2 ≤ ar_cnt (ch n) := by
  obtain ⟨hd, j, k, h1, h2, h3, h4, h5⟩ := G.2.1 n hn hl
  have go : ∀ x, LF x ≠ none → ar_t x (dp n) = pf n → ch n (ar_g x (dp n)) ≠ none := by
    intro x hx hxn z
    have e : ar_t x (dp n + 1) = 16 * pf n + ar_g x (dp n) := by rw [ar_t_g (by omega), hxn]
    have s : ar_SL lv dp pf ch rt (dp n + 1) (ar_t x (dp n + 1)) none := Or.inr ⟨n, ar_g x (dp n), hn, hl, ar_g_lt _ _, rfl, e, z.symm⟩
    exact hx (ar_Lk_none (G.1 _ _ _ s) x rfl)
  refine ar_cnt_2 (ar_g_lt j (dp n)) (ar_g_lt k (dp n)) (fun z => h5 ?_) (go j h1 h3) (go k h2 h4)
  exact (ar_t_eqs (by omega)).mpr ⟨h3.trans h4.symm, z⟩
theorem ar_room {lv : Nat → Bool} {ch : Nat → Nat → Option Nat} {N : Nat} (hN : N ≤ 64) (hP : ar_sN (ar_pot lv ch) 80 = N - 1)
    (h2 : ∀ n, n < 80 → lv n = true → 2 ≤ ar_cnt (ch n)) (hW : ∀ n, n < 80 → lv n = true → 64 ≤ n → 5 ≤ ar_cnt (ch n)) :
    ar_sN (fun i => ar_b (lv (0 + i))) 64 ≤ 63 ∧ ar_sN (fun i => ar_b (lv (64 + i))) 16 ≤ 15 := by
  have hs := ar_sN_split (ar_pot lv ch) 64 16
  have a : ar_sN (fun i => ar_b (lv (0 + i))) 64 ≤ ar_sN (ar_pot lv ch) 64 := by
    refine ar_sN_le 64 (fun i hi => ?_)
    show ar_b (lv (0 + i)) ≤ ar_pot lv ch i
    rw [Nat.zero_add]
    unfold ar_b ar_pot
    by_cases c : lv i = true
    · rw [if_pos c, if_pos c]
      have := h2 i (by omega) c
      omega
    · rw [if_neg c]
      exact Nat.zero_le _
  have b : ar_sN (fun i => 4 * ar_b (lv (64 + i))) 16 ≤ ar_sN (fun i => ar_pot lv ch (64 + i)) 16 := by
    refine ar_sN_le 16 (fun i hi => ?_)
    show 4 * ar_b (lv (64 + i)) ≤ ar_pot lv ch (64 + i)
    unfold ar_b ar_pot
    by_cases c : lv (64 + i) = true
    · rw [if_pos c, if_pos c]
      have := hW (64 + i) (by omega) c (by omega)
      omega
    · rw [if_neg c]
      exact Nat.zero_le _
  rw [ar_sN_mul] at b
  have e : 64 + 16 = 80 := rfl
  rw [e] at hs
  omega
end
section
/-! the reference against the map M -/
def ar_Y (M : Nat → Option Int32) (n : Nat) (ky : Nat → Nat) (ks vs : Nat → Int32) : Prop :=
  n ≤ 64 ∧ (∀ i, i < n → ky i < 65536 ∧ ks i = nI (ky i) ∧ M (ky i) = some (vs i)) ∧ (∀ i j, i < n → j < n → ky i = ky j → i = j) ∧ (∀ k, M k ≠ none → ∃ i, i < n ∧ ky i = k)
def ar_RY (M : Nat → Option Int32) (v : SY) : Prop := ∃ (n : Nat) (ky : Nat → Nat) (ks vs : Nat → Int32), v = (nI n, ks, vs) ∧ ar_Y M n ky ks vs
theorem ar_dblN {ky : Nat → Nat} : ∀ (n : Nat) (F : Nat → Nat), (∀ i, i < n → ky i < 65536) → (∀ i j, i < n → j < n → ky i = ky j → i = j) →
    (∀ k, (∀ i, i < n → ky i ≠ k) → F k = 0) → ar_sN (fun i => F (ky i)) n = ar_sN F 65536 := by
  intro n
  induction n with
  | zero =>
    intro F _ _ hF
    exact (ar_sN_z (a := 0) 65536 (by omega) (fun i _ _ => hF i (fun j hj => by omega))).symm
  | succ n ih =>
    intro F hb hi hF
    have h1 := ih (ar_u F (ky n) 0) (fun i h => hb i (by omega)) (fun i j h h' => hi i j (by omega) (by omega)) (fun k hk => by
      by_cases c : k = ky n
      · rw [c, ar_us]
      · rw [ar_un c]
        refine hF k (fun i h z => ?_)
        by_cases e : i = n
        · exact c (by rw [← z, e])
        · exact hk i (by omega) z)
    have h2 := ar_sN_one (f := ar_u F (ky n) 0) (g := F) (k := ky n) (fun i h => ar_un h) 65536 (hb n (by omega))
    have h3 : ar_sN (fun i => ar_u F (ky n) 0 (ky i)) n = ar_sN (fun i => F (ky i)) n := ar_sN_congr n (fun i h => ar_un (fun z => by
      have := hi i n (by omega) (by omega) z
      omega))
    rw [ar_us] at h2
    rw [ar_sN_s]
    omega
theorem ar_dblL {ky : Nat → Nat} : ∀ (n : Nat) (F : Nat → Int64), (∀ i, i < n → ky i < 65536) → (∀ i j, i < n → j < n → ky i = ky j → i = j) →
    (∀ k, (∀ i, i < n → ky i ≠ k) → F k = 0) → ar_sL (fun i => F (ky i)) n = ar_sL F 65536 := by
  intro n
  induction n with
  | zero =>
    intro F _ _ hF
    exact (ar_sL_z (a := 0) 65536 (by omega) (fun i _ _ => hF i (fun j hj => by omega))).symm
  | succ n ih =>
    intro F hb hi hF
    have h1 := ih (ar_u F (ky n) 0) (fun i h => hb i (by omega)) (fun i j h h' => hi i j (by omega) (by omega)) (fun k hk => by
      by_cases c : k = ky n
      · rw [c, ar_us]
      · rw [ar_un c]
        refine hF k (fun i h z => ?_)
        by_cases e : i = n
        · exact c (by rw [← z, e])
        · exact hk i (by omega) z)
    have h2 := ar_sL_one (f := ar_u F (ky n) 0) (g := F) (k := ky n) (fun i h => ar_un h) 65536 (hb n (by omega))
    have h3 : ar_sL (fun i => ar_u F (ky n) 0 (ky i)) n = ar_sL (fun i => F (ky i)) n := ar_sL_congr n (fun i h => ar_un (fun z => by
      have := hi i n (by omega) (by omega) z
      omega))
    rw [ar_us, Int64.add_zero] at h2
    rw [ar_sL_s, ← h2, ← h1, h3]
section
variable {M : Nat → Option Int32} {n : Nat} {ky : Nat → Nat} {ks vs : Nat → Int32}
theorem ar_Y_sumN (Y : ar_Y M n ky ks vs) (F : Nat → Nat) (hF : ∀ k, M k = none → F k = 0) : ar_sN (fun i => F (ky i)) n = ar_sN F 65536 :=
  ar_dblN n F (fun i h => (Y.2.1 i h).1) Y.2.2.1 (fun k hk => hF k (by
    by_cases c : M k = none
    · exact c
    · obtain ⟨i, hi, e⟩ := Y.2.2.2 k c
      exact absurd e (hk i hi)))
theorem ar_Y_sumL (Y : ar_Y M n ky ks vs) (F : Nat → Int64) (hF : ∀ k, M k = none → F k = 0) : ar_sL (fun i => F (ky i)) n = ar_sL F 65536 :=
  ar_dblL n F (fun i h => (Y.2.1 i h).1) Y.2.2.1 (fun k hk => hF k (by
    by_cases c : M k = none
    · exact c
    · obtain ⟨i, hi, e⟩ := Y.2.2.2 k c
      exact absurd e (hk i hi)))
theorem ar_Y_ne (Y : ar_Y M n ky ks vs) {i : Nat} (hi : i < n) : M (ky i) ≠ none := by rw [(Y.2.1 i hi).2.2]; simp
theorem ar_Y_lt (Y : ar_Y M n ky ks vs) {k : Nat} (h : M k ≠ none) : k < 65536 := by
  obtain ⟨i, hi, e⟩ := Y.2.2.2 k h
  rw [← e]
  exact (Y.2.1 i hi).1
theorem ar_sN_const1 : ∀ n, ar_sN (fun _ => 1) n = n := by
  intro n
  induction n with
  | zero => rfl
  | succ n ih => rw [ar_sN_s, ih]
theorem ar_Y_n (Y : ar_Y M n ky ks vs) : n = ar_C M 65536 := by
  have h := ar_Y_sumN Y (fun k => ar_c1 (M k)) (fun k hk => by show ar_c1 (M k) = 0; rw [hk]; rfl)
  have h2 : ar_sN (fun i => ar_c1 (M (ky i))) n = ar_sN (fun _ => 1) n := ar_sN_congr n (fun i hi => ar_c1_ne (ar_Y_ne Y hi))
  rw [ar_sN_const1] at h2
  show n = ar_sN _ 65536
  rw [← h]
  exact h2.symm
/-! comparisons with any int -/
theorem ar_cle {a : Nat} {x : Int32} (ha : a < 65536) : nI a ≤ x ↔ (a : Int) ≤ x.toInt := by rw [Int32.le_iff_toInt_le, nI_toInt (by omega)]
theorem ar_clt {a : Nat} {x : Int32} (ha : a < 65536) : nI a < x ↔ (a : Int) < x.toInt := by rw [Int32.lt_iff_toInt_lt, nI_toInt (by omega)]
theorem ar_cle' {a : Nat} {x : Int32} (ha : a < 65536) : x ≤ nI a ↔ x.toInt ≤ (a : Int) := by rw [Int32.le_iff_toInt_le, nI_toInt (by omega)]
theorem ar_clt' {a : Nat} {x : Int32} (ha : a < 65536) : x < nI a ↔ x.toInt < (a : Int) := by rw [Int32.lt_iff_toInt_lt, nI_toInt (by omega)]
theorem ar_m3 : (-3 : Int32).toInt = -3 := by decide
theorem ar_ne3 {a : Nat} (ha : a < 65536) : ¬ nI a = -3 := by
  intro h
  have := congrArg Int32.toInt h
  rw [nI_toInt (by omega), ar_m3] at this
  omega
theorem ar_neg1 : (-1 : Int32).toInt = -1 := by decide
/-- an int is a key, or not -/
theorem ar_key (x : Int32) : (∃ k, k < 65536 ∧ x = nI k) ∨ (x < 0 ∨ (¬ x < 0 ∧ 65535 < x)) := by
  by_cases h : x < 0
  · exact Or.inr (Or.inl h)
  · obtain ⟨j, hj, rfl⟩ := nI_of h
    by_cases c : j < 65536
    · exact Or.inl ⟨j, c, rfl⟩
    · exact Or.inr (Or.inr ⟨h, nI_lt (a := 65535) (b := j) (by omega) hj⟩)
theorem ar_keyN {x : Int32} (h : x < 0 ∨ (¬ x < 0 ∧ 65535 < x)) : ∀ k, x = nI k → ¬ k < 65536 := by
  intro k e hk
  subst e
  rcases h with h | ⟨_, h⟩
  · exact nI_pos (by omega) h
  · exact nI_nlt (a := 65535) (b := k) (by omega) (by decide) h
theorem ar_y_isKey {post : Int32 → Prop} {v : SY} {k : Nat} (hk : k < 65536) (h : post 1) : wpY_isKey post v (nI k) := by
  obtain ⟨f, a, b⟩ := v
  exact br_f (nI_pos (by omega)) (br_f (nI_nlt (a := 65535) (b := k) (by omega) (by decide)) h)
theorem ar_y_noKey {post : Int32 → Prop} {v : SY} {x : Int32} (hx : x < 0 ∨ (¬ x < 0 ∧ 65535 < x)) (h : post 0) : wpY_isKey post v x := by
  obtain ⟨f, a, b⟩ := v
  rcases hx with hx | ⟨h0, hx⟩
  · exact br_t hx h
  · exact br_f h0 (br_t hx h)
theorem ar_y_place_lp (Y : ar_Y M n ky ks vs) {post : Int32 → Prop} {x : Int32} (h1 : ∀ i, i < n → x = nI (ky i) → post (nI i)) (h2 : (∀ i, i < n → ks i ≠ x) → post (-1)) :
    ∀ d i, i + d = n → (∀ j, j < i → ks j ≠ x) → wY_placeOf_2 post x (nI n) ks vs (d + 1) (nI i) := by
  have hn := Y.1
  intro d
  induction d with
  | zero =>
    intro i hi hj
    exact br_t (nI_le (by omega) (by omega)) (h2 (fun j h => hj j (by omega)))
  | succ d ih =>
    intro i hi hj
    obtain ⟨b1, b2, b3⟩ := Y.2.1 i (by omega)
    have e : ks (nI i).toNatClampNeg = nI (ky i) := by rw [nI_clamp (by omega)]; exact b2
    refine br_f (nI_ge (by omega) (by omega)) (And.intro (vp_in_nI (by omega) (by omega)) (br_c (fun c => ?_) (fun c => ?_)))
    · exact h1 i (by omega) (c.symm.trans e)
    · refine nm_r (nI_1 i) (ih (i + 1) (by omega) (fun j h => ?_))
      by_cases z : j = i
      · subst z
        rw [nI_clamp (by omega)] at c
        exact c
      · exact hj j (by omega)
theorem ar_y_place (Y : ar_Y M n ky ks vs) {post : Int32 → Prop} {x : Int32} (h1 : ∀ i, i < n → x = nI (ky i) → post (nI i)) (h2 : (∀ k, k < 65536 → x = nI k → M k = none) → post (-1)) :
    wpY_placeOf post (nI n, ks, vs) x := by
  refine ⟨n + 1, ar_y_place_lp Y h1 (fun h => h2 (fun k hk e => ?_)) n 0 (by omega) (fun j h => by omega)⟩
  by_cases c : M k = none
  · exact c
  · obtain ⟨i, hi, e2⟩ := Y.2.2.2 k c
    exact absurd ((Y.2.1 i hi).2.1.trans (by rw [e2, e])) (h i hi)
theorem ar_Y_set (Y : ar_Y M n ky ks vs) {i : Nat} (hi : i < n) (w : Int32) : ar_Y (ar_u M (ky i) (some w)) n ky ks (upd vs i w) := by
  refine ⟨Y.1, fun j hj => ?_, Y.2.2.1, fun k hk => ?_⟩
  · obtain ⟨b1, b2, b3⟩ := Y.2.1 j hj
    refine ⟨b1, b2, ?_⟩
    by_cases c : j = i
    · rw [c, ar_us, pk_us]
    · rw [ar_un (fun z => c (Y.2.2.1 j i hj hi z)), pk_un c]
      exact b3
  · by_cases c : k = ky i
    · exact ⟨i, hi, c.symm⟩
    · rw [ar_un c] at hk
      exact Y.2.2.2 k hk
theorem ar_Y_add (Y : ar_Y M n ky ks vs) {k : Nat} (hk : k < 65536) (hM : M k = none) (hn : n < 64) (w : Int32) : ar_Y (ar_u M k (some w)) (n + 1) (ar_u ky n k) (upd ks n (nI k)) (upd vs n w) := by
  have hne : ∀ j, j < n → ky j ≠ k := fun j hj z => ar_Y_ne Y hj (by rw [z]; exact hM)
  refine ⟨by omega, fun j hj => ?_, fun i j hi hj e => ?_, fun x hx => ?_⟩
  · by_cases c : j = n
    · rw [c, ar_us, pk_us, pk_us, ar_us]
      exact ⟨hk, rfl, rfl⟩
    · obtain ⟨b1, b2, b3⟩ := Y.2.1 j (by omega)
      rw [ar_un c, pk_un c, pk_un c, ar_un (hne j (by omega))]
      exact ⟨b1, b2, b3⟩
  · by_cases c : i = n <;> by_cases c' : j = n
    · omega
    · rw [c, ar_us, ar_un c'] at e
      exact absurd e.symm (hne j (by omega))
    · rw [c', ar_us, ar_un c] at e
      exact absurd e (hne i (by omega))
    · rw [ar_un c, ar_un c'] at e
      exact Y.2.2.1 i j (by omega) (by omega) e
  · by_cases c : x = k
    · exact ⟨n, by omega, by rw [ar_us, c]⟩
    · rw [ar_un c] at hx
      obtain ⟨i, hi, e⟩ := Y.2.2.2 x hx
      exact ⟨i, by omega, by rw [ar_un (by omega)]; exact e⟩
theorem ar_Y_drop (Y : ar_Y M n ky ks vs) {i : Nat} (hi : i < n) : ar_Y (ar_u M (ky i) none) (n - 1) (ar_u ky i (ky (n - 1))) (upd ks i (ks (n - 1))) (upd vs i (vs (n - 1))) := by
  have hn := Y.1
  refine ⟨by omega, fun j hj => ?_, fun a b ha hb e => ?_, fun x hx => ?_⟩
  · by_cases c : j = i
    · obtain ⟨b1, b2, b3⟩ := Y.2.1 (n - 1) (by omega)
      have ne : ky (n - 1) ≠ ky i := fun z => by
        have := Y.2.2.1 (n - 1) i (by omega) hi z
        omega
      rw [c, ar_us, pk_us, pk_us, ar_un ne]
      exact ⟨b1, b2, b3⟩
    · obtain ⟨b1, b2, b3⟩ := Y.2.1 j (by omega)
      have ne : ky j ≠ ky i := fun z => c (Y.2.2.1 j i (by omega) hi z)
      rw [ar_un c, pk_un c, pk_un c, ar_un ne]
      exact ⟨b1, b2, b3⟩
  · by_cases c : a = i <;> by_cases c' : b = i
    · omega
    · rw [c, ar_us, ar_un c'] at e
      have := Y.2.2.1 (n - 1) b (by omega) (by omega) e
      omega
    · rw [c', ar_us, ar_un c] at e
      have := Y.2.2.1 a (n - 1) (by omega) (by omega) e
      omega
    · rw [ar_un c, ar_un c'] at e
      exact Y.2.2.1 a b (by omega) (by omega) e
  · by_cases c : x = ky i
    · rw [c, ar_us] at hx
      exact absurd rfl hx
    · rw [ar_un c] at hx
      obtain ⟨j, hj, e⟩ := Y.2.2.2 x hx
      by_cases z : j = n - 1
      · exact ⟨i, by
          have : i ≠ n - 1 := fun w => c (by rw [← e, z, w])
          omega, by rw [ar_us, ← z]; exact e⟩
      · exact ⟨j, by omega, by rw [ar_un (fun w => c (by rw [← e, w]))]; exact e⟩
theorem ar_y_drop (Y : ar_Y M n ky ks vs) {i : Nat} (hi : i < n) {post : SY → Prop} (h : post (nI (n - 1), upd ks i (ks (n - 1)), upd vs i (vs (n - 1)))) : wpY_dropAt post (nI n, ks, vs) (nI i) := by
  have hn := Y.1
  have e1 : nI n - 1 = nI (n - 1) := pk_sub (b := 1) (by omega)
  have v1 : vp_in (nI (n - 1)) 64 := vp_in_nI (by omega) (by omega)
  have v2 : vp_in (nI i) 64 := vp_in_nI (by omega) (by omega)
  refine nm_r e1 (And.intro v1 (And.intro v2 (nm_r ?_ (And.intro v1 (And.intro v2 (nm_r ?_ h))))))
  · rw [nI_clamp (by omega), nI_clamp (by omega)]
  · rw [nI_clamp (by omega), nI_clamp (by omega)]
end
section
variable {M : Nat → Option Int32}
theorem ar_y_put {v : SY} (R : ar_RY M v) {k : Nat} (hk : k < 65536) (w : Int32) {post : Int32 → SY → Prop}
    (h0 : M k ≠ none → ∀ v', ar_RY (ar_u M k (some w)) v' → post 0 v') (h1 : M k = none → ar_C M 65536 < 64 → ∀ v', ar_RY (ar_u M k (some w)) v' → post 1 v')
    (h2 : M k = none → ar_C M 65536 = 64 → post (-2) v) : wpY_put post v (nI k) w := by
  obtain ⟨n, ky, ks, vs, rfl, Y⟩ := R
  have hn := Y.1
  have hC := ar_Y_n Y
  unfold wpY_put
  refine ar_y_isKey hk ?_
  refine br_f (by decide) ?_
  refine ar_y_place Y (fun i hi e => ?_) (fun hno => ?_)
  · obtain ⟨b1, b2, b3⟩ := Y.2.1 i hi
    have e2 : k = ky i := (nI_eq (by omega) (by omega)).mp e
    subst e2
    refine br_f (nI_pos (by omega)) (And.intro (vp_in_nI (by omega) (by omega)) (nm_e (h0 (by rw [b3]; simp) _ ?_)))
    rw [nI_clamp (by omega)]
    exact ⟨n, ky, ks, upd vs i w, rfl, ar_Y_set Y hi w⟩
  · have hM := hno k hk rfl
    refine br_t (by decide) ?_
    refine pk_eq n 64 (fun e => h2 hM (by omega)) (fun e => ?_)
    have v1 : vp_in (nI n) 64 := vp_in_nI (by omega) (by omega)
    refine And.intro v1 (nm_e (And.intro v1 (nm_e (nm_r (nI_1 n) (h1 hM (by omega) _ ?_)))))
    rw [nI_clamp (by omega)]
    exact ⟨n + 1, ar_u ky n k, _, _, rfl, ar_Y_add Y hk hM (by omega) w⟩
theorem ar_y_putN {v : SY} {x w : Int32} (hx : x < 0 ∨ (¬ x < 0 ∧ 65535 < x)) {post : Int32 → SY → Prop} (h : post (-1) v) : wpY_put post v x w := by
  obtain ⟨f, a, b⟩ := v
  unfold wpY_put
  refine ar_y_noKey hx ?_
  exact br_t rfl h
theorem ar_y_remove {v : SY} (R : ar_RY M v) {k : Nat} (hk : k < 65536) {post : Int32 → SY → Prop}
    (h0 : M k ≠ none → ∀ v', ar_RY (ar_u M k none) v' → post (nI (ar_C M 65536 - 1)) v') (h1 : M k = none → post (-3) v) : wpY_remove post v (nI k) := by
  obtain ⟨n, ky, ks, vs, rfl, Y⟩ := R
  have hn := Y.1
  have hC := ar_Y_n Y
  unfold wpY_remove
  refine ar_y_isKey hk ?_
  refine br_f (by decide) ?_
  refine ar_y_place Y (fun i hi e => ?_) (fun hno => ?_)
  · obtain ⟨b1, b2, b3⟩ := Y.2.1 i hi
    have e2 : k = ky i := (nI_eq (by omega) (by omega)).mp e
    subst e2
    refine br_t (nI_pos' (by omega)) (ar_y_drop Y hi ?_)
    rw [← hC] at h0
    exact h0 (by rw [b3]; simp) _ ⟨n - 1, _, _, _, rfl, ar_Y_drop Y hi⟩
  · exact br_f (by decide) (h1 (hno k hk rfl))
theorem ar_y_removeN {v : SY} {x : Int32} (hx : x < 0 ∨ (¬ x < 0 ∧ 65535 < x)) {post : Int32 → SY → Prop} (h : post (-1) v) : wpY_remove post v x := by
  obtain ⟨f, a, b⟩ := v
  unfold wpY_remove
  refine ar_y_noKey hx ?_
  exact br_t rfl h
theorem ar_y_contains {v : SY} (R : ar_RY M v) {x : Int32} {post : Int32 → Prop} (h1 : ∀ k, k < 65536 → x = nI k → M k ≠ none → post 1) (h0 : (∀ k, k < 65536 → x = nI k → M k = none) → post 0) : wpY_contains post v x := by
  obtain ⟨n, ky, ks, vs, rfl, Y⟩ := R
  have hn := Y.1
  refine ar_y_place Y (fun i hi e => ?_) (fun hno => ?_)
  · exact br_f (nI_pos (by omega)) (h1 (ky i) (Y.2.1 i hi).1 e (ar_Y_ne Y hi))
  · exact br_t (by decide) (h0 hno)
theorem ar_y_valueOf {v : SY} (R : ar_RY M v) {x : Int32} {post : Int32 → Prop} (h1 : ∀ k w, k < 65536 → x = nI k → M k = some w → post w) (h0 : (∀ k, k < 65536 → x = nI k → M k = none) → post 0) : wpY_valueOf post v x := by
  obtain ⟨n, ky, ks, vs, rfl, Y⟩ := R
  have hn := Y.1
  refine ar_y_place Y (fun i hi e => ?_) (fun hno => ?_)
  · refine br_t (nI_pos' (by omega)) (And.intro (vp_in_nI (by omega) (by omega)) ?_)
    rw [nI_clamp (by omega)]
    exact h1 (ky i) _ (Y.2.1 i hi).1 e (Y.2.1 i hi).2.2
  · exact br_f (by decide) (h0 hno)
theorem ar_y_size {v : SY} (R : ar_RY M v) {post : Int32 → Prop} (h : post (nI (ar_C M 65536))) : wpY_size post v := by
  obtain ⟨n, ky, ks, vs, rfl, Y⟩ := R
  rw [← ar_Y_n Y] at h
  exact h
end
end
section
/-! the reference's questions -/
def ar_Ab (M : Nat → Option Int32) (b : Int) (r : Int32) : Prop :=
  (r = -3 ∧ ∀ k, M k ≠ none → (k : Int) ≤ b) ∨ (∃ k, k < 65536 ∧ r = nI k ∧ M k ≠ none ∧ b < (k : Int) ∧ ∀ j, M j ≠ none → b < (j : Int) → k ≤ j)
def ar_Be (M : Nat → Option Int32) (b : Int) (r : Int32) : Prop :=
  (r = -3 ∧ ∀ k, M k ≠ none → b ≤ (k : Int)) ∨ (∃ k, k < 65536 ∧ r = nI k ∧ M k ≠ none ∧ (k : Int) < b ∧ ∀ j, M j ≠ none → (j : Int) < b → j ≤ k)
def ar_Rk (M : Nat → Option Int32) (x : Int) (r : Int32) : Prop :=
  (r = -3 ∧ ∀ k, M k ≠ none → (ar_C M k : Int) ≠ x) ∨ (∃ k, r = nI k ∧ M k ≠ none ∧ (ar_C M k : Int) = x)
def ar_Sh (M : Nat → Option Int32) (k : Nat) (r : Int32) : Prop :=
  (r = -3 ∧ ∀ j, M j = none) ∨ (∃ d, d ≤ 4 ∧ r = nI d ∧ (∃ j, M j ≠ none ∧ ar_t j d = ar_t k d) ∧ ∀ j e, e ≤ 4 → M j ≠ none → ar_t j e = ar_t k e → e ≤ d)
theorem ar_Ab_u {M : Nat → Option Int32} {b : Int} {r r' : Int32} (h : ar_Ab M b r) (h' : ar_Ab M b r') : r = r' := by
  rcases h with ⟨e, h⟩ | ⟨k, hk, e, h1, h2, h3⟩ <;> rcases h' with ⟨e', h'⟩ | ⟨k', hk', e', h1', h2', h3'⟩
  · rw [e, e']
  · have := h k' h1'
    omega
  · have := h' k h1
    omega
  · have a := h3 k' h1' h2'
    have b := h3' k h1 h2
    rw [e, e', Nat.le_antisymm a b]
theorem ar_Be_u {M : Nat → Option Int32} {b : Int} {r r' : Int32} (h : ar_Be M b r) (h' : ar_Be M b r') : r = r' := by
  rcases h with ⟨e, h⟩ | ⟨k, hk, e, h1, h2, h3⟩ <;> rcases h' with ⟨e', h'⟩ | ⟨k', hk', e', h1', h2', h3'⟩
  · rw [e, e']
  · have := h k' h1'
    omega
  · have := h' k h1
    omega
  · have a := h3 k' h1' h2'
    have b := h3' k h1 h2
    rw [e, e', Nat.le_antisymm b a]
theorem ar_Rk_u {M : Nat → Option Int32} {x : Int} {r r' : Int32} (h : ar_Rk M x r) (h' : ar_Rk M x r') : r = r' := by
  rcases h with ⟨e, h⟩ | ⟨k, e, h1, h2⟩ <;> rcases h' with ⟨e', h'⟩ | ⟨k', e', h1', h2'⟩
  · rw [e, e']
  · exact absurd h2' (h k' h1')
  · exact absurd h2 (h' k h1)
  · rw [e, e', ar_C_inj h1 h1' (by omega)]
theorem ar_Sh_u {M : Nat → Option Int32} {k : Nat} {r r' : Int32} (h : ar_Sh M k r) (h' : ar_Sh M k r') : r = r' := by
  rcases h with ⟨e, h⟩ | ⟨d, hd, e, ⟨j, h1, h2⟩, h3⟩ <;> rcases h' with ⟨e', h'⟩ | ⟨d', hd', e', ⟨j', h1', h2'⟩, h3'⟩
  · rw [e, e']
  · exact absurd (h j') h1'
  · exact absurd (h' j) h1
  · have a := h3 j' d' hd' h1' h2'
    have b := h3' j d hd h1 h2
    rw [e, e', Nat.le_antisymm b a]
section
variable {M : Nat → Option Int32} {n : Nat} {ky : Nat → Nat} {ks vs : Nat → Int32}
theorem ar_y_above_lp (Y : ar_Y M n ky ks vs) {post : Int32 → Prop} {x : Int32} (hp : ∀ r, ar_Ab M x.toInt r → post r) :
    ∀ d i (r : Int32), i + d = n → ((r = -3 ∧ ∀ j, j < i → (ky j : Int) ≤ x.toInt) ∨ (∃ j0, j0 < i ∧ r = nI (ky j0) ∧ x.toInt < (ky j0 : Int) ∧ ∀ j, j < i → x.toInt < (ky j : Int) → ky j0 ≤ ky j)) →
    wY_above_5 post x (nI n) ks vs (d + 1) r (nI i) := by
  have hn := Y.1
  intro d
  induction d with
  | zero =>
    intro i r hi I
    have ei : i = n := by omega
    subst ei
    refine br_t (nI_le (by omega) (by omega)) (hp r ?_)
    rcases I with ⟨e, h⟩ | ⟨j0, hj, e, h1, h2⟩
    · refine Or.inl ⟨e, fun k hk => ?_⟩
      obtain ⟨j, hj, z⟩ := Y.2.2.2 k hk
      rw [← z]
      exact h j hj
    · refine Or.inr ⟨ky j0, (Y.2.1 j0 hj).1, e, ar_Y_ne Y hj, h1, fun k hk hb => ?_⟩
      obtain ⟨j, hj, z⟩ := Y.2.2.2 k hk
      rw [← z] at hb ⊢
      exact h2 j hj hb
  | succ d ih =>
    intro i r hi I
    obtain ⟨b1, b2, b3⟩ := Y.2.1 i (by omega)
    have e : ks (nI i).toNatClampNeg = nI (ky i) := by rw [nI_clamp (by omega)]; exact b2
    have hv : vp_in (nI i) 64 := vp_in_nI (by omega) (by omega)
    refine br_f (nI_ge (by omega) (by omega)) (And.intro hv (br_c (fun c => ?_) (fun c => ?_)))
    · rw [e, ar_cle b1] at c
      refine nm_r (nI_1 i) (ih (i + 1) r (by omega) ?_)
      rcases I with ⟨e1, h⟩ | ⟨j0, hj, e1, h1, h2⟩
      · refine Or.inl ⟨e1, fun j hj => ?_⟩
        by_cases z : j = i
        · rw [z]; exact c
        · exact h j (by omega)
      · refine Or.inr ⟨j0, by omega, e1, h1, fun j hj hb => ?_⟩
        by_cases z : j = i
        · rw [z] at hb; omega
        · exact h2 j (by omega) hb
    · rw [e, ar_cle b1] at c
      refine br_c (fun c2 => And.intro hv (nm_r e (nm_r (nI_1 i) (ih (i + 1) _ (by omega) ?_)))) (fun c2 => And.intro hv (br_c (fun c3 => nm_r (nI_1 i) (ih (i + 1) _ (by omega) ?_)) (fun c3 => And.intro hv (nm_r e (nm_r (nI_1 i) (ih (i + 1) _ (by omega) ?_))))))
      · rcases I with ⟨e1, h⟩ | ⟨j0, hj, e1, h1, h2⟩
        · refine Or.inr ⟨i, by omega, rfl, by omega, fun j hj hb => ?_⟩
          by_cases z : j = i
          · rw [z]; exact Nat.le_refl _
          · have := h j (by omega)
            omega
        · rw [e1] at c2
          exact absurd c2 (ar_ne3 (Y.2.1 j0 (by omega)).1)
      · rcases I with ⟨e1, h⟩ | ⟨j0, hj, e1, h1, h2⟩
        · exact absurd e1 c2
        · have a1 := (Y.2.1 j0 (by omega)).1
          rw [e, e1, nI_leI (by omega) (by omega)] at c3
          refine Or.inr ⟨j0, by omega, e1, h1, fun j hj hb => ?_⟩
          by_cases z : j = i
          · rw [z]; exact c3
          · exact h2 j (by omega) hb
      · rcases I with ⟨e1, h⟩ | ⟨j0, hj, e1, h1, h2⟩
        · exact absurd e1 c2
        · have a1 := (Y.2.1 j0 (by omega)).1
          rw [e, e1, nI_leI (by omega) (by omega)] at c3
          refine Or.inr ⟨i, by omega, rfl, by omega, fun j hj hb => ?_⟩
          by_cases z : j = i
          · rw [z]; exact Nat.le_refl _
          · have := h2 j (by omega) hb
            omega
theorem ar_y_below_lp (Y : ar_Y M n ky ks vs) {post : Int32 → Prop} {x : Int32} (hp : ∀ r, ar_Be M x.toInt r → post r) :
    ∀ d i (r : Int32), i + d = n → ((r = -3 ∧ ∀ j, j < i → x.toInt ≤ (ky j : Int)) ∨ (∃ j0, j0 < i ∧ r = nI (ky j0) ∧ (ky j0 : Int) < x.toInt ∧ ∀ j, j < i → (ky j : Int) < x.toInt → ky j ≤ ky j0)) →
    wY_below_5 post x (nI n) ks vs (d + 1) r (nI i) := by
  have hn := Y.1
  intro d
  induction d with
  | zero =>
    intro i r hi I
    have ei : i = n := by omega
    subst ei
    refine br_t (nI_le (by omega) (by omega)) (hp r ?_)
    rcases I with ⟨e, h⟩ | ⟨j0, hj, e, h1, h2⟩
    · refine Or.inl ⟨e, fun k hk => ?_⟩
      obtain ⟨j, hj, z⟩ := Y.2.2.2 k hk
      rw [← z]
      exact h j hj
    · refine Or.inr ⟨ky j0, (Y.2.1 j0 hj).1, e, ar_Y_ne Y hj, h1, fun k hk hb => ?_⟩
      obtain ⟨j, hj, z⟩ := Y.2.2.2 k hk
      rw [← z] at hb ⊢
      exact h2 j hj hb
  | succ d ih =>
    intro i r hi I
    obtain ⟨b1, b2, b3⟩ := Y.2.1 i (by omega)
    have e : ks (nI i).toNatClampNeg = nI (ky i) := by rw [nI_clamp (by omega)]; exact b2
    have hv : vp_in (nI i) 64 := vp_in_nI (by omega) (by omega)
    refine br_f (nI_ge (by omega) (by omega)) (And.intro hv (br_c (fun c => ?_) (fun c => ?_)))
    · rw [e, ar_cle' b1] at c
      refine nm_r (nI_1 i) (ih (i + 1) r (by omega) ?_)
      rcases I with ⟨e1, h⟩ | ⟨j0, hj, e1, h1, h2⟩
      · refine Or.inl ⟨e1, fun j hj => ?_⟩
        by_cases z : j = i
        · rw [z]; exact c
        · exact h j (by omega)
      · refine Or.inr ⟨j0, by omega, e1, h1, fun j hj hb => ?_⟩
        by_cases z : j = i
        · rw [z] at hb; omega
        · exact h2 j (by omega) hb
    · rw [e, ar_cle' b1] at c
      refine And.intro hv (br_c (fun c2 => nm_r (nI_1 i) (ih (i + 1) _ (by omega) ?_)) (fun c2 => And.intro hv (nm_r e (nm_r (nI_1 i) (ih (i + 1) _ (by omega) ?_)))))
      · rw [e] at c2
        rcases I with ⟨e1, h⟩ | ⟨j0, hj, e1, h1, h2⟩
        · exfalso
          rw [e1, ar_cle b1, ar_m3] at c2
          omega
        · have a1 := (Y.2.1 j0 (by omega)).1
          rw [e1, nI_leI (by omega) (by omega)] at c2
          refine Or.inr ⟨j0, by omega, e1, h1, fun j hj hb => ?_⟩
          by_cases z : j = i
          · rw [z]; exact c2
          · exact h2 j (by omega) hb
      · rw [e] at c2
        rcases I with ⟨e1, h⟩ | ⟨j0, hj, e1, h1, h2⟩
        · refine Or.inr ⟨i, by omega, rfl, by omega, fun j hj hb => ?_⟩
          by_cases z : j = i
          · rw [z]; exact Nat.le_refl _
          · have := h j (by omega)
            omega
        · have a1 := (Y.2.1 j0 (by omega)).1
          rw [e1, nI_leI (by omega) (by omega)] at c2
          refine Or.inr ⟨i, by omega, rfl, by omega, fun j hj hb => ?_⟩
          by_cases z : j = i
          · rw [z]; exact Nat.le_refl _
          · have := h2 j (by omega) hb
            omega
theorem ar_y_above {v : SY} (R : ar_RY M v) {post : Int32 → Prop} {x : Int32} (hp : ∀ r, ar_Ab M x.toInt r → post r) : wpY_above post v x := by
  obtain ⟨n, ky, ks, vs, rfl, Y⟩ := R
  exact ⟨n + 1, ar_y_above_lp Y hp n 0 (-3) (by omega) (Or.inl ⟨rfl, fun j h => by omega⟩)⟩
theorem ar_y_below {v : SY} (R : ar_RY M v) {post : Int32 → Prop} {x : Int32} (hp : ∀ r, ar_Be M x.toInt r → post r) : wpY_below post v x := by
  obtain ⟨n, ky, ks, vs, rfl, Y⟩ := R
  exact ⟨n + 1, ar_y_below_lp Y hp n 0 (-3) (by omega) (Or.inl ⟨rfl, fun j h => by omega⟩)⟩
/-! ranks and ranges: sums -/
theorem ar_y_rank_lp (Y : ar_Y M n ky ks vs) {post : Int32 → Prop} {x : Int32} (hp : post (nI (ar_sN (fun i => if (ky i : Int) < x.toInt then 1 else 0) n))) :
    ∀ d i, i + d = n → wY_rankOf_4 post x (nI n) ks vs (d + 1) (nI (ar_sN (fun i => if (ky i : Int) < x.toInt then 1 else 0) i)) (nI i) := by
  have hn := Y.1
  intro d
  induction d with
  | zero =>
    intro i hi
    have ei : i = n := by omega
    subst ei
    exact br_t (nI_le (by omega) (by omega)) hp
  | succ d ih =>
    intro i hi
    obtain ⟨b1, b2, b3⟩ := Y.2.1 i (by omega)
    have e : ks (nI i).toNatClampNeg = nI (ky i) := by rw [nI_clamp (by omega)]; exact b2
    have hv : vp_in (nI i) 64 := vp_in_nI (by omega) (by omega)
    have h2 := ih (i + 1) (by omega)
    rw [ar_sN_s] at h2
    refine br_f (nI_ge (by omega) (by omega)) (And.intro hv (br_c (fun c => ?_) (fun c => ?_)))
    · rw [e, ar_cle' b1] at c
      rw [if_neg (by omega)] at h2
      exact nm_r (nI_1 i) h2
    · rw [e, ar_cle' b1] at c
      rw [if_pos (by omega)] at h2
      exact nm_r (nI_1 _) (nm_r (nI_1 i) h2)
theorem ar_Y_rank (Y : ar_Y M n ky ks vs) {k : Nat} (hk : k < 65536) : ar_sN (fun i => if (ky i : Int) < (nI k).toInt then 1 else 0) n = ar_C M k := by
  have h := ar_Y_sumN Y (fun j => if 0 ≤ j ∧ j < k then ar_c1 (M j) else 0) (fun j hj => by
    show (if 0 ≤ j ∧ j < k then ar_c1 (M j) else 0) = 0
    rw [hj]
    exact ite_self 0)
  have h2 := ar_sN_int (fun j => ar_c1 (M j)) (a := 0) k (by omega)
  have h3 : ar_sN (fun j => if 0 ≤ j ∧ j < k then ar_c1 (M j) else 0) 65536 = ar_sN (fun j => if 0 ≤ j ∧ j < k then ar_c1 (M j) else 0) k :=
    ar_sN_z 65536 (by omega) (fun i a _ => if_neg (by omega))
  have h4 : ar_sN (fun i => if (ky i : Int) < (nI k).toInt then 1 else 0) n = ar_sN (fun i => if 0 ≤ ky i ∧ ky i < k then ar_c1 (M (ky i)) else 0) n := by
    refine ar_sN_congr n (fun i hi => ?_)
    rw [nI_toInt (by omega), ar_c1_ne (ar_Y_ne Y hi)]
    by_cases c : ky i < k
    · rw [if_pos (by omega), if_pos (by omega)]
    · rw [if_neg (by omega), if_neg (by omega)]
  rw [h4, h, h3]
  exact h2
theorem ar_y_atRank_lp (Y : ar_Y M n ky ks vs) {post : Int32 → Prop} {x : Int32} (hp : ∀ r, ar_Rk M x.toInt r → post r) :
    ∀ d i, i + d = n → (∀ j, j < i → (ar_C M (ky j) : Int) ≠ x.toInt) → wY_atRank_2 post x (nI n) ks vs (d + 1) (nI i) := by
  have hn := Y.1
  have hC := ar_Y_n Y
  have hlt : ∀ k, M k ≠ none → k < 65536 := fun k h => ar_Y_lt Y h
  intro d
  induction d with
  | zero =>
    intro i hi I
    have ei : i = n := by omega
    subst ei
    refine br_t (nI_le (by omega) (by omega)) (hp _ (Or.inl ⟨rfl, fun k hk => ?_⟩))
    obtain ⟨j, hj, z⟩ := Y.2.2.2 k hk
    rw [← z]
    exact I j hj
  | succ d ih =>
    intro i hi I
    obtain ⟨b1, b2, b3⟩ := Y.2.1 i (by omega)
    have e : ks (nI i).toNatClampNeg = nI (ky i) := by rw [nI_clamp (by omega)]; exact b2
    have hv : vp_in (nI i) 64 := vp_in_nI (by omega) (by omega)
    have hr : ar_C M (ky i) ≤ 64 := by
      have := ar_C_le hlt (ky i)
      omega
    refine br_f (nI_ge (by omega) (by omega)) (And.intro hv ?_)
    rw [e]
    refine ⟨n + 1, ?_⟩
    have key := ar_y_rank_lp Y (x := nI (ky i)) (post := fun r_3 => (r_3 = x → (vp_in (nI i) 64 ∧ (post (nI (ky i))))) ∧ (¬ r_3 = x → (∀ y : Int32, y = nI i + 1 → (wY_atRank_2 post x (nI n) ks vs (d + 1) y)))) (by
      rw [ar_Y_rank Y b1]
      refine br_c (fun c => And.intro hv (hp _ (Or.inr ⟨ky i, rfl, ar_Y_ne Y (by omega), ?_⟩))) (fun c => nm_r (nI_1 i) (ih (i + 1) (by omega) (fun j hj => ?_)))
      · rw [← c, nI_toInt (by omega)]
      · by_cases z : j = i
        · rw [z]
          intro h
          refine c (Int32.toInt_inj.mp ?_)
          rw [nI_toInt (by omega)]
          exact h
        · exact I j (by omega)) n 0 (by omega)
    exact key
theorem ar_y_atRank {v : SY} (R : ar_RY M v) {post : Int32 → Prop} {x : Int32} (hp : ∀ r, ar_Rk M x.toInt r → post r) : wpY_atRank post v x := by
  obtain ⟨n, ky, ks, vs, rfl, Y⟩ := R
  exact ⟨n + 1, ar_y_atRank_lp Y hp n 0 (by omega) (fun j h => by omega)⟩
/-- how many keys lie in a range of ints -/
def ar_R (M : Nat → Option Int32) (a b : Int) : Nat := ar_sN (fun k => if a ≤ (k : Int) ∧ (k : Int) ≤ b then ar_c1 (M k) else 0) 65536
theorem ar_y_count_lp (Y : ar_Y M n ky ks vs) {post : Int32 → Prop} {x y : Int32} (hp : post (nI (ar_sN (fun i => if x.toInt ≤ (ky i : Int) ∧ (ky i : Int) ≤ y.toInt then 1 else 0) n))) :
    ∀ d i, i + d = n → wY_countRange_5 post x y (nI n) ks vs (d + 1) (nI (ar_sN (fun i => if x.toInt ≤ (ky i : Int) ∧ (ky i : Int) ≤ y.toInt then 1 else 0) i)) (nI i) := by
  have hn := Y.1
  intro d
  induction d with
  | zero =>
    intro i hi
    have ei : i = n := by omega
    subst ei
    exact br_t (nI_le (by omega) (by omega)) hp
  | succ d ih =>
    intro i hi
    obtain ⟨b1, b2, b3⟩ := Y.2.1 i (by omega)
    have e : ks (nI i).toNatClampNeg = nI (ky i) := by rw [nI_clamp (by omega)]; exact b2
    have hv : vp_in (nI i) 64 := vp_in_nI (by omega) (by omega)
    have h2 := ih (i + 1) (by omega)
    rw [ar_sN_s] at h2
    refine br_f (nI_ge (by omega) (by omega)) (And.intro hv (br_c (fun c => ?_) (fun c => And.intro hv (br_c (fun c2 => ?_) (fun c2 => ?_)))))
    · rw [e, ar_clt b1] at c
      rw [if_neg (by omega)] at h2
      exact nm_r (nI_1 i) h2
    · rw [e, ar_clt' b1] at c2
      rw [if_neg (by omega)] at h2
      exact nm_r (nI_1 i) h2
    · rw [e, ar_clt b1] at c
      rw [e, ar_clt' b1] at c2
      rw [if_pos (by omega)] at h2
      exact nm_r (nI_1 _) (nm_r (nI_1 i) h2)
theorem ar_y_countRange {v : SY} (R : ar_RY M v) {post : Int32 → Prop} {x y : Int32} (hp : post (nI (ar_R M x.toInt y.toInt))) : wpY_countRange post v x y := by
  obtain ⟨n, ky, ks, vs, rfl, Y⟩ := R
  refine ⟨n + 1, ar_y_count_lp Y ?_ n 0 (by omega)⟩
  have h := ar_Y_sumN Y (fun k => if x.toInt ≤ (k : Int) ∧ (k : Int) ≤ y.toInt then ar_c1 (M k) else 0) (fun j hj => by
    show (if x.toInt ≤ (j : Int) ∧ (j : Int) ≤ y.toInt then ar_c1 (M j) else 0) = 0
    rw [hj]
    exact ite_self 0)
  have h2 : ar_sN (fun i => if x.toInt ≤ (ky i : Int) ∧ (ky i : Int) ≤ y.toInt then 1 else 0) n = ar_R M x.toInt y.toInt := by
    refine Eq.trans (ar_sN_congr n (fun i hi => ?_)) h
    rw [ar_c1_ne (ar_Y_ne Y hi)]
  rw [h2]
  exact hp
/-! shared digits -/
theorem ar_y_share_lp {post : Int32 → Prop} {f : Int32} {a b d : Nat} (ha : a < 65536) (hb : b < 65536) (hd : d ≤ 4) (h1 : ar_t a d = ar_t b d → post 1) (h0 : ar_t a d ≠ ar_t b d → post 0) :
    ∀ e i, i + e = d → ar_t a i = ar_t b i → wY_share_3 post (nI a) (nI b) (nI d) f ks vs (e + 1) (nI i) := by
  intro e
  induction e with
  | zero =>
    intro i hi h
    have ei : i = d := by omega
    subst ei
    exact br_t (nI_le (by omega) (by omega)) (h1 h)
  | succ e ih =>
    intro i hi h
    refine br_f (nI_ge (by omega) (by omega)) ?_
    rw [ar_dig ha (by omega), ar_dig hb (by omega)]
    have g1 := ar_g_lt a i
    have g2 := ar_g_lt b i
    refine pk_eq (ar_g a i) (ar_g b i) (fun c => ?_) (fun c => ?_)
    · exact nm_r (nI_1 i) (ih (i + 1) (by omega) ((ar_t_eqs (by omega)).mpr ⟨h, c⟩))
    · refine h0 (fun z => c ?_)
      exact ((ar_t_eqs (d := i) (by omega)).mp (ar_t_dn (d := i + 1) (e := d) (by omega) hd z)).2
theorem ar_y_share {post : Int32 → Prop} {f : Int32} {a b d : Nat} (ha : a < 65536) (hb : b < 65536) (hd : d ≤ 4) (h1 : ar_t a d = ar_t b d → post 1) (h0 : ar_t a d ≠ ar_t b d → post 0) :
    wpY_share post (f, ks, vs) (nI a) (nI b) (nI d) :=
  ⟨d + 1, ar_y_share_lp ha hb hd h1 h0 d 0 (by omega) (by rw [ar_t_0 ha, ar_t_0 hb])⟩
/-- the best so far: over the first i keys whole, and over key i up to digits < e -/
def ar_ShI (ky : Nat → Nat) (k i e : Nat) (r : Int32) : Prop :=
  (r = -3 ∧ i = 0 ∧ e = 0) ∨ (∃ d, d ≤ 4 ∧ r = nI d ∧ (∃ j, (j < i ∨ (j = i ∧ d < e)) ∧ ar_t (ky j) d = ar_t k d) ∧
    (∀ j c, c ≤ 4 → (j < i ∨ (j = i ∧ c < e)) → ar_t (ky j) c = ar_t k c → c ≤ d))
theorem ar_y_sd_in (Y : ar_Y M n ky ks vs) {post : Int32 → Prop} {J : Int32 → Int32 → Prop} {k i : Nat} (hk : k < 65536) (hi : i < n) (hJ : ∀ r, ar_ShI ky k (i + 1) 0 r → J r (nI (i + 1))) :
    ∀ f e (r : Int32), e + f = 5 → ar_ShI ky k i e r → wY_sharedDigits_26 post J (nI k) (nI i) (nI n) ks vs (f + 1) r (nI e) := by
  have hn := Y.1
  obtain ⟨b1, b2, b3⟩ := Y.2.1 i hi
  have e0 : ks (nI i).toNatClampNeg = nI (ky i) := by rw [nI_clamp (by omega)]; exact b2
  have hv : vp_in (nI i) 64 := vp_in_nI (by omega) (by omega)
  intro f
  induction f with
  | zero =>
    intro e r he I
    have ee : e = 5 := by omega
    subst ee
    refine br_t (nI_lt (a := 4) (b := 5) (by omega) (by decide)) (nm_r (nI_1 i) (hJ r ?_))
    rcases I with ⟨_, _, h⟩ | ⟨d, hd, er, ⟨j, hj, h1⟩, h2⟩
    · omega
    · exact Or.inr ⟨d, hd, er, ⟨j, by omega, h1⟩, fun j c hc hj h => h2 j c hc (by omega) h⟩
  | succ f ih =>
    intro e r he I
    refine br_f (nI_nlt (a := 4) (b := e) (by omega) (by decide)) ?_
    have skip : (∃ d, d ≤ 4 ∧ r = nI d) → (∀ d, r = nI d → d ≤ 4 → (ar_t (ky i) e = ar_t k e → e ≤ d)) → ar_ShI ky k i (e + 1) r := by
      intro ⟨d0, hd0, er0⟩ hs
      rcases I with ⟨er, _, _⟩ | ⟨d, hd, er, ⟨j, hj, h1⟩, h2⟩
      · rw [er] at er0
        exact absurd er0.symm (ar_ne3 (by omega))
      · refine Or.inr ⟨d, hd, er, ⟨j, by omega, h1⟩, fun j c hc hj h => ?_⟩
        by_cases z : j = i ∧ c = e
        · obtain ⟨z1, z2⟩ := z
          subst z1 z2
          exact hs d er hd h
        · exact h2 j c hc (by omega) h
    refine br_c (fun c => ?_) (fun c => And.intro hv ?_)
    · refine nm_r (nI_1 e) (ih (e + 1) r (by omega) ?_)
      have hr : ∃ d, d ≤ 4 ∧ r = nI d := by
        rcases I with ⟨er, _, _⟩ | ⟨d, hd, er, _⟩
        · exfalso
          rw [er, ar_cle (by omega), ar_m3] at c
          omega
        · exact ⟨d, hd, er⟩
      refine skip hr (fun d er hd _ => ?_)
      rw [er, nI_leI (by omega) (by omega)] at c
      exact c
    · rw [e0]
      refine ar_y_share b1 hk (by omega) (fun h => br_f (by decide) (nm_r (nI_1 e) (ih (e + 1) _ (by omega) ?_))) (fun h => br_t rfl (nm_r (nI_1 e) (ih (e + 1) _ (by omega) ?_)))
      · refine Or.inr ⟨e, by omega, rfl, ⟨i, by omega, h⟩, fun j c' hc hj h' => ?_⟩
        rcases I with ⟨er, z1, z2⟩ | ⟨d, hd, er, _, h2⟩
        · omega
        · by_cases z : j = i ∧ c' = e
          · omega
          · have := h2 j c' hc (by omega) h'
            rw [er, nI_leI (by omega) (by omega)] at c
            omega
      · rcases I with ⟨er, z1, z2⟩ | ⟨d, hd, er, I2⟩
        · exfalso
          rw [z2] at h
          exact h (by rw [ar_t_0 b1, ar_t_0 hk])
        · exact skip ⟨d, hd, er⟩ (fun d _ _ h' => absurd h' h)
theorem ar_y_sd_lp (Y : ar_Y M n ky ks vs) {post : Int32 → Prop} {k : Nat} (hk : k < 65536) (hp : ∀ r, ar_Sh M k r → post r) :
    ∀ f i (r : Int32), i + f = n → ar_ShI ky k i 0 r → wY_sharedDigits_15 post (nI k) (nI n) ks vs (f + 1) r (nI i) := by
  have hn := Y.1
  intro f
  induction f with
  | zero =>
    intro i r hi I
    have ei : i = n := by omega
    subst ei
    refine br_t (nI_le (by omega) (by omega)) (hp r ?_)
    rcases I with ⟨er, z, _⟩ | ⟨d, hd, er, ⟨j, hj, h1⟩, h2⟩
    · refine Or.inl ⟨er, fun j => ?_⟩
      by_cases c : M j = none
      · exact c
      · obtain ⟨a, ha, _⟩ := Y.2.2.2 j c
        omega
    · refine Or.inr ⟨d, hd, er, ⟨ky j, ar_Y_ne Y (by omega), h1⟩, fun x e he hx h => ?_⟩
      obtain ⟨a, ha, z⟩ := Y.2.2.2 x hx
      rw [← z] at h
      exact h2 a e he (Or.inl ha) h
  | succ f ih =>
    intro i r hi I
    exact br_f (nI_ge (by omega) (by omega)) ⟨6, ar_y_sd_in Y hk (by omega) (fun r' I' => ih (i + 1) r' (by omega) I') 5 0 r (by omega) I⟩
theorem ar_y_sharedDigits {v : SY} (R : ar_RY M v) {post : Int32 → Prop} {k : Nat} (hk : k < 65536) (hp : ∀ r, ar_Sh M k r → post r) : wpY_sharedDigits post v (nI k) := by
  obtain ⟨n, ky, ks, vs, rfl, Y⟩ := R
  unfold wpY_sharedDigits
  refine ar_y_isKey hk ?_
  refine br_f (by decide) ⟨n + 1, ar_y_sd_lp Y hk hp n 0 (-3) (by omega) (Or.inl ⟨rfl, rfl, rfl⟩)⟩
/-- the sum of the values of keys with a prefix -/
def ar_U (M : Nat → Option Int32) (k d : Nat) : Int64 := ar_sL (fun j => if ar_t j d = ar_t k d then ar_v (M j) else 0) 65536
theorem ar_y_su_lp (Y : ar_Y M n ky ks vs) {post : Int64 → Prop} {k d : Nat} (hk : k < 65536) (hd : d ≤ 4) (hp : post (ar_U M k d)) :
    ∀ f i, i + f = n → wY_sumUnder_24 post (nI k) (nI d) (nI n) ks vs (f + 1) (ar_sL (fun i => if ar_t (ky i) d = ar_t k d then ar_v (M (ky i)) else 0) i) (nI i) := by
  have hn := Y.1
  intro f
  induction f with
  | zero =>
    intro i hi
    have ei : i = n := by omega
    subst ei
    refine br_t (nI_le (by omega) (by omega)) ?_
    have h := ar_Y_sumL Y (fun j => if ar_t j d = ar_t k d then ar_v (M j) else 0) (fun j hj => by
      show (if ar_t j d = ar_t k d then ar_v (M j) else 0) = 0
      rw [hj]
      exact ite_self 0)
    rw [h]
    exact hp
  | succ f ih =>
    intro i hi
    obtain ⟨b1, b2, b3⟩ := Y.2.1 i (by omega)
    have e0 : ks (nI i).toNatClampNeg = nI (ky i) := by rw [nI_clamp (by omega)]; exact b2
    have e1 : vs (nI i).toNatClampNeg = vs i := by rw [nI_clamp (by omega)]
    have hv : vp_in (nI i) 64 := vp_in_nI (by omega) (by omega)
    have h2 := ih (i + 1) (by omega)
    rw [ar_sL_s] at h2
    refine br_f (nI_ge (by omega) (by omega)) (And.intro hv ?_)
    rw [e0]
    refine ar_y_share b1 hk hd (fun h => br_f (by decide) (And.intro hv (nm_e (nm_r (nI_1 i) ?_)))) (fun h => br_t rfl (nm_r (nI_1 i) ?_))
    · rw [if_pos h, b3] at h2
      rw [e1]
      exact h2
    · rw [if_neg h, Int64.add_zero] at h2
      exact h2
theorem ar_y_sumUnder {v : SY} (R : ar_RY M v) {post : Int64 → Prop} {k d : Nat} (hk : k < 65536) (hd : d ≤ 4) (hp : post (ar_U M k d)) : wpY_sumUnder post v (nI k) (nI d) := by
  obtain ⟨n, ky, ks, vs, rfl, Y⟩ := R
  unfold wpY_sumUnder
  refine ar_y_isKey hk ?_
  exact br_f (by decide) (br_f (nI_pos (by omega)) (br_t (nI_le (a := d) (b := 4) hd (by decide)) ⟨n + 1, ar_y_su_lp Y hk hd hp n 0 (by omega)⟩))
/-! the range taken out -/
def ar_D (M : Nat → Option Int32) (a b : Nat) : Nat → Option Int32 := fun k => if a ≤ k ∧ k ≤ b then none else M k
end
theorem ar_y_rr_lp {M0 : Nat → Option Int32} {a b : Nat} (ha : a < 65536) (hb : b < 65536) {post : Int32 → SY → Prop} (hp : ∀ v, ar_RY (ar_D M0 a b) v → post (nI (ar_R M0 a b)) v) :
    ∀ (i : Nat) (M : Nat → Option Int32) (n : Nat) (ky : Nat → Nat) (ks vs : Nat → Int32) (c : Nat), i ≤ 64 → ar_Y M n ky ks vs → (∀ k, ¬ (a ≤ k ∧ k ≤ b) → M k = M0 k) → (∀ k, M0 k = none → M k = none) → c + ar_R M a b = ar_R M0 a b →
    (∀ j, i ≤ j → j < n → ¬ (a ≤ ky j ∧ ky j ≤ b)) → wY_removeRange_24 post (nI a) (nI b) (i + 1) (nI c) (nI i + (-1)) (nI n) ks vs := by
  intro i
  induction i with
  | zero =>
    intro M n ky ks vs c _ Y h1 h2 h3 h4
    refine br_t (by decide) ?_
    have eM : M = ar_D M0 a b := by
      funext k
      show M k = if a ≤ k ∧ k ≤ b then none else M0 k
      by_cases z : a ≤ k ∧ k ≤ b
      · rw [if_pos z]
        by_cases w : M k = none
        · exact w
        · obtain ⟨j, hj, e⟩ := Y.2.2.2 k w
          rw [← e] at z
          exact absurd z (h4 j (by omega) hj)
      · rw [if_neg z]
        exact h1 k z
    have e0 : ar_R M a b = 0 := by
      refine ar_sN_z (a := 0) 65536 (by omega) (fun k _ _ => ?_)
      show (if (a : Int) ≤ (k : Int) ∧ (k : Int) ≤ (b : Int) then ar_c1 (M k) else 0) = 0
      by_cases z : (a : Int) ≤ (k : Int) ∧ (k : Int) ≤ (b : Int)
      · rw [if_pos z, eM]
        show ar_c1 (if a ≤ k ∧ k ≤ b then none else M0 k) = 0
        rw [if_pos (by omega)]
        rfl
      · exact if_neg z
    have ec : c = ar_R M0 a b := by omega
    rw [ec]
    exact hp _ ⟨n, ky, ks, vs, rfl, eM ▸ Y⟩
  | succ i ih =>
    intro M n ky ks vs c hi Y h1 h2 h3 h4
    have hn := Y.1
    rw [pk_m1]
    refine br_f (nI_pos (by omega)) (br_c (fun z => nm_e ?_) (fun z => ?_))
    · rw [nI_leI (by omega) (by omega)] at z
      exact ih M n ky ks vs c (by omega) Y h1 h2 h3 (fun j hj hjn => by omega)
    · rw [nI_leI (by omega) (by omega)] at z
      obtain ⟨b1, b2, b3⟩ := Y.2.1 i (by omega)
      have e0 : ks (nI i).toNatClampNeg = nI (ky i) := by rw [nI_clamp (by omega)]; exact b2
      have hv : vp_in (nI i) 64 := vp_in_nI (by omega) (by omega)
      have skip : ¬ (a ≤ ky i ∧ ky i ≤ b) → wY_removeRange_24 post (nI a) (nI b) (i + 1) (nI c) (nI i + (-1)) (nI n) ks vs := fun hs =>
        ih M n ky ks vs c (by omega) Y h1 h2 h3 (fun j hj hjn => by
          by_cases w : j = i
          · rw [w]; exact hs
          · exact h4 j (by omega) hjn)
      refine And.intro hv ?_
      rw [e0]
      refine pk_lt (ky i) a (fun w => nm_e (skip (by omega))) (fun w => And.intro hv ?_)
      refine pk_lt b (ky i) (fun w2 => nm_e (skip (by omega))) (fun w2 => ?_)
      refine ar_y_drop Y (by omega) (nm_r (nI_1 c) (nm_e ?_))
      refine ih (ar_u M (ky i) none) (n - 1) _ _ _ (c + 1) (by omega) (ar_Y_drop Y (by omega)) (fun k hk => ?_) (fun k hk => ?_) ?_ (fun j hj hjn => ?_)
      · rw [ar_un (fun e => hk (by omega))]
        exact h1 k hk
      · by_cases e : k = ky i
        · rw [e, ar_us]
        · rw [ar_un e]
          exact h2 k hk
      · have hs := ar_sN_one (f := fun k => if (a : Int) ≤ (k : Int) ∧ (k : Int) ≤ (b : Int) then ar_c1 (ar_u M (ky i) none k) else 0)
          (g := fun k => if (a : Int) ≤ (k : Int) ∧ (k : Int) ≤ (b : Int) then ar_c1 (M k) else 0) (k := ky i) (fun k hk => by
            show (if (a : Int) ≤ (k : Int) ∧ (k : Int) ≤ (b : Int) then ar_c1 (ar_u M (ky i) none k) else 0) = (if (a : Int) ≤ (k : Int) ∧ (k : Int) ≤ (b : Int) then ar_c1 (M k) else 0)
            rw [ar_un hk]) 65536 b1
        have x1 : (if (a : Int) ≤ (ky i : Int) ∧ (ky i : Int) ≤ (b : Int) then ar_c1 (M (ky i)) else 0) = 1 := by
          rw [if_pos (by omega), b3]
          rfl
        have x2 : (if (a : Int) ≤ (ky i : Int) ∧ (ky i : Int) ≤ (b : Int) then ar_c1 (ar_u M (ky i) none (ky i)) else 0) = 0 := by
          rw [if_pos (by omega), ar_us]
          rfl
        rw [x1, x2] at hs
        show c + 1 + ar_sN _ 65536 = _
        have h3' : c + ar_sN (fun k => if (a : Int) ≤ (k : Int) ∧ (k : Int) ≤ (b : Int) then ar_c1 (M k) else 0) 65536 = ar_R M0 a b := h3
        omega
      · by_cases w3 : j = i
        · rw [w3, ar_us]
          exact h4 (n - 1) (by omega) (by omega)
        · rw [ar_un w3]
          exact h4 j (by omega) (by omega)
theorem ar_y_removeRange {M : Nat → Option Int32} {v : SY} (R : ar_RY M v) {a b : Nat} (ha : a < 65536) (hb : b < 65536) {post : Int32 → SY → Prop} (hp : ∀ v, ar_RY (ar_D M a b) v → post (nI (ar_R M a b)) v) : wpY_removeRange post v (nI a) (nI b) := by
  obtain ⟨n, ky, ks, vs, rfl, Y⟩ := R
  unfold wpY_removeRange
  refine ar_y_isKey ha ?_
  refine br_f (by decide) ?_
  refine ar_y_isKey hb ?_
  refine br_f (by decide) ⟨65, ?_⟩
  have h := ar_y_rr_lp ha hb hp 64 M n ky ks vs 0 (by omega) Y (fun _ _ => rfl) (fun _ h => h) (by omega) (fun j hj hjn => by have := Y.1; omega)
  rw [pk_m1] at h
  exact h
end
section
/-! the component's state shows the ghosts -/
def ar_L (o : Option Nat) : Int32 := match o with
  | none => -1
  | some c => nI c
def ar_Sm (k : Nat) (D C : Nat → Int32) (c : Nat → Option Nat) : Prop :=
  k ≤ 4 ∧ (∀ i, i < k → ∃ g x, g < 16 ∧ D i = nI g ∧ C i = nI x ∧ c g = some x) ∧ (∀ i j, i < k → j < k → D i = D j → i = j) ∧ (∀ g x, g < 16 → c g = some x → ∃ i, i < k ∧ D i = nI g)
def ar_Tb (n : Nat) (c : Nat → Option Nat) (sd sc wc : Nat → Int32) : Prop :=
  (n < 64 → ar_Sm (ar_cnt c) (fun i => sd (4 * n + i)) (fun i => sc (4 * n + i)) c) ∧ (64 ≤ n → ∀ g, g < 16 → wc (16 * (n - 64) + g) = ar_L (c g))
def ar_AL (N : Nat) (LF : Nat → Option Nat) (va : Nat → Int32) (kc sl : Int32) (lk lw sp : Nat → Int32) : Prop :=
  N ≤ 64 ∧ kc = nI N ∧ sl = nI (64 - N) ∧ lw = va ∧ (∀ k l, LF k = some l → k < 65536 ∧ l < 64 ∧ lk l = nI k) ∧
  (∀ i, i < 64 - N → ∃ l, l < 64 ∧ sp i = nI l ∧ ∀ k, LF k ≠ some l) ∧ (∀ i j, i < 64 - N → j < 64 - N → sp i = sp j → i = j)
def ar_AP (lim base : Nat) (al : Nat → Bool) (f : Int32) (sp : Nat → Int32) : Prop :=
  ∃ ns, f = nI ns ∧ ns + ar_sN (fun i => ar_b (al (base + i))) lim = lim ∧ (∀ i, i < ns → ∃ m, m < lim ∧ sp i = nI m ∧ al (base + m) = false) ∧ (∀ i j, i < ns → j < ns → sp i = sp j → i = j)
/-- one node -/
def ar_N1 (n dpn pfn kbn : Nat) (sbn : Int64) (c : Nat → Option Nat) (xd xp xc xk : Int32) (xs : Int64) (sd sc wc : Nat → Int32) : Prop :=
  (dpn ≤ 3 ∧ pfn < 65536 ∧ kbn < 128 ∧ (∀ g x, g < 16 → c g = some x → x < 144)) ∧ (xd = nI dpn ∧ xp = nI pfn ∧ xc = nI (ar_cnt c) ∧ xk = nI kbn ∧ xs = sbn) ∧ ar_Tb n c sd sc wc
def ar_AN (lv : Nat → Bool) (dp pf kb : Nat → Nat) (sb : Nat → Int64) (ch : Nat → Nat → Option Nat) (yd yp yc yk : Nat → Int32) (ys : Nat → Int64) (sd sc wc : Nat → Int32) : Prop :=
  ∀ n, n < 80 → lv n = true → ar_N1 n (dp n) (pf n) (kb n) (sb n) (ch n) (yd n) (yp n) (yc n) (yk n) (ys n) sd sc wc
def ar_AQ (L : Nat) (pn : Nat → Nat) (f : Int32) (pa : Nat → Int32) : Prop := L ≤ 4 ∧ f = nI L ∧ ∀ i, i < L → pn i < 80 ∧ pa i = nI (64 + pn i)
def ar_A (rt : Option Nat) (L : Nat) (pn : Nat → Nat) (N : Nat) (LF : Nat → Option Nat) (va : Nat → Int32) (al lv : Nat → Bool) (dp pf kb : Nat → Nat) (sb : Nat → Int64) (ch : Nat → Nat → Option Nat) (u : SX) : Prop := match u with
  | (f_root, f_keyCount, f_spareLeaves, f_spareSmalls, f_spareWides, f_pathLength, a_leafKey, a_leafValue, a_spareLeaf, a_depth, a_prefix, a_childCount, a_keysBelow, a_sumBelow, a_smallDigit, a_smallChild, a_wideChild, a_spareSmall, a_spareWide, a_path) => f_root = ar_L rt ∧ ar_AL N LF va f_keyCount f_spareLeaves a_leafKey a_leafValue a_spareLeaf ∧ ar_AP 64 0 al f_spareSmalls a_spareSmall ∧ ar_AP 16 64 al f_spareWides a_spareWide ∧
    ar_AN lv dp pf kb sb ch a_depth a_prefix a_childCount a_keysBelow a_sumBelow a_smallDigit a_smallChild a_wideChild ∧ ar_AQ L pn f_pathLength a_path
/-! small facts about links and indices -/
theorem ar_m64 (n : Nat) : nI (64 + n) - 64 = nI n := by
  have h := pk_sub (a := 64 + n) (b := 64) (by omega)
  rw [Nat.add_sub_cancel_left] at h
  exact h
theorem ar_m128 {n : Nat} (h : 64 ≤ n) : nI (64 + n) - 128 = nI (n - 64) := by
  have h := pk_sub (a := 64 + n) (b := 128) (by omega)
  rw [show 64 + n - 128 = n - 64 by omega] at h
  exact h
theorem ar_4n (n : Nat) : 4 * nI n = nI (4 * n) := pk_mul 4 n
theorem ar_16n (n : Nat) : 16 * nI n = nI (16 * n) := pk_mul 16 n
theorem ar_L_some (c : Nat) : ar_L (some c) = nI c := rfl
theorem ar_L_none : ar_L none = -1 := rfl
theorem ar_cl {n : Nat} (h : n < 65536) : (nI n).toNatClampNeg = n := nI_clamp (by omega)
section
variable {rt : Option Nat} {L : Nat} {pn : Nat → Nat} {N : Nat} {LF : Nat → Option Nat} {va : Nat → Int32} {al lv : Nat → Bool} {dp pf kb : Nat → Nat} {sb : Nat → Int64} {ch : Nat → Nat → Option Nat}
theorem ar_x_top {post : Int32 → Prop} {u : SX} {k d : Nat} (hk : k < 65536) (hd : d ≤ 4) (h : post (nI (ar_t k d))) : wpX_topOf post u (nI k) (nI d) := by
  obtain ⟨f_root, f_keyCount, f_spareLeaves, f_spareSmalls, f_spareWides, f_pathLength, a_leafKey, a_leafValue, a_spareLeaf, a_depth, a_prefix, a_childCount, a_keysBelow, a_sumBelow, a_smallDigit, a_smallChild, a_wideChild, a_spareSmall, a_spareWide, a_path⟩ := u
  show post _
  rw [ar_top hk hd]
  exact h
theorem ar_x_dig {post : Int32 → Prop} {u : SX} {k d : Nat} (hk : k < 65536) (hd : d ≤ 3) (h : post (nI (ar_g k d))) : wpX_digitOf post u (nI k) (nI d) := by
  obtain ⟨f_root, f_keyCount, f_spareLeaves, f_spareSmalls, f_spareWides, f_pathLength, a_leafKey, a_leafValue, a_spareLeaf, a_depth, a_prefix, a_childCount, a_keysBelow, a_sumBelow, a_smallDigit, a_smallChild, a_wideChild, a_spareSmall, a_spareWide, a_path⟩ := u
  show post _
  rw [ar_dig hk hd]
  exact h
theorem ar_x_isKey {post : Int32 → Prop} {u : SX} {k : Nat} (hk : k < 65536) (h : post 1) : wpX_isKey post u (nI k) := by
  obtain ⟨f_root, f_keyCount, f_spareLeaves, f_spareSmalls, f_spareWides, f_pathLength, a_leafKey, a_leafValue, a_spareLeaf, a_depth, a_prefix, a_childCount, a_keysBelow, a_sumBelow, a_smallDigit, a_smallChild, a_wideChild, a_spareSmall, a_spareWide, a_path⟩ := u
  exact br_f (nI_pos (by omega)) (br_f (nI_nlt (a := 65535) (b := k) (by omega) (by decide)) h)
theorem ar_x_noKey {post : Int32 → Prop} {u : SX} {x : Int32} (hx : x < 0 ∨ (¬ x < 0 ∧ 65535 < x)) (h : post 0) : wpX_isKey post u x := by
  obtain ⟨f_root, f_keyCount, f_spareLeaves, f_spareSmalls, f_spareWides, f_pathLength, a_leafKey, a_leafValue, a_spareLeaf, a_depth, a_prefix, a_childCount, a_keysBelow, a_sumBelow, a_smallDigit, a_smallChild, a_wideChild, a_spareSmall, a_spareWide, a_path⟩ := u
  rcases hx with hx | ⟨h0, hx⟩
  · exact br_t hx h
  · exact br_f h0 (br_t hx h)
theorem ar_Sm_none {k : Nat} {D C : Nat → Int32} {c : Nat → Option Nat} (h : ar_Sm k D C c) {g : Nat} (hg : g < 16) (hn : ∀ j, j < k → D j ≠ nI g) : c g = none := by
  cases e : c g with
  | none => rfl
  | some x =>
    obtain ⟨i, hi, e2⟩ := h.2.2.2 g x hg e
    exact absurd e2 (hn i hi)
theorem ar_Sm_at {k : Nat} {D C : Nat → Int32} {c : Nat → Option Nat} (h : ar_Sm k D C c) {g i : Nat} (hg : g < 16) (hi : i < k) (e : D i = nI g) : ∃ x, C i = nI x ∧ c g = some x := by
  obtain ⟨g', x, hg', e1, e2, e3⟩ := h.2.1 i hi
  have : g' = g := (nI_eq (by omega) (by omega)).mp (e1.symm.trans e)
  subst this
  exact ⟨x, e2, e3⟩
theorem ar_x_childOf_lp {f_root f_keyCount f_spareLeaves f_spareSmalls f_spareWides f_pathLength : Int32} {a_leafKey a_leafValue a_spareLeaf a_depth a_prefix a_childCount a_keysBelow : Nat → Int32} {a_sumBelow : Nat → Int64} {a_smallDigit a_smallChild a_wideChild a_spareSmall a_spareWide a_path : Nat → Int32} {post : Int32 → Prop} {n g k : Nat} {c : Nat → Option Nat} (hn : n < 64) (hg : g < 16)
    (hk : a_childCount n = nI k) (hS : ar_Sm k (fun i => a_smallDigit (4 * n + i)) (fun i => a_smallChild (4 * n + i)) c) (hp : post (ar_L (c g))) :
    ∀ d i, i + d = k → (∀ j, j < i → a_smallDigit (4 * n + j) ≠ nI g) → wX_childOf_33 post (nI (64 + n)) (nI g) (nI (4 * n)) f_root f_keyCount f_spareLeaves f_spareSmalls f_spareWides f_pathLength a_leafKey a_leafValue a_spareLeaf a_depth a_prefix a_childCount a_keysBelow a_sumBelow a_smallDigit a_smallChild a_wideChild a_spareSmall a_spareWide a_path (d + 1) (nI i) := by
  have hk4 := hS.1
  intro d
  induction d with
  | zero =>
    intro i hi hj
    have e1 : c g = none := ar_Sm_none hS hg (fun j h => hj j (by omega))
    refine And.intro (by rw [ar_m64]; exact vp_in_nI (by omega) (by omega)) (br_t ?_ (by rw [e1] at hp; exact hp))
    rw [ar_m64, ar_cl (by omega), hk]
    exact nI_le (by omega) (by omega)
  | succ d ih =>
    intro i hi hj
    have e2 : nI (4 * n) + nI i = nI (4 * n + i) := nI_add _ _
    have hv : vp_in (nI (4 * n) + nI i) 256 := by rw [e2]; exact vp_in_nI (by omega) (by omega)
    refine And.intro (by rw [ar_m64]; exact vp_in_nI (by omega) (by omega)) (br_f ?_ (And.intro hv (br_c (fun z => And.intro hv ?_) (fun z => ?_))))
    · rw [ar_m64, ar_cl (by omega), hk]
      exact nI_ge (by omega) (by omega)
    · rw [e2, ar_cl (by omega)] at z ⊢
      obtain ⟨x, x1, x2⟩ := ar_Sm_at hS hg (by omega) z
      have x1' : a_smallChild (4 * n + i) = nI x := x1
      rw [x1']
      rw [x2] at hp
      exact hp
    · rw [e2, ar_cl (by omega)] at z
      refine nm_r (nI_1 i) (ih (i + 1) (by omega) (fun j h => ?_))
      by_cases w : j = i
      · rw [w]; exact z
      · exact hj j (by omega)
theorem ar_x_childOf {post : Int32 → Prop} {u : SX} (A : ar_A rt L pn N LF va al lv dp pf kb sb ch u) {n g : Nat} (hn : n < 80) (hl : lv n = true) (hg : g < 16) (hp : post (ar_L (ch n g))) : wpX_childOf post u (nI (64 + n)) (nI g) := by
  obtain ⟨f_root, f_keyCount, f_spareLeaves, f_spareSmalls, f_spareWides, f_pathLength, a_leafKey, a_leafValue, a_spareLeaf, a_depth, a_prefix, a_childCount, a_keysBelow, a_sumBelow, a_smallDigit, a_smallChild, a_wideChild, a_spareSmall, a_spareWide, a_path⟩ := u
  obtain ⟨_, _, _, _, AN, _⟩ := A
  obtain ⟨_, ⟨_, _, hc, _, _⟩, hT⟩ := AN n hn hl
  by_cases c : n < 64
  · refine br_t (nI_lt (b := 128) (by omega) (by decide)) (nm_r (e' := nI (4 * n)) ?_ ⟨ar_cnt (ch n) + 1, ?_⟩)
    · rw [ar_m64, ar_4n]
    · have hS := hT.1 c
      exact ar_x_childOf_lp c hg hc hS hp (ar_cnt (ch n)) 0 (by omega) (fun j h => by omega)
  · have e : 16 * (nI (64 + n) - 128) + nI g = nI (16 * (n - 64) + g) := by rw [ar_m128 (by omega), ar_16n, nI_add]
    refine br_f (nI_nlt (b := 128) (by omega) (by omega)) (And.intro ?_ ?_)
    · rw [e]; exact vp_in_nI (by omega) (by omega)
    · rw [e, ar_cl (by omega), hT.2 (by omega) g hg]
      exact hp
theorem ar_x_keysOf {post : Int32 → Prop} {u : SX} (A : ar_A rt L pn N LF va al lv dp pf kb sb ch u) {o : Option Nat} (ho : ∀ c, o = some c → c < 64 ∨ ∃ m, c = 64 + m ∧ m < 80 ∧ lv m = true) (hp : post (nI (ar_kO kb o))) : wpX_keysOf post u (ar_L o) := by
  obtain ⟨f_root, f_keyCount, f_spareLeaves, f_spareSmalls, f_spareWides, f_pathLength, a_leafKey, a_leafValue, a_spareLeaf, a_depth, a_prefix, a_childCount, a_keysBelow, a_sumBelow, a_smallDigit, a_smallChild, a_wideChild, a_spareSmall, a_spareWide, a_path⟩ := u
  obtain ⟨_, _, _, _, AN, _⟩ := A
  cases o with
  | none => exact br_f (by decide) hp
  | some c =>
    rcases ho c rfl with h | ⟨m, rfl, h, hl⟩
    · refine br_t (nI_pos' (by omega)) (br_f (nI_ge (b := 64) (by omega) (by decide)) ?_)
      rw [ar_kO_l h] at hp
      exact hp
    · obtain ⟨_, ⟨_, _, _, hk, _⟩, _⟩ := AN m h hl
      rw [ar_kO_n] at hp
      refine br_t (nI_pos' (by omega)) (br_t (nI_le (a := 64) (by omega) (by omega)) ?_)
      show vp_in (nI (64 + m) - 64) 80 ∧ post (a_keysBelow (nI (64 + m) - 64).toNatClampNeg)
      rw [ar_m64, ar_cl (by omega), hk]
      exact ⟨vp_in_nI (by omega) (by omega), hp⟩
theorem ar_x_sumOf {post : Int64 → Prop} {u : SX} (A : ar_A rt L pn N LF va al lv dp pf kb sb ch u) {c : Nat} (ho : c < 64 ∨ ∃ m, c = 64 + m ∧ m < 80 ∧ lv m = true) (hp : post (ar_sO va sb (some c))) : wpX_sumOf post u (nI c) := by
  obtain ⟨f_root, f_keyCount, f_spareLeaves, f_spareSmalls, f_spareWides, f_pathLength, a_leafKey, a_leafValue, a_spareLeaf, a_depth, a_prefix, a_childCount, a_keysBelow, a_sumBelow, a_smallDigit, a_smallChild, a_wideChild, a_spareSmall, a_spareWide, a_path⟩ := u
  obtain ⟨_, AL, _, _, AN, _⟩ := A
  rcases ho with h | ⟨m, rfl, h, hl⟩
  · refine br_f (nI_ge (b := 64) (by omega) (by decide)) (And.intro (vp_in_nI (by omega) (by omega)) ?_)
    rw [ar_sO_l h] at hp
    rw [ar_cl (by omega), AL.2.2.2.1]
    exact hp
  · obtain ⟨_, ⟨_, _, _, _, hs⟩, _⟩ := AN m h hl
    rw [ar_sO_n] at hp
    refine br_t (nI_le (a := 64) (by omega) (by omega)) ?_
    rw [ar_m64, ar_cl (by omega), hs]
    exact ⟨vp_in_nI (by omega) (by omega), hp⟩
end
end
section
/-! pools -/
theorem ar_AP_fr {lim base : Nat} {al al' : Nat → Bool} {f : Int32} {sp : Nat → Int32} (h : ar_AP lim base al f sp) (e : ∀ i, i < lim → al' (base + i) = al (base + i)) : ar_AP lim base al' f sp := by
  obtain ⟨ns, h1, h2, h3, h4⟩ := h
  refine ⟨ns, h1, ?_, ?_, h4⟩
  · have s : ar_sN (fun i => ar_b (al' (base + i))) lim = ar_sN (fun i => ar_b (al (base + i))) lim :=
      ar_sN_congr lim (fun i hi => by show ar_b (al' (base + i)) = ar_b (al (base + i)); rw [e i hi])
    rw [s]
    exact h2
  · intro i hi
    obtain ⟨m, a, b, c⟩ := h3 i hi
    exact ⟨m, a, b, by rw [e m a]; exact c⟩
theorem ar_AP_pop {lim base : Nat} {al : Nat → Bool} {f : Int32} {sp : Nat → Int32} (h : ar_AP lim base al f sp) (hr : ar_sN (fun i => ar_b (al (base + i))) lim < lim) :
    ∃ ns m, ns < lim ∧ f = nI (ns + 1) ∧ m < lim ∧ sp ns = nI m ∧ al (base + m) = false ∧ ar_AP lim base (ar_u al (base + m) true) (nI ns) sp := by
  obtain ⟨ns, h1, h2, h3, h4⟩ := h
  obtain ⟨n, rfl⟩ : ∃ n, ns = n + 1 := ⟨ns - 1, by omega⟩
  obtain ⟨m, a, b, c⟩ := h3 n (by omega)
  refine ⟨n, m, by omega, h1, a, b, c, n, rfl, ?_, ?_, fun i j hi hj => h4 i j (by omega) (by omega)⟩
  · have s := ar_sN_one (f := fun i => ar_b (ar_u al (base + m) true (base + i))) (g := fun i => ar_b (al (base + i))) (k := m) (fun i hi => by
      show ar_b (ar_u al (base + m) true (base + i)) = ar_b (al (base + i))
      rw [ar_un (by omega)]) lim a
    have s1 : ar_b (al (base + m)) = 0 := by rw [c]; rfl
    have s2 : ar_b (ar_u al (base + m) true (base + m)) = 1 := by rw [ar_us]; rfl
    rw [s1, s2] at s
    omega
  · intro i hi
    obtain ⟨x, a', b', c'⟩ := h3 i (by omega)
    have ne : x ≠ m := fun z => by
      have := h4 i n (by omega) (by omega) (by rw [b', b, z])
      omega
    exact ⟨x, a', b', by rw [ar_un (by omega)]; exact c'⟩
theorem ar_AP_push {lim base : Nat} {al : Nat → Bool} {f : Int32} {sp : Nat → Int32} (h : ar_AP lim base al f sp) {m : Nat} (hm : m < lim) (hl : lim < 65536) (ha : al (base + m) = true) :
    ∃ ns, ns < lim ∧ f = nI ns ∧ ar_AP lim base (ar_u al (base + m) false) (nI (ns + 1)) (upd sp ns (nI m)) := by
  obtain ⟨ns, h1, h2, h3, h4⟩ := h
  have s := ar_sN_one (f := fun i => ar_b (ar_u al (base + m) false (base + i))) (g := fun i => ar_b (al (base + i))) (k := m) (fun i hi => by
      show ar_b (ar_u al (base + m) false (base + i)) = ar_b (al (base + i))
      rw [ar_un (by omega)]) lim hm
  have s1 : ar_b (al (base + m)) = 1 := by rw [ha]; rfl
  have s2 : ar_b (ar_u al (base + m) false (base + m)) = 0 := by rw [ar_us]; rfl
  rw [s1, s2] at s
  have nm : ∀ i x, i < ns → sp i = nI x → x < lim → al (base + x) = false → x ≠ m := fun i x _ _ _ c z => by
    rw [z, ha] at c
    exact absurd c (by simp)
  refine ⟨ns, by omega, h1, ns + 1, rfl, by omega, ?_, ?_⟩
  · intro i hi
    by_cases e : i = ns
    · rw [e, pk_us]
      exact ⟨m, hm, rfl, ar_us⟩
    · obtain ⟨x, a', b', c'⟩ := h3 i (by omega)
      have ne := nm i x (by omega) b' a' c'
      rw [pk_un e]
      exact ⟨x, a', b', by rw [ar_un (by omega)]; exact c'⟩
  · intro i j hi hj e
    by_cases ei : i = ns <;> by_cases ej : j = ns
    · omega
    · rw [ei, pk_us, pk_un ej] at e
      obtain ⟨x, a', b', c'⟩ := h3 j (by omega)
      rw [b', nI_eq (by omega) (by omega)] at e
      exact absurd e.symm (nm j x (by omega) b' a' c')
    · rw [ej, pk_us, pk_un ei] at e
      obtain ⟨x, a', b', c'⟩ := h3 i (by omega)
      rw [b', nI_eq (by omega) (by omega)] at e
      exact absurd e (nm i x (by omega) b' a' c')
    · rw [pk_un ei, pk_un ej] at e
      exact h4 i j (by omega) (by omega) e
/-! tables under stores elsewhere -/
theorem ar_Sm_fr {k : Nat} {D C D' C' : Nat → Int32} {c : Nat → Option Nat} (h : ar_Sm k D C c) (e : ∀ i, i < 4 → D' i = D i ∧ C' i = C i) : ar_Sm k D' C' c := by
  obtain ⟨h1, h2, h3, h4⟩ := h
  refine ⟨h1, fun i hi => ?_, fun i j hi hj => ?_, fun g x hg hx => ?_⟩
  · rw [(e i (by omega)).1, (e i (by omega)).2]
    exact h2 i hi
  · rw [(e i (by omega)).1, (e j (by omega)).1]
    exact h3 i j hi hj
  · obtain ⟨i, hi, z⟩ := h4 g x hg hx
    exact ⟨i, hi, by rw [(e i (by omega)).1]; exact z⟩
theorem ar_Tb_fr {n : Nat} {c : Nat → Option Nat} {sd sc wc sd' sc' wc' : Nat → Int32} (h : ar_Tb n c sd sc wc)
    (e1 : n < 64 → ∀ i, i < 4 → sd' (4 * n + i) = sd (4 * n + i) ∧ sc' (4 * n + i) = sc (4 * n + i)) (e2 : 64 ≤ n → ∀ g, g < 16 → wc' (16 * (n - 64) + g) = wc (16 * (n - 64) + g)) : ar_Tb n c sd' sc' wc' :=
  ⟨fun z => ar_Sm_fr (h.1 z) (e1 z), fun z g hg => by rw [e2 z g hg]; exact h.2 z g hg⟩
theorem ar_Sm_ins {k a g x : Nat} {D C D' C' : Nat → Int32} {c : Nat → Option Nat} (h : ar_Sm k D C c) (hk : k < 4) (ha : a ≤ k) (hg : g < 16) (h0 : c g = none)
    (e1 : ∀ i, i < a → D' i = D i ∧ C' i = C i) (e2 : D' a = nI g ∧ C' a = nI x) (e3 : ∀ i, a < i → i ≤ k → D' i = D (i - 1) ∧ C' i = C (i - 1)) : ar_Sm (k + 1) D' C' (ar_u c g (some x)) := by
  obtain ⟨h1, h2, h3, h4⟩ := h
  have ng : ∀ i, i < k → D i ≠ nI g := by
    intro i hi z
    obtain ⟨g', x', b1, b2, b3, b4⟩ := h2 i hi
    have : g' = g := (nI_eq (by omega) (by omega)).mp (b2.symm.trans z)
    rw [this, h0] at b4
    exact absurd b4 (by simp)
  have old : ∀ i, i ≤ k → i ≠ a → ∃ j, j < k ∧ D' i = D j ∧ C' i = C j ∧ ((i < a ∧ j = i) ∨ (a < i ∧ j = i - 1)) := by
    intro i hi ne
    rcases Nat.lt_or_gt_of_ne ne with z | z
    · exact ⟨i, by omega, (e1 i z).1, (e1 i z).2, by omega⟩
    · exact ⟨i - 1, by omega, (e3 i z hi).1, (e3 i z hi).2, by omega⟩
  refine ⟨by omega, ?_, ?_, ?_⟩
  · intro i hi
    by_cases e : i = a
    · subst e
      exact ⟨g, x, hg, e2.1, e2.2, ar_us⟩
    · obtain ⟨j, hj, z1, z2, _⟩ := old i (by omega) e
      obtain ⟨g', x', b1, b2, b3, b4⟩ := h2 j hj
      refine ⟨g', x', b1, z1.trans b2, z2.trans b3, ?_⟩
      rw [ar_un (fun z => ng j hj (by rw [b2, z]))]
      exact b4
  · intro i j hi hj e
    by_cases ei : i = a <;> by_cases ej : j = a
    · omega
    · exfalso
      obtain ⟨j', hj', z1, z2, _⟩ := old j (by omega) ej
      rw [ei, e2.1, z1] at e
      exact ng j' hj' e.symm
    · exfalso
      obtain ⟨i', hi', z1, z2, _⟩ := old i (by omega) ei
      rw [ej, e2.1, z1] at e
      exact ng i' hi' e
    · obtain ⟨i', hi', z1, z2, y⟩ := old i (by omega) ei
      obtain ⟨j', hj', w1, w2, v⟩ := old j (by omega) ej
      have := h3 i' j' hi' hj' (by rw [← z1, ← w1]; exact e)
      omega
  · intro g' x' hg' hx
    by_cases e : g' = g
    · exact ⟨a, by omega, by rw [e]; exact e2.1⟩
    · rw [ar_un e] at hx
      obtain ⟨i, hi, z⟩ := h4 g' x' hg' hx
      by_cases c : i < a
      · exact ⟨i, by omega, by rw [(e1 i c).1]; exact z⟩
      · exact ⟨i + 1, by omega, by rw [(e3 (i + 1) (by omega) (by omega)).1]; exact z⟩
theorem ar_Sm_del {k a g : Nat} {D C D' C' : Nat → Int32} {c : Nat → Option Nat} (h : ar_Sm (k + 1) D C c) (ha : a ≤ k) (hg : g < 16) (hD : D a = nI g)
    (e1 : ∀ i, i < a → D' i = D i ∧ C' i = C i) (e3 : ∀ i, a ≤ i → i < k → D' i = D (i + 1) ∧ C' i = C (i + 1)) : ar_Sm k D' C' (ar_u c g none) := by
  obtain ⟨h1, h2, h3, h4⟩ := h
  have old : ∀ i, i < k → ∃ j, j < k + 1 ∧ j ≠ a ∧ D' i = D j ∧ C' i = C j ∧ ((i < a ∧ j = i) ∨ (a ≤ i ∧ j = i + 1)) := by
    intro i hi
    by_cases z : i < a
    · exact ⟨i, by omega, by omega, (e1 i z).1, (e1 i z).2, by omega⟩
    · exact ⟨i + 1, by omega, by omega, (e3 i (by omega) hi).1, (e3 i (by omega) hi).2, by omega⟩
  refine ⟨by omega, ?_, ?_, ?_⟩
  · intro i hi
    obtain ⟨j, hj, ne, z1, z2, _⟩ := old i hi
    obtain ⟨g', x', b1, b2, b3, b4⟩ := h2 j hj
    refine ⟨g', x', b1, z1.trans b2, z2.trans b3, ?_⟩
    rw [ar_un (fun z => ne (h3 j a hj (by omega) (by rw [b2, hD, z])))]
    exact b4
  · intro i j hi hj e
    obtain ⟨i', hi', _, z1, z2, y⟩ := old i hi
    obtain ⟨j', hj', _, w1, w2, v⟩ := old j hj
    have := h3 i' j' hi' hj' (by rw [← z1, ← w1]; exact e)
    omega
  · intro g' x' hg' hx
    by_cases e : g' = g
    · rw [e, ar_us] at hx
      exact absurd hx (by simp)
    · rw [ar_un e] at hx
      obtain ⟨i, hi, z⟩ := h4 g' x' hg' hx
      have ne : i ≠ a := fun w => e ((nI_eq (by omega) (by omega)).mp (by rw [← z, w, hD]))
      by_cases c : i < a
      · exact ⟨i, by omega, by rw [(e1 i c).1]; exact z⟩
      · exact ⟨i - 1, by omega, by rw [(e3 (i - 1) (by omega) (by omega)).1, Nat.sub_add_cancel (by omega)]; exact z⟩
theorem ar_Sm_set {k a g x : Nat} {D C D' C' : Nat → Int32} {c : Nat → Option Nat} (h : ar_Sm k D C c) (ha : a < k) (hg : g < 16) (hD : D a = nI g)
    (e1 : ∀ i, i < 4 → D' i = D i) (e2 : C' a = nI x) (e3 : ∀ i, i < 4 → i ≠ a → C' i = C i) : ar_Sm k D' C' (ar_u c g (some x)) := by
  obtain ⟨h1, h2, h3, h4⟩ := h
  refine ⟨h1, ?_, ?_, ?_⟩
  · intro i hi
    by_cases e : i = a
    · rw [e]
      exact ⟨g, x, hg, by rw [e1 a (by omega)]; exact hD, e2, ar_us⟩
    · obtain ⟨g', x', b1, b2, b3, b4⟩ := h2 i hi
      refine ⟨g', x', b1, by rw [e1 i (by omega)]; exact b2, by rw [e3 i (by omega) e]; exact b3, ?_⟩
      rw [ar_un (fun z => e (h3 i a hi ha (by rw [b2, hD, z])))]
      exact b4
  · intro i j hi hj
    rw [e1 i (by omega), e1 j (by omega)]
    exact h3 i j hi hj
  · intro g' x' hg' hx
    by_cases e : g' = g
    · exact ⟨a, ha, by rw [e1 a (by omega), e]; exact hD⟩
    · rw [ar_un e] at hx
      obtain ⟨i, hi, z⟩ := h4 g' x' hg' hx
      exact ⟨i, hi, by rw [e1 i (by omega)]; exact z⟩
end
section
section
variable {rt : Option Nat} {L : Nat} {pn : Nat → Nat} {N : Nat} {LF : Nat → Option Nat} {va : Nat → Int32} {al lv : Nat → Bool} {dp pf kb : Nat → Nat} {sb : Nat → Int64} {ch : Nat → Nat → Option Nat}
/-! leaves and nodes are taken and given back -/
theorem ar_x_newLeaf {post : Int32 → SX → Prop} {u : SX} (A : ar_A rt L pn N LF va al lv dp pf kb sb ch u) {k : Nat} (hk : k < 65536) (hN : N < 64) (hF : LF k = none) (w : Int32)
    (hp : ∀ l u', l < 64 → (∀ j, LF j ≠ some l) → ar_A rt L pn (N + 1) (ar_u LF k (some l)) (upd va l w) al lv dp pf kb sb ch u' → post (nI l) u') : wpX_newLeaf post u (nI k) w := by
  obtain ⟨f_root, f_keyCount, f_spareLeaves, f_spareSmalls, f_spareWides, f_pathLength, a_leafKey, a_leafValue, a_spareLeaf, a_depth, a_prefix, a_childCount, a_keysBelow, a_sumBelow, a_smallDigit, a_smallChild, a_wideChild, a_spareSmall, a_spareWide, a_path⟩ := u
  obtain ⟨A1, ⟨B1, B2, B3, B4, B5, B6, B7⟩, A3, A4, A5, A6⟩ := A
  obtain ⟨l, hl, el, hfr⟩ := B6 (63 - N) (by omega)
  have e1 : f_spareLeaves - 1 = nI (63 - N) := by
    rw [B3]
    have h := pk_sub (a := 64 - N) (b := 1) (by omega)
    rw [show 64 - N - 1 = 63 - N by omega] at h
    exact h
  refine nm_r e1 (And.intro (vp_in_nI (by omega) (by omega)) (nm_r (e' := nI l) (by rw [ar_cl (by omega)]; exact el) (And.intro (vp_in_nI hl (by omega)) (nm_r (e' := upd a_leafKey l (nI k)) (by rw [ar_cl (by omega)])
    (And.intro (vp_in_nI hl (by omega)) (nm_r (e' := upd va l w) (by rw [ar_cl (by omega), B4]) (nm_r (e' := nI (N + 1)) (by rw [B2]; exact nI_1 N) (hp l _ hl hfr ?_))))))))
  refine ⟨A1, ⟨by omega, rfl, by rw [show 64 - (N + 1) = 63 - N by omega], rfl, ?_, ?_, fun i j hi hj => B7 i j (by omega) (by omega)⟩, A3, A4, A5, A6⟩
  · intro k' l' h
    by_cases e : k' = k
    · rw [e, ar_us] at h
      cases h
      rw [e, pk_us]
      exact ⟨hk, hl, rfl⟩
    · rw [ar_un e] at h
      obtain ⟨b1, b2, b3⟩ := B5 k' l' h
      have ne : l' ≠ l := fun z => hfr k' (by rw [h, z])
      rw [pk_un ne]
      exact ⟨b1, b2, b3⟩
  · intro i hi
    obtain ⟨l', b1, b2, b3⟩ := B6 i (by omega)
    refine ⟨l', b1, b2, fun k' h => ?_⟩
    by_cases e : k' = k
    · rw [e, ar_us] at h
      have e2 : l = l' := Option.some.inj h
      have := B7 i (63 - N) (by omega) (by omega) (by rw [b2, el, e2])
      omega
    · rw [ar_un e] at h
      exact b3 k' h
theorem ar_x_newSmall {post : Int32 → SX → Prop} {u : SX} (A : ar_A rt L pn N LF va al lv dp pf kb sb ch u) (hr : ar_sN (fun i => ar_b (al (0 + i))) 64 ≤ 63)
    (hp : ∀ m u', m < 64 → al m = false → ar_A rt L pn N LF va (ar_u al m true) lv dp pf kb sb ch u' → post (nI (64 + m)) u') : wpX_newSmall post u := by
  obtain ⟨f_root, f_keyCount, f_spareLeaves, f_spareSmalls, f_spareWides, f_pathLength, a_leafKey, a_leafValue, a_spareLeaf, a_depth, a_prefix, a_childCount, a_keysBelow, a_sumBelow, a_smallDigit, a_smallChild, a_wideChild, a_spareSmall, a_spareWide, a_path⟩ := u
  obtain ⟨A1, A2, A3, A4, A5, A6⟩ := A
  obtain ⟨ns, m, h1, h2, h3, h4, h5, h6⟩ := ar_AP_pop A3 (by omega)
  rw [Nat.zero_add] at h5 h6
  refine nm_r (e' := nI ns) (by rw [h2]; exact nI_pred ns) (And.intro (vp_in_nI (by omega) (by omega)) ?_)
  rw [ar_cl (by omega), h4, show (64 : Int32) + nI m = nI (64 + m) from nI_add 64 m]
  refine hp m _ h3 h5 ⟨A1, A2, h6, ar_AP_fr A4 (fun i hi => ar_un (by omega)), A5, A6⟩
def ar_W0 (u : SX) (n : Nat) : Prop := match u with
  | (f_root, f_keyCount, f_spareLeaves, f_spareSmalls, f_spareWides, f_pathLength, a_leafKey, a_leafValue, a_spareLeaf, a_depth, a_prefix, a_childCount, a_keysBelow, a_sumBelow, a_smallDigit, a_smallChild, a_wideChild, a_spareSmall, a_spareWide, a_path) => ∀ g, g < 16 → a_wideChild (16 * (n - 64) + g) = -1
theorem ar_x_newWide_lp {f_root f_keyCount f_spareLeaves f_spareSmalls f_spareWides f_pathLength : Int32} {a_leafKey a_leafValue a_spareLeaf a_depth a_prefix a_childCount a_keysBelow : Nat → Int32} {a_sumBelow : Nat → Int64} {a_smallDigit a_smallChild a_wideChild a_spareSmall a_spareWide a_path : Nat → Int32} {post : Int32 → SX → Prop} {m : Nat} (hm : m < 16)
    (hp : ∀ wc : Nat → Int32, (∀ j, j < 16 → wc (16 * m + j) = -1) → (∀ x, (x < 16 * m ∨ 16 * m + 16 ≤ x) → wc x = a_wideChild x) → post (nI (128 + m)) (f_root, f_keyCount, f_spareLeaves, f_spareSmalls, f_spareWides, f_pathLength, a_leafKey, a_leafValue, a_spareLeaf, a_depth, a_prefix, a_childCount, a_keysBelow, a_sumBelow, a_smallDigit, a_smallChild, wc, a_spareSmall, a_spareWide, a_path)) :
    ∀ d i (wc : Nat → Int32), i + d = 16 → (∀ j, j < i → wc (16 * m + j) = -1) → (∀ x, (x < 16 * m ∨ 16 * m + 16 ≤ x) → wc x = a_wideChild x) →
    wX_newWide_26 post (nI (128 + m)) f_root f_keyCount f_spareLeaves f_spareSmalls f_spareWides f_pathLength (d + 1) (nI i) a_leafKey a_leafValue a_spareLeaf a_depth a_prefix a_childCount a_keysBelow a_sumBelow a_smallDigit a_smallChild wc a_spareSmall a_spareWide a_path := by
  intro d
  induction d with
  | zero =>
    intro i wc hi h1 h2
    exact br_t (nI_le (a := 16) (by omega) (by omega)) (hp wc (fun j hj => h1 j (by omega)) h2)
  | succ d ih =>
    intro i wc hi h1 h2
    have e1 : 16 * (nI (128 + m) - 128) + nI i = nI (16 * m + i) := by
      have h := pk_sub (a := 128 + m) (b := 128) (by omega)
      rw [Nat.add_sub_cancel_left] at h
      have h' : nI (128 + m) - 128 = nI m := h
      rw [h', ar_16n, nI_add]
    refine br_f (nI_ge (b := 16) (by omega) (by decide)) (And.intro (by rw [e1]; exact vp_in_nI (by omega) (by omega)) (nm_r (e' := upd wc (16 * m + i) (-1)) (by rw [e1, ar_cl (by omega), ar_ns1]) (nm_r (nI_1 i) (ih (i + 1) _ (by omega) ?_ ?_))))
    · intro j hj
      by_cases e : j = i
      · rw [e, pk_us]
      · rw [pk_un (by omega)]
        exact h1 j (by omega)
    · intro x hx
      rw [pk_un (by omega)]
      exact h2 x hx
theorem ar_x_newWide {post : Int32 → SX → Prop} {u : SX} (A : ar_A rt L pn N LF va al lv dp pf kb sb ch u) (hr : ar_sN (fun i => ar_b (al (64 + i))) 16 ≤ 15) (hal : ∀ n, n < 80 → lv n = true → al n = true)
    (hp : ∀ n u', 64 ≤ n → n < 80 → al n = false → ar_W0 u' n → ar_A rt L pn N LF va (ar_u al n true) lv dp pf kb sb ch u' → post (nI (64 + n)) u') : wpX_newWide post u := by
  obtain ⟨f_root, f_keyCount, f_spareLeaves, f_spareSmalls, f_spareWides, f_pathLength, a_leafKey, a_leafValue, a_spareLeaf, a_depth, a_prefix, a_childCount, a_keysBelow, a_sumBelow, a_smallDigit, a_smallChild, a_wideChild, a_spareSmall, a_spareWide, a_path⟩ := u
  obtain ⟨A1, A2, A3, A4, A5, A6⟩ := A
  obtain ⟨ns, m, h1, h2, h3, h4, h5, h6⟩ := ar_AP_pop A4 (by omega)
  refine nm_r (e' := nI ns) (by rw [h2]; exact nI_pred ns) (And.intro (vp_in_nI (by omega) (by omega)) (nm_r (e' := nI (128 + m)) (by rw [ar_cl (by omega), h4]; exact nI_add 128 m) ⟨17, ?_⟩))
  refine ar_x_newWide_lp h3 (fun wc w1 w2 => ?_) 16 0 a_wideChild (by omega) (fun j hj => by omega) (fun _ _ => rfl)
  have e : 128 + m = 64 + (64 + m) := by omega
  rw [e]
  refine hp (64 + m) _ (by omega) (by omega) h5 ?_ ⟨A1, A2, ar_AP_fr A3 (fun i hi => ar_un (by omega)), h6, ?_, A6⟩
  · intro g hg
    rw [Nat.add_sub_cancel_left]
    exact w1 g hg
  · intro n hn hl
    obtain ⟨b1, b2, b3⟩ := A5 n hn hl
    refine ⟨b1, b2, ar_Tb_fr b3 (fun _ i _ => ⟨rfl, rfl⟩) (fun hw g hg => w2 _ ?_)⟩
    have ne : n ≠ 64 + m := fun z => by
      have := hal n hn hl
      rw [z, h5] at this
      exact absurd this (by simp)
    omega
theorem ar_x_release {post : SX → Prop} {u : SX} (A : ar_A rt L pn N LF va al lv dp pf kb sb ch u) {n : Nat} (hn : n < 80) (ha : al n = true) (hp : ∀ u', ar_A rt L pn N LF va (ar_u al n false) lv dp pf kb sb ch u' → post u') : wpX_releaseNode post u (nI (64 + n)) := by
  obtain ⟨f_root, f_keyCount, f_spareLeaves, f_spareSmalls, f_spareWides, f_pathLength, a_leafKey, a_leafValue, a_spareLeaf, a_depth, a_prefix, a_childCount, a_keysBelow, a_sumBelow, a_smallDigit, a_smallChild, a_wideChild, a_spareSmall, a_spareWide, a_path⟩ := u
  obtain ⟨A1, A2, A3, A4, A5, A6⟩ := A
  by_cases c : n < 64
  · obtain ⟨ns, h1, h2, h3⟩ := ar_AP_push A3 (m := n) c (by omega) (by rw [Nat.zero_add]; exact ha)
    rw [Nat.zero_add] at h3
    refine br_t (nI_lt (b := 128) (by omega) (by decide)) (And.intro (by rw [h2]; exact vp_in_nI h1 (by omega)) (nm_r (e' := upd a_spareSmall ns (nI n)) (by rw [h2, ar_cl (by omega), ar_m64, ar_nb (by omega)]) (nm_r (e' := nI (ns + 1)) (by rw [h2]; exact nI_1 ns) (hp _ ?_))))
    exact ⟨A1, A2, h3, ar_AP_fr A4 (fun i hi => ar_un (by omega)), A5, A6⟩
  · have e : 64 + (n - 64) = n := by omega
    obtain ⟨ns, h1, h2, h3⟩ := ar_AP_push A4 (m := n - 64) (by omega) (by omega) (by rw [e]; exact ha)
    rw [e] at h3
    refine br_f (nI_nlt (b := 128) (by omega) (by omega)) (And.intro (by rw [h2]; exact vp_in_nI h1 (by omega)) (nm_r (e' := upd a_spareWide ns (nI (n - 64))) (by rw [h2, ar_cl (by omega), ar_m128 (by omega), ar_nb (by omega)]) (nm_r (e' := nI (ns + 1)) (by rw [h2]; exact nI_1 ns) (hp _ ?_))))
    exact ⟨A1, A2, ar_AP_fr A3 (fun i hi => ar_un (by omega)), h3, A5, A6⟩
theorem ar_x_header {post : SX → Prop} {u : SX} (A : ar_A rt L pn N LF va al lv dp pf kb sb ch u) {n d p : Nat} (hn : n < 80) (hl : lv n = false) (hd : d ≤ 3) (hpf : p < 65536) (hw : 64 ≤ n → ar_W0 u n)
    (hp : ∀ u', ar_A rt L pn N LF va al (ar_u lv n true) (ar_u dp n d) (ar_u pf n p) (ar_u kb n 0) (ar_u sb n 0) (ar_u ch n (fun _ => none)) u' → post u') : wpX_header post u (nI (64 + n)) (nI d) (nI p) := by
  obtain ⟨f_root, f_keyCount, f_spareLeaves, f_spareSmalls, f_spareWides, f_pathLength, a_leafKey, a_leafValue, a_spareLeaf, a_depth, a_prefix, a_childCount, a_keysBelow, a_sumBelow, a_smallDigit, a_smallChild, a_wideChild, a_spareSmall, a_spareWide, a_path⟩ := u
  obtain ⟨A1, A2, A3, A4, A5, A6⟩ := A
  have hv : vp_in (nI n) 80 := vp_in_nI hn (by omega)
  refine nm_r (ar_m64 n) (And.intro hv (nm_r (e' := upd a_depth n (nI d)) (by rw [ar_cl (by omega), ar_nb (by omega)]) (And.intro hv (nm_r (e' := upd a_prefix n (nI p)) (by rw [ar_cl (by omega)])
    (And.intro hv (nm_r (e' := upd a_childCount n 0) (by rw [ar_cl (by omega), ar_nb0]) (And.intro hv (nm_r (e' := upd a_keysBelow n 0) (by rw [ar_cl (by omega), ar_nb0]) (And.intro hv (nm_r (e' := vp_updL a_sumBelow n 0) (by rw [ar_cl (by omega)]) (hp _ ?_)))))))))))
  refine ⟨A1, A2, A3, A4, ?_, A6⟩
  intro q hq hlq
  by_cases e : q = n
  · subst e
    rw [ar_us, ar_us, ar_us, ar_us, ar_us, pk_us, pk_us, pk_us, pk_us, pk_uLs]
    refine ⟨⟨hd, hpf, by omega, fun g x _ h => absurd h (by simp)⟩, ⟨rfl, rfl, by rw [ar_cnt_0]; rfl, rfl, rfl⟩, ?_, ?_⟩
    · intro _
      rw [ar_cnt_0]
      exact ⟨by omega, fun i hi => by omega, fun i j hi => by omega, fun g x _ h => absurd h (by simp)⟩
    · intro h g hg
      exact hw h g hg
  · rw [ar_un e] at hlq
    rw [ar_un e, ar_un e, ar_un e, ar_un e, ar_un e, pk_un e, pk_un e, pk_un e, pk_un e, pk_uLn e]
    exact A5 q hq hlq
end
end
section
section
variable {rt : Option Nat} {L : Nat} {pn : Nat → Nat} {N : Nat} {LF : Nat → Option Nat} {va : Nat → Int32} {al lv : Nat → Bool} {dp pf kb : Nat → Nat} {sb : Nat → Int64} {ch : Nat → Nat → Option Nat}
theorem ar_AN_gen {yd yp yc yk : Nat → Int32} {ys : Nat → Int64} {sd sc wc : Nat → Int32} (A5 : ar_AN lv dp pf kb sb ch yd yp yc yk ys sd sc wc) {kb' : Nat → Nat} {sb' : Nat → Int64} {ch' : Nat → Nat → Option Nat}
    {yc' yk' : Nat → Int32} {ys' : Nat → Int64} {sd' sc' wc' : Nat → Int32} (n : Nat)
    (h1 : n < 80 → lv n = true → ar_N1 n (dp n) (pf n) (kb' n) (sb' n) (ch' n) (yd n) (yp n) (yc' n) (yk' n) (ys' n) sd' sc' wc')
    (h2 : ∀ q, q ≠ n → kb' q = kb q ∧ sb' q = sb q ∧ ch' q = ch q ∧ yc' q = yc q ∧ yk' q = yk q ∧ ys' q = ys q)
    (h3 : ∀ x, (x < 4 * n ∨ 4 * n + 4 ≤ x) → x < 256 → sd' x = sd x ∧ sc' x = sc x) (h4 : ∀ q g, q < 80 → 64 ≤ q → q ≠ n → g < 16 → wc' (16 * (q - 64) + g) = wc (16 * (q - 64) + g)) :
    ar_AN lv dp pf kb' sb' ch' yd yp yc' yk' ys' sd' sc' wc' := by
  intro q hq hl
  by_cases e : q = n
  · subst e
    exact h1 hq hl
  · obtain ⟨e1, e2, e3, e4, e5, e6⟩ := h2 q e
    rw [e1, e2, e3, e4, e5, e6]
    obtain ⟨b1, b2, b3⟩ := A5 q hq hl
    exact ⟨b1, b2, ar_Tb_fr b3 (fun hs i hi => h3 _ (by omega) (by omega)) (fun hw g hg => h4 q g hq hw e hg)⟩
theorem ar_A_lv {u : SX} (A : ar_A rt L pn N LF va al lv dp pf kb sb ch u) {lv' : Nat → Bool} (h : ∀ q, q < 80 → lv' q = true → lv q = true) : ar_A rt L pn N LF va al lv' dp pf kb sb ch u := by
  obtain ⟨f_root, f_keyCount, f_spareLeaves, f_spareSmalls, f_spareWides, f_pathLength, a_leafKey, a_leafValue, a_spareLeaf, a_depth, a_prefix, a_childCount, a_keysBelow, a_sumBelow, a_smallDigit, a_smallChild, a_wideChild, a_spareSmall, a_spareWide, a_path⟩ := u
  obtain ⟨A1, A2, A3, A4, A5, A6⟩ := A
  exact ⟨A1, A2, A3, A4, fun q hq hl => A5 q hq (h q hq hl), A6⟩
theorem ar_A_ch {u : SX} (A : ar_A rt L pn N LF va al lv dp pf kb sb ch u) {ch' : Nat → Nat → Option Nat} (h : ∀ q g, q < 80 → lv q = true → g < 16 → ch' q g = ch q g) : ar_A rt L pn N LF va al lv dp pf kb sb ch' u := by
  obtain ⟨f_root, f_keyCount, f_spareLeaves, f_spareSmalls, f_spareWides, f_pathLength, a_leafKey, a_leafValue, a_spareLeaf, a_depth, a_prefix, a_childCount, a_keysBelow, a_sumBelow, a_smallDigit, a_smallChild, a_wideChild, a_spareSmall, a_spareWide, a_path⟩ := u
  obtain ⟨A1, A2, A3, A4, A5, A6⟩ := A
  refine ⟨A1, A2, A3, A4, fun q hq hl => ?_, A6⟩
  obtain ⟨⟨r1, r2, r3, r4⟩, ⟨d1, d2, d3, d4, d5⟩, T1, T2⟩ := A5 q hq hl
  have e := fun g hg => h q g hq hl hg
  have ec : ar_cnt (ch' q) = ar_cnt (ch q) := ar_cnt_ext e
  refine ⟨⟨r1, r2, r3, fun g x hg hx => r4 g x hg (by rw [← e g hg]; exact hx)⟩, ⟨d1, d2, by rw [ec]; exact d3, d4, d5⟩, fun hs => ?_, fun hw g hg => by rw [e g hg]; exact T2 hw g hg⟩
  rw [ec]
  obtain ⟨s1, s2, s3, s4⟩ := T1 hs
  refine ⟨s1, fun i hi => ?_, s3, fun g x hg hx => s4 g x hg (by rw [← e g hg]; exact hx)⟩
  obtain ⟨g, x, a, b, c, d⟩ := s2 i hi
  exact ⟨g, x, a, b, c, by rw [e g a]; exact d⟩
theorem ar_A_kb {u : SX} (A : ar_A rt L pn N LF va al lv dp pf kb sb ch u) {kb' : Nat → Nat} {sb' : Nat → Int64} (h : ∀ q, q < 80 → lv q = true → kb' q = kb q ∧ sb' q = sb q) : ar_A rt L pn N LF va al lv dp pf kb' sb' ch u := by
  obtain ⟨f_root, f_keyCount, f_spareLeaves, f_spareSmalls, f_spareWides, f_pathLength, a_leafKey, a_leafValue, a_spareLeaf, a_depth, a_prefix, a_childCount, a_keysBelow, a_sumBelow, a_smallDigit, a_smallChild, a_wideChild, a_spareSmall, a_spareWide, a_path⟩ := u
  obtain ⟨A1, A2, A3, A4, A5, A6⟩ := A
  refine ⟨A1, A2, A3, A4, fun q hq hl => ?_, A6⟩
  rw [(h q hq hl).1, (h q hq hl).2]
  exact A5 q hq hl
theorem ar_uu {α : Type} {f : Nat → α} {n : Nat} {a b : α} : ar_u (ar_u f n a) n b = ar_u f n b := by
  funext j
  by_cases e : j = n
  · rw [e, ar_us, ar_us]
  · rw [ar_un e, ar_un e, ar_un e]
theorem ar_u_id {α : Type} {f : Nat → α} {n : Nat} : ar_u f n (f n) = f := by
  funext j
  by_cases e : j = n
  · rw [e, ar_us]
  · rw [ar_un e]
/-! a child is added -/
theorem ar_x_keysOf0 {f_root f_keyCount f_spareLeaves f_spareSmalls f_spareWides f_pathLength : Int32} {a_leafKey a_leafValue a_spareLeaf a_depth a_prefix a_childCount a_keysBelow : Nat → Int32} {a_sumBelow : Nat → Int64} {a_smallDigit a_smallChild a_wideChild a_spareSmall a_spareWide a_path : Nat → Int32} {post : Int32 → Prop} {c v : Nat} (h : (c < 64 ∧ v = 1) ∨ ∃ m, c = 64 + m ∧ m < 80 ∧ a_keysBelow m = nI v) (hp : post (nI v)) : wpX_keysOf post (f_root, f_keyCount, f_spareLeaves, f_spareSmalls, f_spareWides, f_pathLength, a_leafKey, a_leafValue, a_spareLeaf, a_depth, a_prefix, a_childCount, a_keysBelow, a_sumBelow, a_smallDigit, a_smallChild, a_wideChild, a_spareSmall, a_spareWide, a_path) (nI c) := by
  rcases h with ⟨h, rfl⟩ | ⟨m, rfl, h, e⟩
  · exact br_t (nI_pos' (by omega)) (br_f (nI_ge (b := 64) (by omega) (by decide)) hp)
  · refine br_t (nI_pos' (by omega)) (br_t (nI_le (a := 64) (by omega) (by omega)) ?_)
    rw [ar_m64, ar_cl (by omega), e]
    exact ⟨vp_in_nI (by omega) (by omega), hp⟩
theorem ar_x_sumOf0 {f_root f_keyCount f_spareLeaves f_spareSmalls f_spareWides f_pathLength : Int32} {a_leafKey a_leafValue a_spareLeaf a_depth a_prefix a_childCount a_keysBelow : Nat → Int32} {a_sumBelow : Nat → Int64} {a_smallDigit a_smallChild a_wideChild a_spareSmall a_spareWide a_path : Nat → Int32} {post : Int64 → Prop} {c : Nat} {v : Int64} (h : (c < 64 ∧ v = (a_leafValue c).toInt64) ∨ ∃ m, c = 64 + m ∧ m < 80 ∧ a_sumBelow m = v) (hp : post v) : wpX_sumOf post (f_root, f_keyCount, f_spareLeaves, f_spareSmalls, f_spareWides, f_pathLength, a_leafKey, a_leafValue, a_spareLeaf, a_depth, a_prefix, a_childCount, a_keysBelow, a_sumBelow, a_smallDigit, a_smallChild, a_wideChild, a_spareSmall, a_spareWide, a_path) (nI c) := by
  rcases h with ⟨h, rfl⟩ | ⟨m, rfl, h, e⟩
  · refine br_f (nI_ge (b := 64) (by omega) (by decide)) (And.intro (vp_in_nI (by omega) (by omega)) ?_)
    rw [ar_cl (by omega)]
    exact hp
  · refine br_t (nI_le (a := 64) (by omega) (by omega)) ?_
    rw [ar_m64, ar_cl (by omega), e]
    exact ⟨vp_in_nI (by omega) (by omega), hp⟩
theorem ar_x_add125 {f_root f_keyCount f_spareLeaves f_spareSmalls f_spareWides f_pathLength : Int32} {a_leafKey a_leafValue a_spareLeaf a_depth a_prefix a_childCount a_keysBelow : Nat → Int32} {a_sumBelow : Nat → Int64} {a_smallDigit a_smallChild a_wideChild a_spareSmall a_spareWide a_path : Nat → Int32} {post : SX → Prop} {n c kn cn v : Nat} {w : Int64} (hn : n < 80) (hcc : a_childCount n = nI cn) (hcn : cn < 127) (hkb : a_keysBelow n = nI kn) (hkn : kn + v < 128)
    (hk : (c < 64 ∧ v = 1) ∨ ∃ m, c = 64 + m ∧ m < 80 ∧ a_keysBelow m = nI v) (hs : (c < 64 ∧ w = (a_leafValue c).toInt64) ∨ ∃ m, c = 64 + m ∧ m < 80 ∧ a_sumBelow m = w)
    (hp : post (f_root, f_keyCount, f_spareLeaves, f_spareSmalls, f_spareWides, f_pathLength, a_leafKey, a_leafValue, a_spareLeaf, a_depth, a_prefix, upd a_childCount n (nI (cn + 1)), upd a_keysBelow n (nI (kn + v)), vp_updL a_sumBelow n (a_sumBelow n + w), a_smallDigit, a_smallChild, a_wideChild, a_spareSmall, a_spareWide, a_path)) : wX_addChild_125 post (nI c) (nI n) f_root f_keyCount f_spareLeaves f_spareSmalls f_spareWides f_pathLength a_leafKey a_leafValue a_spareLeaf a_depth a_prefix a_childCount a_keysBelow a_sumBelow a_smallDigit a_smallChild a_wideChild a_spareSmall a_spareWide a_path := by
  have hv : vp_in (nI n) 80 := vp_in_nI hn (by omega)
  refine And.intro hv (And.intro hv (nm_r (e' := upd a_childCount n (nI (cn + 1))) ?_ (And.intro hv (ar_x_keysOf0 hk (And.intro hv (nm_r (e' := upd a_keysBelow n (nI (kn + v))) ?_ (And.intro hv (ar_x_sumOf0 hs (And.intro hv (nm_r (e' := vp_updL a_sumBelow n (a_sumBelow n + w)) ?_ hp))))))))))
  · rw [ar_cl (by omega), hcc, nI_1, ar_nb (by omega)]
  · rw [ar_cl (by omega), hkb, nI_add, ar_nb (by omega)]
  · rw [ar_cl (by omega)]
theorem ar_x_add47 {f_root f_keyCount f_spareLeaves f_spareSmalls f_spareWides f_pathLength : Int32} {a_leafKey a_leafValue a_spareLeaf a_depth a_prefix a_childCount a_keysBelow : Nat → Int32} {a_sumBelow : Nat → Int64} {a_smallDigit a_smallChild a_wideChild a_spareSmall a_spareWide a_path : Nat → Int32} {post : SX → Prop} {n g c k : Nat} {D C : Nat → Int32} {tb : Nat → Option Nat} (hn : n < 64) (hk : k < 4) (hS : ar_Sm k D C tb) (hb : ∀ g x, g < 16 → tb g = some x → x < 144)
    (hp : ∀ (a : Nat) (sd sc : Nat → Int32), a ≤ k → (∀ i, i < a → sd (4 * n + i) = D i ∧ sc (4 * n + i) = C i) → (∀ i, a < i → i ≤ k → sd (4 * n + i) = D (i - 1) ∧ sc (4 * n + i) = C (i - 1)) →
      (∀ x, (x < 4 * n ∨ 4 * n + 4 ≤ x) → sd x = a_smallDigit x ∧ sc x = a_smallChild x) → wX_addChild_107 post (nI g) (nI c) (nI n) (nI (4 * n + a)) f_root f_keyCount f_spareLeaves f_spareSmalls f_spareWides f_pathLength a_leafKey a_leafValue a_spareLeaf a_depth a_prefix a_childCount a_keysBelow a_sumBelow sd sc a_wideChild a_spareSmall a_spareWide a_path) :
    ∀ (a : Nat) (sd sc : Nat → Int32), a ≤ k → (∀ i, i < a → sd (4 * n + i) = D i ∧ sc (4 * n + i) = C i) → (∀ i, a < i → i ≤ k → sd (4 * n + i) = D (i - 1) ∧ sc (4 * n + i) = C (i - 1)) →
      (∀ x, (x < 4 * n ∨ 4 * n + 4 ≤ x) → sd x = a_smallDigit x ∧ sc x = a_smallChild x) → wX_addChild_47 post (nI g) (nI c) (nI n) f_root f_keyCount f_spareLeaves f_spareSmalls f_spareWides f_pathLength (a + 1) (nI (4 * n + a)) a_leafKey a_leafValue a_spareLeaf a_depth a_prefix a_childCount a_keysBelow a_sumBelow sd sc a_wideChild a_spareSmall a_spareWide a_path := by
  intro a
  induction a with
  | zero =>
    intro sd sc ha h1 h2 h3
    refine br_t ?_ (hp 0 sd sc ha h1 h2 h3)
    rw [ar_4n]
    exact nI_le (by omega) (by omega)
  | succ a ih =>
    intro sd sc ha h1 h2 h3
    have e0 : nI (4 * n + (a + 1)) - 1 = nI (4 * n + a) := nI_pred (4 * n + a)
    have hv1 : vp_in (nI (4 * n + (a + 1)) - 1) 256 := by rw [e0]; exact vp_in_nI (by omega) (by omega)
    have hv2 : vp_in (nI (4 * n + (a + 1))) 256 := vp_in_nI (by omega) (by omega)
    obtain ⟨g', x', b1, b2, b3, b4⟩ := hS.2.1 a (by omega)
    have hx := hb g' x' b1 b4
    obtain ⟨y1, y2⟩ := h1 a (by omega)
    refine br_f ?_ (And.intro hv1 (br_c (fun _ => hp (a + 1) sd sc ha h1 h2 h3) (fun _ => And.intro hv1 (And.intro hv2 (nm_r (e' := upd sd (4 * n + (a + 1)) (D a)) ?_ (And.intro hv1 (And.intro hv2 (nm_r (e' := upd sc (4 * n + (a + 1)) (C a)) ?_ (nm_r (pk_m1 (4 * n + a)) (ih _ _ (by omega) ?_ ?_ ?_))))))))))
    · rw [ar_4n]
      exact nI_ge (by omega) (by omega)
    · rw [e0, ar_cl (by omega), ar_cl (by omega), y1, b2, ar_nb' (by omega)]
    · rw [e0, ar_cl (by omega), ar_cl (by omega), y2, b3, ar_ns' (by omega)]
    · intro i hi
      rw [pk_un (by omega), pk_un (by omega)]
      exact h1 i (by omega)
    · intro i hi hik
      by_cases e : i = a + 1
      · subst e
        rw [pk_us, pk_us]
        exact ⟨rfl, rfl⟩
      · rw [pk_un (by omega), pk_un (by omega)]
        exact h2 i (by omega) hik
    · intro x hx
      rw [pk_un (by omega), pk_un (by omega)]
      exact h3 x hx
theorem ar_x_addChild {post : SX → Prop} {u : SX} (A : ar_A rt L pn N LF va al lv dp pf kb sb ch u) {n g c : Nat} (hn : n < 80) (hl : lv n = true) (hg : g < 16) (hc : c < 64 ∨ ∃ m, c = 64 + m ∧ m < 80 ∧ lv m = true) (h0 : ch n g = none)
    (h4 : n < 64 → ar_cnt (ch n) < 4) (hk : kb n + ar_kO kb (some c) < 128)
    (hp : ∀ u', ar_A rt L pn N LF va al lv dp pf (ar_u kb n (kb n + ar_kO kb (some c))) (ar_u sb n (sb n + ar_sO va sb (some c))) (ar_u ch n (ar_u (ch n) g (some c))) u' → post u') : wpX_addChild post u (nI (64 + n)) (nI g) (nI c) := by
  obtain ⟨f_root, f_keyCount, f_spareLeaves, f_spareSmalls, f_spareWides, f_pathLength, a_leafKey, a_leafValue, a_spareLeaf, a_depth, a_prefix, a_childCount, a_keysBelow, a_sumBelow, a_smallDigit, a_smallChild, a_wideChild, a_spareSmall, a_spareWide, a_path⟩ := u
  obtain ⟨A1, A2, A3, A4, A5, A6⟩ := A
  obtain ⟨⟨r1, r2, r3, r4⟩, ⟨d1, d2, d3, d4, d5⟩, T1, T2⟩ := A5 n hn hl
  have hc144 : c < 144 := by
    rcases hc with h | ⟨m, rfl, h, _⟩ <;> omega
  have hkO : (c < 64 ∧ ar_kO kb (some c) = 1) ∨ ∃ m, c = 64 + m ∧ m < 80 ∧ a_keysBelow m = nI (ar_kO kb (some c)) := by
    rcases hc with h | ⟨m, rfl, h, hlm⟩
    · exact Or.inl ⟨h, ar_kO_l h⟩
    · exact Or.inr ⟨m, rfl, h, by rw [ar_kO_n]; exact (A5 m h hlm).2.1.2.2.2.1⟩
  have hsO : (c < 64 ∧ ar_sO va sb (some c) = (a_leafValue c).toInt64) ∨ ∃ m, c = 64 + m ∧ m < 80 ∧ a_sumBelow m = ar_sO va sb (some c) := by
    rcases hc with h | ⟨m, rfl, h, hlm⟩
    · exact Or.inl ⟨h, by rw [ar_sO_l h, A2.2.2.2.1]⟩
    · exact Or.inr ⟨m, rfl, h, by rw [ar_sO_n]; exact (A5 m h hlm).2.1.2.2.2.2⟩
  have hcl := ar_cnt_le (ch n)
  have hadd := ar_cnt_add (c := ch n) (x := c) hg h0
  have fin : ∀ sd sc wc : Nat → Int32, ar_Tb n (ar_u (ch n) g (some c)) sd sc wc → (∀ x, (x < 4 * n ∨ 4 * n + 4 ≤ x) → x < 256 → sd x = a_smallDigit x ∧ sc x = a_smallChild x) →
      (∀ q g, q < 80 → 64 ≤ q → q ≠ n → g < 16 → wc (16 * (q - 64) + g) = a_wideChild (16 * (q - 64) + g)) →
      post (f_root, f_keyCount, f_spareLeaves, f_spareSmalls, f_spareWides, f_pathLength, a_leafKey, a_leafValue, a_spareLeaf, a_depth, a_prefix, upd a_childCount n (nI (ar_cnt (ch n) + 1)), upd a_keysBelow n (nI (kb n + ar_kO kb (some c))), vp_updL a_sumBelow n (a_sumBelow n + ar_sO va sb (some c)), sd, sc, wc, a_spareSmall, a_spareWide, a_path) := by
    intro sd sc wc hT h1 h2
    refine hp _ ⟨A1, A2, A3, A4, ar_AN_gen A5 n (fun _ _ => ?_) (fun q e => ?_) h1 h2, A6⟩
    · rw [ar_us, ar_us, ar_us, pk_us, pk_us, pk_uLs]
      refine ⟨⟨r1, r2, hk, fun g' x hg' hx => ?_⟩, ⟨d1, d2, by rw [hadd], rfl, by rw [d5]⟩, hT⟩
      by_cases e : g' = g
      · rw [e, ar_us] at hx
        cases hx
        exact hc144
      · rw [ar_un e] at hx
        exact r4 g' x hg' hx
    · rw [ar_un e, ar_un e, ar_un e, pk_un e, pk_un e, pk_uLn e]
      exact ⟨rfl, rfl, rfl, rfl, rfl, rfl⟩
  refine nm_r (ar_m64 n) ?_
  by_cases c64 : n < 64
  · have hS := T1 c64
    have hc4 := h4 c64
    refine br_t (nI_lt (b := 128) (by omega) (by decide)) (And.intro (vp_in_nI hn (by omega)) (nm_r (e' := nI (4 * n + ar_cnt (ch n))) ?_ ⟨ar_cnt (ch n) + 1, ?_⟩))
    · rw [ar_cl (by omega), d3, ar_4n, nI_add]
    · refine ar_x_add47 (k := ar_cnt (ch n)) c64 hc4 hS r4 ?_ (ar_cnt (ch n)) a_smallDigit a_smallChild (Nat.le_refl _) (fun i _ => ⟨rfl, rfl⟩) (fun i h1 h2 => by omega) (fun _ _ => ⟨rfl, rfl⟩)
      intro a sd sc ha i1 i2 i3
      have hv : vp_in (nI (4 * n + a)) 256 := vp_in_nI (by omega) (by omega)
      refine And.intro hv (nm_r (e' := upd sd (4 * n + a) (nI g)) (by rw [ar_cl (by omega), ar_nb (by omega)]) (And.intro hv (nm_r (e' := upd sc (4 * n + a) (nI c)) (by rw [ar_cl (by omega), ar_ns (by omega)]) ?_)))
      refine ar_x_add125 hn d3 (by omega) d4 hk hkO hsO (fin _ _ _ ⟨fun _ => ?_, fun h => by omega⟩ (fun x hx _ => ?_) (fun _ _ _ _ _ _ => rfl))
      · rw [hadd]
        refine ar_Sm_ins hS hc4 ha hg h0 (fun i hi => ?_) ?_ (fun i hi hik => ?_)
        · show upd sd (4 * n + a) (nI g) (4 * n + i) = _ ∧ upd sc (4 * n + a) (nI c) (4 * n + i) = _
          rw [pk_un (by omega), pk_un (by omega)]
          exact i1 i hi
        · exact ⟨pk_us, pk_us⟩
        · show upd sd (4 * n + a) (nI g) (4 * n + i) = _ ∧ upd sc (4 * n + a) (nI c) (4 * n + i) = _
          rw [pk_un (by omega), pk_un (by omega)]
          exact i2 i hi hik
      · rw [pk_un (by omega), pk_un (by omega)]
        exact i3 x hx
  · have e : 16 * (nI (64 + n) - 128) + nI g = nI (16 * (n - 64) + g) := by rw [ar_m128 (by omega), ar_16n, nI_add]
    refine br_f (nI_nlt (b := 128) (by omega) (by omega)) (And.intro (by rw [e]; exact vp_in_nI (by omega) (by omega)) (nm_r (e' := upd a_wideChild (16 * (n - 64) + g) (nI c)) (by rw [e, ar_cl (by omega), ar_ns (by omega)]) ?_))
    refine ar_x_add125 hn d3 (by omega) d4 hk hkO hsO (fin _ _ _ ⟨fun h => by omega, fun _ g' hg' => ?_⟩ (fun x hx _ => ⟨rfl, rfl⟩) (fun q g' hq hq64 ne hg' => pk_un (by omega)))
    by_cases eg : g' = g
    · rw [eg, pk_us, ar_us]
      rfl
    · rw [pk_un (by omega), ar_un eg]
      exact T2 (by omega) g' hg'
end
end
section
section
variable {rt : Option Nat} {L : Nat} {pn : Nat → Nat} {N : Nat} {LF : Nat → Option Nat} {va : Nat → Int32} {al lv : Nat → Bool} {dp pf kb : Nat → Nat} {sb : Nat → Int64} {ch : Nat → Nat → Option Nat}
/-! a child is dropped -/
theorem ar_x_drop72 {f_root f_keyCount f_spareLeaves f_spareSmalls f_spareWides f_pathLength : Int32} {a_leafKey a_leafValue a_spareLeaf a_depth a_prefix a_childCount a_keysBelow : Nat → Int32} {a_sumBelow : Nat → Int64} {a_smallDigit a_smallChild a_wideChild a_spareSmall a_spareWide a_path : Nat → Int32} {post : SX → Prop} {n k i0 : Nat} {D C : Nat → Int32} {tb : Nat → Option Nat} (hn : n < 64) (hk : k < 4) (hS : ar_Sm (k + 1) D C tb) (hb : ∀ g x, g < 16 → tb g = some x → x < 144) (hcc : a_childCount n = nI k) (hi0 : i0 ≤ k)
    (hp : ∀ (sd sc : Nat → Int32), (∀ i, i < i0 → sd (4 * n + i) = D i ∧ sc (4 * n + i) = C i) → (∀ i, i0 ≤ i → i < k → sd (4 * n + i) = D (i + 1) ∧ sc (4 * n + i) = C (i + 1)) →
      (∀ x, (x < 4 * n ∨ 4 * n + 4 ≤ x) → sd x = a_smallDigit x ∧ sc x = a_smallChild x) → post (f_root, f_keyCount, f_spareLeaves, f_spareSmalls, f_spareWides, f_pathLength, a_leafKey, a_leafValue, a_spareLeaf, a_depth, a_prefix, a_childCount, a_keysBelow, a_sumBelow, sd, sc, a_wideChild, a_spareSmall, a_spareWide, a_path)) :
    ∀ (d a : Nat) (sd sc : Nat → Int32), a + d = k → i0 ≤ a → (∀ i, i < i0 → sd (4 * n + i) = D i ∧ sc (4 * n + i) = C i) → (∀ i, i0 ≤ i → i < a → sd (4 * n + i) = D (i + 1) ∧ sc (4 * n + i) = C (i + 1)) →
      (∀ i, a ≤ i → i < 4 → sd (4 * n + i) = D i ∧ sc (4 * n + i) = C i) → (∀ x, (x < 4 * n ∨ 4 * n + 4 ≤ x) → sd x = a_smallDigit x ∧ sc x = a_smallChild x) →
      wX_dropChild_72 post (nI n) f_root f_keyCount f_spareLeaves f_spareSmalls f_spareWides f_pathLength (d + 1) (nI (4 * n + a)) a_leafKey a_leafValue a_spareLeaf a_depth a_prefix a_childCount a_keysBelow a_sumBelow sd sc a_wideChild a_spareSmall a_spareWide a_path := by
  intro d
  induction d with
  | zero =>
    intro a sd sc ha hia h1 h2 h3 h4
    have ea : a = k := by omega
    subst ea
    refine And.intro (vp_in_nI (by omega) (by omega)) (br_t ?_ (hp sd sc h1 h2 h4))
    rw [ar_cl (by omega), hcc, ar_4n, nI_add]
    exact nI_le (by omega) (by omega)
  | succ d ih =>
    intro a sd sc ha hia h1 h2 h3 h4
    have e0 : nI (4 * n + a) + 1 = nI (4 * n + (a + 1)) := nI_1 (4 * n + a)
    have hv1 : vp_in (nI (4 * n + a) + 1) 256 := by rw [e0]; exact vp_in_nI (by omega) (by omega)
    have hv2 : vp_in (nI (4 * n + a)) 256 := vp_in_nI (by omega) (by omega)
    obtain ⟨g', x', b1, b2, b3, b4⟩ := hS.2.1 (a + 1) (by omega)
    have hx := hb g' x' b1 b4
    obtain ⟨y1, y2⟩ := h3 (a + 1) (by omega) (by omega)
    refine And.intro (vp_in_nI (by omega) (by omega)) (br_f ?_ (And.intro hv1 (And.intro hv2 (nm_r (e' := upd sd (4 * n + a) (D (a + 1))) ?_ (And.intro hv1 (And.intro hv2 (nm_r (e' := upd sc (4 * n + a) (C (a + 1))) ?_ (nm_r e0 (ih (a + 1) _ _ (by omega) (by omega) ?_ ?_ ?_ ?_)))))))))
    · rw [ar_cl (by omega), hcc, ar_4n, nI_add]
      exact nI_ge (by omega) (by omega)
    · rw [e0, ar_cl (by omega), ar_cl (by omega), y1, b2, ar_nb' (by omega)]
    · rw [e0, ar_cl (by omega), ar_cl (by omega), y2, b3, ar_ns' (by omega)]
    · intro i hi
      rw [pk_un (by omega), pk_un (by omega)]
      exact h1 i hi
    · intro i hi hia'
      by_cases e : i = a
      · subst e
        rw [pk_us, pk_us]
        exact ⟨rfl, rfl⟩
      · rw [pk_un (by omega), pk_un (by omega)]
        exact h2 i hi (by omega)
    · intro i hi hi4
      rw [pk_un (by omega), pk_un (by omega)]
      exact h3 i (by omega) hi4
    · intro x hx
      rw [pk_un (by omega), pk_un (by omega)]
      exact h4 x hx
theorem ar_x_drop45 {f_root f_keyCount f_spareLeaves f_spareSmalls f_spareWides f_pathLength : Int32} {a_leafKey a_leafValue a_spareLeaf a_depth a_prefix a_childCount a_keysBelow : Nat → Int32} {a_sumBelow : Nat → Int64} {a_smallDigit a_smallChild a_wideChild a_spareSmall a_spareWide a_path : Nat → Int32} {post : SX → Prop} {n k i0 g : Nat} {C : Nat → Int32} {tb : Nat → Option Nat} (hn : n < 64) (hS : ar_Sm k (fun i => a_smallDigit (4 * n + i)) C tb) (hi0 : i0 < k) (hg : a_smallDigit (4 * n + i0) = nI g)
    (hq : ∃ n72 : Nat, wX_dropChild_72 post (nI n) f_root f_keyCount f_spareLeaves f_spareSmalls f_spareWides f_pathLength n72 (nI (4 * n + i0)) a_leafKey a_leafValue a_spareLeaf a_depth a_prefix a_childCount a_keysBelow a_sumBelow a_smallDigit a_smallChild a_wideChild a_spareSmall a_spareWide a_path) :
    ∀ (d i : Nat), i + d = i0 → wX_dropChild_45 post (nI g) (nI n) f_root f_keyCount f_spareLeaves f_spareSmalls f_spareWides f_pathLength a_leafKey a_leafValue a_spareLeaf a_depth a_prefix a_childCount a_keysBelow a_sumBelow a_smallDigit a_smallChild a_wideChild a_spareSmall a_spareWide a_path (d + 1) (nI (4 * n + i)) := by
  have hk := hS.1
  have e3 : 4 * nI n + 3 = nI (4 * n + 3) := by rw [ar_4n]; exact nI_add _ 3
  intro d
  induction d with
  | zero =>
    intro i hi
    have ei : i = i0 := by omega
    subst ei
    refine br_c (fun _ => hq) (fun _ => And.intro (vp_in_nI (by omega) (by omega)) (br_t ?_ hq))
    rw [ar_cl (by omega)]
    exact hg
  | succ d ih =>
    intro i hi
    refine br_f ?_ (And.intro (vp_in_nI (by omega) (by omega)) (br_f ?_ (nm_r (nI_1 (4 * n + i)) (ih (i + 1) (by omega)))))
    · rw [e3]
      exact nI_ge (by omega) (by omega)
    · rw [ar_cl (by omega)]
      intro z
      have := hS.2.2.1 i i0 (by omega) hi0 (z.trans hg.symm)
      omega
theorem ar_x_dropChild {post : SX → Prop} {u : SX} (A : ar_A rt L pn N LF va al lv dp pf kb sb ch u) {n g : Nat} (hn : n < 80) (hl : lv n = true) (hg : g < 16) (h0 : ch n g ≠ none)
    (hp : ∀ u', ar_A rt L pn N LF va al lv dp pf kb sb (ar_u ch n (ar_u (ch n) g none)) u' → post u') : wpX_dropChild post u (nI (64 + n)) (nI g) := by
  obtain ⟨f_root, f_keyCount, f_spareLeaves, f_spareSmalls, f_spareWides, f_pathLength, a_leafKey, a_leafValue, a_spareLeaf, a_depth, a_prefix, a_childCount, a_keysBelow, a_sumBelow, a_smallDigit, a_smallChild, a_wideChild, a_spareSmall, a_spareWide, a_path⟩ := u
  obtain ⟨A1, A2, A3, A4, A5, A6⟩ := A
  obtain ⟨⟨r1, r2, r3, r4⟩, ⟨d1, d2, d3, d4, d5⟩, T1, T2⟩ := A5 n hn hl
  have hcl := ar_cnt_le (ch n)
  have hdel := ar_cnt_del (c := ch n) hg h0
  have hv : vp_in (nI n) 80 := vp_in_nI hn (by omega)
  have fin : ∀ sd sc wc : Nat → Int32, ar_Tb n (ar_u (ch n) g none) sd sc wc → (∀ x, (x < 4 * n ∨ 4 * n + 4 ≤ x) → x < 256 → sd x = a_smallDigit x ∧ sc x = a_smallChild x) →
      (∀ q g, q < 80 → 64 ≤ q → q ≠ n → g < 16 → wc (16 * (q - 64) + g) = a_wideChild (16 * (q - 64) + g)) →
      post (f_root, f_keyCount, f_spareLeaves, f_spareSmalls, f_spareWides, f_pathLength, a_leafKey, a_leafValue, a_spareLeaf, a_depth, a_prefix, upd a_childCount n (nI (ar_cnt (ar_u (ch n) g none))), a_keysBelow, a_sumBelow, sd, sc, wc, a_spareSmall, a_spareWide, a_path) := by
    intro sd sc wc hT h1 h2
    refine hp _ ⟨A1, A2, A3, A4, ar_AN_gen A5 n (fun _ _ => ?_) (fun q e => ?_) h1 h2, A6⟩
    · rw [ar_us, pk_us]
      refine ⟨⟨r1, r2, r3, fun g' x hg' hx => ?_⟩, ⟨d1, d2, rfl, d4, d5⟩, hT⟩
      by_cases e : g' = g
      · rw [e, ar_us] at hx
        exact absurd hx (by simp)
      · rw [ar_un e] at hx
        exact r4 g' x hg' hx
    · rw [ar_un e, pk_un e]
      exact ⟨rfl, rfl, rfl, rfl, rfl, rfl⟩
  refine nm_r (ar_m64 n) (And.intro hv (And.intro hv (nm_r (e' := upd a_childCount n (nI (ar_cnt (ar_u (ch n) g none)))) ?_ ?_)))
  · have e1 : nI (ar_cnt (ch n)) - 1 = nI (ar_cnt (ar_u (ch n) g none)) := by
      rw [← hdel]
      exact nI_pred _
    rw [ar_cl (by omega), d3, e1, ar_nb (by omega)]
  · by_cases c64 : n < 64
    · have hS := T1 c64
      have hk4 := hS.1
      obtain ⟨x, hx⟩ : ∃ x, ch n g = some x := by
        cases h : ch n g with
        | none => exact absurd h h0
        | some x => exact ⟨x, rfl⟩
      obtain ⟨i0, hi0, hD⟩ := hS.2.2.2 g x hg hx
      have hS' := hS
      rw [← hdel] at hS'
      refine br_t (nI_lt (b := 128) (by omega) (by decide)) (nm_r (ar_4n n) ⟨i0 + 1, ?_⟩)
      refine ar_x_drop45 (k := ar_cnt (ch n)) c64 hS hi0 hD ⟨ar_cnt (ar_u (ch n) g none) - i0 + 1, ?_⟩ i0 0 (by omega)
      refine ar_x_drop72 (i0 := i0) c64 (by omega) hS' r4 pk_us (by omega) ?_ _ i0 a_smallDigit a_smallChild (by omega) (Nat.le_refl _) (fun i _ => ⟨rfl, rfl⟩) (fun i h1 h2 => by omega) (fun i _ _ => ⟨rfl, rfl⟩) (fun _ _ => ⟨rfl, rfl⟩)
      intro sd sc i1 i2 i3
      exact fin sd sc a_wideChild ⟨fun _ => ar_Sm_del hS' (by omega) hg hD i1 i2, fun h => by omega⟩ (fun x hx _ => i3 x hx) (fun _ _ _ _ _ _ => rfl)
    · have e : 16 * (nI (64 + n) - 128) + nI g = nI (16 * (n - 64) + g) := by rw [ar_m128 (by omega), ar_16n, nI_add]
      refine br_f (nI_nlt (b := 128) (by omega) (by omega)) (And.intro (by rw [e]; exact vp_in_nI (by omega) (by omega)) (nm_r (e' := upd a_wideChild (16 * (n - 64) + g) (-1)) (by rw [e, ar_cl (by omega), ar_ns1]) ?_))
      refine fin _ _ _ ⟨fun h => by omega, fun _ g' hg' => ?_⟩ (fun x hx _ => ⟨rfl, rfl⟩) (fun q g' hq hq64 ne hg' => pk_un (by omega))
      by_cases eg : g' = g
      · rw [eg, pk_us, ar_us]
        rfl
      · rw [pk_un (by omega), ar_un eg]
        exact T2 (by omega) g' hg'
/-! a slot gets another link -/
theorem ar_x_relink0 {post : SX → Prop} {u : SX} (A : ar_A rt L pn N LF va al lv dp pf kb sb ch u) {x : Int32} {c : Nat} (hp : ∀ u', ar_A (some c) L pn N LF va al lv dp pf kb sb ch u' → post u') : wpX_relink post u (nI 0) x (nI c) := by
  obtain ⟨f_root, f_keyCount, f_spareLeaves, f_spareSmalls, f_spareWides, f_pathLength, a_leafKey, a_leafValue, a_spareLeaf, a_depth, a_prefix, a_childCount, a_keysBelow, a_sumBelow, a_smallDigit, a_smallChild, a_wideChild, a_spareSmall, a_spareWide, a_path⟩ := u
  obtain ⟨A1, A2, A3, A4, A5, A6⟩ := A
  exact br_t rfl (hp _ ⟨rfl, A2, A3, A4, A5, A6⟩)
theorem ar_x_relink74 {f_root f_keyCount f_spareLeaves f_spareSmalls f_spareWides f_pathLength : Int32} {a_leafKey a_leafValue a_spareLeaf a_depth a_prefix a_childCount a_keysBelow : Nat → Int32} {a_sumBelow : Nat → Int64} {a_smallDigit a_smallChild a_wideChild a_spareSmall a_spareWide a_path : Nat → Int32} {post : SX → Prop} {n k i0 g c : Nat} {C : Nat → Int32} {tb : Nat → Option Nat} (hn : n < 64) (hc : c < 144) (hS : ar_Sm k (fun i => a_smallDigit (4 * n + i)) C tb) (hi0 : i0 < k) (hg : a_smallDigit (4 * n + i0) = nI g)
    (hq : post (f_root, f_keyCount, f_spareLeaves, f_spareSmalls, f_spareWides, f_pathLength, a_leafKey, a_leafValue, a_spareLeaf, a_depth, a_prefix, a_childCount, a_keysBelow, a_sumBelow, a_smallDigit, upd a_smallChild (4 * n + i0) (nI c), a_wideChild, a_spareSmall, a_spareWide, a_path)) :
    ∀ (d i : Nat), i + d = i0 → wX_relink_74 post (nI c) (nI (64 + n)) (nI g) f_root f_keyCount f_spareLeaves f_spareSmalls f_spareWides f_pathLength a_leafKey a_leafValue a_spareLeaf a_depth a_prefix a_childCount a_keysBelow a_sumBelow a_smallDigit a_smallChild a_wideChild a_spareSmall a_spareWide a_path (d + 1) (nI (4 * n + i)) := by
  have hk := hS.1
  have e3 : 4 * (nI (64 + n) - 64) + 3 = nI (4 * n + 3) := by rw [ar_m64, ar_4n]; exact nI_add _ 3
  intro d
  induction d with
  | zero =>
    intro i hi
    have ei : i = i0 := by omega
    subst ei
    have e : upd a_smallChild (nI (4 * n + i)).toNatClampNeg (vp_nar .short (nI c).toInt16.toInt32) = upd a_smallChild (4 * n + i) (nI c) := by rw [ar_cl (by omega), ar_ns (by omega)]
    have hv : vp_in (nI (4 * n + i)) 256 := vp_in_nI (by omega) (by omega)
    refine br_c (fun _ => And.intro hv (nm_r e hq)) (fun _ => And.intro hv (br_t ?_ (And.intro hv (nm_r e hq))))
    rw [ar_cl (by omega)]
    exact hg
  | succ d ih =>
    intro i hi
    refine br_f ?_ (And.intro (vp_in_nI (by omega) (by omega)) (br_f ?_ (nm_r (nI_1 (4 * n + i)) (ih (i + 1) (by omega)))))
    · rw [e3]
      exact nI_ge (by omega) (by omega)
    · rw [ar_cl (by omega)]
      intro z
      have := hS.2.2.1 i i0 (by omega) hi0 (z.trans hg.symm)
      omega
theorem ar_x_relink1 {post : SX → Prop} {u : SX} (A : ar_A rt L pn N LF va al lv dp pf kb sb ch u) {k c i : Nat} (hk : k < 65536) (hc : c < 144) (hi : i < L) (hl : lv (pn i) = true) (h0 : ch (pn i) (ar_g k (dp (pn i))) ≠ none)
    (hp : ∀ u', ar_A rt L pn N LF va al lv dp pf kb sb (ar_u ch (pn i) (ar_u (ch (pn i)) (ar_g k (dp (pn i))) (some c))) u' → post u') : wpX_relink post u (nI (i + 1)) (nI k) (nI c) := by
  obtain ⟨f_root, f_keyCount, f_spareLeaves, f_spareSmalls, f_spareWides, f_pathLength, a_leafKey, a_leafValue, a_spareLeaf, a_depth, a_prefix, a_childCount, a_keysBelow, a_sumBelow, a_smallDigit, a_smallChild, a_wideChild, a_spareSmall, a_spareWide, a_path⟩ := u
  obtain ⟨A1, A2, A3, A4, A5, A6⟩ := A
  obtain ⟨q1, q2, q3⟩ := A6
  obtain ⟨q4, q5⟩ := q3 i hi
  have hg := ar_g_lt k (dp (pn i))
  generalize ep : pn i = n at *
  obtain ⟨⟨r1, r2, r3, r4⟩, ⟨d1, d2, d3, d4, d5⟩, T1, T2⟩ := A5 n q4 hl
  generalize eg : ar_g k (dp n) = g at *
  have hset := ar_cnt_set (c := ch n) (x := c) hg h0
  have fin : ∀ sc wc : Nat → Int32, ar_Tb n (ar_u (ch n) g (some c)) a_smallDigit sc wc → (∀ x, (x < 4 * n ∨ 4 * n + 4 ≤ x) → x < 256 → sc x = a_smallChild x) →
      (∀ q g, q < 80 → 64 ≤ q → q ≠ n → g < 16 → wc (16 * (q - 64) + g) = a_wideChild (16 * (q - 64) + g)) →
      post (f_root, f_keyCount, f_spareLeaves, f_spareSmalls, f_spareWides, f_pathLength, a_leafKey, a_leafValue, a_spareLeaf, a_depth, a_prefix, a_childCount, a_keysBelow, a_sumBelow, a_smallDigit, sc, wc, a_spareSmall, a_spareWide, a_path) := by
    intro sc wc hT h1 h2
    refine hp _ ⟨A1, A2, A3, A4, ar_AN_gen A5 n (fun _ _ => ?_) (fun q e => ?_) (fun x hx hx2 => ⟨rfl, h1 x hx hx2⟩) h2, q1, q2, q3⟩
    · rw [ar_us]
      refine ⟨⟨r1, r2, r3, fun g' x hg' hx => ?_⟩, ⟨d1, d2, by rw [hset]; exact d3, d4, d5⟩, hT⟩
      by_cases e : g' = g
      · rw [e, ar_us] at hx
        cases hx
        exact hc
      · rw [ar_un e] at hx
        exact r4 g' x hg' hx
    · rw [ar_un e]
      exact ⟨rfl, rfl, rfl, rfl, rfl, rfl⟩
  have e1 : nI (i + 1) - 1 = nI i := nI_pred i
  refine br_f (nI_ne0 (by omega) (by omega)) (And.intro (by rw [e1]; exact vp_in_nI (by omega) (by omega)) (nm_r (e' := nI (64 + n)) (by rw [e1, ar_cl (by omega)]; exact q5) (And.intro (by rw [ar_m64]; exact vp_in_nI q4 (by omega)) ?_)))
  rw [ar_m64, ar_cl (by omega), d1]
  refine ar_x_dig hk r1 ?_
  rw [eg]
  by_cases c64 : n < 64
  · have hS := T1 c64
    obtain ⟨x, hx⟩ : ∃ x, ch n g = some x := by
      cases h : ch n g with
      | none => exact absurd h h0
      | some x => exact ⟨x, rfl⟩
    obtain ⟨i0, hi0, hD⟩ := hS.2.2.2 g x hg hx
    have hk4 := hS.1
    refine br_t (nI_lt (b := 128) (by omega) (by decide)) (nm_r (ar_4n n) ⟨i0 + 1, ?_⟩)
    refine ar_x_relink74 c64 hc hS hi0 hD (fin _ _ ⟨fun _ => ?_, fun h => by omega⟩ (fun x hx _ => pk_un (by omega)) (fun _ _ _ _ _ _ => rfl)) i0 0 (by omega)
    rw [hset]
    refine ar_Sm_set hS hi0 hg hD (fun _ _ => rfl) pk_us (fun j hj ne => pk_un (by omega))
  · have e : 16 * (nI (64 + n) - 128) + nI g = nI (16 * (n - 64) + g) := by rw [ar_m128 (by omega), ar_16n, nI_add]
    refine br_f (nI_nlt (b := 128) (by omega) (by omega)) (And.intro (by rw [e]; exact vp_in_nI (by omega) (by omega)) (nm_r (e' := upd a_wideChild (16 * (n - 64) + g) (nI c)) (by rw [e, ar_cl (by omega), ar_ns (by omega)]) ?_))
    refine fin _ _ ⟨fun h => by omega, fun _ g' hg' => ?_⟩ (fun x hx _ => rfl) (fun q g' hq hq64 ne hg' => pk_un (by omega))
    by_cases eg : g' = g
    · rw [eg, pk_us, ar_us]
      rfl
    · rw [pk_un (by omega), ar_un eg]
      exact T2 (by omega) g' hg'
/-! the path is credited -/
theorem ar_x_credit_lp {f_root f_keyCount f_spareLeaves f_spareSmalls f_spareWides f_pathLength : Int32} {a_leafKey a_leafValue a_spareLeaf a_depth a_prefix a_childCount a_keysBelow : Nat → Int32} {a_sumBelow : Nat → Int64} {a_smallDigit a_smallChild a_wideChild a_spareSmall a_spareWide a_path : Nat → Int32} {post : SX → Prop} {x1 : Int32} {x2 : Int64} {kb' : Nat → Nat} {sb' : Nat → Int64} (hL : L ≤ 4) (hpl : f_pathLength = nI L) (hpa : ∀ i, i < L → pn i < 80 ∧ a_path i = nI (64 + pn i))
    (hinj : ∀ i j, i < L → j < L → pn i = pn j → i = j)
    (hin : ∀ i, i < L → a_keysBelow (pn i) + x1 = nI (kb' (pn i)) ∧ kb' (pn i) < 128 ∧ sb' (pn i) = a_sumBelow (pn i) + x2)
    (hp : ∀ (yk : Nat → Int32) (ys : Nat → Int64), (∀ i, i < L → yk (pn i) = nI (kb' (pn i)) ∧ ys (pn i) = sb' (pn i)) → (∀ q, (∀ i, i < L → pn i ≠ q) → yk q = a_keysBelow q ∧ ys q = a_sumBelow q) → post (f_root, f_keyCount, f_spareLeaves, f_spareSmalls, f_spareWides, f_pathLength, a_leafKey, a_leafValue, a_spareLeaf, a_depth, a_prefix, a_childCount, yk, ys, a_smallDigit, a_smallChild, a_wideChild, a_spareSmall, a_spareWide, a_path)) :
    ∀ (d i : Nat) (yk : Nat → Int32) (ys : Nat → Int64), i + d = L → (∀ j, j < i → yk (pn j) = nI (kb' (pn j)) ∧ ys (pn j) = sb' (pn j)) → (∀ q, (∀ j, j < i → pn j ≠ q) → yk q = a_keysBelow q ∧ ys q = a_sumBelow q) →
      wX_credit_3 post x1 x2 f_root f_keyCount f_spareLeaves f_spareSmalls f_spareWides f_pathLength (d + 1) (nI i) a_leafKey a_leafValue a_spareLeaf a_depth a_prefix a_childCount yk ys a_smallDigit a_smallChild a_wideChild a_spareSmall a_spareWide a_path := by
  intro d
  induction d with
  | zero =>
    intro i yk ys hi h1 h2
    have ei : i = L := by omega
    subst ei
    refine br_t ?_ (hp yk ys h1 h2)
    rw [hpl]
    exact nI_le (by omega) (by omega)
  | succ d ih =>
    intro i yk ys hi h1 h2
    obtain ⟨p1, p2⟩ := hpa i (by omega)
    obtain ⟨k1, k2, k3⟩ := hin i (by omega)
    obtain ⟨o1, o2⟩ := h2 (pn i) (fun j hj z => by have := hinj j i (by omega) (by omega) z; omega)
    have hv : vp_in (nI (pn i)) 80 := vp_in_nI p1 (by omega)
    refine br_f ?_ (And.intro (vp_in_nI (by omega) (by omega)) (nm_r (e' := nI (pn i)) ?_ (And.intro hv (And.intro hv (nm_r (e' := upd yk (pn i) (nI (kb' (pn i)))) ?_ (And.intro hv (And.intro hv (nm_r (e' := vp_updL ys (pn i) (sb' (pn i))) ?_ (nm_r (nI_1 i) (ih (i + 1) _ _ (by omega) ?_ ?_))))))))))
    · rw [hpl]
      exact nI_ge (by omega) (by omega)
    · rw [ar_cl (by omega), p2, ar_m64]
    · rw [ar_cl (by omega), o1, k1, ar_nb k2]
    · rw [ar_cl (by omega), o2, k3]
    · intro j hj
      by_cases e : pn j = pn i
      · rw [e, pk_us, pk_uLs]
        exact ⟨rfl, rfl⟩
      · rw [pk_un e, pk_uLn e]
        refine h1 j ?_
        by_cases z : j = i
        · exact absurd (by rw [z]) e
        · omega
    · intro q hq
      have e : q ≠ pn i := fun z => hq i (by omega) z.symm
      rw [pk_un e, pk_uLn e]
      exact h2 q (fun j hj => hq j (by omega))
theorem ar_x_credit {post : SX → Prop} {u : SX} (A : ar_A rt L pn N LF va al lv dp pf kb sb ch u) {x1 : Int32} {x2 : Int64} {kb' : Nat → Nat} {sb' : Nat → Int64} (hl : ∀ i, i < L → lv (pn i) = true) (hinj : ∀ i j, i < L → j < L → pn i = pn j → i = j)
    (hin : ∀ i, i < L → nI (kb (pn i)) + x1 = nI (kb' (pn i)) ∧ kb' (pn i) < 128 ∧ sb' (pn i) = sb (pn i) + x2)
    (hout : ∀ q, q < 80 → lv q = true → (∀ i, i < L → pn i ≠ q) → kb' q = kb q ∧ sb' q = sb q)
    (hp : ∀ u', ar_A rt L pn N LF va al lv dp pf kb' sb' ch u' → post u') : wpX_credit post u x1 x2 := by
  obtain ⟨f_root, f_keyCount, f_spareLeaves, f_spareSmalls, f_spareWides, f_pathLength, a_leafKey, a_leafValue, a_spareLeaf, a_depth, a_prefix, a_childCount, a_keysBelow, a_sumBelow, a_smallDigit, a_smallChild, a_wideChild, a_spareSmall, a_spareWide, a_path⟩ := u
  obtain ⟨A1, A2, A3, A4, A5, A6⟩ := A
  obtain ⟨q1, q2, q3⟩ := A6
  refine ⟨L + 1, ar_x_credit_lp q1 q2 q3 hinj (kb' := kb') (sb' := sb') (fun i hi => ?_) (fun yk ys h1 h2 => ?_) L 0 a_keysBelow a_sumBelow (by omega) (fun j hj => by omega) (fun _ _ => ⟨rfl, rfl⟩)⟩
  · obtain ⟨_, ⟨_, _, _, d4, d5⟩, _⟩ := A5 (pn i) (q3 i hi).1 (hl i hi)
    rw [d4, d5]
    exact hin i hi
  · refine hp _ ⟨A1, A2, A3, A4, fun q hq hlq => ?_, q1, q2, q3⟩
    obtain ⟨⟨r1, r2, r3, r4⟩, ⟨d1, d2, d3, d4, d5⟩, T⟩ := A5 q hq hlq
    by_cases e : ∃ i, i < L ∧ pn i = q
    · obtain ⟨i, hi, rfl⟩ := e
      obtain ⟨y1, y2⟩ := h1 i hi
      exact ⟨⟨r1, r2, (hin i hi).2.1, r4⟩, ⟨d1, d2, d3, y1, y2⟩, T⟩
    · have e' : ∀ i, i < L → pn i ≠ q := fun i hi z => e ⟨i, hi, z⟩
      obtain ⟨y1, y2⟩ := h2 q e'
      obtain ⟨z1, z2⟩ := hout q hq hlq e'
      rw [z1, z2]
      exact ⟨⟨r1, r2, r3, r4⟩, ⟨d1, d2, d3, by rw [y1]; exact d4, by rw [y2]; exact d5⟩, T⟩
end
end
section
/-! a node is built anew -/
def ar_rs (c : Nat → Option Nat) (i : Nat) : Nat → Option Nat := fun g => if g < i then c g else none
theorem ar_rs_0 {c : Nat → Option Nat} : ar_rs c 0 = fun _ => none := by
  funext g
  exact if_neg (by omega)
theorem ar_rs_none {c : Nat → Option Nat} {i : Nat} (h : c i = none) : ar_rs c (i + 1) = ar_rs c i := by
  funext g
  show (if g < i + 1 then c g else none) = (if g < i then c g else none)
  by_cases e : g = i
  · rw [e, if_pos (by omega), if_neg (by omega)]
    exact h
  · by_cases z : g < i
    · rw [if_pos (by omega), if_pos z]
    · rw [if_neg (by omega), if_neg z]
theorem ar_rs_some {c : Nat → Option Nat} {i x : Nat} (h : c i = some x) : ar_u (ar_rs c i) i (some x) = ar_rs c (i + 1) := by
  funext g
  by_cases e : g = i
  · rw [e, ar_us]
    show some x = (if i < i + 1 then c i else none)
    rw [if_pos (by omega), h]
  · rw [ar_un e]
    show (if g < i then c g else none) = (if g < i + 1 then c g else none)
    by_cases z : g < i
    · rw [if_pos (by omega), if_pos (by omega)]
    · rw [if_neg (by omega), if_neg (by omega)]
theorem ar_rs_at {c : Nat → Option Nat} {i : Nat} : ar_rs c i i = none := if_neg (by omega)
theorem ar_rs_cnt {c : Nat → Option Nat} {i : Nat} (hi : i < 16) (h : c i ≠ none) : ar_cnt (ar_rs c i) + 1 ≤ ar_cnt c := by
  have h1 : ar_cnt (ar_rs c i) = ar_sN (fun g => ar_c1 (ar_rs c i g)) i := ar_sN_z 16 (by omega) (fun g a _ => by
    show ar_c1 (if g < i then c g else none) = 0
    rw [if_neg (by omega)]
    rfl)
  have h2 : ar_sN (fun g => ar_c1 (ar_rs c i g)) i = ar_sN (fun g => ar_c1 (c g)) i := ar_sN_congr i (fun g a => by
    show ar_c1 (if g < i then c g else none) = ar_c1 (c g)
    rw [if_pos a])
  have h3 := ar_sN_mono (fun g => ar_c1 (c g)) (a := i + 1) 16 hi
  have h4 : ar_c1 (c i) = 1 := ar_c1_ne h
  rw [ar_sN_s] at h3
  show _ ≤ ar_sN _ 16
  omega
theorem ar_kO_u {kb : Nat → Nat} {n' x c : Nat} (h : ∀ m, c = 64 + m → m ≠ n') : ar_kO (ar_u kb n' x) (some c) = ar_kO kb (some c) := by
  by_cases e : c < 64
  · rw [ar_kO_l e, ar_kO_l e]
  · obtain ⟨m, rfl⟩ : ∃ m, c = 64 + m := ⟨c - 64, by omega⟩
    rw [ar_kO_n, ar_kO_n, ar_un (h m rfl)]
theorem ar_sO_u {va : Nat → Int32} {sb : Nat → Int64} {n' c : Nat} {x : Int64} (h : ∀ m, c = 64 + m → m ≠ n') : ar_sO va (ar_u sb n' x) (some c) = ar_sO va sb (some c) := by
  by_cases e : c < 64
  · rw [ar_sO_l e, ar_sO_l e]
  · obtain ⟨m, rfl⟩ : ∃ m, c = 64 + m := ⟨c - 64, by omega⟩
    rw [ar_sO_n, ar_sO_n, ar_un (h m rfl)]
def ar_w42 (post : Int32 → SX → Prop) (x1 x3 : Int32) (f : Nat) (x4 : Int32) (u : SX) : Prop := match u with
  | (f_root, f_keyCount, f_spareLeaves, f_spareSmalls, f_spareWides, f_pathLength, a_leafKey, a_leafValue, a_spareLeaf, a_depth, a_prefix, a_childCount, a_keysBelow, a_sumBelow, a_smallDigit, a_smallChild, a_wideChild, a_spareSmall, a_spareWide, a_path) => wX_rebuilt_42 post x1 x3 f x4 f_root f_keyCount f_spareLeaves f_spareSmalls f_spareWides f_pathLength a_leafKey a_leafValue a_spareLeaf a_depth a_prefix a_childCount a_keysBelow a_sumBelow a_smallDigit a_smallChild a_wideChild a_spareSmall a_spareWide a_path
def ar_w15 (post : Int32 → SX → Prop) (x1 z0 : Int32) (u : SX) : Prop := match u with
  | (f_root, f_keyCount, f_spareLeaves, f_spareSmalls, f_spareWides, f_pathLength, a_leafKey, a_leafValue, a_spareLeaf, a_depth, a_prefix, a_childCount, a_keysBelow, a_sumBelow, a_smallDigit, a_smallChild, a_wideChild, a_spareSmall, a_spareWide, a_path) => wX_rebuilt_15 post x1 z0 f_root f_keyCount f_spareLeaves f_spareSmalls f_spareWides f_pathLength a_leafKey a_leafValue a_spareLeaf a_depth a_prefix a_childCount a_keysBelow a_sumBelow a_smallDigit a_smallChild a_wideChild a_spareSmall a_spareWide a_path
section
variable {rt : Option Nat} {L : Nat} {pn : Nat → Nat} {N : Nat} {LF : Nat → Option Nat} {va : Nat → Int32} {al lv : Nat → Bool} {dp pf kb : Nat → Nat} {sb : Nat → Int64} {ch : Nat → Nat → Option Nat}
theorem ar_x_reb42 {post : Int32 → SX → Prop} {n n' : Nat} (hn : n < 80) (hn' : n' < 80) (hne : n ≠ n') (hl : lv n = true) (hl' : lv n' = true)
    (hc : ∀ g c, g < 16 → ch n g = some c → c < 64 ∨ ∃ m, c = 64 + m ∧ m < 80 ∧ lv m = true ∧ m ≠ n') (h4 : n' < 64 → ar_cnt (ch n) ≤ 4)
    (hk : ar_sN (fun g => ar_kO kb (ch n g)) 16 < 128) (ha : al n = true)
    (hp : ∀ u', ar_A rt L pn N LF va (ar_u al n false) lv dp pf (ar_u kb n' (ar_sN (fun g => ar_kO kb (ch n g)) 16)) (ar_u sb n' (ar_sL (fun g => ar_sO va sb (ch n g)) 16)) (ar_u ch n' (ch n)) u' → post (nI (64 + n')) u') :
    ∀ (d i : Nat) (u : SX), i + d = 16 → ar_A rt L pn N LF va al lv dp pf (ar_u kb n' (ar_sN (fun g => ar_kO kb (ch n g)) i)) (ar_u sb n' (ar_sL (fun g => ar_sO va sb (ch n g)) i)) (ar_u ch n' (ar_rs (ch n) i)) u →
    ar_w42 post (nI (64 + n)) (nI (64 + n')) (d + 1) (nI i) u := by
  intro d
  induction d with
  | zero =>
    intro i u hi A
    have ei : i = 16 := by omega
    subst ei
    have A2 := ar_A_ch A (ch' := ar_u ch n' (ch n)) (fun q g _ _ hg => by
      by_cases e : q = n'
      · rw [e, ar_us, ar_us]
        exact (if_pos hg).symm
      · rw [ar_un e, ar_un e])
    obtain ⟨f_root, f_keyCount, f_spareLeaves, f_spareSmalls, f_spareWides, f_pathLength, a_leafKey, a_leafValue, a_spareLeaf, a_depth, a_prefix, a_childCount, a_keysBelow, a_sumBelow, a_smallDigit, a_smallChild, a_wideChild, a_spareSmall, a_spareWide, a_path⟩ := u
    refine br_t (nI_le (a := 16) (by omega) (by omega)) (ar_x_release A2 hn ha (fun u' A' => ?_))
    obtain ⟨f_root, f_keyCount, f_spareLeaves, f_spareSmalls, f_spareWides, f_pathLength, a_leafKey, a_leafValue, a_spareLeaf, a_depth, a_prefix, a_childCount, a_keysBelow, a_sumBelow, a_smallDigit, a_smallChild, a_wideChild, a_spareSmall, a_spareWide, a_path⟩ := u'
    exact hp _ A'
  | succ d ih =>
    intro i u hi A
    obtain ⟨f_root, f_keyCount, f_spareLeaves, f_spareSmalls, f_spareWides, f_pathLength, a_leafKey, a_leafValue, a_spareLeaf, a_depth, a_prefix, a_childCount, a_keysBelow, a_sumBelow, a_smallDigit, a_smallChild, a_wideChild, a_spareSmall, a_spareWide, a_path⟩ := u
    refine br_f (nI_ge (b := 16) (by omega) (by decide)) (ar_x_childOf A hn hl (by omega) ?_)
    rw [ar_un hne]
    cases e : ch n i with
    | none =>
      have e1 : ar_sN (fun g => ar_kO kb (ch n g)) (i + 1) = ar_sN (fun g => ar_kO kb (ch n g)) i := by
        rw [ar_sN_s, e]
        rfl
      have e2 : ar_sL (fun g => ar_sO va sb (ch n g)) (i + 1) = ar_sL (fun g => ar_sO va sb (ch n g)) i := by
        rw [ar_sL_s, e]
        exact Int64.add_zero _
      have h := ih (i + 1) (f_root, f_keyCount, f_spareLeaves, f_spareSmalls, f_spareWides, f_pathLength, a_leafKey, a_leafValue, a_spareLeaf, a_depth, a_prefix, a_childCount, a_keysBelow, a_sumBelow, a_smallDigit, a_smallChild, a_wideChild, a_spareSmall, a_spareWide, a_path) (by omega) (by rw [e1, e2, ar_rs_none e]; exact A)
      exact br_t (by decide) (nm_r (nI_1 i) h)
    | some c =>
      have hcc := hc i c (by omega) e
      have hc2 : c < 64 ∨ ∃ m, c = 64 + m ∧ m < 80 ∧ lv m = true := by
        rcases hcc with h | ⟨m, h1, h2, h3, _⟩
        · exact Or.inl h
        · exact Or.inr ⟨m, h1, h2, h3⟩
      have hcm : ∀ m, c = 64 + m → m ≠ n' := by
        intro m em
        rcases hcc with h | ⟨m', h1, _, _, h4⟩
        · omega
        · have : m = m' := by omega
          rw [this]
          exact h4
      have hc144 : c < 144 := by
        rcases hcc with h | ⟨m, h1, h2, _⟩ <;> omega
      have e1 : ar_sN (fun g => ar_kO kb (ch n g)) (i + 1) = ar_sN (fun g => ar_kO kb (ch n g)) i + ar_kO kb (some c) := by rw [ar_sN_s, e]
      have e2 : ar_sL (fun g => ar_sO va sb (ch n g)) (i + 1) = ar_sL (fun g => ar_sO va sb (ch n g)) i + ar_sO va sb (some c) := by rw [ar_sL_s, e]
      have hm := ar_sN_mono (fun g => ar_kO kb (ch n g)) (a := i + 1) 16 (by omega)
      refine br_f (nI_pos (by omega)) (ar_x_addChild A hn' hl' (by omega) hc2 (by rw [ar_us]; exact ar_rs_at) (fun z => ?_) ?_ (fun u' A' => ?_))
      · rw [ar_us]
        have := ar_rs_cnt (c := ch n) (i := i) (by omega) (by rw [e]; simp)
        have := h4 z
        omega
      · rw [ar_us, ar_kO_u hcm, ← e1]
        omega
      · rw [ar_us, ar_us, ar_us, ar_uu, ar_uu, ar_uu, ar_kO_u hcm, ar_sO_u hcm, ← e1, ← e2, ar_rs_some e] at A'
        obtain ⟨f_root, f_keyCount, f_spareLeaves, f_spareSmalls, f_spareWides, f_pathLength, a_leafKey, a_leafValue, a_spareLeaf, a_depth, a_prefix, a_childCount, a_keysBelow, a_sumBelow, a_smallDigit, a_smallChild, a_wideChild, a_spareSmall, a_spareWide, a_path⟩ := u'
        exact nm_r (nI_1 i) (ih (i + 1) _ (by omega) A')
theorem ar_x_reb15 {post : Int32 → SX → Prop} {u : SX} (A : ar_A rt L pn N LF va al lv dp pf kb sb ch u) {n n' : Nat} (hn : n < 80) (hn' : n' < 80) (hl : lv n = true) (hl' : lv n' = false) (hw : 64 ≤ n' → ar_W0 u n')
    (hc : ∀ g c, g < 16 → ch n g = some c → c < 64 ∨ ∃ m, c = 64 + m ∧ m < 80 ∧ lv m = true) (h4 : n' < 64 → ar_cnt (ch n) ≤ 4)
    (hk : ar_sN (fun g => ar_kO kb (ch n g)) 16 < 128) (ha : al n = true)
    (hp : ∀ u', ar_A rt L pn N LF va (ar_u al n false) (ar_u (ar_u lv n' true) n false) (ar_u dp n' (dp n)) (ar_u pf n' (pf n)) (ar_u kb n' (ar_sN (fun g => ar_kO kb (ch n g)) 16)) (ar_u sb n' (ar_sL (fun g => ar_sO va sb (ch n g)) 16)) (ar_u ch n' (ch n)) u' → post (nI (64 + n')) u') :
    ar_w15 post (nI (64 + n)) (nI (64 + n')) u := by
  have hne : n ≠ n' := fun z => by rw [z, hl'] at hl; exact absurd hl (by simp)
  have B := A
  obtain ⟨f_root, f_keyCount, f_spareLeaves, f_spareSmalls, f_spareWides, f_pathLength, a_leafKey, a_leafValue, a_spareLeaf, a_depth, a_prefix, a_childCount, a_keysBelow, a_sumBelow, a_smallDigit, a_smallChild, a_wideChild, a_spareSmall, a_spareWide, a_path⟩ := u
  obtain ⟨A1, A2, A3, A4, A5, A6⟩ := A
  obtain ⟨⟨r1, r2, r3, r4⟩, ⟨d1, d2, d3, d4, d5⟩, T⟩ := A5 n hn hl
  have hv : vp_in (nI (64 + n) - 64) 80 := by rw [ar_m64]; exact vp_in_nI hn (by omega)
  refine And.intro hv (And.intro hv ?_)
  rw [ar_m64, ar_cl (by omega), d1, d2]
  refine ar_x_header B hn' hl' r1 r2 hw (fun u' A' => ?_)
  have hR := ar_x_reb42 (post := post) (al := al) (lv := ar_u lv n' true) (dp := ar_u dp n' (dp n)) (pf := ar_u pf n' (pf n)) (kb := kb) (sb := sb) (ch := ch) (rt := rt) (L := L) (pn := pn) (N := N) (LF := LF) (va := va)
    hn hn' hne (by rw [ar_un hne]; exact hl) ar_us (fun g c hg e => by
      rcases hc g c hg e with h | ⟨m, h1, h2, h3⟩
      · exact Or.inl h
      · have nm : m ≠ n' := fun z => by rw [z, hl'] at h3; exact absurd h3 (by simp)
        exact Or.inr ⟨m, h1, h2, by rw [ar_un nm]; exact h3, nm⟩) h4 hk ha (fun u2 A2 => hp u2 (ar_A_lv A2 (fun q hq hlq => by
          by_cases e : q = n
          · rw [e, ar_un hne]; exact hl
          · rw [ar_un e] at hlq
            exact hlq))) 16 0 u' (by omega) (by rw [ar_rs_0]; exact A')
  obtain ⟨f_root, f_keyCount, f_spareLeaves, f_spareSmalls, f_spareWides, f_pathLength, a_leafKey, a_leafValue, a_spareLeaf, a_depth, a_prefix, a_childCount, a_keysBelow, a_sumBelow, a_smallDigit, a_smallChild, a_wideChild, a_spareSmall, a_spareWide, a_path⟩ := u'
  exact ⟨17, hR⟩
theorem ar_x_rebS {post : Int32 → SX → Prop} {u : SX} (A : ar_A rt L pn N LF va al lv dp pf kb sb ch u) {n : Nat} (hn : n < 80) (hl : lv n = true) (hal : ∀ q, q < 80 → lv q = true → al q = true) (hr : ar_sN (fun i => ar_b (al (0 + i))) 64 ≤ 63)
    (hc : ∀ g c, g < 16 → ch n g = some c → c < 64 ∨ ∃ m, c = 64 + m ∧ m < 80 ∧ lv m = true) (h4 : ar_cnt (ch n) ≤ 4) (hk : ar_sN (fun g => ar_kO kb (ch n g)) 16 < 128)
    (hp : ∀ n' u', n' < 64 → al n' = false → lv n' = false → ar_A rt L pn N LF va (ar_u (ar_u al n' true) n false) (ar_u (ar_u lv n' true) n false) (ar_u dp n' (dp n)) (ar_u pf n' (pf n)) (ar_u kb n' (ar_sN (fun g => ar_kO kb (ch n g)) 16)) (ar_u sb n' (ar_sL (fun g => ar_sO va sb (ch n g)) 16)) (ar_u ch n' (ch n)) u' → post (nI (64 + n')) u') :
    wpX_rebuilt post u (nI (64 + n)) 0 := by
  obtain ⟨f_root, f_keyCount, f_spareLeaves, f_spareSmalls, f_spareWides, f_pathLength, a_leafKey, a_leafValue, a_spareLeaf, a_depth, a_prefix, a_childCount, a_keysBelow, a_sumBelow, a_smallDigit, a_smallChild, a_wideChild, a_spareSmall, a_spareWide, a_path⟩ := u
  refine br_t rfl (ar_x_newSmall A hr (fun m u' hm ham A' => ?_))
  have hlm : lv m = false := by
    cases e : lv m with
    | false => rfl
    | true =>
      rw [hal m (by omega) e] at ham
      exact absurd ham (by simp)
  have hnm : n ≠ m := fun z => by rw [z, hlm] at hl; exact absurd hl (by simp)
  have h := ar_x_reb15 (post := post) A' hn (by omega) hl hlm (fun z => by omega) hc (fun _ => h4) hk (by rw [ar_un hnm]; exact hal n hn hl) (fun u2 A2 => hp m u2 hm ham hlm A2)
  obtain ⟨f_root, f_keyCount, f_spareLeaves, f_spareSmalls, f_spareWides, f_pathLength, a_leafKey, a_leafValue, a_spareLeaf, a_depth, a_prefix, a_childCount, a_keysBelow, a_sumBelow, a_smallDigit, a_smallChild, a_wideChild, a_spareSmall, a_spareWide, a_path⟩ := u'
  exact h
theorem ar_x_rebW {post : Int32 → SX → Prop} {u : SX} (A : ar_A rt L pn N LF va al lv dp pf kb sb ch u) {n : Nat} (hn : n < 80) (hl : lv n = true) (hal : ∀ q, q < 80 → lv q = true → al q = true) (hr : ar_sN (fun i => ar_b (al (64 + i))) 16 ≤ 15)
    (hc : ∀ g c, g < 16 → ch n g = some c → c < 64 ∨ ∃ m, c = 64 + m ∧ m < 80 ∧ lv m = true) (hk : ar_sN (fun g => ar_kO kb (ch n g)) 16 < 128)
    (hp : ∀ n' u', 64 ≤ n' → n' < 80 → al n' = false → lv n' = false → ar_A rt L pn N LF va (ar_u (ar_u al n' true) n false) (ar_u (ar_u lv n' true) n false) (ar_u dp n' (dp n)) (ar_u pf n' (pf n)) (ar_u kb n' (ar_sN (fun g => ar_kO kb (ch n g)) 16)) (ar_u sb n' (ar_sL (fun g => ar_sO va sb (ch n g)) 16)) (ar_u ch n' (ch n)) u' → post (nI (64 + n')) u') :
    wpX_rebuilt post u (nI (64 + n)) 1 := by
  obtain ⟨f_root, f_keyCount, f_spareLeaves, f_spareSmalls, f_spareWides, f_pathLength, a_leafKey, a_leafValue, a_spareLeaf, a_depth, a_prefix, a_childCount, a_keysBelow, a_sumBelow, a_smallDigit, a_smallChild, a_wideChild, a_spareSmall, a_spareWide, a_path⟩ := u
  refine br_f (by decide) (ar_x_newWide A hr hal (fun m u' hm64 hm ham hw A' => ?_))
  have hlm : lv m = false := by
    cases e : lv m with
    | false => rfl
    | true =>
      rw [hal m (by omega) e] at ham
      exact absurd ham (by simp)
  have hnm : n ≠ m := fun z => by rw [z, hlm] at hl; exact absurd hl (by simp)
  have h := ar_x_reb15 (post := post) A' hn (by omega) hl hlm (fun _ => hw) hc (fun z => by omega) hk (by rw [ar_un hnm]; exact hal n hn hl) (fun u2 A2 => hp m u2 hm64 hm ham hlm A2)
  obtain ⟨f_root, f_keyCount, f_spareLeaves, f_spareSmalls, f_spareWides, f_pathLength, a_leafKey, a_leafValue, a_spareLeaf, a_depth, a_prefix, a_childCount, a_keysBelow, a_sumBelow, a_smallDigit, a_smallChild, a_wideChild, a_spareSmall, a_spareWide, a_path⟩ := u'
  exact h
end
end
section
/-! the whole invariant; the search -/
def ar_I (rt : Option Nat) (N : Nat) (LF : Nat → Option Nat) (va : Nat → Int32) (lv : Nat → Bool) (dp pf kb : Nat → Nat) (sb : Nat → Int64) (ch : Nat → Nat → Option Nat) : Prop :=
  ar_G LF lv dp pf (ar_SL lv dp pf ch rt) ∧ (∀ n, n < 80 → lv n = true → ar_K LF (ar_M LF va) dp pf kb sb n) ∧
  (∀ n, n < 80 → lv n = true → (n < 64 → ar_cnt (ch n) ≤ 4) ∧ (64 ≤ n → 5 ≤ ar_cnt (ch n))) ∧ ar_sN (ar_pot lv ch) 80 = N - 1 ∧ N = ar_C LF 65536
def ar_RX (M : Nat → Option Int32) (u : SX) : Prop := ∃ rt L pn N LF va lv dp pf kb sb ch, ar_A rt L pn N LF va lv lv dp pf kb sb ch u ∧ ar_I rt N LF va lv dp pf kb sb ch ∧ M = ar_M LF va
def ar_wf (post : Int32 → SX → Prop) (x1 : Int32) (f : Nat) (x2 x3 : Int32) (u : SX) : Prop := match u with
  | (f_root, f_keyCount, f_spareLeaves, f_spareSmalls, f_spareWides, f_pathLength, a_leafKey, a_leafValue, a_spareLeaf, a_depth, a_prefix, a_childCount, a_keysBelow, a_sumBelow, a_smallDigit, a_smallChild, a_wideChild, a_spareSmall, a_spareWide, a_path) => wX_find_12 post x1 f_root f_keyCount f_spareLeaves f_spareSmalls f_spareWides f x2 x3 f_pathLength a_leafKey a_leafValue a_spareLeaf a_depth a_prefix a_childCount a_keysBelow a_sumBelow a_smallDigit a_smallChild a_wideChild a_spareSmall a_spareWide a_path
section
variable {rt : Option Nat} {L : Nat} {pn : Nat → Nat} {N : Nat} {LF : Nat → Option Nat} {va : Nat → Int32} {al lv : Nat → Bool} {dp pf kb : Nat → Nat} {sb : Nat → Int64} {ch : Nat → Nat → Option Nat}
theorem ar_A_LF {u : SX} (A : ar_A rt L pn N LF va al lv dp pf kb sb ch u) : ∀ k l, LF k = some l → k < 65536 ∧ l < 64 := by
  obtain ⟨f_root, f_keyCount, f_spareLeaves, f_spareSmalls, f_spareWides, f_pathLength, a_leafKey, a_leafValue, a_spareLeaf, a_depth, a_prefix, a_childCount, a_keysBelow, a_sumBelow, a_smallDigit, a_smallChild, a_wideChild, a_spareSmall, a_spareWide, a_path⟩ := u
  obtain ⟨_, ⟨_, _, _, _, h, _⟩, _⟩ := A
  exact fun k l e => ⟨(h k l e).1, (h k l e).2.1⟩
theorem ar_A_lt {u : SX} (A : ar_A rt L pn N LF va al lv dp pf kb sb ch u) : ∀ k, LF k ≠ none → k < 65536 := by
  intro k hk
  cases h : LF k with
  | none => exact absurd h hk
  | some l => exact (ar_A_LF A k l h).1
theorem ar_x_find_lp {post : Int32 → SX → Prop} (G : ar_G LF lv dp pf (ar_SL lv dp pf ch rt)) {k : Nat} (hk : k < 65536)
    (hp : ∀ L pn o r u', ar_A rt L pn N LF va al lv dp pf kb sb ch u' → ar_PF lv dp pf (ar_SL lv dp pf ch rt) k L pn o → ((LF k = none ∧ r = -1) ∨ (∃ l, l < 64 ∧ LF k = some l ∧ o = some l ∧ r = nI l)) → post r u') :
    ∀ (d L : Nat) (pn : Nat → Nat) (o : Option Nat) (u : SX), L + d = 5 → ar_A rt L pn N LF va al lv dp pf kb sb ch u → ar_PT lv dp pf (ar_SL lv dp pf ch rt) k L pn o → ar_wf post (nI k) (d + 1) (ar_L o) (nI L) u := by
  intro d
  induction d with
  | zero =>
    intro L pn o u hd A P
    have := ar_PT_len G P
    omega
  | succ d ih =>
    intro L pn o u hd A P
    have hlen := ar_PT_len G P
    have hLk := G.1 _ _ _ P.2.1
    have B := A
    obtain ⟨f_root, f_keyCount, f_spareLeaves, f_spareSmalls, f_spareWides, f_pathLength, a_leafKey, a_leafValue, a_spareLeaf, a_depth, a_prefix, a_childCount, a_keysBelow, a_sumBelow, a_smallDigit, a_smallChild, a_wideChild, a_spareSmall, a_spareWide, a_path⟩ := u
    obtain ⟨A1, A2, A3, A4, A5, A6⟩ := A
    have h5 : ¬ (5 : Int32) ≤ nI L := nI_ge (b := 5) (by omega) (by decide)
    rcases hLk with ⟨e, hz⟩ | ⟨l, x, e, h1, h2, h3, h4⟩ | ⟨m, e, h1, h2, h3, h4, h6⟩
    · subst e
      refine br_f h5 (br_t (by decide) (br_f (by decide) (hp L pn none _ _ B (ar_PT_end G P (fun m e => absurd e (by simp))) (Or.inl ⟨hz k rfl, rfl⟩))))
    · subst e
      have PF := ar_PT_end G P (fun m e => by have := Option.some.inj e; omega)
      have hlk := (A2.2.2.2.2.1 x l h2).2.2
      have hx := (A2.2.2.2.2.1 x l h2).1
      refine br_f h5 (br_t (nI_lt (b := 64) h1 (by decide)) (br_t (nI_pos' (by omega)) (And.intro (vp_in_nI h1 (by omega)) ?_)))
      rw [ar_L_some, ar_cl (by omega), hlk]
      refine pk_eq x k (fun e => ?_) (fun e => ?_)
      · subst e
        exact hp L pn (some l) _ _ B PF (Or.inr ⟨l, h1, h2, rfl, rfl⟩)
      · refine hp L pn (some l) _ _ B PF (Or.inl ⟨?_, rfl⟩)
        by_cases c : LF k = none
        · exact c
        · exact absurd (h4 k rfl c).symm e
    · subst e
      obtain ⟨⟨r1, r2, r3, r4⟩, ⟨d1, d2, d3, d4, d5⟩, T⟩ := A5 m h1 h2
      obtain ⟨q1, q2, q3⟩ := A6
      have hv : vp_in (nI m) 80 := vp_in_nI h1 (by omega)
      refine br_f h5 (br_f (nI_nlt (b := 64) (by omega) (by omega)) (nm_r (ar_m64 m) (And.intro hv (And.intro hv ?_))))
      rw [ar_cl (by omega), d1, d2]
      refine ar_x_top hk (by omega) ?_
      have ht := ar_t_lt hk (dp m)
      refine pk_eq (pf m) (ar_t k (dp m)) (fun e => ?_) (fun e => ?_)
      · have hs : ar_SL lv dp pf ch rt (dp m + 1) (ar_t k (dp m + 1)) (ch m (ar_g k (dp m))) :=
          Or.inr ⟨m, ar_g k (dp m), h1, h2, ar_g_lt _ _, rfl, by rw [ar_t_g (by omega), ← e], rfl⟩
        have P' := ar_PT_step G P e.symm hs
        have hlen' := ar_PT_len G P'
        have A' : ar_A rt (L + 1) (ar_u pn L m) N LF va al lv dp pf kb sb ch (f_root, f_keyCount, f_spareLeaves, f_spareSmalls, f_spareWides, nI (L + 1), a_leafKey, a_leafValue, a_spareLeaf, a_depth, a_prefix, a_childCount, a_keysBelow, a_sumBelow, a_smallDigit, a_smallChild, a_wideChild, a_spareSmall, a_spareWide, upd a_path L (nI (64 + m))) := by
          refine ⟨A1, A2, A3, A4, A5, by omega, rfl, fun i hi => ?_⟩
          by_cases z : i = L
          · rw [z, ar_us, pk_us]
            exact ⟨h1, rfl⟩
          · rw [ar_un z, pk_un z]
            exact q3 i (by omega)
        refine And.intro (by rw [q2]; exact vp_in_nI (by omega) (by omega)) (nm_r (e' := upd a_path L (nI (64 + m))) ?_ (nm_r (e' := nI (L + 1)) ?_ (And.intro hv (ar_x_dig hk r1 ?_))))
        · rw [q2, ar_cl (by omega), ar_L_some, ar_ns (by omega)]
        · rw [q2]; exact nI_1 L
        · refine ar_x_childOf A' h1 h2 (ar_g_lt _ _) (nm_r (nI_1 L) ?_)
          exact ih (L + 1) (ar_u pn L m) _ _ (by omega) A' P'
      · refine hp L pn (some (64 + m)) _ _ B (ar_PT_end G P (fun m' e' => ?_)) (Or.inl ⟨?_, rfl⟩)
        · have : m = m' := by have := Option.some.inj e'; omega
          rw [← this]
          exact fun z => e z.symm
        · by_cases c : LF k = none
          · exact c
          · exact absurd (h6 k c rfl).symm e
theorem ar_x_find {post : Int32 → SX → Prop} {u : SX} (A : ar_A rt L pn N LF va al lv dp pf kb sb ch u) (G : ar_G LF lv dp pf (ar_SL lv dp pf ch rt)) {k : Nat} (hk : k < 65536)
    (hp : ∀ L pn o r u', ar_A rt L pn N LF va al lv dp pf kb sb ch u' → ar_PF lv dp pf (ar_SL lv dp pf ch rt) k L pn o → ((LF k = none ∧ r = -1) ∨ (∃ l, l < 64 ∧ LF k = some l ∧ o = some l ∧ r = nI l)) → post r u') : wpX_find post u (nI k) := by
  obtain ⟨f_root, f_keyCount, f_spareLeaves, f_spareSmalls, f_spareWides, f_pathLength, a_leafKey, a_leafValue, a_spareLeaf, a_depth, a_prefix, a_childCount, a_keysBelow, a_sumBelow, a_smallDigit, a_smallChild, a_wideChild, a_spareSmall, a_spareWide, a_path⟩ := u
  obtain ⟨A1, A2, A3, A4, A5, A6⟩ := A
  subst A1
  have A0 : ar_A rt 0 (fun _ => 0) N LF va al lv dp pf kb sb ch (ar_L rt, f_keyCount, f_spareLeaves, f_spareSmalls, f_spareWides, 0, a_leafKey, a_leafValue, a_spareLeaf, a_depth, a_prefix, a_childCount, a_keysBelow, a_sumBelow, a_smallDigit, a_smallChild, a_wideChild, a_spareSmall, a_spareWide, a_path) := ⟨rfl, A2, A3, A4, A5, by omega, rfl, fun i hi => by omega⟩
  exact ⟨6, ar_x_find_lp G hk hp 5 0 (fun _ => 0) rt _ (by omega) A0 (ar_PT_0 hk (Or.inl ⟨rfl, rfl, rfl⟩))⟩
end
end
section
/-! counting below a bound -/
section
variable {LF : Nat → Option Nat} {lv : Nat → Bool} {dp pf : Nat → Nat}
theorem ar_no {P : Nat → Prop} {F : Nat → Option Nat} {a b : Nat} (h : ∀ i, a ≤ i → i < b → F i ≠ none → False) : ∀ i, a ≤ i → i < b → F i = none := fun i x y => by
  by_cases c : F i = none
  · exact c
  · exact absurd c (fun z => h i x y z)
theorem ar_Lk_lo {d p m : Nat} (h : ar_Lk LF lv dp pf d p (some (64 + m))) : ar_C LF (p * ar_B d) = ar_C LF (pf m * ar_B (dp m)) ∧ ar_C LF ((p + 1) * ar_B d) = ar_C LF ((pf m + 1) * ar_B (dp m)) := by
  obtain ⟨h1, h2, h3, h4, h5⟩ := ar_Lk_node h
  have b1 := ar_t_iff.mp (h4 _ (ar_t_lo (pf m) (dp m)))
  have b2 := ar_t_iff.mp (h4 _ (ar_t_hi (pf m) (dp m)))
  have b3 := ar_B_pos (dp m)
  have b4 : pf m * ar_B (dp m) + ar_B (dp m) = (pf m + 1) * ar_B (dp m) := by rw [Nat.add_mul, Nat.one_mul]
  have key : ∀ i, p * ar_B d ≤ i → i < (p + 1) * ar_B d → LF i ≠ none → pf m * ar_B (dp m) ≤ i ∧ i < (pf m + 1) * ar_B (dp m) :=
    fun i x y z => ar_t_iff.mp (h5 i z (ar_t_iff.mpr ⟨x, y⟩))
  generalize pf m * ar_B (dp m) = lo at *
  generalize (pf m + 1) * ar_B (dp m) = hi at *
  generalize p * ar_B d = a at *
  generalize (p + 1) * ar_B d = b at *
  have z1 : ∀ i, a ≤ i → i < lo → LF i = none := by
    intro i x y
    by_cases c : LF i = none
    · exact c
    · have := key i x (by omega) c
      omega
  have z2 : ∀ i, hi ≤ i → i < b → LF i = none := by
    intro i x y
    by_cases c : LF i = none
    · exact c
    · have := key i (by omega) y c
      omega
  exact ⟨(ar_C_z b1.1 z1).symm, ar_C_z (by omega) z2⟩
theorem ar_cb_none {b d : Nat} (h : ∀ k, ar_t k d = ar_t b d → LF k = none) : ar_C LF b = ar_C LF (ar_t b d * ar_B d) := by
  obtain ⟨x, y⟩ := ar_t_iff.mp (rfl : ar_t b d = ar_t b d)
  exact ar_C_z x (fun i h1 h2 => h i (ar_t_iff.mpr ⟨h1, by omega⟩))
theorem ar_cb_leaf {b d k : Nat} (hk : LF k ≠ none) (hs : ar_t k d = ar_t b d) (h : ∀ j, ar_t j d = ar_t b d → LF j ≠ none → j = k) :
    (b ≤ k → ar_C LF b = ar_C LF (ar_t b d * ar_B d)) ∧ (k < b → ar_C LF b = ar_C LF (ar_t b d * ar_B d) + 1) := by
  obtain ⟨x, y⟩ := ar_t_iff.mp (rfl : ar_t b d = ar_t b d)
  obtain ⟨x', y'⟩ := ar_t_iff.mp hs
  have key : ∀ i, ar_t b d * ar_B d ≤ i → i < (ar_t b d + 1) * ar_B d → i ≠ k → LF i = none := by
    intro i h1 h2 h3
    by_cases c : LF i = none
    · exact c
    · exact absurd (h i (ar_t_iff.mpr ⟨h1, h2⟩) c) h3
  constructor
  · intro c
    exact ar_C_z x (fun i h1 h2 => key i h1 (by omega) (by omega))
  · intro c
    rw [ar_C_z (a := k + 1) (b := b) c (fun i h1 h2 => key i (by omega) (by omega) (by omega)), ar_C_s, ar_c1_ne hk, ar_C_z (a := ar_t b d * ar_B d) (b := k) x' (fun i h1 h2 => key i h1 (by omega) (by omega))]
theorem ar_cb_node {b d m : Nat} (h : ar_Lk LF lv dp pf d (ar_t b d) (some (64 + m))) :
    (ar_t b (dp m) < pf m → ar_C LF b = ar_C LF (ar_t b d * ar_B d)) ∧ (pf m < ar_t b (dp m) → ar_C LF b = ar_C LF ((ar_t b d + 1) * ar_B d)) := by
  obtain ⟨h1, h2, h3, h4, h5⟩ := ar_Lk_node h
  obtain ⟨x, y⟩ := ar_t_iff.mp (rfl : ar_t b d = ar_t b d)
  have key : ∀ i, ar_t b d * ar_B d ≤ i → i < (ar_t b d + 1) * ar_B d → LF i ≠ none → ar_t i (dp m) = pf m := fun i x y z => h5 i z (ar_t_iff.mpr ⟨x, y⟩)
  constructor
  · intro c
    refine ar_C_z x (fun i a1 a2 => ?_)
    by_cases z : LF i = none
    · exact z
    · have e := key i a1 (by omega) z
      have := ar_t_le (j := i) (k := b) (by omega) (dp m)
      omega
  · intro c
    refine (ar_C_z (Nat.le_of_lt y) (fun i a1 a2 => ?_)).symm
    by_cases z : LF i = none
    · exact z
    · have e := key i (by omega) a2 z
      have := ar_t_le (j := b) (k := i) (by omega) (dp m)
      omega
end
section
variable {rt : Option Nat} {L : Nat} {pn : Nat → Nat} {N : Nat} {LF : Nat → Option Nat} {va : Nat → Int32} {al lv : Nat → Bool} {dp pf kb : Nat → Nat} {sb : Nat → Int64} {ch : Nat → Nat → Option Nat}
theorem ar_I_hc {u : SX} (A : ar_A rt L pn N LF va al lv dp pf kb sb ch u) (I : ar_I rt N LF va lv dp pf kb sb ch) {n g c : Nat} (hn : n < 80) (hl : lv n = true) (hg : g < 16) (e : ch n g = some c) : c < 64 ∨ ∃ m, c = 64 + m ∧ m < 80 ∧ lv m = true := by
  have h := I.1.1 (dp n + 1) (16 * pf n + g) (ch n g) (Or.inr ⟨n, g, hn, hl, hg, rfl, rfl, rfl⟩)
  rw [e] at h
  rcases h with ⟨z, _⟩ | ⟨l, k, z, h1, _⟩ | ⟨m, z, h1, h2, _⟩
  · exact absurd z (by simp)
  · have := Option.some.inj z
    exact Or.inl (by omega)
  · exact Or.inr ⟨m, Option.some.inj z, h1, h2⟩
theorem ar_I_slot (I : ar_I rt N LF va lv dp pf kb sb ch) {n g : Nat} (hn : n < 80) (hl : lv n = true) (hg : g < 16) : ar_Lk LF lv dp pf (dp n + 1) (16 * pf n + g) (ch n g) :=
  I.1.1 (dp n + 1) (16 * pf n + g) (ch n g) (Or.inr ⟨n, g, hn, hl, hg, rfl, rfl, rfl⟩)
theorem ar_I_sum (I : ar_I rt N LF va lv dp pf kb sb ch) {n j : Nat} (hn : n < 80) (hl : lv n = true) (hj : j ≤ 16) :
    ar_C LF (pf n * ar_B (dp n)) + ar_sN (fun g => ar_kO kb (ch n g)) j = ar_C LF ((16 * pf n + j) * ar_B (dp n + 1)) :=
  (ar_kT (va := va) (sb := sb) (by have := (I.1.2.1 n hn hl).1; omega) (fun g hg => ar_I_slot I hn hl hg) (fun g m hg hm e => by
    have h := ar_I_slot I hn hl hg
    rw [e] at h
    exact I.2.1 m hm (ar_Lk_node h).2.1) j hj).1
theorem ar_x_cb119 {f_root f_keyCount f_spareLeaves f_spareSmalls f_spareWides f_pathLength : Int32} {a_leafKey a_leafValue a_spareLeaf a_depth a_prefix a_childCount a_keysBelow : Nat → Int32} {a_sumBelow : Nat → Int64} {a_smallDigit a_smallChild a_wideChild a_spareSmall a_spareWide a_path : Nat → Int32} {post : Int32 → Prop} {J : Int32 → Int32 → Int32 → Prop} {b m T s g : Nat} (A : ar_A rt L pn N LF va al lv dp pf kb sb ch (f_root, f_keyCount, f_spareLeaves, f_spareSmalls, f_spareWides, f_pathLength, a_leafKey, a_leafValue, a_spareLeaf, a_depth, a_prefix, a_childCount, a_keysBelow, a_sumBelow, a_smallDigit, a_smallChild, a_wideChild, a_spareSmall, a_spareWide, a_path)) (I : ar_I rt N LF va lv dp pf kb sb ch) (hm : m < 80) (hl : lv m = true) (hg : g < 16)
    (hJ : J (nI (T + ar_sN (fun i => ar_kO kb (ch m i)) g)) (ar_L (ch m g)) (nI (s + 1))) :
    ∀ d j, j + d = g → wX_countBelow_119 post J (nI b) (nI (64 + m)) (nI s) (nI g) f_root f_keyCount f_spareLeaves f_spareSmalls f_spareWides f_pathLength a_leafKey a_leafValue a_spareLeaf a_depth a_prefix a_childCount a_keysBelow a_sumBelow a_smallDigit a_smallChild a_wideChild a_spareSmall a_spareWide a_path (d + 1) (nI (T + ar_sN (fun i => ar_kO kb (ch m i)) j)) (nI j) := by
  intro d
  induction d with
  | zero =>
    intro j hj
    have ej : j = g := by omega
    subst ej
    exact br_t (nI_le (by omega) (by omega)) (ar_x_childOf A hm hl hg (nm_r (nI_1 s) hJ))
  | succ d ih =>
    intro j hj
    refine br_f (nI_ge (by omega) (by omega)) (ar_x_childOf A hm hl (by omega) (ar_x_keysOf A (fun c e => ar_I_hc A I hm hl (by omega) e) (nm_r ?_ (nm_r (nI_1 j) (ih (j + 1) (by omega))))))
    rw [nI_add, ar_sN_s, Nat.add_assoc]
theorem ar_x_cb34 {f_root f_keyCount f_spareLeaves f_spareSmalls f_spareWides f_pathLength : Int32} {a_leafKey a_leafValue a_spareLeaf a_depth a_prefix a_childCount a_keysBelow : Nat → Int32} {a_sumBelow : Nat → Int64} {a_smallDigit a_smallChild a_wideChild a_spareSmall a_spareWide a_path : Nat → Int32} {post : Int32 → Prop} {b : Nat} (A : ar_A rt L pn N LF va al lv dp pf kb sb ch (f_root, f_keyCount, f_spareLeaves, f_spareSmalls, f_spareWides, f_pathLength, a_leafKey, a_leafValue, a_spareLeaf, a_depth, a_prefix, a_childCount, a_keysBelow, a_sumBelow, a_smallDigit, a_smallChild, a_wideChild, a_spareSmall, a_spareWide, a_path)) (I : ar_I rt N LF va lv dp pf kb sb ch) (hb : b < 65536) (hp : post (nI (ar_C LF b))) :
    ∀ (f s d : Nat) (o : Option Nat), s + f = 5 → s ≤ d → d ≤ 4 → ar_SL lv dp pf ch rt d (ar_t b d) o → wX_countBelow_34 post (nI b) f_root f_keyCount f_spareLeaves f_spareSmalls f_spareWides f_pathLength a_leafKey a_leafValue a_spareLeaf a_depth a_prefix a_childCount a_keysBelow a_sumBelow a_smallDigit a_smallChild a_wideChild a_spareSmall a_spareWide a_path (f + 1) (nI (ar_C LF (ar_t b d * ar_B d))) (ar_L o) (nI s) := by
  intro f
  induction f with
  | zero =>
    intro s d o h1 h2 h3 _
    omega
  | succ f ih =>
    intro s d o hf hsd hd hS
    have B := A
    obtain ⟨A1, A2, A3, A4, A5, A6⟩ := A
    have h5 : ¬ (5 : Int32) ≤ nI s := nI_ge (b := 5) (by omega) (by decide)
    have hL := I.1.1 _ _ _ hS
    rcases hL with ⟨e, hz⟩ | ⟨l, x, e, h1, h2, h3, h4⟩ | ⟨m, e, h1, h2, h3, h4, h6⟩
    · subst e
      rw [ar_cb_none hz] at hp
      exact br_f h5 (br_t (by decide) (br_t (by decide) hp))
    · subst e
      obtain ⟨c1, c2⟩ := ar_cb_leaf (by rw [h2]; simp) h3 h4
      obtain ⟨k1, k2, k3⟩ := A2.2.2.2.2.1 x l h2
      refine br_f h5 (br_t (nI_lt (b := 64) h1 (by decide)) (br_f (nI_pos (by omega)) (And.intro (vp_in_nI h1 (by omega)) ?_)))
      rw [ar_L_some, ar_cl (by omega), k3]
      refine pk_le b x (fun c => ?_) (fun c => nm_r (nI_1 _) ?_)
      · rw [← c1 c]; exact hp
      · rw [← c2 c]; exact hp
    · subst e
      obtain ⟨⟨r1, r2, r3, r4⟩, ⟨d1, d2, d3, d4, d5⟩, T⟩ := A5 m h1 h2
      have hL : ar_Lk LF lv dp pf d (ar_t b d) (some (64 + m)) := I.1.1 _ _ _ hS
      obtain ⟨n1, n2⟩ := ar_cb_node hL
      obtain ⟨l1, l2⟩ := ar_Lk_lo hL
      have hv : vp_in (nI m) 80 := vp_in_nI h1 (by omega)
      have ht := ar_t_lt hb (dp m)
      refine br_f h5 (br_f (nI_nlt (b := 64) (by omega) (by omega)) (nm_r (ar_m64 m) (And.intro hv ?_)))
      rw [ar_cl (by omega), d1, d2, d4]
      refine ar_x_top hb (by omega) (And.intro hv ?_)
      refine pk_le (pf m) (ar_t b (dp m)) (fun c => And.intro hv ?_) (fun c => ?_)
      · refine pk_le (ar_t b (dp m)) (pf m) (fun c2 => And.intro hv (ar_x_dig hb r1 ?_)) (fun c2 => And.intro hv ?_)
        · have e : ar_t b (dp m) = pf m := by omega
          have hg := ar_g_lt b (dp m)
          have et : ar_t b (dp m + 1) = 16 * pf m + ar_g b (dp m) := by rw [ar_t_g (by omega), e]
          have hsum := ar_I_sum I h1 h2 (j := ar_g b (dp m)) (by omega)
          have hn := ih (s + 1) (dp m + 1) (ch m (ar_g b (dp m))) (by omega) (by omega) (by omega) (Or.inr ⟨m, ar_g b (dp m), h1, h2, hg, rfl, et, rfl⟩)
          rw [et, ← hsum, ← l1] at hn
          exact ⟨ar_g b (dp m) + 1, ar_x_cb119 B I h1 h2 hg hn (ar_g b (dp m)) 0 (by omega)⟩
        · have e := n2 (by omega)
          have hK := (I.2.1 m h1 h2).1
          rw [nI_add, l1, hK, ← l2, ← e]
          exact hp
      · rw [← n1 (by omega)]
        exact hp
theorem ar_x_countBelow {post : Int32 → Prop} {u : SX} (A : ar_A rt L pn N LF va al lv dp pf kb sb ch u) (I : ar_I rt N LF va lv dp pf kb sb ch) {x : Int32} (hp : post (nI (ar_C LF x.toNatClampNeg))) : wpX_countBelow post u x := by
  have hlt := ar_A_lt A
  obtain ⟨f_root, f_keyCount, f_spareLeaves, f_spareSmalls, f_spareWides, f_pathLength, a_leafKey, a_leafValue, a_spareLeaf, a_depth, a_prefix, a_childCount, a_keysBelow, a_sumBelow, a_smallDigit, a_smallChild, a_wideChild, a_spareSmall, a_spareWide, a_path⟩ := u
  have B := A
  obtain ⟨A1, A2, A3, A4, A5, A6⟩ := A
  by_cases h0 : x ≤ 0
  · have e : x.toNatClampNeg = 0 := by
      rw [Int32.le_iff_toInt_le] at h0
      have h0' : x.toInt ≤ 0 := h0
      show x.toInt.toNat = 0
      omega
    rw [e] at hp
    exact br_t h0 hp
  · refine br_f h0 ?_
    have hx : ¬ x < 0 := fun z => h0 (Int32.le_of_lt z)
    obtain ⟨b, hb, rfl⟩ := nI_of hx
    rw [nI_clamp hb] at hp
    subst A1
    have hS : ar_SL lv dp pf ch rt 0 0 rt := Or.inl ⟨rfl, rfl, rfl⟩
    cases er : rt with
    | none =>
      refine br_f (by decide) ?_
      rw [er] at hS
      have hz := ar_Lk_none (I.1.1 _ _ _ (by rw [er]; exact hS))
      have e0 : ar_C LF b = 0 := ar_C_z (a := 0) (by omega) (fun i _ _ => by
        by_cases c : LF i = none
        · exact c
        · exact hz i (ar_t_0 (hlt i c)))
      rw [e0] at hp
      exact hp
    | some c =>
      have hc : c < 144 := by
        rcases I.1.1 _ _ _ hS with ⟨z, _⟩ | ⟨l, k, z, h1, _⟩ | ⟨m, z, h1, h2, _⟩
        · rw [er] at z
          exact absurd z (by simp)
        · rw [er] at z
          have := Option.some.inj z
          omega
        · rw [er] at z
          have := Option.some.inj z
          omega
      refine br_t (nI_pos' (by omega)) (pk_le b 65535 (fun c1 => ?_) (fun c1 => ?_))
      · have h := ar_x_cb34 (post := post) B I (b := b) (by omega) hp 5 0 0 rt (by omega) (by omega) (by omega) (by rw [ar_t_0 (by omega)]; exact hS)
        rw [ar_t_0 (by omega), Nat.zero_mul] at h
        rw [← er]
        exact ⟨6, h⟩
      · rw [ar_C_big hlt (by omega), ← I.2.2.2.2] at hp
        rw [A2.2.1]
        exact hp
/-! the key of a rank -/
theorem ar_x_rk43 {f_root f_keyCount f_spareLeaves f_spareSmalls f_spareWides f_pathLength : Int32} {a_leafKey a_leafValue a_spareLeaf a_depth a_prefix a_childCount a_keysBelow : Nat → Int32} {a_sumBelow : Nat → Int64} {a_smallDigit a_smallChild a_wideChild a_spareSmall a_spareWide a_path : Nat → Int32} {post : Int32 → Prop} {J : Int32 → Int32 → Int32 → Prop} {m R s : Nat} (A : ar_A rt L pn N LF va al lv dp pf kb sb ch (f_root, f_keyCount, f_spareLeaves, f_spareSmalls, f_spareWides, f_pathLength, a_leafKey, a_leafValue, a_spareLeaf, a_depth, a_prefix, a_childCount, a_keysBelow, a_sumBelow, a_smallDigit, a_smallChild, a_wideChild, a_spareSmall, a_spareWide, a_path)) (I : ar_I rt N LF va lv dp pf kb sb ch) (hm : m < 80) (hl : lv m = true) (hN : R < 64)
    (hhi : R < ar_C LF ((pf m + 1) * ar_B (dp m)))
    (hJ : ∀ g c r, g < 16 → ch m g = some c → ar_C LF ((16 * pf m + g) * ar_B (dp m + 1)) + r = R → R < ar_C LF ((16 * pf m + g + 1) * ar_B (dp m + 1)) → J (nI c) (nI r) (nI (s + 1))) :
    ∀ d j r, j + d = 16 → ar_C LF ((16 * pf m + j) * ar_B (dp m + 1)) + r = R → wX_atRank_43 post J (nI (64 + m)) (nI s) f_root f_keyCount f_spareLeaves f_spareSmalls f_spareWides f_pathLength a_leafKey a_leafValue a_spareLeaf a_depth a_prefix a_childCount a_keysBelow a_sumBelow a_smallDigit a_smallChild a_wideChild a_spareSmall a_spareWide a_path (d + 1) (nI r) (-1) (nI j) := by
  have hd := (I.1.2.1 m hm hl).1
  intro d
  induction d with
  | zero =>
    intro j r hj h
    have ej : j = 16 := by omega
    subst ej
    rw [ar_hi16 (by omega)] at h
    omega
  | succ d ih =>
    intro j r hj h
    have hLk := ar_I_slot I hm hl (g := j) (by omega)
    have hkL := (ar_kL (va := va) (sb := sb) (kb := kb) hLk (fun m' hm' e => I.2.1 m' hm' (by rw [e] at hLk; exact (ar_Lk_node hLk).2.1))).1
    refine br_f (nI_ge (b := 16) (by omega) (by decide)) (br_f (by decide) (ar_x_childOf A hm hl (by omega) (ar_x_keysOf A (fun c e => ar_I_hc A I hm hl (by omega) e) ?_)))
    by_cases c : ar_kO kb (ch m j) ≤ r
    · have h' := ih (j + 1) (r - ar_kO kb (ch m j)) (by omega) (by rw [← Nat.add_assoc (16 * pf m) j 1]; omega)
      exact br_t (nI_le c (by omega)) (nm_r (pk_sub c) (nm_r (nI_1 j) h'))
    · have hk1 : ar_kO kb (ch m j) < 2 ^ 31 := by
        cases e : ch m j with
        | none => exact (by decide : (0 : Nat) < 2 ^ 31)
        | some c =>
          rcases ar_I_hc A I hm hl (by omega) e with z | ⟨q, rfl, z, zl⟩
          · rw [ar_kO_l z]; decide
          · rw [ar_kO_n]
            have := (A.2.2.2.2.1 q z zl).1.2.2.1
            omega
      refine br_f (nI_ge (by omega) hk1) (nm_r (nI_1 j) ?_)
      cases e : ch m j with
      | none =>
        rw [e] at c
        exact absurd (Nat.zero_le r) c
      | some x =>
        have hx := (A.2.2.2.2.1 m hm hl).1.2.2.2 j x (by omega) e
        rw [ar_L_some]
        have hJ' := hJ j x r (by omega) e h (by omega)
        cases d with
        | zero => exact br_t (nI_le (a := 16) (by omega) (by omega)) (nm_r (nI_1 s) hJ')
        | succ d => exact br_f (nI_ge (b := 16) (by omega) (by decide)) (br_t (nI_pos' (by omega)) (nm_r (nI_1 s) hJ'))
theorem ar_x_rk25 {f_root f_keyCount f_spareLeaves f_spareSmalls f_spareWides f_pathLength : Int32} {a_leafKey a_leafValue a_spareLeaf a_depth a_prefix a_childCount a_keysBelow : Nat → Int32} {a_sumBelow : Nat → Int64} {a_smallDigit a_smallChild a_wideChild a_spareSmall a_spareWide a_path : Nat → Int32} {post : Int32 → Prop} {R : Nat} (A : ar_A rt L pn N LF va al lv dp pf kb sb ch (f_root, f_keyCount, f_spareLeaves, f_spareSmalls, f_spareWides, f_pathLength, a_leafKey, a_leafValue, a_spareLeaf, a_depth, a_prefix, a_childCount, a_keysBelow, a_sumBelow, a_smallDigit, a_smallChild, a_wideChild, a_spareSmall, a_spareWide, a_path)) (I : ar_I rt N LF va lv dp pf kb sb ch) (hN : R < 64) (hp : ∀ k, LF k ≠ none → ar_C LF k = R → post (nI k)) :
    ∀ (f s d p r : Nat) (o : Option Nat), s + f = 5 → s ≤ d → d ≤ 4 → ar_SL lv dp pf ch rt d p o → ar_C LF (p * ar_B d) + r = R → R < ar_C LF ((p + 1) * ar_B d) → wX_atRank_25 post f_root f_keyCount f_spareLeaves f_spareSmalls f_spareWides f_pathLength a_leafKey a_leafValue a_spareLeaf a_depth a_prefix a_childCount a_keysBelow a_sumBelow a_smallDigit a_smallChild a_wideChild a_spareSmall a_spareWide a_path (f + 1) (ar_L o) (nI r) (nI s) := by
  intro f
  induction f with
  | zero =>
    intro s d p r o h1 h2 h3 hS hr hR
    have hL := I.1.1 _ _ _ hS
    rcases hL with ⟨e, hz⟩ | ⟨l, x, e, h1, h2, h3, h4⟩ | ⟨m, e, h1, h2, h3, h4, h6⟩
    · omega
    · omega
    · omega
  | succ f ih =>
    intro s d p r o hf hsd hd hS hr hR
    have h5 : ¬ (5 : Int32) ≤ nI s := nI_ge (b := 5) (by omega) (by decide)
    have hL := I.1.1 _ _ _ hS
    have hkL := (ar_kL (va := va) (sb := sb) (kb := kb) hL (fun m' hm' e => I.2.1 m' hm' (by rw [e] at hL; exact (ar_Lk_node hL).2.1))).1
    rcases hL with ⟨e, hz⟩ | ⟨l, x, e, h1, h2, h3, h4⟩ | ⟨m, e, h1, h2, h3, h4, h6⟩
    · exfalso
      rw [e] at hkL
      have : ar_kO kb none = 0 := rfl
      omega
    · subst e
      obtain ⟨k1, k2, k3⟩ := A.2.1.2.2.2.2.1 x l h2
      rw [ar_kO_l h1] at hkL
      have hx0 : LF x ≠ none := by rw [h2]; simp
      have hC := (ar_cb_leaf (b := x) (d := d) (k := x) hx0 rfl (fun j hj hn => h4 j (hj.trans h3) hn)).1 (Nat.le_refl _)
      rw [h3] at hC
      refine br_f h5 (br_t (nI_lt (b := 64) h1 (by decide)) (And.intro (vp_in_nI h1 (by omega)) ?_))
      rw [ar_L_some, ar_cl (by omega), k3]
      exact hp x hx0 (by omega)
    · subst e
      have hL : ar_Lk LF lv dp pf d p (some (64 + m)) := I.1.1 _ _ _ hS
      obtain ⟨l1, l2⟩ := ar_Lk_lo hL
      have hdm := (I.1.2.1 m h1 h2).1
      refine br_f h5 (br_f (nI_nlt (b := 64) (by omega) (by omega)) ⟨17, ?_⟩)
      refine ar_x_rk43 A I h1 h2 hN (by omega) (fun g c r' hg e h7 h8 => ?_) 16 0 r (by omega) ?_
      · exact ih (s + 1) (dp m + 1) (16 * pf m + g) r' (some c) (by omega) (by omega) (by omega) (Or.inr ⟨m, g, h1, h2, hg, rfl, rfl, e.symm⟩) h7 h8
      · have h0 := ar_I_sum I h1 h2 (j := 0) (by omega)
        have e0 : ar_sN (fun g => ar_kO kb (ch m g)) 0 = 0 := rfl
        omega
theorem ar_x_atRank {post : Int32 → Prop} {u : SX} (A : ar_A rt L pn N LF va al lv dp pf kb sb ch u) (I : ar_I rt N LF va lv dp pf kb sb ch) {x : Int32} (hp : ∀ r, ar_Rk (ar_M LF va) x.toInt r → post r) : wpX_atRank post u x := by
  have hlt := ar_A_lt A
  obtain ⟨f_root, f_keyCount, f_spareLeaves, f_spareSmalls, f_spareWides, f_pathLength, a_leafKey, a_leafValue, a_spareLeaf, a_depth, a_prefix, a_childCount, a_keysBelow, a_sumBelow, a_smallDigit, a_smallChild, a_wideChild, a_spareSmall, a_spareWide, a_path⟩ := u
  have B := A
  obtain ⟨A1, A2, A3, A4, A5, A6⟩ := A
  have hN := A2.1
  have hNC := I.2.2.2.2
  have hM : ∀ k, ar_M LF va k ≠ none ↔ LF k ≠ none := fun k => not_congr ar_M_iff
  have hle : ∀ k, LF k ≠ none → ar_C LF k + 1 ≤ N := fun k hk => by
    rw [hNC]
    exact ar_C_lt hk (hlt k hk)
  by_cases h0 : x < 0
  · refine br_t h0 (hp _ (Or.inl ⟨rfl, fun k hk => ?_⟩))
    rw [Int32.lt_iff_toInt_lt] at h0
    have h0' : x.toInt < 0 := h0
    omega
  · obtain ⟨R, hR, rfl⟩ := nI_of h0
    rw [nI_toInt hR] at hp
    subst A1
    refine br_f h0 (pk_lt R N (fun c => ?_) (fun c => ?_) rfl A2.2.1)
    · refine ⟨6, ar_x_rk25 B I (R := R) (by omega) (fun k hk e => hp _ (Or.inr ⟨k, rfl, (hM k).mpr hk, ?_⟩)) 5 0 0 0 R rt (by omega) (by omega) (by omega) (Or.inl ⟨rfl, rfl, rfl⟩) ?_ ?_⟩
      · rw [ar_C_M, e]
      · rw [Nat.zero_mul]
        show 0 + R = R
        omega
      · show R < ar_C LF 65536
        omega
    · refine hp _ (Or.inl ⟨rfl, fun k hk => ?_⟩)
      rw [ar_C_M]
      have := hle k ((hM k).mp hk)
      omega
end
end
section
/-! neighbours and ranges -/
theorem ar_C_at {α : Type} {F : Nat → Option α} {R : Nat} : ∀ b, R < ar_C F b → ∃ k, k < b ∧ F k ≠ none ∧ ar_C F k = R := by
  intro b
  induction b with
  | zero =>
    intro h
    exact absurd h (Nat.not_lt_zero R)
  | succ b ih =>
    intro h
    rw [ar_C_s] at h
    by_cases c : R < ar_C F b
    · obtain ⟨k, h1, h2, h3⟩ := ih c
      exact ⟨k, by omega, h2, h3⟩
    · by_cases z : F b = none
      · rw [z] at h
        have : ar_c1 (none : Option α) = 0 := rfl
        omega
      · rw [ar_c1_ne z] at h
        exact ⟨b, by omega, z, by omega⟩
theorem ar_C_int {α : Type} {F : Nat → Option α} (hF : ∀ k, F k ≠ none → k < 65536) {a b : Nat} (hab : a ≤ b) : ar_sN (fun k => if a ≤ k ∧ k < b then ar_c1 (F k) else 0) 65536 + ar_C F a = ar_C F b := by
  have h := ar_sN_int (fun k => ar_c1 (F k)) b hab
  by_cases c : b ≤ 65536
  · rw [ar_sN_z (a := b) 65536 c (fun i h1 _ => if_neg (by omega))]
    exact h
  · have e := ar_sN_z (f := fun k => if a ≤ k ∧ k < b then ar_c1 (F k) else 0) (a := 65536) b (by omega) (fun i h1 h2 => by
      show (if a ≤ i ∧ i < b then ar_c1 (F i) else 0) = 0
      by_cases z : F i = none
      · rw [z]
        exact ite_self 0
      · have := hF i z
        omega)
    rw [← e]
    exact h
theorem ar_S_int {M : Nat → Option Int32} (hF : ∀ k, M k ≠ none → k < 65536) {a b : Nat} (hab : a ≤ b) : ar_sL (fun k => if a ≤ k ∧ k < b then ar_v (M k) else 0) 65536 + ar_S M a = ar_S M b := by
  have h := ar_sL_int (fun k => ar_v (M k)) b hab
  by_cases c : b ≤ 65536
  · rw [ar_sL_z (a := b) 65536 c (fun i h1 _ => if_neg (by omega))]
    exact h
  · have e := ar_sL_z (f := fun k => if a ≤ k ∧ k < b then ar_v (M k) else 0) (a := 65536) b (by omega) (fun i h1 h2 => by
      show (if a ≤ i ∧ i < b then ar_v (M i) else 0) = 0
      by_cases z : M i = none
      · rw [z]
        exact ite_self 0
      · have := hF i z
        omega)
    rw [← e]
    exact h
theorem ar_R_C {M : Nat → Option Int32} (hF : ∀ k, M k ≠ none → k < 65536) {x y : Int} (h : x ≤ y) : ar_R M x y + ar_C M x.toNat = ar_C M (y + 1).toNat := by
  have e : ar_R M x y = ar_sN (fun k => if x.toNat ≤ k ∧ k < (y + 1).toNat then ar_c1 (M k) else 0) 65536 := by
    refine ar_sN_congr 65536 (fun k _ => ?_)
    show (if x ≤ (k : Int) ∧ (k : Int) ≤ y then ar_c1 (M k) else 0) = (if x.toNat ≤ k ∧ k < (y + 1).toNat then ar_c1 (M k) else 0)
    by_cases c : x ≤ (k : Int) ∧ (k : Int) ≤ y
    · rw [if_pos c, if_pos (by omega)]
    · rw [if_neg c, if_neg (by omega)]
  rw [e]
  exact ar_C_int hF (by omega)
theorem ar_Rk_Ab {M : Nat → Option Int32} {c : Nat} {b : Int} {r : Int32} (hF : ∀ k, M k ≠ none → k < 65536) (hc : ∀ k : Nat, b < (k : Int) ↔ c ≤ k) (h : ar_Rk M (ar_C M c : Int) r) : ar_Ab M b r := by
  rcases h with ⟨e, h⟩ | ⟨k, e, hk, h⟩
  · refine Or.inl ⟨e, fun k hk => ?_⟩
    by_cases z : b < (k : Int)
    · exfalso
      have h1 := (hc k).mp z
      have h2 := ar_C_mono M h1
      obtain ⟨j, j1, j2, j3⟩ := ar_C_at (F := M) (R := ar_C M c) (k + 1) (by rw [ar_C_s, ar_c1_ne hk]; omega)
      exact h j j2 (by rw [j3])
    · omega
  · have hkc : c ≤ k := by
      by_cases z : c ≤ k
      · exact z
      · have := ar_C_lt (F := M) hk (b := c) (by omega)
        omega
    refine Or.inr ⟨k, hF k hk, e, hk, (hc k).mpr hkc, fun j hj hbj => ?_⟩
    by_cases z : k ≤ j
    · exact z
    · have h1 := ar_C_lt (F := M) hj (b := k) (by omega)
      have h2 := ar_C_mono M ((hc j).mp hbj)
      omega
theorem ar_Rk_Be {M : Nat → Option Int32} {c : Nat} {b : Int} {r : Int32} (hF : ∀ k, M k ≠ none → k < 65536) (hc : ∀ k : Nat, (k : Int) < b ↔ k < c) (h : ar_Rk M ((ar_C M c : Int) - 1) r) : ar_Be M b r := by
  rcases h with ⟨e, h⟩ | ⟨k, e, hk, h⟩
  · refine Or.inl ⟨e, fun k hk => ?_⟩
    by_cases z : (k : Int) < b
    · exfalso
      have h1 := ar_C_lt (F := M) hk ((hc k).mp z)
      obtain ⟨j, j1, j2, j3⟩ := ar_C_at (F := M) (R := ar_C M c - 1) c (by omega)
      exact h j j2 (by rw [j3]; omega)
    · omega
  · have hkc : k < c := by
      by_cases z : k < c
      · exact z
      · have := ar_C_mono M (a := c) (b := k) (by omega)
        omega
    refine Or.inr ⟨k, hF k hk, e, hk, (hc k).mpr hkc, fun j hj hbj => ?_⟩
    by_cases z : j ≤ k
    · exact z
    · have h1 := ar_C_lt (F := M) hk (b := j) (by omega)
      have h2 := ar_C_lt (F := M) hj ((hc j).mp hbj)
      omega
theorem ar_M_lt {LF : Nat → Option Nat} {va : Nat → Int32} (h : ∀ k, LF k ≠ none → k < 65536) : ∀ k, ar_M LF va k ≠ none → k < 65536 := fun k hk => h k (fun z => hk (ar_M_none z))
theorem ar_inc {x : Int32} (h : x < 65535) : (x + 1).toInt = x.toInt + 1 := by
  rw [Int32.lt_iff_toInt_lt] at h
  have h' : x.toInt < 65535 := h
  have h2 := x.le_toInt
  rw [Int32.toInt_add, show (1 : Int32).toInt = 1 from by decide]
  exact Int.bmod_eq_of_le (by omega) (by omega)
section
variable {rt : Option Nat} {L : Nat} {pn : Nat → Nat} {N : Nat} {LF : Nat → Option Nat} {va : Nat → Int32} {al lv : Nat → Bool} {dp pf kb : Nat → Nat} {sb : Nat → Int64} {ch : Nat → Nat → Option Nat}
theorem ar_x_above {post : Int32 → Prop} {u : SX} (A : ar_A rt L pn N LF va al lv dp pf kb sb ch u) (I : ar_I rt N LF va lv dp pf kb sb ch) {x : Int32} (hp : ∀ r, ar_Ab (ar_M LF va) x.toInt r → post r) : wpX_above post u x := by
  have hlt := ar_A_lt A
  obtain ⟨f_root, f_keyCount, f_spareLeaves, f_spareSmalls, f_spareWides, f_pathLength, a_leafKey, a_leafValue, a_spareLeaf, a_depth, a_prefix, a_childCount, a_keysBelow, a_sumBelow, a_smallDigit, a_smallChild, a_wideChild, a_spareSmall, a_spareWide, a_path⟩ := u
  refine br_c (fun c => ?_) (fun c => ?_)
  · have e := ar_inc c
    refine ar_x_countBelow A I ?_
    refine ar_x_atRank A I (fun r hr => hp r ?_)
    have hC := ar_C_le hlt (x + 1).toNatClampNeg
    have hN : ar_C LF 65536 ≤ 64 := by rw [← I.2.2.2.2]; exact A.2.1.1
    rw [nI_toInt (by omega), ← ar_C_M (va := va)] at hr
    refine ar_Rk_Ab (ar_M_lt hlt) (fun k => ?_) hr
    show _ ↔ (x + 1).toInt.toNat ≤ k
    omega
  · refine hp _ (Or.inl ⟨rfl, fun k hk => ?_⟩)
    have h1 := ar_M_lt hlt k hk
    rw [Int32.lt_iff_toInt_lt] at c
    have c' : ¬ x.toInt < 65535 := c
    omega
theorem ar_x_below {post : Int32 → Prop} {u : SX} (A : ar_A rt L pn N LF va al lv dp pf kb sb ch u) (I : ar_I rt N LF va lv dp pf kb sb ch) {x : Int32} (hp : ∀ r, ar_Be (ar_M LF va) x.toInt r → post r) : wpX_below post u x := by
  have hlt := ar_A_lt A
  obtain ⟨f_root, f_keyCount, f_spareLeaves, f_spareSmalls, f_spareWides, f_pathLength, a_leafKey, a_leafValue, a_spareLeaf, a_depth, a_prefix, a_childCount, a_keysBelow, a_sumBelow, a_smallDigit, a_smallChild, a_wideChild, a_spareSmall, a_spareWide, a_path⟩ := u
  unfold wpX_below
  refine ar_x_countBelow A I ?_
  refine nm_e ?_
  refine ar_x_atRank A I (fun r hr => hp r ?_)
  have hC := ar_C_le hlt x.toNatClampNeg
  have hN : ar_C LF 65536 ≤ 64 := by rw [← I.2.2.2.2]; exact A.2.1.1
  have e : (nI (ar_C LF x.toNatClampNeg) - 1).toInt = (ar_C LF x.toNatClampNeg : Int) - 1 := by
    rw [Int32.toInt_sub, nI_toInt (by omega), show (1 : Int32).toInt = 1 from by decide]
    exact Int.bmod_eq_of_le (by omega) (by omega)
  rw [e, ← ar_C_M (va := va)] at hr
  refine ar_Rk_Be (ar_M_lt hlt) (fun k => ?_) hr
  show _ ↔ k < x.toInt.toNat
  omega
theorem ar_x_countRange {post : Int32 → Prop} {u : SX} (A : ar_A rt L pn N LF va al lv dp pf kb sb ch u) (I : ar_I rt N LF va lv dp pf kb sb ch) {x y : Int32} (hp : post (nI (ar_R (ar_M LF va) x.toInt y.toInt))) : wpX_countRange post u x y := by
  have hlt := ar_A_lt A
  obtain ⟨f_root, f_keyCount, f_spareLeaves, f_spareSmalls, f_spareWides, f_pathLength, a_leafKey, a_leafValue, a_spareLeaf, a_depth, a_prefix, a_childCount, a_keysBelow, a_sumBelow, a_smallDigit, a_smallChild, a_wideChild, a_spareSmall, a_spareWide, a_path⟩ := u
  have hN : ar_C LF 65536 ≤ 64 := by rw [← I.2.2.2.2]; exact A.2.1.1
  have hC1 := ar_C_le hlt x.toNatClampNeg
  refine br_c (fun c => ?_) (fun c => ?_)
  · rw [Int32.le_iff_toInt_le] at c
    have hR := ar_R_C (ar_M_lt (va := va) hlt) c
    rw [ar_C_M, ar_C_M] at hR
    have hR' : ar_R (ar_M LF va) x.toInt y.toInt + ar_C LF x.toNatClampNeg = ar_C LF (y.toInt + 1).toNat := hR
    refine br_c (fun c2 => ?_) (fun c2 => ?_)
    · have e := ar_inc c2
      have e2 : (y + 1).toNatClampNeg = (y.toInt + 1).toNat := by
        show (y + 1).toInt.toNat = _
        rw [e]
      refine ar_x_countBelow A I ?_
      refine ar_x_countBelow A I ?_
      rw [e2, ← hR', pk_sub (by omega), Nat.add_sub_cancel]
      exact hp
    · have c2' : ¬ y.toInt < 65535 := by
        rw [Int32.lt_iff_toInt_lt] at c2
        exact c2
      rw [ar_C_big hlt (b := (y.toInt + 1).toNat) (by omega), ← I.2.2.2.2] at hR'
      have hk : f_keyCount = nI N := A.2.1.2.1
      refine ar_x_countBelow A I ?_
      rw [hk, ← hR', pk_sub (by omega), Nat.add_sub_cancel]
      exact hp
  · rw [Int32.le_iff_toInt_le] at c
    have e : ar_R (ar_M LF va) x.toInt y.toInt = 0 := ar_sN_z (a := 0) 65536 (by omega) (fun k _ _ => if_neg (by omega))
    rw [e] at hp
    exact hp
/-! shared digits -/
theorem ar_x_shared_lp {f_root f_keyCount f_spareLeaves f_spareSmalls f_spareWides f_pathLength : Int32} {a_leafKey a_leafValue a_spareLeaf a_depth a_prefix a_childCount a_keysBelow : Nat → Int32} {a_sumBelow : Nat → Int64} {a_smallDigit a_smallChild a_wideChild a_spareSmall a_spareWide a_path : Nat → Int32} {post : Int32 → Prop} {a b : Nat} (ha : a < 65536) (hb : b < 65536) (hp : ∀ r, r ≤ 4 → ar_t a r = ar_t b r → (r < 4 → ar_t a (r + 1) ≠ ar_t b (r + 1)) → post (nI r)) :
    ∀ d i, i + d = 4 → ar_t a i = ar_t b i → wX_shared_2 post (nI a) (nI b) f_root f_keyCount f_spareLeaves f_spareSmalls f_spareWides f_pathLength a_leafKey a_leafValue a_spareLeaf a_depth a_prefix a_childCount a_keysBelow a_sumBelow a_smallDigit a_smallChild a_wideChild a_spareSmall a_spareWide a_path (d + 1) (nI i) := by
  intro d
  induction d with
  | zero =>
    intro i hi h
    exact br_t (nI_le (a := 4) (by omega) (by omega)) (hp i (by omega) h (fun z => by omega))
  | succ d ih =>
    intro i hi h
    refine br_f (nI_ge (b := 4) (by omega) (by decide)) (ar_x_dig ha (by omega) (ar_x_dig hb (by omega) ?_))
    have g1 := ar_g_lt a i
    have g2 := ar_g_lt b i
    refine pk_eq (ar_g a i) (ar_g b i) (fun c => nm_r (nI_1 i) (ih (i + 1) (by omega) ((ar_t_eqs (by omega)).mpr ⟨h, c⟩))) (fun c => hp i (by omega) h (fun _ z => c ((ar_t_eqs (by omega)).mp z).2))
theorem ar_x_shared {post : Int32 → Prop} {u : SX} {a b : Nat} (ha : a < 65536) (hb : b < 65536) (hp : ∀ r, r ≤ 4 → ar_t a r = ar_t b r → (r < 4 → ar_t a (r + 1) ≠ ar_t b (r + 1)) → post (nI r)) : wpX_shared post u (nI a) (nI b) := by
  obtain ⟨f_root, f_keyCount, f_spareLeaves, f_spareSmalls, f_spareWides, f_pathLength, a_leafKey, a_leafValue, a_spareLeaf, a_depth, a_prefix, a_childCount, a_keysBelow, a_sumBelow, a_smallDigit, a_smallChild, a_wideChild, a_spareSmall, a_spareWide, a_path⟩ := u
  exact ⟨5, ar_x_shared_lp ha hb hp 4 0 (by omega) (by rw [ar_t_0 ha, ar_t_0 hb])⟩
theorem ar_x_swp22 {f_root f_keyCount f_spareLeaves f_spareSmalls f_spareWides f_pathLength : Int32} {a_leafKey a_leafValue a_spareLeaf a_depth a_prefix a_childCount a_keysBelow : Nat → Int32} {a_sumBelow : Nat → Int64} {a_smallDigit a_smallChild a_wideChild a_spareSmall a_spareWide a_path : Nat → Int32} {post : Int32 → Prop} {a b D : Nat} (ha : a < 65536) (hb : b < 65536) (hD : D ≤ 4) (hp : ∀ r, r ≤ D → ar_t a r = ar_t b r → (r < D → ar_t a (r + 1) ≠ ar_t b (r + 1)) → post (nI r)) :
    ∀ r, r ≤ D → (r < D → ar_t a (r + 1) ≠ ar_t b (r + 1)) → wX_sharedWithPrefix_22 post f_root f_keyCount f_spareLeaves f_spareSmalls f_spareWides f_pathLength a_leafKey a_leafValue a_spareLeaf a_depth a_prefix a_childCount a_keysBelow a_sumBelow a_smallDigit a_smallChild a_wideChild a_spareSmall a_spareWide a_path (r + 1) (nI r) (nI (ar_t a r ^^^ ar_t b r)) := by
  intro r
  induction r with
  | zero =>
    intro h1 h2
    exact br_t (nI_le (b := 0) (by omega) (by decide)) (hp 0 h1 (by rw [ar_t_0 ha, ar_t_0 hb]) h2)
  | succ r ih =>
    intro h1 h2
    have hx := ar_xor_lt (ar_t_lt ha (r + 1)) (ar_t_lt hb (r + 1))
    refine br_f (nI_nle (by omega) (by omega)) (pk_eq (ar_t a (r + 1) ^^^ ar_t b (r + 1)) 0 (fun c => hp (r + 1) h1 (ar_xor0.mp c) h2) (fun c => nm_r (e' := nI (ar_t a r ^^^ ar_t b r)) ?_ (nm_r (pk_m1 r) (ih (by omega) (fun _ z => c (ar_xor0.mpr z))))))
    have e := ar_shr (k := ar_t a (r + 1) ^^^ ar_t b (r + 1)) (j := 4) (by omega) (by omega)
    rw [ar_t_s (k := a) (d := r) (by omega), ar_t_s (k := b) (d := r) (by omega), ← ar_xor16]
    exact e
theorem ar_x_swp {post : Int32 → Prop} {u : SX} (A : ar_A rt L pn N LF va al lv dp pf kb sb ch u) {n a b : Nat} (hn : n < 80) (hl : lv n = true) (ha : a < 65536) (hb : b < 65536) (hbn : ar_t b (dp n) = pf n)
    (hp : ∀ r, r ≤ dp n → ar_t a r = ar_t b r → (r < dp n → ar_t a (r + 1) ≠ ar_t b (r + 1)) → post (nI r)) : wpX_sharedWithPrefix post u (nI a) (nI n) := by
  obtain ⟨f_root, f_keyCount, f_spareLeaves, f_spareSmalls, f_spareWides, f_pathLength, a_leafKey, a_leafValue, a_spareLeaf, a_depth, a_prefix, a_childCount, a_keysBelow, a_sumBelow, a_smallDigit, a_smallChild, a_wideChild, a_spareSmall, a_spareWide, a_path⟩ := u
  obtain ⟨A1, A2, A3, A4, A5, A6⟩ := A
  obtain ⟨⟨r1, r2, r3, r4⟩, ⟨d1, d2, d3, d4, d5⟩, T⟩ := A5 n hn hl
  have hv : vp_in (nI n) 80 := vp_in_nI hn (by omega)
  refine And.intro hv (nm_r (e' := nI (dp n)) (by rw [ar_cl (by omega), d1]) (ar_x_top ha (by omega) (And.intro hv (nm_r (e' := nI (ar_t a (dp n) ^^^ ar_t b (dp n))) ?_ ⟨dp n + 1, ar_x_swp22 ha hb (by omega) hp (dp n) (Nat.le_refl _) (fun z => by omega)⟩))))
  rw [ar_cl (by omega), d2, nx_xor, hbn]
theorem ar_x_sd27 {f_root f_keyCount f_spareLeaves f_spareSmalls f_spareWides f_pathLength : Int32} {a_leafKey a_leafValue a_spareLeaf a_depth a_prefix a_childCount a_keysBelow : Nat → Int32} {a_sumBelow : Nat → Int64} {a_smallDigit a_smallChild a_wideChild a_spareSmall a_spareWide a_path : Nat → Int32} {post : Int32 → Prop} {k : Nat} (A : ar_A rt L pn N LF va al lv dp pf kb sb ch (f_root, f_keyCount, f_spareLeaves, f_spareSmalls, f_spareWides, f_pathLength, a_leafKey, a_leafValue, a_spareLeaf, a_depth, a_prefix, a_childCount, a_keysBelow, a_sumBelow, a_smallDigit, a_smallChild, a_wideChild, a_spareSmall, a_spareWide, a_path)) (I : ar_I rt N LF va lv dp pf kb sb ch) (hk : k < 65536) (hp : ∀ r, ar_Sh (ar_M LF va) k r → post r) :
    ∀ (f s d c : Nat), s + f = 5 → s ≤ d → d ≤ 4 → ar_SL lv dp pf ch rt d (ar_t k d) (some c) → wX_sharedDigits_27 post (nI k) f_root f_keyCount f_spareLeaves f_spareSmalls f_spareWides f_pathLength a_leafKey a_leafValue a_spareLeaf a_depth a_prefix a_childCount a_keysBelow a_sumBelow a_smallDigit a_smallChild a_wideChild a_spareSmall a_spareWide a_path (f + 1) (nI c) (nI s) := by
  have hlt := ar_A_lt A
  have hM : ∀ j, ar_M LF va j ≠ none ↔ LF j ≠ none := fun k => not_congr ar_M_iff
  intro f
  induction f with
  | zero =>
    intro s d c h1 h2 h3 hS
    omega
  | succ f ih =>
    intro s d c hf hsd hd hS
    have h5 : ¬ (5 : Int32) ≤ nI s := nI_ge (b := 5) (by omega) (by decide)
    have hL := I.1.1 _ _ _ hS
    rcases hL with ⟨e, hz⟩ | ⟨l, x, e, h1, h2, h3, h4⟩ | ⟨m, e, h1, h2, h3, h4, h6⟩
    · exact absurd e (by simp)
    · cases e
      obtain ⟨k1, k2, k3⟩ := A.2.1.2.2.2.2.1 x c h2
      have hx0 : LF x ≠ none := by rw [h2]; simp
      refine br_f h5 (br_t (nI_lt (b := 64) h1 (by decide)) (And.intro (vp_in_nI h1 (by omega)) ?_))
      rw [ar_cl (by omega), k3]
      refine ar_x_shared hk k1 (fun r hr e1 e2 => hp _ (Or.inr ⟨r, hr, rfl, ⟨x, (hM x).mpr hx0, e1.symm⟩, fun j e he hj ht => ?_⟩))
      by_cases z : e ≤ r
      · exact z
      · exfalso
        have hdr : d ≤ r := by
          by_cases w : d ≤ r
          · exact w
          · exact absurd (ar_t_dn (d := r + 1) (e := d) (by omega) hd h3).symm (e2 (by omega))
        have hj' := h4 j (ar_t_dn (d := d) (e := e) (by omega) he ht) ((hM j).mp hj)
        rw [hj'] at ht
        exact e2 (by omega) (ar_t_dn (d := r + 1) (e := e) (by omega) he ht).symm
    · have em : c = 64 + m := Option.some.inj e
      subst em
      have hL : ar_Lk LF lv dp pf d (ar_t k d) (some (64 + m)) := I.1.1 _ _ _ hS
      obtain ⟨⟨r1, r2, r3, r4⟩, ⟨d1, d2, d3, d4, d5⟩, T⟩ := A.2.2.2.2.1 m h1 h2
      obtain ⟨_, j1, _, b1, _, b3, _⟩ := I.1.2.1 m h1 h2
      have hj1 := hlt j1 b1
      have hj1d : ar_t j1 d = ar_t k d := h4 j1 b3
      have hv : vp_in (nI m) 80 := vp_in_nI h1 (by omega)
      refine br_f h5 (br_f (nI_nlt (b := 64) (by omega) (by omega)) (nm_r (ar_m64 m) (ar_x_swp A h1 h2 hk hj1 b3 (fun r hr e1 e2 => And.intro hv ?_))))
      rw [ar_cl (by omega), d1]
      refine pk_le (dp m) r (fun z => And.intro hv (ar_x_dig hk r1 (ar_x_childOf A h1 h2 (ar_g_lt _ _) ?_))) (fun z => hp _ (Or.inr ⟨r, by omega, rfl, ⟨j1, (hM j1).mpr b1, e1.symm⟩, fun j e he hj ht => ?_⟩))
      · have er : r = dp m := by omega
        subst er
        have et : ar_t k (dp m + 1) = 16 * pf m + ar_g k (dp m) := by rw [ar_t_g (by omega), e1, b3]
        have hS' : ar_SL lv dp pf ch rt (dp m + 1) (ar_t k (dp m + 1)) (ch m (ar_g k (dp m))) := Or.inr ⟨m, ar_g k (dp m), h1, h2, ar_g_lt _ _, rfl, et, rfl⟩
        cases ec : ch m (ar_g k (dp m)) with
        | none =>
          rw [ec] at hS'
          have hz := ar_Lk_none (I.1.1 _ _ _ hS')
          refine br_f (by decide) (And.intro hv (hp _ (Or.inr ⟨dp m, by omega, rfl, ⟨j1, (hM j1).mpr b1, e1.symm⟩, fun j e he hj ht => ?_⟩)))
          by_cases w : e ≤ dp m
          · exact w
          · exact absurd (hz j (ar_t_dn (d := dp m + 1) (e := e) (by omega) he ht)) ((hM j).mp hj)
        | some c' =>
          rw [ec] at hS'
          have hc' := r4 _ c' (ar_g_lt _ _) ec
          exact br_t (nI_pos' (by omega)) (nm_r (nI_1 s) (ih (s + 1) (dp m + 1) c' (by omega) (by omega) (by omega) hS'))
      · by_cases w : e ≤ r
        · exact w
        · exfalso
          have hdr : d ≤ r := by
            by_cases w : d ≤ r
            · exact w
            · exact absurd (ar_t_dn (d := r + 1) (e := d) (by omega) hd hj1d).symm (e2 (by omega))
          have hj' := h6 j ((hM j).mp hj) (ar_t_dn (d := d) (e := e) (by omega) he ht)
          have a1 := ar_t_dn (d := r + 1) (e := e) (by omega) he ht
          have a2 := ar_t_dn (d := r + 1) (e := dp m) (by omega) (by omega) (hj'.trans b3.symm)
          exact e2 (by omega) (a1.symm.trans a2)
theorem ar_x_sharedDigits {post : Int32 → Prop} {u : SX} (A : ar_A rt L pn N LF va al lv dp pf kb sb ch u) (I : ar_I rt N LF va lv dp pf kb sb ch) {k : Nat} (hk : k < 65536) (hp : ∀ r, ar_Sh (ar_M LF va) k r → post r) : wpX_sharedDigits post u (nI k) := by
  have hlt := ar_A_lt A
  obtain ⟨f_root, f_keyCount, f_spareLeaves, f_spareSmalls, f_spareWides, f_pathLength, a_leafKey, a_leafValue, a_spareLeaf, a_depth, a_prefix, a_childCount, a_keysBelow, a_sumBelow, a_smallDigit, a_smallChild, a_wideChild, a_spareSmall, a_spareWide, a_path⟩ := u
  have B := A
  obtain ⟨A1, A2, A3, A4, A5, A6⟩ := A
  subst A1
  unfold wpX_sharedDigits
  refine ar_x_isKey hk ?_
  refine br_f (by decide) ?_
  have hS : ar_SL lv dp pf ch rt 0 0 rt := Or.inl ⟨rfl, rfl, rfl⟩
  have hL := I.1.1 _ _ _ hS
  cases er : rt with
  | none =>
    rw [er] at hL
    have hz := ar_Lk_none hL
    refine br_f (by decide) (hp _ (Or.inl ⟨rfl, fun j => ar_M_none ?_⟩))
    by_cases c : LF j = none
    · exact c
    · exact hz j (ar_t_0 (hlt j c))
  | some c =>
    have hc : c < 144 := by
      rcases hL with ⟨z, _⟩ | ⟨l, k, z, h1, _⟩ | ⟨m, z, h1, h2, _⟩
      · rw [er] at z
        exact absurd z (by simp)
      · rw [er] at z
        have := Option.some.inj z
        omega
      · rw [er] at z
        have := Option.some.inj z
        omega
    have h := ar_x_sd27 (post := post) B I hk hp 5 0 0 c (by omega) (by omega) (by omega) (by rw [ar_t_0 hk, ← er]; exact hS)
    rw [er] at h
    exact br_t (nI_pos' (by omega)) ⟨6, h⟩
/-! the sum of a prefix -/
theorem ar_U_Lk {k d : Nat} {o : Option Nat} (hlt : ∀ k, LF k ≠ none → k < 65536) (hL : ar_Lk LF lv dp pf d (ar_t k d) o) (hK : ∀ m, m < 80 → o = some (64 + m) → ar_K LF (ar_M LF va) dp pf kb sb m) : ar_U (ar_M LF va) k d = ar_sO va sb o := by
  have h := (ar_kL (va := va) (kb := kb) (sb := sb) hL hK).2
  have hi := ar_S_int (ar_M_lt (va := va) hlt) (a := ar_t k d * ar_B d) (b := (ar_t k d + 1) * ar_B d) (Nat.mul_le_mul_right _ (by omega))
  have e : ar_U (ar_M LF va) k d = ar_sL (fun j => if ar_t k d * ar_B d ≤ j ∧ j < (ar_t k d + 1) * ar_B d then ar_v (ar_M LF va j) else 0) 65536 := by
    refine ar_sL_congr 65536 (fun j _ => ?_)
    show (if ar_t j d = ar_t k d then ar_v (ar_M LF va j) else 0) = (if ar_t k d * ar_B d ≤ j ∧ j < (ar_t k d + 1) * ar_B d then ar_v (ar_M LF va j) else 0)
    by_cases c : ar_t j d = ar_t k d
    · rw [if_pos c, if_pos (ar_t_iff.mp c)]
    · rw [if_neg c, if_neg (fun z => c (ar_t_iff.mpr z))]
  rw [← e, h] at hi
  grind
theorem ar_x_su35 {f_root f_keyCount f_spareLeaves f_spareSmalls f_spareWides f_pathLength : Int32} {a_leafKey a_leafValue a_spareLeaf a_depth a_prefix a_childCount a_keysBelow : Nat → Int32} {a_sumBelow : Nat → Int64} {a_smallDigit a_smallChild a_wideChild a_spareSmall a_spareWide a_path : Nat → Int32} {post : Int64 → Prop} {k d : Nat} (A : ar_A rt L pn N LF va al lv dp pf kb sb ch (f_root, f_keyCount, f_spareLeaves, f_spareSmalls, f_spareWides, f_pathLength, a_leafKey, a_leafValue, a_spareLeaf, a_depth, a_prefix, a_childCount, a_keysBelow, a_sumBelow, a_smallDigit, a_smallChild, a_wideChild, a_spareSmall, a_spareWide, a_path)) (I : ar_I rt N LF va lv dp pf kb sb ch) (hk : k < 65536) (hd : d ≤ 4) (hp : post (ar_U (ar_M LF va) k d)) :
    ∀ (f s e : Nat) (o : Option Nat), s + f = 5 → s ≤ e → e ≤ d → ar_SL lv dp pf ch rt e (ar_t k e) o → wX_sumUnder_35 post (nI k) (nI d) (nI (ar_t k d)) f_root f_keyCount f_spareLeaves f_spareSmalls f_spareWides f_pathLength a_leafKey a_leafValue a_spareLeaf a_depth a_prefix a_childCount a_keysBelow a_sumBelow a_smallDigit a_smallChild a_wideChild a_spareSmall a_spareWide a_path (f + 1) (ar_L o) (nI s) := by
  have hlt := ar_A_lt A
  have U : ∀ o, ar_Lk LF lv dp pf d (ar_t k d) o → post (ar_sO va sb o) := fun o h => by
    rw [← ar_U_Lk (kb := kb) hlt h (fun m hm e => I.2.1 m hm (by rw [e] at h; exact (ar_Lk_node h).2.1))]
    exact hp
  intro f
  induction f with
  | zero =>
    intro s e o h1 h2 h3 hS
    omega
  | succ f ih =>
    intro s e o hf hse hed hS
    have h5 : ¬ (5 : Int32) ≤ nI s := nI_ge (b := 5) (by omega) (by decide)
    have ht := ar_t_lt hk d
    rcases I.1.1 _ _ _ hS with ⟨z, hz⟩ | ⟨l, x, z, h1, h2, h3, h4⟩ | ⟨m, z, h1, h2, h3, h4, h6⟩
    · subst z
      exact br_f h5 (br_t (by decide) (br_f (by decide) (U none (Or.inl ⟨rfl, fun j hj => hz j (ar_t_dn hed hd hj)⟩))))
    · subst z
      obtain ⟨k1, k2, k3⟩ := A.2.1.2.2.2.2.1 x l h2
      have kv : a_leafValue = va := A.2.1.2.2.2.1
      have ht2 := ar_t_lt k1 d
      refine br_f h5 (br_t (nI_lt (b := 64) h1 (by decide)) (br_t (nI_pos' (by omega)) (And.intro (vp_in_nI h1 (by omega)) ?_)))
      rw [ar_L_some, ar_cl (by omega), k3, kv]
      refine ar_x_top k1 hd (pk_eq (ar_t x d) (ar_t k d) (fun c => And.intro (vp_in_nI h1 (by omega)) ?_) (fun c => U none (Or.inl ⟨rfl, fun j hj => ?_⟩)))
      · rw [← ar_sO_l (sb := sb) h1]
        exact U (some l) (Or.inr (Or.inl ⟨l, x, rfl, h1, h2, c, fun j hj hn => h4 j (ar_t_dn hed hd hj) hn⟩))
      · by_cases w : LF j = none
        · exact w
        · rw [h4 j (ar_t_dn hed hd hj) w] at hj
          exact absurd hj c
    · subst z
      obtain ⟨⟨r1, r2, r3, r4⟩, ⟨d1, d2, d3, d4, d5⟩, T⟩ := A.2.2.2.2.1 m h1 h2
      obtain ⟨_, j1, _, b1, _, b3, _⟩ := I.1.2.1 m h1 h2
      have hv : vp_in (nI m) 80 := vp_in_nI h1 (by omega)
      have hw : vp_in (nI (64 + m) - 64) 80 := by rw [ar_m64]; exact hv
      refine br_f h5 (br_f (nI_nlt (b := 64) (by omega) (by omega)) (nm_r (ar_m64 m) (And.intro hv ?_)))
      rw [ar_cl (by omega), d1, d2, d5]
      refine pk_lt (dp m) d (fun c => And.intro hv (And.intro hv (ar_x_top hk (by omega) ?_))) (fun c => And.intro hv (And.intro hv ?_))
      · have ht3 := ar_t_lt hk (dp m)
        refine pk_eq (pf m) (ar_t k (dp m)) (fun c2 => And.intro hv (ar_x_dig hk r1 (ar_x_childOf A h1 h2 (ar_g_lt _ _) (nm_r (nI_1 s) (ih (s + 1) (dp m + 1) _ (by omega) (by omega) (by omega) ?_))))) (fun c2 => U none (Or.inl ⟨rfl, fun j hj => ?_⟩))
        · exact Or.inr ⟨m, ar_g k (dp m), h1, h2, ar_g_lt _ _, rfl, by rw [ar_t_g (by omega), c2], rfl⟩
        · by_cases w : LF j = none
          · exact w
          · exact absurd ((h6 j w (ar_t_dn hed hd hj)).symm.trans (ar_t_dn (by omega) hd hj)) c2
      · have hs := ar_pshr (p := pf m) (d := d) (e := dp m) r2 c (by omega)
        have ep : pf m / 16 ^ (dp m - d) = ar_t j1 d := by rw [← b3, ← ar_t_div c (by omega)]
        rw [hs, ep]
        have ht4 := ar_t_lt (hlt j1 b1) d
        refine pk_eq (ar_t j1 d) (ar_t k d) (fun c2 => And.intro hv ?_) (fun c2 => U none (Or.inl ⟨rfl, fun j hj => ?_⟩))
        · rw [← ar_sO_n (va := va) (sb := sb) (m := m)]
          exact U (some (64 + m)) (Or.inr (Or.inr ⟨m, rfl, h1, h2, c, fun j hj => (ar_t_dn c (by omega) (hj.trans b3.symm)).trans c2, fun j hn hj => h6 j hn (ar_t_dn hed hd hj)⟩))
        · by_cases w : LF j = none
          · exact w
          · have := h6 j w (ar_t_dn hed hd hj)
            exact absurd ((ar_t_dn c (by omega) (this.trans b3.symm)).symm.trans hj) c2
theorem ar_x_sumUnder {post : Int64 → Prop} {u : SX} (A : ar_A rt L pn N LF va al lv dp pf kb sb ch u) (I : ar_I rt N LF va lv dp pf kb sb ch) {k d : Nat} (hk : k < 65536) (hd : d ≤ 4) (hp : post (ar_U (ar_M LF va) k d)) : wpX_sumUnder post u (nI k) (nI d) := by
  obtain ⟨f_root, f_keyCount, f_spareLeaves, f_spareSmalls, f_spareWides, f_pathLength, a_leafKey, a_leafValue, a_spareLeaf, a_depth, a_prefix, a_childCount, a_keysBelow, a_sumBelow, a_smallDigit, a_smallChild, a_wideChild, a_spareSmall, a_spareWide, a_path⟩ := u
  have B := A
  obtain ⟨A1, A2, A3, A4, A5, A6⟩ := A
  subst A1
  unfold wpX_sumUnder
  refine ar_x_isKey hk ?_
  refine br_f (by decide) (br_f (nI_pos (by omega)) (br_t (nI_le (a := d) (b := 4) hd (by decide)) ?_))
  refine ar_x_top hk hd ?_
  exact ⟨6, ar_x_su35 B I hk hd hp 5 0 0 rt (by omega) (by omega) (by omega) (by rw [ar_t_0 hk]; exact Or.inl ⟨rfl, rfl, rfl⟩)⟩
end
end
section
/-! pure: a key comes in -/
def ar_kI (dp pf kb : Nat → Nat) (k : Nat) : Nat → Nat := fun q => if ar_t k (dp q) = pf q then kb q + 1 else kb q
def ar_sI (dp pf : Nat → Nat) (sb : Nat → Int64) (k : Nat) (v : Int64) : Nat → Int64 := fun q => if ar_t k (dp q) = pf q then sb q + v else sb q
def ar_rlR (i c : Nat) (rt : Option Nat) : Option Nat := match i with
  | 0 => some c
  | _ + 1 => rt
def ar_rlC (dp pn : Nat → Nat) (k i c : Nat) (ch : Nat → Nat → Option Nat) : Nat → Nat → Option Nat := match i with
  | 0 => ch
  | j + 1 => ar_u ch (pn j) (ar_u (ch (pn j)) (ar_g k (dp (pn j))) (some c))
theorem ar_e_congr {dp dp' pn : Nat → Nat} : ∀ i, (∀ j, j < i → dp' (pn j) = dp (pn j)) → ar_e dp' pn i = ar_e dp pn i := by
  intro i h
  cases i with
  | zero => rfl
  | succ j =>
    show dp' (pn j) + 1 = dp (pn j) + 1
    rw [h j (by omega)]
theorem ar_sN_mv {f g : Nat → Nat} {a b n : Nat} (h : ∀ i, i ≠ a → i ≠ b → f i = g i) (hab : a ≠ b) (e : f a + f b = g a + g b) (ha : a < n) (hb : b < n) : ar_sN f n = ar_sN g n := by
  have h1 := ar_sN_one (f := f) (g := ar_u f a (g a)) (k := a) (fun i hi => (ar_un hi).symm) n ha
  have h2 := ar_sN_one (f := ar_u f a (g a)) (g := g) (k := b) (fun i hi => by
    by_cases z : i = a
    · rw [z, ar_us]
    · rw [ar_un z]; exact h i z hi) n hb
  rw [ar_us] at h1
  rw [ar_un (fun z => hab z.symm)] at h2
  omega
theorem ar_M_ins {LF : Nat → Option Nat} {va : Nat → Int32} {k l : Nat} {w : Int32} (hfr : ∀ j, LF j ≠ some l) : ar_M (ar_u LF k (some l)) (upd va l w) = ar_u (ar_M LF va) k (some w) := by
  funext j
  by_cases e : j = k
  · rw [e, ar_us, ar_M_some (l := l) ar_us, pk_us]
  · rw [ar_un e]
    cases h : LF j with
    | none => rw [ar_M_none h, ar_M_none (by rw [ar_un e]; exact h)]
    | some x =>
      rw [ar_M_some h, ar_M_some (l := x) (by rw [ar_un e]; exact h), pk_un (fun z => hfr j (by rw [h, z]))]
section
variable {rt : Option Nat} {L : Nat} {pn : Nat → Nat} {N : Nat} {LF : Nat → Option Nat} {va : Nat → Int32} {lv : Nat → Bool} {dp pf kb : Nat → Nat} {sb : Nat → Int64} {ch : Nat → Nat → Option Nat}
theorem ar_SL_rl {k i c d p : Nat} {o : Option Nat} (hk : k < 65536) (h : ∀ j, i = j + 1 → dp (pn j) ≤ 3 ∧ ar_t k (dp (pn j)) = pf (pn j) ∧ ∀ q, q < 80 → lv q = true → dp q = dp (pn j) → pf q = pf (pn j) → q = pn j)
    (hS : ar_SL lv dp pf (ar_rlC dp pn k i c ch) (ar_rlR i c rt) d p o) : (d = ar_e dp pn i ∧ p = ar_t k (ar_e dp pn i) ∧ o = some c) ∨ ((d = ar_e dp pn i → p ≠ ar_t k (ar_e dp pn i)) ∧ ar_SL lv dp pf ch rt d p o) := by
  cases i with
  | zero =>
    rcases hS with ⟨a, b, e⟩ | ⟨n, g, h1, h2, h3, h4, h5, h6⟩
    · exact Or.inl ⟨a, by show p = ar_t k 0; rw [ar_t_0 hk, b], e⟩
    · exact Or.inr ⟨fun z => by have z' : d = 0 := z; omega, Or.inr ⟨n, g, h1, h2, h3, h4, h5, h6⟩⟩
  | succ j =>
    obtain ⟨b1, b2, b3⟩ := h j rfl
    have et : ar_t k (dp (pn j) + 1) = 16 * pf (pn j) + ar_g k (dp (pn j)) := by rw [ar_t_g (by omega), b2]
    have hg := ar_g_lt k (dp (pn j))
    show (d = dp (pn j) + 1 ∧ p = ar_t k (dp (pn j) + 1) ∧ o = some c) ∨ ((d = dp (pn j) + 1 → p ≠ ar_t k (dp (pn j) + 1)) ∧ ar_SL lv dp pf ch rt d p o)
    rw [et]
    rcases hS with ⟨a, b, e⟩ | ⟨n, g, h1, h2, h3, h4, h5, h6⟩
    · exact Or.inr ⟨fun z => by omega, Or.inl ⟨a, b, e⟩⟩
    · have h6' : o = ar_u ch (pn j) (ar_u (ch (pn j)) (ar_g k (dp (pn j))) (some c)) n g := h6
      by_cases en : n = pn j
      · rw [en, ar_us] at h6'
        by_cases eg : g = ar_g k (dp (pn j))
        · rw [eg, ar_us] at h6'
          exact Or.inl ⟨by rw [h4, en], by rw [h5, en, eg], h6'⟩
        · rw [ar_un eg] at h6'
          refine Or.inr ⟨fun _ z => ?_, Or.inr ⟨n, g, h1, h2, h3, h4, h5, by rw [h6', en]⟩⟩
          rw [en] at h5
          omega
      · rw [ar_un en] at h6'
        refine Or.inr ⟨fun z1 z2 => en (b3 n h1 h2 (by omega) (by omega)), Or.inr ⟨n, g, h1, h2, h3, h4, h5, h6'⟩⟩
theorem ar_rl_cnt {k i c : Nat} (h : ∀ j, i = j + 1 → ch (pn j) (ar_g k (dp (pn j))) ≠ none) (q : Nat) : ar_cnt (ar_rlC dp pn k i c ch q) = ar_cnt (ch q) := by
  cases i with
  | zero => rfl
  | succ j =>
    show ar_cnt (ar_u ch (pn j) (ar_u (ch (pn j)) (ar_g k (dp (pn j))) (some c)) q) = ar_cnt (ch q)
    by_cases e : q = pn j
    · rw [e, ar_us, ar_cnt_set (ar_g_lt _ _) (h j rfl)]
    · rw [ar_un e]
theorem ar_rl_o {k i c q : Nat} (h : ∀ j, i = j + 1 → q ≠ pn j) : ar_rlC dp pn k i c ch q = ch q := by
  cases i with
  | zero => rfl
  | succ j => exact ar_un (h j rfl)
/-- the link of the last slot -/
theorem ar_PF_o0 (I : ar_I rt N LF va lv dp pf kb sb ch) {k : Nat} {o : Option Nat} (P : ar_PF lv dp pf (ar_SL lv dp pf ch rt) k 0 pn o) : o = rt := by
  have h := P.2.1
  have h' : ar_SL lv dp pf ch rt 0 (ar_t k 0) o := h
  rw [ar_t_0 P.1] at h'
  exact ar_SL_fun I.1.2.2 h' (Or.inl ⟨rfl, rfl, rfl⟩)
theorem ar_PF_et (I : ar_I rt N LF va lv dp pf kb sb ch) {k i : Nat} {o : Option Nat} (P : ar_PF lv dp pf (ar_SL lv dp pf ch rt) k L pn o) (hi : i < L) : ar_t k (dp (pn i) + 1) = 16 * pf (pn i) + ar_g k (dp (pn i)) := by
  obtain ⟨p1, p2, p3, _⟩ := P.2.2.1 i hi
  have := (I.1.2.1 _ p1 p2).1
  rw [ar_t_g (by omega), p3]
theorem ar_PF_o1 (I : ar_I rt N LF va lv dp pf kb sb ch) {k i : Nat} {o : Option Nat} (P : ar_PF lv dp pf (ar_SL lv dp pf ch rt) k (i + 1) pn o) : ch (pn i) (ar_g k (dp (pn i))) = o := by
  have h : ar_SL lv dp pf ch rt (dp (pn i) + 1) (ar_t k (dp (pn i) + 1)) o := P.2.1
  obtain ⟨p1, p2, p3, _⟩ := P.2.2.1 i (by omega)
  have et := ar_PF_et I P (i := i) (by omega)
  exact ar_SL_fun I.1.2.2 (Or.inr ⟨pn i, ar_g k (dp (pn i)), p1, p2, ar_g_lt _ _, rfl, et, rfl⟩) h
theorem ar_PF_oi (I : ar_I rt N LF va lv dp pf kb sb ch) {k j : Nat} {o : Option Nat} (P : ar_PF lv dp pf (ar_SL lv dp pf ch rt) k L pn o) (hj : j + 1 < L) : ch (pn j) (ar_g k (dp (pn j))) = some (64 + pn (j + 1)) := by
  obtain ⟨p1, p2, p3, _⟩ := P.2.2.1 j (by omega)
  obtain ⟨_, _, _, _, q5⟩ := P.2.2.1 (j + 1) hj
  have h : ar_SL lv dp pf ch rt (dp (pn j) + 1) (ar_t k (dp (pn j) + 1)) (some (64 + pn (j + 1))) := q5
  have et := ar_PF_et I P (i := j) (by omega)
  exact ar_SL_fun I.1.2.2 (Or.inr ⟨pn j, ar_g k (dp (pn j)), p1, p2, ar_g_lt _ _, rfl, et, rfl⟩) h
theorem ar_K_insI (I : ar_I rt N LF va lv dp pf kb sb ch) {k l : Nat} {w : Int32} (hk0 : LF k = none) (hfr : ∀ j, LF j ≠ some l) {n : Nat} (hn : n < 80) (hl : lv n = true) :
    ar_K (ar_u LF k (some l)) (ar_M (ar_u LF k (some l)) (upd va l w)) dp pf (ar_kI dp pf kb k) (ar_sI dp pf sb k w.toInt64) n := by
  rw [ar_M_ins hfr]
  refine ar_K_chg (k := k) (fun i hi => ar_un hi) (fun i hi => ar_un hi) (I.2.1 n hn hl) (fun h => ?_) (fun h => ?_)
  · rw [ar_us, ar_us, hk0, ar_M_none hk0]
    refine ⟨?_, ?_⟩
    · show (if ar_t k (dp n) = pf n then kb n + 1 else kb n) + 0 = kb n + 1
      rw [if_pos h]
    · show (if ar_t k (dp n) = pf n then sb n + w.toInt64 else sb n) + 0 = sb n + w.toInt64
      rw [if_pos h, Int64.add_zero]
  · exact ⟨if_neg h, if_neg h⟩
theorem ar_N_ins (I : ar_I rt N LF va lv dp pf kb sb ch) {k l : Nat} (hk : k < 65536) (hk0 : LF k = none) : N + 1 = ar_C (ar_u LF k (some l)) 65536 := by
  have h := ar_C_chg (F := LF) (F' := ar_u LF k (some l)) (k := k) (fun i hi => ar_un hi) 65536
  rw [if_pos hk, if_pos hk, ar_us, hk0] at h
  have h' : ar_C (ar_u LF k (some l)) 65536 + 0 = ar_C LF 65536 + 1 := h
  have := I.2.2.2.2
  omega
theorem ar_I_pos (I : ar_I rt N LF va lv dp pf kb sb ch) {k : Nat} (hlt : ∀ k, LF k ≠ none → k < 65536) (h : LF k ≠ none) : 1 ≤ N := by
  have h1 := ar_C_lt h (hlt k h)
  have := I.2.2.2.2
  omega
/-- the root was empty -/
theorem ar_I_root (I : ar_I rt N LF va lv dp pf kb sb ch) {k l : Nat} {w : Int32} (P : ar_PF lv dp pf (ar_SL lv dp pf ch rt) k 0 pn none) (hlt : ∀ k, LF k ≠ none → k < 65536) (hk0 : LF k = none) (hl : l < 64) (hfr : ∀ j, LF j ≠ some l) :
    ar_I (some l) (N + 1) (ar_u LF k (some l)) (upd va l w) lv dp pf (ar_kI dp pf kb k) (ar_sI dp pf sb k w.toInt64) ch := by
  have hk := P.1
  have h0 : ar_SL lv dp pf ch rt 0 (ar_t k 0) none := P.2.1
  refine ⟨ar_ins I.1 (d0 := 0) hl (ar_PF_H I.1 P) h0 (fun d p o h => ?_), fun n hn hln => ar_K_insI I hk0 hfr hn hln, I.2.2.1, ?_, ar_N_ins I hk hk0⟩
  · rcases h with ⟨a, b, e⟩ | ⟨n, g, h1, h2, h3, h4, h5, h6⟩
    · exact Or.inl ⟨a, by rw [ar_t_0 hk, b], e⟩
    · exact Or.inr ⟨fun z => by omega, Or.inr ⟨n, g, h1, h2, h3, h4, h5, h6⟩⟩
  · have hz := ar_Lk_none (I.1.1 _ _ _ h0)
    have e0 : ar_C LF 65536 = 0 := ar_C_z (a := 0) (by omega) (fun i _ hi => hz i (by rw [ar_t_0 hi, ar_t_0 hk]))
    have h1 := I.2.2.2.1
    have h2 := I.2.2.2.2
    rw [h1, h2, e0]
/-- a leaf for a node's empty slot -/
theorem ar_SL_add (I : ar_I rt N LF va lv dp pf kb sb ch) {k i l d p : Nat} {o o' : Option Nat} (P : ar_PF lv dp pf (ar_SL lv dp pf ch rt) k (i + 1) pn o) (x : Option Nat)
    (hS : ar_SL lv dp pf (ar_u ch (pn i) (ar_u (ch (pn i)) (ar_g k (dp (pn i))) x)) rt d p o') :
    (d = dp (pn i) + 1 ∧ p = ar_t k (dp (pn i) + 1) ∧ o' = x) ∨ ((d = dp (pn i) + 1 → p ≠ ar_t k (dp (pn i) + 1)) ∧ ar_SL lv dp pf ch rt d p o') := by
  obtain ⟨p1, p2, p3, _⟩ := P.2.2.1 i (by omega)
  have et := ar_PF_et I P (i := i) (by omega)
  have hg := ar_g_lt k (dp (pn i))
  rw [et]
  rcases hS with ⟨a, b, e⟩ | ⟨n, g, h1, h2, h3, h4, h5, h6⟩
  · exact Or.inr ⟨fun z => by omega, Or.inl ⟨a, b, e⟩⟩
  · by_cases en : n = pn i
    · rw [en, ar_us] at h6
      by_cases eg : g = ar_g k (dp (pn i))
      · rw [eg, ar_us] at h6
        exact Or.inl ⟨by rw [h4, en], by rw [h5, en, eg], h6⟩
      · rw [ar_un eg] at h6
        refine Or.inr ⟨fun _ z => ?_, Or.inr ⟨n, g, h1, h2, h3, h4, h5, by rw [h6, en]⟩⟩
        rw [en] at h5
        omega
    · rw [ar_un en] at h6
      refine Or.inr ⟨fun z1 z2 => en (I.1.2.2 n (pn i) h1 p1 h2 p2 (by omega) (by omega)), Or.inr ⟨n, g, h1, h2, h3, h4, h5, h6⟩⟩
theorem ar_G_add (I : ar_I rt N LF va lv dp pf kb sb ch) {k i l : Nat} (P : ar_PF lv dp pf (ar_SL lv dp pf ch rt) k (i + 1) pn none) (hl : l < 64) :
    ar_G (ar_u LF k (some l)) lv dp pf (ar_SL lv dp pf (ar_u ch (pn i) (ar_u (ch (pn i)) (ar_g k (dp (pn i))) (some l))) rt) :=
  ar_ins I.1 (d0 := dp (pn i) + 1) hl (ar_PF_H I.1 P) P.2.1 (fun _ _ _ h => ar_SL_add (l := l) I P (some l) h)
theorem ar_pot_add (I : ar_I rt N LF va lv dp pf kb sb ch) {k i l : Nat} (P : ar_PF lv dp pf (ar_SL lv dp pf ch rt) k (i + 1) pn none) (hlt : ∀ k, LF k ≠ none → k < 65536) :
    ar_sN (ar_pot lv (ar_u ch (pn i) (ar_u (ch (pn i)) (ar_g k (dp (pn i))) (some l)))) 80 = N + 1 - 1 := by
  obtain ⟨p1, p2, p3, _⟩ := P.2.2.1 i (by omega)
  have h2 := ar_G_2 I.1 p1 p2
  have h0 := ar_PF_o1 I P
  have hadd := ar_cnt_add (c := ch (pn i)) (x := l) (ar_g_lt k (dp (pn i))) h0
  obtain ⟨_, j, _, b1, _⟩ := I.1.2.1 _ p1 p2
  have hN := ar_I_pos I hlt b1
  have h := ar_sN_one (f := ar_pot lv (ar_u ch (pn i) (ar_u (ch (pn i)) (ar_g k (dp (pn i))) (some l)))) (g := ar_pot lv ch) (k := pn i) (fun q hq => by
    unfold ar_pot
    rw [ar_un hq]) 80 p1
  have e1 : ar_pot lv (ar_u ch (pn i) (ar_u (ch (pn i)) (ar_g k (dp (pn i))) (some l))) (pn i) = ar_cnt (ch (pn i)) := by
    unfold ar_pot
    rw [if_pos p2, ar_us, hadd, Nat.add_sub_cancel]
  have e2 : ar_pot lv ch (pn i) = ar_cnt (ch (pn i)) - 1 := if_pos p2
  have hP := I.2.2.2.1
  omega
theorem ar_I_add (I : ar_I rt N LF va lv dp pf kb sb ch) {k i l : Nat} {w : Int32} (P : ar_PF lv dp pf (ar_SL lv dp pf ch rt) k (i + 1) pn none) (hlt : ∀ k, LF k ≠ none → k < 65536) (hk0 : LF k = none) (hl : l < 64) (hfr : ∀ j, LF j ≠ some l) (h4 : pn i < 64 → ar_cnt (ch (pn i)) < 4) :
    ar_I rt (N + 1) (ar_u LF k (some l)) (upd va l w) lv dp pf (ar_kI dp pf kb k) (ar_sI dp pf sb k w.toInt64) (ar_u ch (pn i) (ar_u (ch (pn i)) (ar_g k (dp (pn i))) (some l))) := by
  refine ⟨ar_G_add I P hl, fun n hn hln => ar_K_insI I hk0 hfr hn hln, fun n hn hln => ?_, ar_pot_add I P hlt, ar_N_ins I P.1 hk0⟩
  by_cases e : n = pn i
  · rw [e, ar_us, ar_cnt_add (ar_g_lt _ _) (ar_PF_o1 I P)]
    rw [e] at hn hln
    obtain ⟨a, b⟩ := I.2.2.1 _ hn hln
    exact ⟨fun z => h4 z, fun z => by have := b z; omega⟩
  · rw [ar_un e]
    exact I.2.2.1 n hn hln
/-- links that don't hold the key keep their counts -/
theorem ar_kO_I {k : Nat} {o : Option Nat} (h : ∀ m, o = some (64 + m) → ar_t k (dp m) ≠ pf m) (v : Int64) : ar_kO (ar_kI dp pf kb k) o = ar_kO kb o ∧ ar_sO va (ar_sI dp pf sb k v) o = ar_sO va sb o := by
  cases o with
  | none => exact ⟨rfl, rfl⟩
  | some c =>
    by_cases e : c < 64
    · rw [ar_kO_l e, ar_kO_l e, ar_sO_l e, ar_sO_l e]
      exact ⟨rfl, rfl⟩
    · obtain ⟨m, rfl⟩ : ∃ m, c = 64 + m := ⟨c - 64, by omega⟩
      rw [ar_kO_n, ar_kO_n, ar_sO_n, ar_sO_n]
      exact ⟨if_neg (h m rfl), if_neg (h m rfl)⟩
theorem ar_sO_va {l : Nat} {w : Int32} {o : Option Nat} (h : o ≠ some l) : ar_sO (upd va l w) sb o = ar_sO va sb o := by
  cases o with
  | none => rfl
  | some c =>
    by_cases e : c < 64
    · rw [ar_sO_l e, ar_sO_l e, pk_un (fun z => h (by rw [z]))]
    · obtain ⟨m, rfl⟩ : ∃ m, c = 64 + m := ⟨c - 64, by omega⟩
      rw [ar_sO_n, ar_sO_n]
/-- what the children of a node hold together -/
theorem ar_I_all (I : ar_I rt N LF va lv dp pf kb sb ch) {n : Nat} (hn : n < 80) (hl : lv n = true) : ar_sN (fun g => ar_kO kb (ch n g)) 16 = kb n ∧ ar_sL (fun g => ar_sO va sb (ch n g)) 16 = sb n := by
  have hd := (I.1.2.1 n hn hl).1
  have h := ar_kT (va := va) (sb := sb) (kb := kb) (c := ch n) (d := dp n) (p := pf n) (by omega) (fun g hg => ar_I_slot I hn hl hg) (fun g m hg hm e => by
    have h := ar_I_slot I hn hl hg
    rw [e] at h
    exact I.2.1 m hm (ar_Lk_node h).2.1) 16 (by omega)
  rw [ar_hi16 (by omega)] at h
  obtain ⟨K1, K2⟩ := I.2.1 n hn hl
  refine ⟨by omega, ?_⟩
  have h2 := h.2
  rw [K2] at h2
  grind
end
end
section
/-! pure: a node gets another number; a fork -/
section
variable {rt : Option Nat} {L : Nat} {pn : Nat → Nat} {N : Nat} {LF : Nat → Option Nat} {va : Nat → Int32} {lv : Nat → Bool} {dp pf kb : Nat → Nat} {sb : Nat → Int64} {ch : Nat → Nat → Option Nat}
theorem ar_I_ren {n n' k i : Nat} (G1 : ar_G LF lv dp pf (ar_SL lv dp pf ch rt)) (K1 : ∀ q, q < 80 → lv q = true → ar_K LF (ar_M LF va) dp pf kb sb q)
    (W1 : ∀ q, q < 80 → lv q = true → q ≠ n → (q < 64 → ar_cnt (ch q) ≤ 4) ∧ (64 ≤ q → 5 ≤ ar_cnt (ch q))) (P1 : ar_sN (ar_pot lv ch) 80 = N - 1) (N1 : N = ar_C LF 65536)
    (hk : k < 65536) (hn : n < 80) (hln : lv n = true) (hn' : n' < 80) (hln' : lv n' = false) (Wn : (n' < 64 → ar_cnt (ch n) ≤ 4) ∧ (64 ≤ n' → 5 ≤ ar_cnt (ch n)))
    (hU : ∀ d p, ar_SL lv dp pf ch rt d p (some (64 + n)) → d = ar_e dp pn i ∧ p = ar_t k (ar_e dp pn i)) (hA : ar_SL lv dp pf ch rt (ar_e dp pn i) (ar_t k (ar_e dp pn i)) (some (64 + n)))
    (hj : ∀ j, i = j + 1 → pn j < 80 ∧ lv (pn j) = true ∧ dp (pn j) < dp n ∧ ar_t k (dp (pn j)) = pf (pn j) ∧ ch (pn j) (ar_g k (dp (pn j))) ≠ none) :
    ar_I (ar_rlR i (64 + n') rt) N LF va (ar_u (ar_u lv n' true) n false) (ar_u dp n' (dp n)) (ar_u pf n' (pf n)) (ar_u kb n' (kb n)) (ar_u sb n' (sb n)) (ar_rlC (ar_u dp n' (dp n)) pn k i (64 + n') (ar_u ch n' (ch n))) := by
  have hnn : n' ≠ n := fun z => by rw [z, hln] at hln'; exact absurd hln' (by simp)
  have nq : ∀ q, lv q = true → q ≠ n' := fun q h z => by rw [z, hln'] at h; exact absurd h (by simp)
  have lvi : ∀ m, ar_u (ar_u lv n' true) n false m = true → m = n' ∨ (m ≠ n' ∧ m ≠ n ∧ lv m = true) := by
    intro m hm
    by_cases e : m = n
    · rw [e, ar_us] at hm
      exact absurd hm (by simp)
    · rw [ar_un e] at hm
      by_cases e' : m = n'
      · exact Or.inl e'
      · rw [ar_un e'] at hm
        exact Or.inr ⟨e', e, hm⟩
  have ee : ar_e (ar_u dp n' (dp n)) pn i = ar_e dp pn i := by
    cases i with
    | zero => rfl
    | succ j =>
      show ar_u dp n' (dp n) (pn j) + 1 = dp (pn j) + 1
      rw [ar_un (nq _ (hj j rfl).2.1)]
  have slot : ∀ j, i = j + 1 → (ar_u ch n' (ch n)) (pn j) (ar_g k (ar_u dp n' (dp n) (pn j))) ≠ none := by
    intro j ej
    obtain ⟨a, b, c, d, e⟩ := hj j ej
    rw [ar_un (nq _ b), ar_un (nq _ b)]
    exact e
  have cntq : ∀ q, ar_cnt (ar_rlC (ar_u dp n' (dp n)) pn k i (64 + n') (ar_u ch n' (ch n)) q) = ar_cnt (ar_u ch n' (ch n) q) := fun q => ar_rl_cnt slot q
  refine ⟨ar_ren G1 hn hln hn' hln' hU hA (fun d p o h => ?_), fun q hq hlq => ?_, fun q hq hlq => ?_, ?_, N1⟩
  · have h' := ar_SL_rl hk (fun j ej => by
      obtain ⟨a, b, c, d, e⟩ := hj j ej
      rw [ar_un (nq _ b), ar_un (nq _ b)]
      refine ⟨(G1.2.1 _ a b).1, d, fun q hq hlq e1 e2 => ?_⟩
      rcases lvi q hlq with z | ⟨z1, z2, z3⟩
      · rw [z, ar_us] at e1
        omega
      · rw [ar_un z1] at e1 e2
        exact G1.2.2 q (pn j) hq a z3 b e1 e2) h
    rw [ee] at h'
    rcases h' with h' | ⟨h1, h2⟩
    · exact Or.inl h'
    · refine Or.inr ⟨h1, ?_⟩
      rcases h2 with z | ⟨q, g, a1, a2, a3, a4, a5, a6⟩
      · exact Or.inl z
      · rcases lvi q a2 with z | ⟨z1, z2, z3⟩
        · subst z
          rw [ar_us] at a4 a5 a6
          exact Or.inr ⟨n, g, hn, hln, a3, a4, a5, a6⟩
        · rw [ar_un z1] at a4 a5 a6
          exact Or.inr ⟨q, g, a1, z3, a3, a4, a5, a6⟩
  · rcases lvi q hlq with z | ⟨z1, z2, z3⟩
    · subst z
      unfold ar_K
      rw [ar_us, ar_us, ar_us, ar_us]
      exact K1 n hn hln
    · unfold ar_K
      rw [ar_un z1, ar_un z1, ar_un z1, ar_un z1]
      exact K1 q hq z3
  · rw [cntq]
    rcases lvi q hlq with z | ⟨z1, z2, z3⟩
    · subst z
      rw [ar_us]
      exact Wn
    · rw [ar_un z1]
      exact W1 q hq z3 z2
  · rw [← P1]
    refine ar_sN_mv (a := n) (b := n') (fun q h1 h2 => ?_) (fun z => hnn z.symm) ?_ hn hn'
    · unfold ar_pot
      rw [ar_un h1, ar_un h2, cntq, ar_un h2]
    · unfold ar_pot
      rw [ar_us, ar_un hnn, ar_us, hln, hln', cntq n', ar_us, if_neg (by simp), if_pos rfl, if_neg (by simp)]
      omega
theorem ar_G_chx {ch' : Nat → Nat → Option Nat} (G : ar_G LF lv dp pf (ar_SL lv dp pf ch rt)) (h : ∀ q g, q < 80 → lv q = true → g < 16 → ch' q g = ch q g) : ar_G LF lv dp pf (ar_SL lv dp pf ch' rt) := by
  refine ⟨fun d p o hS => G.1 d p o ?_, G.2⟩
  rcases hS with z | ⟨q, g, a1, a2, a3, a4, a5, a6⟩
  · exact Or.inl z
  · exact Or.inr ⟨q, g, a1, a2, a3, a4, a5, by rw [a6, h q g a1 a2 a3]⟩
theorem ar_I_widen (I : ar_I rt N LF va lv dp pf kb sb ch) {k i l n' : Nat} {w : Int32} (P : ar_PF lv dp pf (ar_SL lv dp pf ch rt) k (i + 1) pn none) (hlt : ∀ k, LF k ≠ none → k < 65536) (hk0 : LF k = none) (hl : l < 64) (hfr : ∀ j, LF j ≠ some l)
    (h64 : 64 ≤ n') (hn' : n' < 80) (hln' : lv n' = false) (h4 : ar_cnt (ch (pn i)) = 4) :
    ar_I (ar_rlR i (64 + n') rt) (N + 1) (ar_u LF k (some l)) (upd va l w) (ar_u (ar_u lv n' true) (pn i) false) (ar_u dp n' (dp (pn i))) (ar_u pf n' (pf (pn i))) (ar_u (ar_kI dp pf kb k) n' (ar_kI dp pf kb k (pn i))) (ar_u (ar_sI dp pf sb k w.toInt64) n' (ar_sI dp pf sb k w.toInt64 (pn i))) (ar_rlC (ar_u dp n' (dp (pn i))) pn k i (64 + n') (ar_u (ar_u ch (pn i) (ar_u (ch (pn i)) (ar_g k (dp (pn i))) (some l))) n' (ar_u ch (pn i) (ar_u (ch (pn i)) (ar_g k (dp (pn i))) (some l)) (pn i)))) := by
  obtain ⟨p1, p2, p3, p4, p5⟩ := P.2.2.1 i (by omega)
  have h0 := ar_PF_o1 I P
  have hcnt := ar_cnt_add (c := ch (pn i)) (x := l) (ar_g_lt k (dp (pn i))) h0
  have hnode : ∀ d p m, m < 80 → ar_SL lv dp pf (ar_u ch (pn i) (ar_u (ch (pn i)) (ar_g k (dp (pn i))) (some l))) rt d p (some (64 + m)) → ar_SL lv dp pf ch rt d p (some (64 + m)) := by
    intro d p m _ h
    rcases ar_SL_add (l := l) I P (some l) h with ⟨_, _, z⟩ | ⟨_, h⟩
    · have := Option.some.inj z
      omega
    · exact h
  have hup : ∀ d p m, ar_SL lv dp pf ch rt d p (some (64 + m)) → ar_SL lv dp pf (ar_u ch (pn i) (ar_u (ch (pn i)) (ar_g k (dp (pn i))) (some l))) rt d p (some (64 + m)) := by
    intro d p m h
    rcases h with z | ⟨q, g, a1, a2, a3, a4, a5, a6⟩
    · exact Or.inl z
    · refine Or.inr ⟨q, g, a1, a2, a3, a4, a5, ?_⟩
      by_cases eq : q = pn i
      · rw [eq, ar_us]
        by_cases eg : g = ar_g k (dp (pn i))
        · rw [eq, eg, h0] at a6
          exact absurd a6 (by simp)
        · rw [ar_un eg, ← eq]
          exact a6
      · rw [ar_un eq]
        exact a6
  refine ar_I_ren (ar_G_add I P hl) (fun q hq hlq => ar_K_insI I hk0 hfr hq hlq) (fun q hq hlq e => ?_) (ar_pot_add I P hlt) (ar_N_ins I P.1 hk0) P.1 p1 p2 hn' hln' ⟨fun z => by omega, fun _ => ?_⟩ (fun d p h => ?_) (hup _ _ _ p5) (fun j ej => ?_)
  · rw [ar_un e]
    exact I.2.2.1 q hq hlq
  · rw [ar_us, hcnt]
    omega
  · exact ar_PF_U I.1 P d p (hnode d p (pn i) p1 h)
  · subst ej
    obtain ⟨q1, q2, q3, q4, q5⟩ := P.2.2.1 j (by omega)
    have hlt2 : dp (pn j) < dp (pn (j + 1)) := by
      have h : dp (pn j) + 1 ≤ dp (pn (j + 1)) := p4
      omega
    refine ⟨q1, q2, hlt2, q3, ?_⟩
    rw [ar_un (fun z => by rw [z] at hlt2; omega), ar_PF_oi I P (j := j) (by omega)]
    simp
/-- slots exist after a relink -/
theorem ar_SL_rl' {k i c : Nat} (hk : k < 65536) (h : ∀ j, i = j + 1 → pn j < 80 ∧ lv (pn j) = true ∧ dp (pn j) ≤ 3 ∧ ar_t k (dp (pn j)) = pf (pn j)) :
    ar_SL lv dp pf (ar_rlC dp pn k i c ch) (ar_rlR i c rt) (ar_e dp pn i) (ar_t k (ar_e dp pn i)) (some c) := by
  cases i with
  | zero => exact Or.inl ⟨rfl, ar_t_0 hk, rfl⟩
  | succ j =>
    obtain ⟨b0, b1, b2, b3⟩ := h j rfl
    refine Or.inr ⟨pn j, ar_g k (dp (pn j)), b0, b1, ar_g_lt _ _, rfl, ?_, ?_⟩
    · show ar_t k (dp (pn j) + 1) = _
      rw [ar_t_g (by omega), b3]
    · show some c = ar_u ch (pn j) (ar_u (ch (pn j)) (ar_g k (dp (pn j))) (some c)) (pn j) (ar_g k (dp (pn j)))
      rw [ar_us, ar_us]
theorem ar_Lk_loS {d p m : Nat} (h : ar_Lk LF lv dp pf d p (some (64 + m))) : ar_S (ar_M LF va) (p * ar_B d) = ar_S (ar_M LF va) (pf m * ar_B (dp m)) ∧ ar_S (ar_M LF va) ((p + 1) * ar_B d) = ar_S (ar_M LF va) ((pf m + 1) * ar_B (dp m)) := by
  obtain ⟨h1, h2, h3, h4, h5⟩ := ar_Lk_node h
  have b1 := ar_t_iff.mp (h4 _ (ar_t_lo (pf m) (dp m)))
  have b2 := ar_t_iff.mp (h4 _ (ar_t_hi (pf m) (dp m)))
  have b3 := ar_B_pos (dp m)
  have b4 : pf m * ar_B (dp m) + ar_B (dp m) = (pf m + 1) * ar_B (dp m) := by rw [Nat.add_mul, Nat.one_mul]
  have key : ∀ i, p * ar_B d ≤ i → i < (p + 1) * ar_B d → LF i ≠ none → pf m * ar_B (dp m) ≤ i ∧ i < (pf m + 1) * ar_B (dp m) :=
    fun i x y z => ar_t_iff.mp (h5 i z (ar_t_iff.mpr ⟨x, y⟩))
  generalize pf m * ar_B (dp m) = lo at *
  generalize (pf m + 1) * ar_B (dp m) = hi at *
  generalize p * ar_B d = a at *
  generalize (p + 1) * ar_B d = b at *
  have z1 : ∀ i, a ≤ i → i < lo → LF i = none := by
    intro i x y
    by_cases c : LF i = none
    · exact c
    · have := key i x (by omega) c
      omega
  have z2 : ∀ i, hi ≤ i → i < b → LF i = none := by
    intro i x y
    by_cases c : LF i = none
    · exact c
    · have := key i (by omega) y c
      omega
  exact ⟨(ar_S_z b1.1 (fun i x y => ar_M_none (z1 i x y))).symm, ar_S_z (by omega) (fun i x y => ar_M_none (z2 i x y))⟩
theorem ar_I_fork (I : ar_I rt N LF va lv dp pf kb sb ch) {k l f com c j1 : Nat} {w : Int32} (P : ar_PF lv dp pf (ar_SL lv dp pf ch rt) k L pn (some c)) (hlt : ∀ k, LF k ≠ none → k < 65536) (hk0 : LF k = none) (hl : l < 64) (hfr : ∀ j, LF j ≠ some l)
    (hf : f < 64) (hlf : lv f = false) (h1 : LF j1 ≠ none) (h2 : ar_t j1 (ar_e dp pn L) = ar_t k (ar_e dp pn L)) (hc3 : com ≤ 3) (h3 : ar_t k com = ar_t j1 com) (h4 : ar_t k (com + 1) ≠ ar_t j1 (com + 1))
    (hall : ∀ j, LF j ≠ none → ar_t j (ar_e dp pn L) = ar_t k (ar_e dp pn L) → ar_t j (com + 1) = ar_t j1 (com + 1)) (hm : ∀ m, some c = some (64 + m) → com < dp m ∧ ar_t k (dp m) ≠ pf m) :
    ar_I (ar_rlR L (64 + f) rt) (N + 1) (ar_u LF k (some l)) (upd va l w) (ar_u lv f true) (ar_u dp f com) (ar_u pf f (ar_t k com)) (ar_u (ar_kI dp pf kb k) f (0 + ar_kO (ar_kI dp pf kb k) (some c) + 1)) (ar_u (ar_sI dp pf sb k w.toInt64) f (0 + ar_sO (upd va l w) (ar_sI dp pf sb k w.toInt64) (some c) + w.toInt64)) (ar_rlC (ar_u dp f com) pn k L (64 + f) (ar_u ch f (ar_u (ar_u (fun _ => none) (ar_g j1 com) (some c)) (ar_g k com) (some l)))) := by
  have hk := P.1
  have L0 := I.1.1 _ _ _ P.2.1
  have he4 := ar_e_4 I.1 (fun i hi => ⟨(P.2.2.1 i hi).1, (P.2.2.1 i hi).2.1⟩)
  have hdc : ar_e dp pn L ≤ com := by
    by_cases z : ar_e dp pn L ≤ com
    · exact z
    · exact absurd (ar_t_dn (d := com + 1) (by omega) he4 h2).symm h4
  have nf : ∀ q, lv q = true → q ≠ f := fun q h z => by rw [z, hlf] at h; exact absurd h (by simp)
  have pnf : ∀ j, j < L → pn j ≠ f := fun j hj => nf _ (P.2.2.1 j hj).2.1
  have pnlt : ∀ j, j < L → dp (pn j) < ar_e dp pn L := fun j hj => ar_e_lt (fun i hi => (P.2.2.1 i hi).2.2.2.1) L (Nat.le_refl _) j hj
  have ee : ar_e (ar_u dp f com) pn L = ar_e dp pn L := ar_e_congr L (fun j hj => ar_un (pnf j hj))
  have lvi : ∀ q, ar_u lv f true q = true → q = f ∨ (q ≠ f ∧ lv q = true) := by
    intro q hq
    by_cases e : q = f
    · exact Or.inl e
    · rw [ar_un e] at hq
      exact Or.inr ⟨e, hq⟩
  have gk := ar_g_lt k com
  have gj := ar_g_lt j1 com
  have tk : ar_t k (com + 1) = 16 * ar_t k com + ar_g k com := ar_t_g (by omega)
  have tj : ar_t j1 (com + 1) = 16 * ar_t k com + ar_g j1 com := by rw [ar_t_g (by omega), h3]
  have gne : ar_g k com ≠ ar_g j1 com := fun z => h4 (by rw [tk, tj, z])
  have slot : ∀ j, L = j + 1 → (ar_u ch f (ar_u (ar_u (fun _ => none) (ar_g j1 com) (some c)) (ar_g k com) (some l))) (pn j) (ar_g k (ar_u dp f com (pn j))) ≠ none := by
    intro j ej
    rw [ar_un (pnf j (by omega)), ar_un (pnf j (by omega))]
    subst ej
    rw [ar_PF_o1 I P]
    simp
  have cntq : ∀ q, ar_cnt (ar_rlC (ar_u dp f com) pn k L (64 + f) (ar_u ch f (ar_u (ar_u (fun _ => none) (ar_g j1 com) (some c)) (ar_g k com) (some l))) q) = ar_cnt (ar_u ch f (ar_u (ar_u (fun _ => none) (ar_g j1 com) (some c)) (ar_g k com) (some l)) q) := fun q => ar_rl_cnt slot q
  have cntf : ar_cnt (ar_u (ar_u (fun _ => none) (ar_g j1 com) (some c)) (ar_g k com) (some l)) = 2 := by
    rw [ar_cnt_add gk (by rw [ar_un gne]), ar_cnt_add gj rfl, ar_cnt_0]
  have hG : ar_G (ar_u LF k (some l)) (ar_u lv f true) (ar_u dp f com) (ar_u pf f (ar_t k com)) (ar_SL (ar_u lv f true) (ar_u dp f com) (ar_u pf f (ar_t k com)) (ar_rlC (ar_u dp f com) pn k L (64 + f) (ar_u ch f (ar_u (ar_u (fun _ => none) (ar_g j1 com) (some c)) (ar_g k com) (some l)))) (ar_rlR L (64 + f) rt)) := by
    refine ar_fork I.1 (d0 := ar_e dp pn L) (od := ar_t j1 (com + 1)) (o1 := some c) hl (by omega) hlf (ar_PF_H I.1 P) P.2.1 (by simp) hdc hc3 (fun q hq hlq hkq => ?_) hall (by rw [h3]; exact (ar_t_s (by omega)).symm) (fun z => h4 z.symm) ⟨j1, h1, h2⟩ (fun m _ e => (hm m e).1) (fun d p o h => ?_)
    · obtain ⟨j, hj, e⟩ := P.2.2.2 q hq hlq hkq
      rw [← e]
      exact pnlt j hj
    · have h' := ar_SL_rl hk (fun j ej => by
        have a := P.2.2.1 j (by omega)
        have b := pnlt j (by omega)
        rw [ar_un (pnf j (by omega)), ar_un (pnf j (by omega))]
        refine ⟨(I.1.2.1 _ a.1 a.2.1).1, a.2.2.1, fun q hq hlq e1 e2 => ?_⟩
        rcases lvi q hlq with z | ⟨z1, z2⟩
        · rw [z, ar_us] at e1
          omega
        · rw [ar_un z1] at e1 e2
          exact I.1.2.2 q (pn j) hq a.1 z2 a.2.1 e1 e2) h
      rw [ee] at h'
      rcases h' with ⟨e1, e2, e3⟩ | ⟨hne, h2⟩
      · exact Or.inl ⟨e1, e2, e3⟩
      · rcases h2 with z | ⟨q, g, a1, a2, a3, a4, a5, a6⟩
        · exact Or.inr (Or.inr (Or.inr (Or.inr ⟨hne, Or.inl z⟩)))
        · rcases lvi q a2 with z | ⟨z1, z2⟩
          · subst z
            rw [ar_us] at a4 a5 a6
            by_cases e1 : g = ar_g k com
            · rw [e1, ar_us] at a6
              exact Or.inr (Or.inl ⟨a4, by rw [a5, e1, tk], a6⟩)
            · rw [ar_un e1] at a6
              by_cases e2 : g = ar_g j1 com
              · rw [e2, ar_us] at a6
                exact Or.inr (Or.inr (Or.inl ⟨a4, by rw [a5, e2, tj], a6⟩))
              · rw [ar_un e2] at a6
                exact Or.inr (Or.inr (Or.inr (Or.inl ⟨a4, by omega, by omega, by omega, a6⟩)))
          · rw [ar_un z1] at a4 a5 a6
            exact Or.inr (Or.inr (Or.inr (Or.inr ⟨hne, Or.inr ⟨q, g, a1, z2, a3, a4, a5, a6⟩⟩)))
  refine ⟨hG, fun q hq hlq => ?_, fun q hq hlq => ?_, ?_, ar_N_ins I hk hk0⟩
  · rcases lvi q hlq with z | ⟨z1, z2⟩
    · subst z
      have hs : ar_SL (ar_u lv q true) (ar_u dp q com) (ar_u pf q (ar_t k com)) (ar_rlC (ar_u dp q com) pn k L (64 + q) (ar_u ch q (ar_u (ar_u (fun _ => none) (ar_g j1 com) (some c)) (ar_g k com) (some l)))) (ar_rlR L (64 + q) rt) (ar_e (ar_u dp q com) pn L) (ar_t k (ar_e (ar_u dp q com) pn L)) (some (64 + q)) :=
        ar_SL_rl' hk (fun j ej => by
          have a := P.2.2.1 j (by omega)
          rw [ar_un (pnf j (by omega)), ar_un (pnf j (by omega)), ar_un (pnf j (by omega))]
          exact ⟨a.1, a.2.1, (I.1.2.1 _ a.1 a.2.1).1, a.2.2.1⟩)
      rw [ee] at hs
      have hLk := hG.1 _ _ _ hs
      obtain ⟨x1, x2⟩ := ar_Lk_lo hLk
      obtain ⟨y1, y2⟩ := ar_Lk_loS (va := upd va l w) hLk
      have hKL := ar_kL (va := va) (kb := kb) (sb := sb) L0 (fun m hm e => I.2.1 m hm (by rw [e] at L0; exact (ar_Lk_node L0).2.1))
      obtain ⟨o1, o2⟩ := ar_kO_I (va := upd va l w) (kb := kb) (sb := sb) (o := some c) (fun m e => (hm m e).2) w.toInt64
      have o3 : ar_sO (upd va l w) sb (some c) = ar_sO va sb (some c) := by
        refine ar_sO_va (fun z => ?_)
        have ec : c = l := Option.some.inj z
        rw [ec] at L0
        obtain ⟨x, hx, _⟩ := ar_Lk_leaf hl L0
        exact hfr x hx
      rw [o2, o1, o3]
      obtain ⟨k1, k2⟩ := ar_t_iff.mp (rfl : ar_t k (ar_e dp pn L) = ar_t k (ar_e dp pn L))
      have c1 := ar_C_chg (F := LF) (F' := ar_u LF k (some l)) (k := k) (fun i hi => ar_un hi) (ar_t k (ar_e dp pn L) * ar_B (ar_e dp pn L))
      have c2 := ar_C_chg (F := LF) (F' := ar_u LF k (some l)) (k := k) (fun i hi => ar_un hi) ((ar_t k (ar_e dp pn L) + 1) * ar_B (ar_e dp pn L))
      have s1 := ar_S_chg (M := ar_M LF va) (M' := ar_u (ar_M LF va) k (some w)) (k := k) (fun i hi => ar_un hi) (ar_t k (ar_e dp pn L) * ar_B (ar_e dp pn L))
      have s2 := ar_S_chg (M := ar_M LF va) (M' := ar_u (ar_M LF va) k (some w)) (k := k) (fun i hi => ar_un hi) ((ar_t k (ar_e dp pn L) + 1) * ar_B (ar_e dp pn L))
      rw [if_neg (by omega), if_neg (by omega)] at c1 s1
      rw [if_pos k2, if_pos k2, ar_us, hk0] at c2
      rw [if_pos k2, if_pos k2, ar_us, ar_M_none hk0] at s2
      have c2' : ar_C (ar_u LF k (some l)) ((ar_t k (ar_e dp pn L) + 1) * ar_B (ar_e dp pn L)) + 0 = ar_C LF ((ar_t k (ar_e dp pn L) + 1) * ar_B (ar_e dp pn L)) + 1 := c2
      have s2' : ar_S (ar_u (ar_M LF va) k (some w)) ((ar_t k (ar_e dp pn L) + 1) * ar_B (ar_e dp pn L)) + 0 = ar_S (ar_M LF va) ((ar_t k (ar_e dp pn L) + 1) * ar_B (ar_e dp pn L)) + w.toInt64 := s2
      rw [Int64.add_zero, Int64.add_zero] at s1
      rw [Int64.add_zero] at s2'
      rw [ar_M_ins hfr] at y1 y2 ⊢
      obtain ⟨t1, t2⟩ := hKL
      refine ⟨?_, ?_⟩
      · rw [← x1, ← x2, ar_us]
        omega
      · rw [← y1, ← y2, ar_us, s1, s2', t2]
        grind
    · unfold ar_K
      rw [ar_un z1, ar_un z1, ar_un z1, ar_un z1]
      exact ar_K_insI I hk0 hfr hq z2
  · rw [cntq]
    rcases lvi q hlq with z | ⟨z1, z2⟩
    · subst z
      rw [ar_us, cntf]
      exact ⟨fun _ => by omega, fun z => by omega⟩
    · rw [ar_un z1]
      exact I.2.2.1 q hq z2
  · have hN := ar_I_pos I hlt h1
    have h := ar_sN_one (f := ar_pot (ar_u lv f true) (ar_rlC (ar_u dp f com) pn k L (64 + f) (ar_u ch f (ar_u (ar_u (fun _ => none) (ar_g j1 com) (some c)) (ar_g k com) (some l))))) (g := ar_pot lv ch) (k := f) (fun q hq => by
      unfold ar_pot
      rw [cntq, ar_un hq, ar_un hq]) 80 (by omega)
    have e1 : ar_pot (ar_u lv f true) (ar_rlC (ar_u dp f com) pn k L (64 + f) (ar_u ch f (ar_u (ar_u (fun _ => none) (ar_g j1 com) (some c)) (ar_g k com) (some l)))) f = 1 := by
      unfold ar_pot
      rw [ar_us, cntq, ar_us, cntf]
      rfl
    have e2 : ar_pot lv ch f = 0 := by
      unfold ar_pot
      rw [hlf]
      rfl
    have hP := I.2.2.2.1
    omega
end
end
section
section
variable {rt : Option Nat} {L : Nat} {pn : Nat → Nat} {N : Nat} {LF : Nat → Option Nat} {va : Nat → Int32} {al lv : Nat → Bool} {dp pf kb : Nat → Nat} {sb : Nat → Int64} {ch : Nat → Nat → Option Nat}
theorem ar_x_relink {post : SX → Prop} {u : SX} (A : ar_A rt L pn N LF va al lv dp pf kb sb ch u) {k c i : Nat} (hk : k < 65536) (hc : c < 144) (hi : i ≤ L) (hj : ∀ j, i = j + 1 → lv (pn j) = true ∧ ch (pn j) (ar_g k (dp (pn j))) ≠ none)
    (hp : ∀ u', ar_A (ar_rlR i c rt) L pn N LF va al lv dp pf kb sb (ar_rlC dp pn k i c ch) u' → post u') : wpX_relink post u (nI i) (nI k) (nI c) := by
  cases i with
  | zero => exact ar_x_relink0 A hp
  | succ j => exact ar_x_relink1 A hk hc hi (hj j rfl).1 (hj j rfl).2 hp
theorem ar_rl_c {k i c q : Nat} {ch' : Nat → Nat → Option Nat} (h : ch q = ch' q) : ar_rlC dp pn k i c ch q = ar_rlC dp pn k i c ch' q := by
  cases i with
  | zero => exact h
  | succ j =>
    show ar_u ch (pn j) (ar_u (ch (pn j)) (ar_g k (dp (pn j))) (some c)) q = ar_u ch' (pn j) (ar_u (ch' (pn j)) (ar_g k (dp (pn j))) (some c)) q
    by_cases e : q = pn j
    · rw [← e, ar_us, ar_us, h]
    · rw [ar_un e, ar_un e, h]
theorem ar_I_hc2 (I : ar_I rt N LF va lv dp pf kb sb ch) {n g c : Nat} (hn : n < 80) (hl : lv n = true) (hg : g < 16) (e : ch n g = some c) : c < 64 ∨ ∃ m, c = 64 + m ∧ m < 80 ∧ lv m = true := by
  have h := ar_I_slot I hn hl hg
  rw [e] at h
  rcases h with ⟨z, _⟩ | ⟨l, k, z, h1, _⟩ | ⟨m, z, h1, h2, _⟩
  · exact absurd z (by simp)
  · have := Option.some.inj z
    exact Or.inl (by omega)
  · exact Or.inr ⟨m, Option.some.inj z, h1, h2⟩
theorem ar_I_kb (I : ar_I rt N LF va lv dp pf kb sb ch) (hlt : ∀ k, LF k ≠ none → k < 65536) (hN : N ≤ 64) {n : Nat} (hn : n < 80) (hl : lv n = true) : kb n ≤ 64 := by
  have h1 := (I.2.1 n hn hl).1
  have h2 := ar_C_le hlt ((pf n + 1) * ar_B (dp n))
  have h3 := I.2.2.2.2
  omega
theorem ar_I_room (I : ar_I rt N LF va lv dp pf kb sb ch) (hN : N ≤ 64) : ar_sN (fun i => ar_b (lv (0 + i))) 64 ≤ 63 ∧ ar_sN (fun i => ar_b (lv (64 + i))) 16 ≤ 15 :=
  ar_room hN I.2.2.2.1 (fun n hn hl => ar_G_2 I.1 hn hl) (fun n hn hl h => (I.2.2.1 n hn hl).2 h)
/-- the children of the last node don't hold the key -/
theorem ar_PF_nk (I : ar_I rt N LF va lv dp pf kb sb ch) {k i g m : Nat} {o : Option Nat} (P : ar_PF lv dp pf (ar_SL lv dp pf ch rt) k (i + 1) pn o) (ho : ∀ m, o ≠ some (64 + m)) (hg : g < 16) (e : ch (pn i) g = some (64 + m)) : ar_t k (dp m) ≠ pf m := by
  intro z
  obtain ⟨p1, p2, p3, _⟩ := P.2.2.1 i (by omega)
  have h := ar_I_slot I p1 p2 hg
  rw [e] at h
  have h1 := (ar_Lk_node h).2.2.2.1 k z
  rw [ar_PF_et I P (i := i) (by omega)] at h1
  have h2 := ar_PF_o1 I P
  have h3 : ar_g k (dp (pn i)) = g := by omega
  rw [h3, e] at h2
  exact ho m h2.symm
theorem ar_x_wid74 {f_root f_keyCount f_spareLeaves f_spareSmalls f_spareWides f_pathLength : Int32} {a_leafKey a_leafValue a_spareLeaf a_depth a_prefix a_childCount a_keysBelow : Nat → Int32} {a_sumBelow : Nat → Int64} {a_smallDigit a_smallChild a_wideChild a_spareSmall a_spareWide a_path : Nat → Int32} {post : SX → Prop} {k i l : Nat} {w : Int32} (A : ar_A rt (i + 1) pn (N + 1) (ar_u LF k (some l)) (upd va l w) lv lv dp pf (ar_kI dp pf kb k) (ar_sI dp pf sb k w.toInt64) ch (f_root, f_keyCount, f_spareLeaves, f_spareSmalls, f_spareWides, f_pathLength, a_leafKey, a_leafValue, a_spareLeaf, a_depth, a_prefix, a_childCount, a_keysBelow, a_sumBelow, a_smallDigit, a_smallChild, a_wideChild, a_spareSmall, a_spareWide, a_path)) (I : ar_I rt N LF va lv dp pf kb sb ch)
    (P : ar_PF lv dp pf (ar_SL lv dp pf ch rt) k (i + 1) pn none) (hlt : ∀ k, LF k ≠ none → k < 65536) (hN : N ≤ 64) (hk0 : LF k = none) (hl : l < 64) (hfr : ∀ j, LF j ≠ some l) (h4 : pn i < 64 → ar_cnt (ch (pn i)) < 4)
    (hp : ∀ u', ar_RX (ar_u (ar_M LF va) k (some w)) u' → post u') : wX_widenAndAdd_74 post (nI l) (nI (64 + pn i)) (nI (ar_g k (dp (pn i)))) f_root f_keyCount f_spareLeaves f_spareSmalls f_spareWides f_pathLength a_leafKey a_leafValue a_spareLeaf a_depth a_prefix a_childCount a_keysBelow a_sumBelow a_smallDigit a_smallChild a_wideChild a_spareSmall a_spareWide a_path := by
  obtain ⟨p1, p2, p3, _⟩ := P.2.2.1 i (by omega)
  have B := A
  obtain ⟨A1, A2, A3, A4, A5, A6⟩ := A
  obtain ⟨⟨r1, r2, r3, r4⟩, ⟨d1, d2, d3, d4, d5⟩, T⟩ := A5 (pn i) p1 p2
  have kv : a_leafValue = upd va l w := A2.2.2.2.1
  have k1 : ar_kI dp pf kb k (pn i) = kb (pn i) + 1 := if_pos p3
  have hkb := ar_I_kb I hlt hN p1 p2
  have hv : vp_in (nI (64 + pn i) - 64) 80 := by rw [ar_m64]; exact vp_in_nI p1 (by omega)
  refine And.intro hv (And.intro hv (nm_r (e' := upd a_keysBelow (pn i) (nI (kb (pn i)))) ?_ (And.intro hv (And.intro (vp_in_nI hl (by omega)) (And.intro hv (nm_r (e' := vp_updL a_sumBelow (pn i) (a_sumBelow (pn i) - w.toInt64)) ?_ ?_))))))
  · have e : nI (kb (pn i) + 1) - 1 = nI (kb (pn i)) := nI_pred _
    rw [ar_m64, ar_cl (by omega), d4, k1, e, ar_nb (by omega)]
  · rw [ar_m64, ar_cl (by omega), ar_cl (by omega), kv, pk_us]
  · have A' : ar_A rt (i + 1) pn (N + 1) (ar_u LF k (some l)) (upd va l w) lv lv dp pf (ar_u (ar_kI dp pf kb k) (pn i) (kb (pn i))) (ar_u (ar_sI dp pf sb k w.toInt64) (pn i) (ar_sI dp pf sb k w.toInt64 (pn i) - w.toInt64)) ch (f_root, f_keyCount, f_spareLeaves, f_spareSmalls, f_spareWides, f_pathLength, a_leafKey, a_leafValue, a_spareLeaf, a_depth, a_prefix, a_childCount, upd a_keysBelow (pn i) (nI (kb (pn i))), vp_updL a_sumBelow (pn i) (a_sumBelow (pn i) - w.toInt64), a_smallDigit, a_smallChild, a_wideChild, a_spareSmall, a_spareWide, a_path) := by
      refine ⟨A1, A2, A3, A4, ar_AN_gen A5 (pn i) (fun _ _ => ?_) (fun q e => ?_) (fun _ _ _ => ⟨rfl, rfl⟩) (fun _ _ _ _ _ _ => rfl), A6⟩
      · rw [ar_us, ar_us, pk_us, pk_uLs]
        exact ⟨⟨r1, r2, by omega, r4⟩, ⟨d1, d2, d3, rfl, by rw [d5]⟩, T⟩
      · rw [ar_un e, ar_un e, pk_un e, pk_uLn e]
        exact ⟨rfl, rfl, rfl, rfl, rfl, rfl⟩
    refine ar_x_addChild A' p1 p2 (ar_g_lt _ _) (Or.inl hl) (ar_PF_o1 I P) h4 ?_ (fun u' A2' => ?_)
    · rw [ar_us, ar_kO_l hl]
      omega
    · rw [ar_us, ar_us, ar_uu, ar_uu, ar_kO_l hl, ar_sO_l hl, pk_us] at A2'
      have A3' := ar_A_kb A2' (kb' := ar_kI dp pf kb k) (sb' := ar_sI dp pf sb k w.toInt64) (fun q _ _ => by
        by_cases e : q = pn i
        · rw [e, ar_us, ar_us, k1]
          exact ⟨rfl, by grind⟩
        · rw [ar_un e, ar_un e]
          exact ⟨rfl, rfl⟩)
      have hI := ar_I_add (w := w) I P hlt hk0 hl hfr h4
      obtain ⟨f_root, f_keyCount, f_spareLeaves, f_spareSmalls, f_spareWides, f_pathLength, a_leafKey, a_leafValue, a_spareLeaf, a_depth, a_prefix, a_childCount, a_keysBelow, a_sumBelow, a_smallDigit, a_smallChild, a_wideChild, a_spareSmall, a_spareWide, a_path⟩ := u'
      exact hp _ ⟨_, _, _, _, _, _, _, _, _, _, _, _, A3', hI, (ar_M_ins hfr).symm⟩
theorem ar_x_widen {post : SX → Prop} {u : SX} {k i l : Nat} {w : Int32} (A : ar_A rt (i + 1) pn (N + 1) (ar_u LF k (some l)) (upd va l w) lv lv dp pf (ar_kI dp pf kb k) (ar_sI dp pf sb k w.toInt64) ch u) (I : ar_I rt N LF va lv dp pf kb sb ch)
    (P : ar_PF lv dp pf (ar_SL lv dp pf ch rt) k (i + 1) pn none) (hlt : ∀ k, LF k ≠ none → k < 65536) (hN : N ≤ 64) (hk0 : LF k = none) (hl : l < 64) (hfr : ∀ j, LF j ≠ some l)
    (hp : ∀ u', ar_RX (ar_u (ar_M LF va) k (some w)) u' → post u') : wpX_widenAndAdd post u (nI l) (nI k) := by
  obtain ⟨p1, p2, p3, p4, p5⟩ := P.2.2.1 i (by omega)
  have hk := P.1
  obtain ⟨f_root, f_keyCount, f_spareLeaves, f_spareSmalls, f_spareWides, f_pathLength, a_leafKey, a_leafValue, a_spareLeaf, a_depth, a_prefix, a_childCount, a_keysBelow, a_sumBelow, a_smallDigit, a_smallChild, a_wideChild, a_spareSmall, a_spareWide, a_path⟩ := u
  have B := A
  obtain ⟨A1, A2, A3, A4, A5, A6⟩ := A
  obtain ⟨q1, q2, q3⟩ := A6
  obtain ⟨⟨r1, r2, r3, r4⟩, ⟨d1, d2, d3, d4, d5⟩, T⟩ := A5 (pn i) p1 p2
  have k1 : ar_kI dp pf kb k (pn i) = kb (pn i) + 1 := if_pos p3
  have hkb := ar_I_kb I hlt hN p1 p2
  have hv : vp_in (nI (pn i)) 80 := vp_in_nI p1 (by omega)
  refine nm_r (e' := nI i) (by rw [q2]; exact nI_pred i) (And.intro (vp_in_nI (by omega) (by omega)) (nm_r (e' := nI (64 + pn i)) (by rw [ar_cl (by omega)]; exact (q3 i (by omega)).2) (And.intro (by rw [ar_m64]; exact hv) ?_)))
  rw [ar_m64, ar_cl (by omega), d1, d3]
  refine ar_x_dig hk r1 ?_
  by_cases c64 : pn i < 64
  · refine br_f (nI_ge (b := 128) (by omega) (by decide)) (And.intro hv (pk_eq (ar_cnt (ch (pn i))) 4 (fun e4 => ?_) (fun e4 => ?_) rfl rfl (by have := ar_cnt_le (ch (pn i)); omega)))
    · have hroom := (ar_I_room I hN).2
      have hkO : ∀ g, g < 16 → ar_kO (ar_kI dp pf kb k) (ch (pn i) g) = ar_kO kb (ch (pn i) g) ∧ ar_sO (upd va l w) (ar_sI dp pf sb k w.toInt64) (ch (pn i) g) = ar_sO va sb (ch (pn i) g) := by
        intro g hg
        have h := ar_kO_I (va := upd va l w) (kb := kb) (sb := sb) (dp := dp) (pf := pf) (k := k) (o := ch (pn i) g) (fun m em => ar_PF_nk I P (fun m => by simp) hg em) w.toInt64
        refine ⟨h.1, h.2.trans (ar_sO_va (fun z => ?_))⟩
        have hs := ar_I_slot I p1 p2 hg
        rw [z] at hs
        obtain ⟨x, hx, _⟩ := ar_Lk_leaf hl hs
        exact hfr x hx
      obtain ⟨s1, s2⟩ := ar_I_all I p1 p2
      have e1 : ar_sN (fun g => ar_kO (ar_kI dp pf kb k) (ch (pn i) g)) 16 = kb (pn i) := by
        rw [← s1]
        exact ar_sN_congr 16 (fun g hg => (hkO g hg).1)
      have e2 : ar_sL (fun g => ar_sO (upd va l w) (ar_sI dp pf sb k w.toInt64) (ch (pn i) g)) 16 = sb (pn i) := by
        rw [← s2]
        exact ar_sL_congr 16 (fun g hg => (hkO g hg).2)
      refine ar_x_rebW B p1 p2 (fun q _ h => h) hroom (fun g c hg e => ar_I_hc2 I p1 p2 hg e) (by rw [e1]; omega) (fun n' u' h64 hn' _ hln' A' => ?_)
      rw [e1, e2] at A'
      have nq : ∀ q, lv q = true → q ≠ n' := fun q h z => by rw [z, hln'] at h; exact absurd h (by simp)
      have hnn : pn i ≠ n' := nq _ p2
      have pji : ∀ j, i = j + 1 → pn j ≠ pn i ∧ pn j ≠ n' ∧ pn j < 80 ∧ lv (pn j) = true := by
        intro j ej
        have a := P.2.2.1 j (by omega)
        refine ⟨fun z => ?_, nq _ a.2.1, a.1, a.2.1⟩
        have := ar_PF_inj P (i := j) (j := i) (by omega) (by omega) z
        omega
      have hI := ar_I_widen (w := w) I P hlt hk0 hl hfr h64 hn' hln' e4
      obtain ⟨f_root, f_keyCount, f_spareLeaves, f_spareSmalls, f_spareWides, f_pathLength, a_leafKey, a_leafValue, a_spareLeaf, a_depth, a_prefix, a_childCount, a_keysBelow, a_sumBelow, a_smallDigit, a_smallChild, a_wideChild, a_spareSmall, a_spareWide, a_path⟩ := u'
      refine ar_x_relink A' hk (c := 64 + n') (by omega) (by omega) (fun j ej => ?_) (fun u2 A2' => ?_)
      · obtain ⟨z1, z2, z3, z4⟩ := pji j ej
        rw [ar_un z1, ar_un z2, ar_un z2, ar_un z2]
        refine ⟨z4, ?_⟩
        rw [ar_PF_oi I P (j := j) (by omega)]
        simp
      · obtain ⟨f_root, f_keyCount, f_spareLeaves, f_spareSmalls, f_spareWides, f_pathLength, a_leafKey, a_leafValue, a_spareLeaf, a_depth, a_prefix, a_childCount, a_keysBelow, a_sumBelow, a_smallDigit, a_smallChild, a_wideChild, a_spareSmall, a_spareWide, a_path⟩ := u2
        have on' : ar_rlC (ar_u dp n' (dp (pn i))) pn k i (64 + n') (ar_u ch n' (ch (pn i))) n' = ch (pn i) := by
          rw [ar_rl_o (fun j ej z => (pji j ej).2.1 z.symm), ar_us]
        refine ar_x_addChild A2' (by omega) (by rw [ar_un (fun z => hnn z.symm), ar_us]) (ar_g_lt _ _) (Or.inl hl) (by rw [on']; exact ar_PF_o1 I P) (fun z => by omega) ?_ (fun u3 A3' => ?_)
        · rw [ar_us, ar_kO_l hl]
          omega
        · rw [ar_us, ar_us, ar_uu, ar_uu, ar_kO_l hl, ar_sO_l hl, pk_us, on', ← k1] at A3'
          have es : sb (pn i) + w.toInt64 = ar_sI dp pf sb k w.toInt64 (pn i) := (if_pos p3).symm
          rw [es] at A3'
          have A4' := ar_A_ch A3' (ch' := ar_rlC (ar_u dp n' (dp (pn i))) pn k i (64 + n') (ar_u (ar_u ch (pn i) (ar_u (ch (pn i)) (ar_g k (dp (pn i))) (some l))) n' (ar_u ch (pn i) (ar_u (ch (pn i)) (ar_g k (dp (pn i))) (some l)) (pn i)))) (fun q g _ hlq _ => by
            by_cases e : q = n'
            · rw [e, ar_us, ar_rl_o (fun j ej z => (pji j ej).2.1 z.symm), ar_us, ar_us]
            · have e' : q ≠ pn i := fun z => by
                rw [z, ar_us] at hlq
                exact absurd hlq (by simp)
              rw [ar_un e]
              exact congrFun (ar_rl_c (by rw [ar_un e, ar_un e, ar_un e'])) g)
          obtain ⟨f_root, f_keyCount, f_spareLeaves, f_spareSmalls, f_spareWides, f_pathLength, a_leafKey, a_leafValue, a_spareLeaf, a_depth, a_prefix, a_childCount, a_keysBelow, a_sumBelow, a_smallDigit, a_smallChild, a_wideChild, a_spareSmall, a_spareWide, a_path⟩ := u3
          exact hp _ ⟨_, _, _, _, _, _, _, _, _, _, _, _, A4', hI, (ar_M_ins hfr).symm⟩
    · exact ar_x_wid74 B I P hlt hN hk0 hl hfr (fun _ => by have := (I.2.2.1 _ p1 p2).1 c64; omega) hp
  · exact br_t (nI_le (a := 128) (by omega) (by omega)) (ar_x_wid74 B I P hlt hN hk0 hl hfr (fun z => absurd z c64) hp)
theorem ar_x_h180 {f_root f_keyCount f_spareLeaves f_spareSmalls f_spareWides f_pathLength : Int32} {a_leafKey a_leafValue a_spareLeaf a_depth a_prefix a_childCount a_keysBelow : Nat → Int32} {a_sumBelow : Nat → Int64} {a_smallDigit a_smallChild a_wideChild a_spareSmall a_spareWide a_path : Nat → Int32} {post : SX → Prop} {k l c com j1 : Nat} {w : Int32} (A : ar_A rt L pn (N + 1) (ar_u LF k (some l)) (upd va l w) lv lv dp pf (ar_kI dp pf kb k) (ar_sI dp pf sb k w.toInt64) ch (f_root, f_keyCount, f_spareLeaves, f_spareSmalls, f_spareWides, f_pathLength, a_leafKey, a_leafValue, a_spareLeaf, a_depth, a_prefix, a_childCount, a_keysBelow, a_sumBelow, a_smallDigit, a_smallChild, a_wideChild, a_spareSmall, a_spareWide, a_path)) (I : ar_I rt N LF va lv dp pf kb sb ch)
    (P : ar_PF lv dp pf (ar_SL lv dp pf ch rt) k L pn (some c)) (hlt : ∀ k, LF k ≠ none → k < 65536) (hN : N ≤ 64) (hk0 : LF k = none) (hl : l < 64) (hfr : ∀ j, LF j ≠ some l)
    (hcl : c < 64 ∨ ∃ m, c = 64 + m ∧ m < 80 ∧ lv m = true)
    (h1 : LF j1 ≠ none) (h2 : ar_t j1 (ar_e dp pn L) = ar_t k (ar_e dp pn L)) (hc3 : com ≤ 3) (h3 : ar_t k com = ar_t j1 com) (h4 : ar_t k (com + 1) ≠ ar_t j1 (com + 1))
    (hall : ∀ j, LF j ≠ none → ar_t j (ar_e dp pn L) = ar_t k (ar_e dp pn L) → ar_t j (com + 1) = ar_t j1 (com + 1)) (hm : ∀ m, some c = some (64 + m) → com < dp m ∧ ar_t k (dp m) ≠ pf m)
    (hp : ∀ u', ar_RX (ar_u (ar_M LF va) k (some w)) u' → post u') : wX_hangUp_180 post (nI l) (nI k) (nI L) (nI c) (nI com) (nI (ar_g j1 com)) f_root f_keyCount f_spareLeaves f_spareSmalls f_spareWides f_pathLength a_leafKey a_leafValue a_spareLeaf a_depth a_prefix a_childCount a_keysBelow a_sumBelow a_smallDigit a_smallChild a_wideChild a_spareSmall a_spareWide a_path := by
  have hk := P.1
  have hroom := (ar_I_room I hN).1
  have gk := ar_g_lt k com
  have gj := ar_g_lt j1 com
  have tk : ar_t k (com + 1) = 16 * ar_t k com + ar_g k com := ar_t_g (by omega)
  have tj : ar_t j1 (com + 1) = 16 * ar_t k com + ar_g j1 com := by rw [ar_t_g (by omega), h3]
  have gne : ar_g k com ≠ ar_g j1 com := fun z => h4 (by rw [tk, tj, z])
  have hkc : ar_kO (ar_kI dp pf kb k) (some c) ≤ 64 := by
    rcases hcl with z | ⟨m, rfl, z, zl⟩
    · rw [ar_kO_l z]; omega
    · rw [ar_kO_n]
      have e : ar_kI dp pf kb k m = kb m := if_neg (hm m rfl).2
      rw [e]
      exact ar_I_kb I hlt hN z zl
  unfold wX_hangUp_180
  refine ar_x_newSmall A hroom (fun f u' hf hlf A' => ?_)
  have nq : ∀ q, lv q = true → q ≠ f := fun q h z => by rw [z, hlf] at h; exact absurd h (by simp)
  have hcm : ∀ m, c = 64 + m → m ≠ f := by
    intro m em
    rcases hcl with z | ⟨m', e', z, zl⟩
    · omega
    · have : m = m' := by omega
      rw [this]
      exact nq m' zl
  have hcl' : c < 64 ∨ ∃ m, c = 64 + m ∧ m < 80 ∧ ar_u lv f true m = true := by
    rcases hcl with z | ⟨m, e', z, zl⟩
    · exact Or.inl z
    · exact Or.inr ⟨m, e', z, by rw [ar_un (nq m zl)]; exact zl⟩
  have hI := ar_I_fork (w := w) I P hlt hk0 hl hfr hf hlf h1 h2 hc3 h3 h4 hall hm
  obtain ⟨f_root, f_keyCount, f_spareLeaves, f_spareSmalls, f_spareWides, f_pathLength, a_leafKey, a_leafValue, a_spareLeaf, a_depth, a_prefix, a_childCount, a_keysBelow, a_sumBelow, a_smallDigit, a_smallChild, a_wideChild, a_spareSmall, a_spareWide, a_path⟩ := u'
  refine ar_x_top hk (by omega) ?_
  refine ar_x_header A' (by omega) hlf hc3 (ar_t_lt hk com) (fun z => by omega) (fun u2 A2 => ?_)
  obtain ⟨f_root, f_keyCount, f_spareLeaves, f_spareSmalls, f_spareWides, f_pathLength, a_leafKey, a_leafValue, a_spareLeaf, a_depth, a_prefix, a_childCount, a_keysBelow, a_sumBelow, a_smallDigit, a_smallChild, a_wideChild, a_spareSmall, a_spareWide, a_path⟩ := u2
  refine ar_x_addChild A2 (by omega) ar_us gj hcl' (by rw [ar_us]) (fun _ => by rw [ar_us, ar_cnt_0]; omega) (by rw [ar_us, ar_kO_u hcm]; omega) (fun u3 A3 => ?_)
  rw [ar_us, ar_us, ar_us, ar_uu, ar_uu, ar_uu, ar_kO_u hcm, ar_sO_u hcm] at A3
  obtain ⟨f_root, f_keyCount, f_spareLeaves, f_spareSmalls, f_spareWides, f_pathLength, a_leafKey, a_leafValue, a_spareLeaf, a_depth, a_prefix, a_childCount, a_keysBelow, a_sumBelow, a_smallDigit, a_smallChild, a_wideChild, a_spareSmall, a_spareWide, a_path⟩ := u3
  refine ar_x_dig hk hc3 ?_
  refine ar_x_addChild A3 (by omega) ar_us gk (Or.inl hl) (by rw [ar_us, ar_un gne]) (fun _ => by rw [ar_us, ar_cnt_add gj rfl, ar_cnt_0]; omega) (by rw [ar_us, ar_kO_l hl]; omega) (fun u4 A4 => ?_)
  rw [ar_us, ar_us, ar_us, ar_uu, ar_uu, ar_uu, ar_kO_l hl, ar_sO_l hl, pk_us] at A4
  obtain ⟨f_root, f_keyCount, f_spareLeaves, f_spareSmalls, f_spareWides, f_pathLength, a_leafKey, a_leafValue, a_spareLeaf, a_depth, a_prefix, a_childCount, a_keysBelow, a_sumBelow, a_smallDigit, a_smallChild, a_wideChild, a_spareSmall, a_spareWide, a_path⟩ := u4
  refine ar_x_relink A4 hk (c := 64 + f) (by omega) (Nat.le_refl _) (fun j ej => ?_) (fun u5 A5 => ?_)
  · have a := P.2.2.1 j (by omega)
    have z := nq _ a.2.1
    rw [ar_un z, ar_un z, ar_un z]
    refine ⟨a.2.1, ?_⟩
    subst ej
    rw [ar_PF_o1 I P]
    simp
  · obtain ⟨f_root, f_keyCount, f_spareLeaves, f_spareSmalls, f_spareWides, f_pathLength, a_leafKey, a_leafValue, a_spareLeaf, a_depth, a_prefix, a_childCount, a_keysBelow, a_sumBelow, a_smallDigit, a_smallChild, a_wideChild, a_spareSmall, a_spareWide, a_path⟩ := u5
    exact hp _ ⟨_, _, _, _, _, _, _, _, _, _, _, _, A5, hI, (ar_M_ins hfr).symm⟩
end
end
section
section
variable {rt : Option Nat} {L : Nat} {pn : Nat → Nat} {N : Nat} {LF : Nat → Option Nat} {va : Nat → Int32} {al lv : Nat → Bool} {dp pf kb : Nat → Nat} {sb : Nat → Int64} {ch : Nat → Nat → Option Nat}
theorem ar_x_hang61 {f_root f_keyCount f_spareLeaves f_spareSmalls f_spareWides f_pathLength : Int32} {a_leafKey a_leafValue a_spareLeaf a_depth a_prefix a_childCount a_keysBelow : Nat → Int32} {a_sumBelow : Nat → Int64} {a_smallDigit a_smallChild a_wideChild a_spareSmall a_spareWide a_path : Nat → Int32} {post : SX → Prop} {k l : Nat} {w : Int32} {o : Option Nat} (A : ar_A rt L pn (N + 1) (ar_u LF k (some l)) (upd va l w) lv lv dp pf kb sb ch (f_root, f_keyCount, f_spareLeaves, f_spareSmalls, f_spareWides, f_pathLength, a_leafKey, a_leafValue, a_spareLeaf, a_depth, a_prefix, a_childCount, a_keysBelow, a_sumBelow, a_smallDigit, a_smallChild, a_wideChild, a_spareSmall, a_spareWide, a_path)) (I : ar_I rt N LF va lv dp pf kb sb ch)
    (P : ar_PF lv dp pf (ar_SL lv dp pf ch rt) k L pn o) (hrt : rt ≠ none) (hlt : ∀ k l, LF k = some l → k < 65536 ∧ l < 64 ∧ a_leafKey l = nI k) (hN : N ≤ 64) (hk0 : LF k = none) (hl : l < 64) (hfr : ∀ j, LF j ≠ some l)
    (hp : ∀ u', ar_RX (ar_u (ar_M LF va) k (some w)) u' → post u') : wX_hangUp_61 post (nI l) (nI k) (nI L) (ar_L o) f_root f_keyCount f_spareLeaves f_spareSmalls f_spareWides f_pathLength a_leafKey a_leafValue a_spareLeaf a_depth a_prefix a_childCount a_keysBelow a_sumBelow a_smallDigit a_smallChild a_wideChild a_spareSmall a_spareWide a_path := by
  have hk := P.1
  have hlt1 : ∀ k, LF k ≠ none → k < 65536 := fun j hj => by
    cases e : LF j with
    | none => exact absurd e hj
    | some x => exact (hlt j x e).1
  have B := A
  obtain ⟨A1, A2, A3, A4, A5, A6⟩ := A
  have kv : a_leafValue = upd va l w := A2.2.2.2.1
  have inP : ∀ q, q < 80 → lv q = true → (∀ i, i < L → pn i ≠ q) → ar_t k (dp q) ≠ pf q := fun q hq hlq h z => by
    obtain ⟨i, hi, e⟩ := P.2.2.2 q hq hlq z
    exact h i hi e
  refine And.intro (vp_in_nI hl (by omega)) ?_
  have kvl : a_leafValue l = w := by rw [kv, pk_us]
  rw [ar_cl (by omega), kvl]
  refine ar_x_credit B (kb' := ar_kI dp pf kb k) (sb' := ar_sI dp pf sb k w.toInt64) (fun i hi => (P.2.2.1 i hi).2.1) (fun i j hi hj e => ar_PF_inj P hi hj e) (fun i hi => ?_) (fun q hq hlq h => ⟨if_neg (inP q hq hlq h), if_neg (inP q hq hlq h)⟩) (fun u' A' => ?_)
  · obtain ⟨p1, p2, p3, _⟩ := P.2.2.1 i hi
    have h1 : ar_kI dp pf kb k (pn i) = kb (pn i) + 1 := if_pos p3
    have h2 : ar_sI dp pf sb k w.toInt64 (pn i) = sb (pn i) + w.toInt64 := if_pos p3
    have h3 := ar_I_kb I hlt1 hN p1 p2
    rw [h1, h2]
    exact ⟨nI_1 _, by omega, rfl⟩
  · have L0 := I.1.1 _ _ _ P.2.1
    obtain ⟨f_root, f_keyCount, f_spareLeaves, f_spareSmalls, f_spareWides, f_pathLength, a_leafKey, a_leafValue, a_spareLeaf, a_depth, a_prefix, a_childCount, a_keysBelow, a_sumBelow, a_smallDigit, a_smallChild, a_wideChild, a_spareSmall, a_spareWide, a_path⟩ := u'
    have B' := A'
    obtain ⟨A1', A2', A3', A4', A5', A6'⟩ := A'
    rcases L0 with ⟨e, hz⟩ | ⟨c, x, e, h1, h2, h3, h4⟩ | ⟨m, e, h1, h2, h3, h4, h6⟩
    · subst e
      obtain ⟨i, rfl⟩ : ∃ i, L = i + 1 := by
        cases L with
        | zero => exact absurd (ar_PF_o0 I P).symm hrt
        | succ i => exact ⟨i, rfl⟩
      refine br_f (by decide) ?_
      refine ar_x_widen B' I P hlt1 hN hk0 hl hfr (fun u2 R2 => ?_)
      obtain ⟨f_root, f_keyCount, f_spareLeaves, f_spareSmalls, f_spareWides, f_pathLength, a_leafKey, a_leafValue, a_spareLeaf, a_depth, a_prefix, a_childCount, a_keysBelow, a_sumBelow, a_smallDigit, a_smallChild, a_wideChild, a_spareSmall, a_spareWide, a_path⟩ := u2
      exact hp _ R2
    · subst e
      obtain ⟨y1, y2, y3⟩ := A2'.2.2.2.2.1 x c (by rw [ar_un (fun z => by rw [z, hk0] at h2; exact absurd h2 (by simp))]; exact h2)
      have hx : x ≠ k := fun z => by rw [z, hk0] at h2; exact absurd h2 (by simp)
      refine br_t (nI_pos' (by omega)) (br_f (nI_ge (b := 64) (by omega) (by decide)) (And.intro (vp_in_nI h1 (by omega)) ?_))
      rw [ar_L_some, ar_cl (by omega), y3]
      refine ar_x_shared hk y1 (fun r hr e1 e2 => ?_)
      have hr3 : r ≤ 3 := by
        by_cases z : r ≤ 3
        · exact z
        · have : r = 4 := by omega
          rw [this, ar_t_4, ar_t_4] at e1
          exact absurd e1.symm hx
      refine br_f (nI_ge (b := 64) (by omega) (by decide)) (And.intro (vp_in_nI h1 (by omega)) ?_)
      rw [ar_cl (by omega), y3]
      refine ar_x_dig y1 hr3 ?_
      refine ar_x_h180 (j1 := x) B' I P hlt1 hN hk0 hl hfr (Or.inl h1) (by rw [h2]; simp) h3 hr3 e1 (e2 (by omega)) (fun j hj hs => by rw [h4 j hs hj]) (fun m em => ?_) hp
      have := Option.some.inj em
      omega
    · subst e
      obtain ⟨⟨r1, r2, r3, r4⟩, ⟨d1, d2, d3, d4, d5⟩, T⟩ := A5' m h1 h2
      obtain ⟨_, j1, _, b1, _, b3, _⟩ := I.1.2.1 m h1 h2
      have hj1 := hlt1 j1 b1
      have hkm : ar_t k (dp m) ≠ pf m := by
        intro z
        obtain ⟨i, hi, e⟩ := P.2.2.2 m h1 h2 z
        have := ar_e_lt (fun i hi => (P.2.2.1 i hi).2.2.2.1) L (Nat.le_refl _) i hi
        rw [e] at this
        omega
      have hv : vp_in (nI m) 80 := vp_in_nI h1 (by omega)
      refine br_t (nI_pos' (by omega)) (br_t (nI_le (a := 64) (by omega) (by omega)) ?_)
      rw [ar_L_some, ar_m64]
      refine ar_x_swp B' h1 h2 hk hj1 b3 (fun r hr e1 e2 => ?_)
      have hr3 : r < dp m := by
        by_cases z : r < dp m
        · exact z
        · have : r = dp m := by omega
          rw [this, b3] at e1
          exact absurd e1 hkm
      refine br_t (nI_le (a := 64) (by omega) (by omega)) ?_
      rw [ar_m64]
      refine And.intro hv (And.intro hv (nm_r (e' := nI (ar_g j1 r)) ?_ ?_))
      · rw [ar_cl (by omega), d1, d2]
        have e3 : nI (dp m) - 1 = nI (dp m - 1) := pk_sub (b := 1) (by omega)
        rw [e3, ar_pshr r2 (by omega) (by omega), show dp m - 1 - r = dp m - (r + 1) by omega, ← b3, ← ar_t_div (by omega) (by omega), pk_andN (by have := ar_t_lt hj1 (r + 1); omega) 4 (by decide)]
        rfl
      · refine ar_x_h180 (j1 := j1) B' I P hlt1 hN hk0 hl hfr (Or.inr ⟨m, rfl, h1, h2⟩) b1 (h4 j1 b3) (by omega) e1 (e2 hr3) (fun j hj hs => ?_) (fun m' em => ?_) hp
        · exact ar_t_dn (d := r + 1) (e := dp m) (by omega) (by omega) ((h6 j hj hs).trans b3.symm)
        · have : m = m' := by have := Option.some.inj em; omega
          subst this
          exact ⟨hr3, hkm⟩
theorem ar_x_hangUp {post : SX → Prop} {u : SX} {k l : Nat} {w : Int32} {o : Option Nat} (A : ar_A rt L pn (N + 1) (ar_u LF k (some l)) (upd va l w) lv lv dp pf kb sb ch u) (I : ar_I rt N LF va lv dp pf kb sb ch)
    (P : ar_PF lv dp pf (ar_SL lv dp pf ch rt) k L pn o) (hlt1 : ∀ k l, LF k = some l → k < 65536) (hN : N ≤ 64) (hk0 : LF k = none) (hl : l < 64) (hfr : ∀ j, LF j ≠ some l)
    (hp : ∀ u', ar_RX (ar_u (ar_M LF va) k (some w)) u' → post u') : wpX_hangUp post u (nI l) (nI k) := by
  have hk := P.1
  obtain ⟨f_root, f_keyCount, f_spareLeaves, f_spareSmalls, f_spareWides, f_pathLength, a_leafKey, a_leafValue, a_spareLeaf, a_depth, a_prefix, a_childCount, a_keysBelow, a_sumBelow, a_smallDigit, a_smallChild, a_wideChild, a_spareSmall, a_spareWide, a_path⟩ := u
  have B := A
  obtain ⟨A1, A2, A3, A4, A5, A6⟩ := A
  obtain ⟨q1, q2, q3⟩ := A6
  have hlt : ∀ k l, LF k = some l → k < 65536 ∧ l < 64 ∧ a_leafKey l = nI k := fun j x e =>
    A2.2.2.2.2.1 j x (by rw [ar_un (fun z => by rw [z, hk0] at e; exact absurd e (by simp))]; exact e)
  have hlt2 : ∀ k, LF k ≠ none → k < 65536 := fun j hj => by
    cases e : LF j with
    | none => exact absurd e hj
    | some x => exact (hlt j x e).1
  subst q2
  subst A1
  cases er : rt with
  | none =>
    subst er
    have hL : L = 0 := by
      cases L with
      | zero => rfl
      | succ i =>
        exfalso
        have h := (P.2.2.1 0 (by omega)).2.2.2.2
        have h' : ar_SL lv dp pf ch none 0 (ar_t k 0) (some (64 + pn 0)) := h
        rw [ar_t_0 hk] at h'
        exact absurd (ar_SL_fun I.1.2.2 h' (Or.inl ⟨rfl, rfl, rfl⟩)) (by simp)
    subst hL
    have ho := ar_PF_o0 I P
    subst ho
    have hI := ar_I_root (w := w) I P hlt2 hk0 hl hfr
    have hno : ∀ q, q < 80 → lv q = true → False := fun q hq hlq => by
      obtain ⟨_, j, _, b1, _⟩ := I.1.2.1 q hq hlq
      exact b1 (ar_Lk_none (I.1.1 _ _ _ (Or.inl ⟨rfl, rfl, rfl⟩)) j (ar_t_0 (hlt2 j b1)))
    refine br_f (by decide) (hp _ ⟨_, _, _, _, _, _, _, _, _, _, _, _, ⟨rfl, A2, A3, A4, fun q hq hlq => (hno q hq hlq).elim, q1, rfl, q3⟩, hI, (ar_M_ins hfr).symm⟩)
  | some c =>
    have hc : c < 144 := by
      have hL := I.1.1 _ _ _ (Or.inl ⟨rfl, rfl, rfl⟩ : ar_SL lv dp pf ch rt 0 0 rt)
      rcases hL with ⟨z, _⟩ | ⟨l, k, z, h1, _⟩ | ⟨m, z, h1, h2, _⟩
      · rw [er] at z
        exact absurd z (by simp)
      · rw [er] at z
        have := Option.some.inj z
        omega
      · rw [er] at z
        have := Option.some.inj z
        omega
    have hrt : rt ≠ none := by rw [er]; simp
    have h61 := ar_x_hang61 (post := post) B I P hrt hlt hN hk0 hl hfr hp
    rw [← er]
    refine br_t (by rw [er]; exact nI_pos' (by omega)) ?_
    cases L with
    | zero =>
      have ho := ar_PF_o0 I P
      rw [ho] at h61
      exact br_t (nI_le (b := 0) (by omega) (by decide)) h61
    | succ i =>
      obtain ⟨p1, p2, p3, p4, p5⟩ := P.2.2.1 i (by omega)
      obtain ⟨⟨r1, r2, r3, r4⟩, ⟨d1, d2, d3, d4, d5⟩, T⟩ := A5 (pn i) p1 p2
      have ei : nI (i + 1) - 1 = nI i := nI_pred i
      refine br_f (nI_nle (by omega) (by omega)) (And.intro (by rw [ei]; exact vp_in_nI (by omega) (by omega)) (nm_r (e' := nI (64 + pn i)) (by rw [ei, ar_cl (by omega)]; exact (q3 i (by omega)).2) (And.intro (by rw [ar_m64]; exact vp_in_nI p1 (by omega)) ?_)))
      rw [ar_m64, ar_cl (by omega), d1]
      refine ar_x_dig hk r1 (ar_x_childOf B p1 p2 (ar_g_lt _ _) ?_)
      rw [ar_PF_o1 I P]
      exact h61
theorem ar_A_inj {u : SX} (A : ar_A rt L pn N LF va al lv dp pf kb sb ch u) {i j l : Nat} (hi : LF i = some l) (hj : LF j = some l) : i = j := by
  obtain ⟨f_root, f_keyCount, f_spareLeaves, f_spareSmalls, f_spareWides, f_pathLength, a_leafKey, a_leafValue, a_spareLeaf, a_depth, a_prefix, a_childCount, a_keysBelow, a_sumBelow, a_smallDigit, a_smallChild, a_wideChild, a_spareSmall, a_spareWide, a_path⟩ := u
  obtain ⟨_, ⟨_, _, _, _, h, _⟩, _⟩ := A
  obtain ⟨a1, a2, a3⟩ := h i l hi
  obtain ⟨b1, b2, b3⟩ := h j l hj
  exact (nI_eq (by omega) (by omega)).mp (a3.symm.trans b3)
theorem ar_M_set {k l : Nat} {w : Int32} (hk : LF k = some l) (hinj : ∀ j, LF j = some l → j = k) : ar_M LF (upd va l w) = ar_u (ar_M LF va) k (some w) := by
  funext j
  by_cases e : j = k
  · rw [e, ar_us, ar_M_some hk, pk_us]
  · rw [ar_un e]
    cases h : LF j with
    | none => rw [ar_M_none h, ar_M_none h]
    | some x => rw [ar_M_some h, ar_M_some h, pk_un (fun z => e (hinj j (by rw [h, z])))]
theorem ar_x_put {M : Nat → Option Int32} {post : Int32 → SX → Prop} {u : SX} (R : ar_RX M u) {k : Nat} (hk : k < 65536) {w : Int32}
    (h0 : M k ≠ none → ∀ u', ar_RX (ar_u M k (some w)) u' → post 0 u') (h1 : M k = none → ar_C M 65536 < 64 → ∀ u', ar_RX (ar_u M k (some w)) u' → post 1 u')
    (h2 : M k = none → ar_C M 65536 = 64 → ∀ u', ar_RX M u' → post (-2) u') : wpX_put post u (nI k) w := by
  obtain ⟨rt, L, pn, N, LF, va, lv, dp, pf, kb, sb, ch, A, I, rfl⟩ := R
  have hlt := ar_A_lt A
  rw [ar_C_M, ← I.2.2.2.2] at h1 h2
  obtain ⟨f_root, f_keyCount, f_spareLeaves, f_spareSmalls, f_spareWides, f_pathLength, a_leafKey, a_leafValue, a_spareLeaf, a_depth, a_prefix, a_childCount, a_keysBelow, a_sumBelow, a_smallDigit, a_smallChild, a_wideChild, a_spareSmall, a_spareWide, a_path⟩ := u
  have hN : N ≤ 64 := A.2.1.1
  unfold wpX_put
  refine ar_x_isKey hk ?_
  refine br_f (by decide) ?_
  refine ar_x_find A I.1 hk (fun L pn o r u' A' P hr => ?_)
  have hinj := fun i j l => ar_A_inj A' (i := i) (j := j) (l := l)
  obtain ⟨f_root, f_keyCount, f_spareLeaves, f_spareSmalls, f_spareWides, f_pathLength, a_leafKey, a_leafValue, a_spareLeaf, a_depth, a_prefix, a_childCount, a_keysBelow, a_sumBelow, a_smallDigit, a_smallChild, a_wideChild, a_spareSmall, a_spareWide, a_path⟩ := u'
  have kc : f_keyCount = nI N := A'.2.1.2.1
  rcases hr with ⟨e1, e2⟩ | ⟨l, hl, e1, e2, e3⟩
  · subst e2
    have hM : ar_M LF va k = none := ar_M_none e1
    refine br_t (by decide) (pk_lt N 64 (fun z => ?_) (fun z => ?_) kc rfl)
    · refine ar_x_newLeaf A' hk z e1 w (fun l u2 hl hfr A2 => ?_)
      obtain ⟨f_root, f_keyCount, f_spareLeaves, f_spareSmalls, f_spareWides, f_pathLength, a_leafKey, a_leafValue, a_spareLeaf, a_depth, a_prefix, a_childCount, a_keysBelow, a_sumBelow, a_smallDigit, a_smallChild, a_wideChild, a_spareSmall, a_spareWide, a_path⟩ := u2
      refine ar_x_hangUp A2 I P (fun j x e => hlt j (by rw [e]; simp)) hN e1 hl hfr (fun u3 R3 => ?_)
      obtain ⟨f_root, f_keyCount, f_spareLeaves, f_spareSmalls, f_spareWides, f_pathLength, a_leafKey, a_leafValue, a_spareLeaf, a_depth, a_prefix, a_childCount, a_keysBelow, a_sumBelow, a_smallDigit, a_smallChild, a_wideChild, a_spareSmall, a_spareWide, a_path⟩ := u3
      exact h1 hM z _ R3
    · exact h2 hM (by omega) _ ⟨_, _, _, _, _, _, _, _, _, _, _, _, A', I, rfl⟩
  · subst e3
    have hM : ar_M LF va k = some (va l) := ar_M_some e1
    have B := A'
    obtain ⟨A1, ⟨B1, B2, B3, B4, B5, B6, B7⟩, A3, A4, A5, A6⟩ := A'
    have hv : vp_in (nI l) 64 := vp_in_nI hl (by omega)
    have inP : ∀ q, q < 80 → lv q = true → (∀ i, i < L → pn i ≠ q) → ar_t k (dp q) ≠ pf q := fun q hq hlq h z => by
      obtain ⟨i, hi, e⟩ := P.2.2.2 q hq hlq z
      exact h i hi e
    refine br_f (nI_pos (by omega)) (And.intro hv (nm_r (e' := w.toInt64 - (va l).toInt64) (by rw [ar_cl (by omega), B4]) (And.intro hv (nm_r (e' := upd va l w) (by rw [ar_cl (by omega), B4]) ?_))))
    have A2 : ar_A rt L pn N LF (upd va l w) lv lv dp pf kb sb ch (f_root, f_keyCount, f_spareLeaves, f_spareSmalls, f_spareWides, f_pathLength, a_leafKey, upd va l w, a_spareLeaf, a_depth, a_prefix, a_childCount, a_keysBelow, a_sumBelow, a_smallDigit, a_smallChild, a_wideChild, a_spareSmall, a_spareWide, a_path) := ⟨A1, ⟨B1, B2, B3, rfl, B5, B6, B7⟩, A3, A4, A5, A6⟩
    refine ar_x_credit A2 (kb' := kb) (sb' := ar_sI dp pf sb k (w.toInt64 - (va l).toInt64)) (fun i hi => (P.2.2.1 i hi).2.1) (fun i j hi hj e => ar_PF_inj P hi hj e) (fun i hi => ?_) (fun q hq hlq h => ⟨rfl, if_neg (inP q hq hlq h)⟩) (fun u2 A3' => ?_)
    · obtain ⟨p1, p2, p3, _⟩ := P.2.2.1 i hi
      exact ⟨Int32.add_zero _, (A5 (pn i) p1 p2).1.2.2.1, if_pos p3⟩
    · have hset := ar_M_set (va := va) (w := w) e1 (fun j hj => hinj j k l hj e1)
      obtain ⟨f_root, f_keyCount, f_spareLeaves, f_spareSmalls, f_spareWides, f_pathLength, a_leafKey, a_leafValue, a_spareLeaf, a_depth, a_prefix, a_childCount, a_keysBelow, a_sumBelow, a_smallDigit, a_smallChild, a_wideChild, a_spareSmall, a_spareWide, a_path⟩ := u2
      refine h0 (by rw [hM]; simp) _ ⟨_, _, _, _, _, _, _, _, _, _, _, _, A3', ⟨I.1, fun n hn hln => ?_, I.2.2⟩, hset.symm⟩
      rw [hset]
      refine ar_K_chg (k := k) (fun _ _ => rfl) (fun i hi => ar_un hi) (I.2.1 n hn hln) (fun h => ⟨rfl, ?_⟩) (fun h => ⟨rfl, if_neg h⟩)
      have es : ar_sI dp pf sb k (w.toInt64 - (va l).toInt64) n = sb n + (w.toInt64 - (va l).toInt64) := if_pos h
      rw [es, hM, ar_us]
      show sb n + (w.toInt64 - (va l).toInt64) + (va l).toInt64 = sb n + w.toInt64
      grind
theorem ar_x_putN {post : Int32 → SX → Prop} {u : SX} {x w : Int32} (hx : x < 0 ∨ (¬ x < 0 ∧ 65535 < x)) (h : post (-1) u) : wpX_put post u x w := by
  obtain ⟨f_root, f_keyCount, f_spareLeaves, f_spareSmalls, f_spareWides, f_pathLength, a_leafKey, a_leafValue, a_spareLeaf, a_depth, a_prefix, a_childCount, a_keysBelow, a_sumBelow, a_smallDigit, a_smallChild, a_wideChild, a_spareSmall, a_spareWide, a_path⟩ := u
  unfold wpX_put
  refine ar_x_noKey hx ?_
  exact br_t rfl h
end
end
section
/-! pure: a key goes -/
def ar_kD (dp pf kb : Nat → Nat) (k : Nat) : Nat → Nat := fun q => if ar_t k (dp q) = pf q then kb q - 1 else kb q
theorem ar_M_del {LF : Nat → Option Nat} {va : Nat → Int32} {k : Nat} : ar_M (ar_u LF k none) va = ar_u (ar_M LF va) k none := by
  funext j
  by_cases e : j = k
  · rw [e, ar_us, ar_M_none ar_us]
  · rw [ar_un e]
    cases h : LF j with
    | none => rw [ar_M_none h, ar_M_none (by rw [ar_un e]; exact h)]
    | some x => rw [ar_M_some h, ar_M_some (l := x) (by rw [ar_un e]; exact h)]
theorem ar_cnt_two {c : Nat → Option Nat} (h : 2 ≤ ar_cnt c) : ∃ g g', g < 16 ∧ g' < 16 ∧ g ≠ g' ∧ c g ≠ none ∧ c g' ≠ none := by
  obtain ⟨g, hg, h1⟩ := ar_cnt_ex (c := c) 16 (by have h' : 2 ≤ ar_sN (fun g => ar_c1 (c g)) 16 := h; omega)
  have h2 := ar_cnt_del hg h1
  obtain ⟨g', hg', h3⟩ := ar_cnt_ex (c := ar_u c g none) 16 (by have h' : ar_sN (fun i => ar_c1 (ar_u c g none i)) 16 + 1 = ar_cnt c := h2; omega)
  by_cases e : g' = g
  · rw [e, ar_us] at h3
    exact absurd rfl h3
  · rw [ar_un e] at h3
    exact ⟨g, g', hg, hg', fun z => e z.symm, h1, h3⟩
section
variable {rt : Option Nat} {L : Nat} {pn : Nat → Nat} {N : Nat} {LF : Nat → Option Nat} {va : Nat → Int32} {lv : Nat → Bool} {dp pf kb : Nat → Nat} {sb : Nat → Int64} {ch : Nat → Nat → Option Nat}
theorem ar_kb_pos (I : ar_I rt N LF va lv dp pf kb sb ch) {k n : Nat} (hk : LF k ≠ none) (hn : n < 80) (hl : lv n = true) (h : ar_t k (dp n) = pf n) : 1 ≤ kb n := by
  have K := (I.2.1 n hn hl).1
  obtain ⟨a, b⟩ := ar_t_iff.mp h
  have h1 := ar_C_mono LF a
  have h2 := ar_C_lt hk b
  omega
theorem ar_K_delI (I : ar_I rt N LF va lv dp pf kb sb ch) {k l : Nat} (hkl : LF k = some l) {n : Nat} (hn : n < 80) (hl : lv n = true) :
    ar_K (ar_u LF k none) (ar_M (ar_u LF k none) va) dp pf (ar_kD dp pf kb k) (ar_sI dp pf sb k (-(va l).toInt64)) n := by
  rw [ar_M_del]
  refine ar_K_chg (k := k) (fun i hi => ar_un hi) (fun i hi => ar_un hi) (I.2.1 n hn hl) (fun h => ?_) (fun h => ?_)
  · have hp := ar_kb_pos I (by rw [hkl]; simp) hn hl h
    rw [ar_us, ar_us, hkl, ar_M_some hkl]
    refine ⟨?_, ?_⟩
    · show (if ar_t k (dp n) = pf n then kb n - 1 else kb n) + 1 = kb n + 0
      rw [if_pos h]
      omega
    · show (if ar_t k (dp n) = pf n then sb n + -(va l).toInt64 else sb n) + (va l).toInt64 = sb n + 0
      rw [if_pos h]
      grind
  · exact ⟨if_neg h, if_neg h⟩
theorem ar_N_del (I : ar_I rt N LF va lv dp pf kb sb ch) {k : Nat} (hk : k < 65536) (hk0 : LF k ≠ none) : N - 1 = ar_C (ar_u LF k none) 65536 := by
  have h := ar_C_chg (F := LF) (F' := ar_u LF k none) (k := k) (fun i hi => ar_un hi) 65536
  rw [if_pos hk, if_pos hk, ar_us, ar_c1_ne hk0] at h
  have h' : ar_C (ar_u LF k none) 65536 + 1 = ar_C LF 65536 + 0 := h
  have := I.2.2.2.2
  omega
/-- the last key -/
theorem ar_I_last (I : ar_I rt N LF va lv dp pf kb sb ch) {k l : Nat} (P : ar_PF lv dp pf (ar_SL lv dp pf ch rt) k 0 pn (some l)) (hlt : ∀ k, LF k ≠ none → k < 65536) (hkl : LF k = some l) (hl : l < 64) :
    (∀ q, q < 80 → lv q = true → False) ∧ ar_I none (N - 1) (ar_u LF k none) va lv dp pf (ar_kD dp pf kb k) (ar_sI dp pf sb k (-(va l).toInt64)) ch := by
  have hk := P.1
  have h0 : ar_SL lv dp pf ch rt 0 (ar_t k 0) (some l) := P.2.1
  have hk0 : LF k ≠ none := by rw [hkl]; simp
  obtain ⟨x, x1, x2, x3⟩ := ar_Lk_leaf hl (I.1.1 _ _ _ h0)
  have hno : ∀ q, q < 80 → lv q = true → False := fun q hq hlq => by
    obtain ⟨_, j1, j2, b1, b2, b3, b4, b5⟩ := I.1.2.1 q hq hlq
    have e1 := x3 j1 (by rw [ar_t_0 (hlt j1 b1), ar_t_0 hk]) b1
    have e2 := x3 j2 (by rw [ar_t_0 (hlt j2 b2), ar_t_0 hk]) b2
    exact b5 (by rw [e1, e2])
  refine ⟨hno, ar_del I.1 (d0 := 0) hl hk0 (ar_PF_H I.1 P) h0 (fun n hn hln => (hno n hn hln).elim) (fun d p o h => ?_), fun n hn hln => (hno n hn hln).elim, fun n hn hln => (hno n hn hln).elim, ?_, ar_N_del I hk hk0⟩
  · rcases h with ⟨a, b, e⟩ | ⟨n, g, h1, h2, h3, h4, h5, h6⟩
    · exact Or.inl ⟨a, by rw [ar_t_0 hk, b], e⟩
    · exact (hno n h1 h2).elim
  · have e0 : ar_sN (ar_pot lv ch) 80 = 0 := ar_sN_z (a := 0) 80 (by omega) (fun q _ hq => by
      unfold ar_pot
      exact if_neg (fun z => hno q hq z))
    have := I.2.2.2.1
    omega
theorem ar_G_del (I : ar_I rt N LF va lv dp pf kb sb ch) {k i l : Nat} (P : ar_PF lv dp pf (ar_SL lv dp pf ch rt) k (i + 1) pn (some l)) (hkl : LF k = some l) (hl : l < 64) (h3 : 3 ≤ ar_cnt (ch (pn i))) :
    ar_G (ar_u LF k none) lv dp pf (ar_SL lv dp pf (ar_u ch (pn i) (ar_u (ch (pn i)) (ar_g k (dp (pn i))) none)) rt) := by
  have hk0 : LF k ≠ none := by rw [hkl]; simp
  obtain ⟨p1, p2, p3, _⟩ := P.2.2.1 i (by omega)
  have et := ar_PF_et I P (i := i) (by omega)
  have hd3 := (I.1.2.1 _ p1 p2).1
  refine ar_del I.1 (d0 := dp (pn i) + 1) hl hk0 (ar_PF_H I.1 P) P.2.1 (fun q hq hlq => ?_) (fun _ _ _ h => ar_SL_add (l := l) I P none h)
  by_cases e : q = pn i
  · subst e
    have hdel := ar_cnt_del (c := ch (pn i)) (ar_g_lt k (dp (pn i))) (by rw [ar_PF_o1 I P]; simp)
    obtain ⟨g1, g2, a1, a2, a3, a4, a5⟩ := ar_cnt_two (c := ar_u (ch (pn i)) (ar_g k (dp (pn i))) none) (by omega)
    have pick : ∀ g, g < 16 → ar_u (ch (pn i)) (ar_g k (dp (pn i))) none g ≠ none → ∃ j, ar_u LF k none j ≠ none ∧ ar_t j (dp (pn i) + 1) = 16 * pf (pn i) + g := by
      intro g hg hn
      have gne : g ≠ ar_g k (dp (pn i)) := fun z => by
        rw [z, ar_us] at hn
        exact absurd rfl hn
      rw [ar_un gne] at hn
      have hs := ar_I_slot I p1 p2 hg
      cases ec : ch (pn i) g with
      | none => exact absurd ec hn
      | some c =>
        rw [ec] at hs
        obtain ⟨j, j1, j2⟩ := ar_Lk_key I.1 hs
        refine ⟨j, ar_LF_del j1 (fun z => gne ?_), j2⟩
        rw [z, et] at j2
        omega
    obtain ⟨x, x1, x2⟩ := pick g1 a1 a4
    obtain ⟨y, y1, y2⟩ := pick g2 a2 a5
    exact ⟨x, y, x1, y1, ar_SLk hd3 x2 a1, ar_SLk hd3 y2 a2, by rw [x2, y2]; omega⟩
  · refine ar_Br_del I.1 (ar_PF_H I.1 P) hq hlq (fun z => ?_) (fun z c => ?_)
    · have hdq := (I.1.2.1 q hq hlq).1
      exact ⟨_, Or.inr ⟨q, ar_g k (dp q), hq, hlq, ar_g_lt _ _, rfl, by rw [ar_t_g (by omega), z], rfl⟩⟩
    · have ed : dp q = dp (pn i) := by
        have c' : dp q + 1 = dp (pn i) + 1 := c
        omega
      exact e (I.1.2.2 q (pn i) hq p1 hlq p2 ed (by rw [← z, ed, p3]))
theorem ar_pot_del (I : ar_I rt N LF va lv dp pf kb sb ch) {k i l : Nat} (P : ar_PF lv dp pf (ar_SL lv dp pf ch rt) k (i + 1) pn (some l)) :
    ar_sN (ar_pot lv (ar_u ch (pn i) (ar_u (ch (pn i)) (ar_g k (dp (pn i))) none))) 80 = N - 1 - 1 := by
  obtain ⟨p1, p2, p3, _⟩ := P.2.2.1 i (by omega)
  have h2 := ar_G_2 I.1 p1 p2
  have hdel := ar_cnt_del (c := ch (pn i)) (ar_g_lt k (dp (pn i))) (by rw [ar_PF_o1 I P]; simp)
  have h := ar_sN_one (f := ar_pot lv (ar_u ch (pn i) (ar_u (ch (pn i)) (ar_g k (dp (pn i))) none))) (g := ar_pot lv ch) (k := pn i) (fun q hq => by
    unfold ar_pot
    rw [ar_un hq]) 80 p1
  have e1 : ar_pot lv (ar_u ch (pn i) (ar_u (ch (pn i)) (ar_g k (dp (pn i))) none)) (pn i) = ar_cnt (ar_u (ch (pn i)) (ar_g k (dp (pn i))) none) - 1 := by
    unfold ar_pot
    rw [if_pos p2, ar_us]
  have e2 : ar_pot lv ch (pn i) = ar_cnt (ch (pn i)) - 1 := if_pos p2
  have hP := I.2.2.2.1
  have hpos := ar_sN_pos (ar_pot lv ch) (k := pn i) (n := 80) p1
  omega
theorem ar_I_del (I : ar_I rt N LF va lv dp pf kb sb ch) {k i l : Nat} (P : ar_PF lv dp pf (ar_SL lv dp pf ch rt) k (i + 1) pn (some l)) (hkl : LF k = some l) (hl : l < 64) (h3 : 3 ≤ ar_cnt (ch (pn i))) (h6 : 64 ≤ pn i → 6 ≤ ar_cnt (ch (pn i))) :
    ar_I rt (N - 1) (ar_u LF k none) va lv dp pf (ar_kD dp pf kb k) (ar_sI dp pf sb k (-(va l).toInt64)) (ar_u ch (pn i) (ar_u (ch (pn i)) (ar_g k (dp (pn i))) none)) := by
  have hk0 : LF k ≠ none := by rw [hkl]; simp
  have hdel := ar_cnt_del (c := ch (pn i)) (ar_g_lt k (dp (pn i))) (by rw [ar_PF_o1 I P]; simp)
  refine ⟨ar_G_del I P hkl hl h3, fun n hn hln => ar_K_delI I hkl hn hln, fun n hn hln => ?_, ar_pot_del I P, ar_N_del I P.1 hk0⟩
  by_cases e : n = pn i
  · rw [e, ar_us]
    rw [e] at hn hln
    obtain ⟨a, b⟩ := I.2.2.1 _ hn hln
    exact ⟨fun z => by have := a z; omega, fun z => by have := h6 z; omega⟩
  · rw [ar_un e]
    exact I.2.2.1 n hn hln
theorem ar_I_shrink (I : ar_I rt N LF va lv dp pf kb sb ch) {k i l n' : Nat} (P : ar_PF lv dp pf (ar_SL lv dp pf ch rt) k (i + 1) pn (some l)) (hkl : LF k = some l) (hl : l < 64) (h5 : ar_cnt (ch (pn i)) = 5)
    (hn' : n' < 64) (hln' : lv n' = false) :
    ar_I (ar_rlR i (64 + n') rt) (N - 1) (ar_u LF k none) va (ar_u (ar_u lv n' true) (pn i) false) (ar_u dp n' (dp (pn i))) (ar_u pf n' (pf (pn i))) (ar_u (ar_kD dp pf kb k) n' (ar_kD dp pf kb k (pn i))) (ar_u (ar_sI dp pf sb k (-(va l).toInt64)) n' (ar_sI dp pf sb k (-(va l).toInt64) (pn i))) (ar_rlC (ar_u dp n' (dp (pn i))) pn k i (64 + n') (ar_u (ar_u ch (pn i) (ar_u (ch (pn i)) (ar_g k (dp (pn i))) none)) n' (ar_u ch (pn i) (ar_u (ch (pn i)) (ar_g k (dp (pn i))) none) (pn i)))) := by
  have hk0 : LF k ≠ none := by rw [hkl]; simp
  obtain ⟨p1, p2, p3, p4, p5⟩ := P.2.2.1 i (by omega)
  have h0 := ar_PF_o1 I P
  have hdel := ar_cnt_del (c := ch (pn i)) (ar_g_lt k (dp (pn i))) (by rw [h0]; simp)
  have hnode : ∀ d p m, ar_SL lv dp pf (ar_u ch (pn i) (ar_u (ch (pn i)) (ar_g k (dp (pn i))) none)) rt d p (some (64 + m)) → ar_SL lv dp pf ch rt d p (some (64 + m)) := by
    intro d p m h
    rcases ar_SL_add (l := l) I P none h with ⟨_, _, z⟩ | ⟨_, h⟩
    · exact absurd z (by simp)
    · exact h
  have hup : ∀ d p m, ar_SL lv dp pf ch rt d p (some (64 + m)) → ar_SL lv dp pf (ar_u ch (pn i) (ar_u (ch (pn i)) (ar_g k (dp (pn i))) none)) rt d p (some (64 + m)) := by
    intro d p m h
    rcases h with z | ⟨q, g, a1, a2, a3, a4, a5, a6⟩
    · exact Or.inl z
    · refine Or.inr ⟨q, g, a1, a2, a3, a4, a5, ?_⟩
      by_cases eq : q = pn i
      · rw [eq, ar_us]
        by_cases eg : g = ar_g k (dp (pn i))
        · rw [eq, eg, h0] at a6
          have := Option.some.inj a6
          omega
        · rw [ar_un eg, ← eq]
          exact a6
      · rw [ar_un eq]
        exact a6
  refine ar_I_ren (ar_G_del I P hkl hl (by omega)) (fun q hq hlq => ar_K_delI I hkl hq hlq) (fun q hq hlq e => ?_) (ar_pot_del I P) (ar_N_del I P.1 hk0) P.1 p1 p2 (by omega) hln' ⟨fun _ => ?_, fun z => by omega⟩ (fun d p h => ?_) (hup _ _ _ p5) (fun j ej => ?_)
  · rw [ar_un e]
    exact I.2.2.1 q hq hlq
  · rw [ar_us]
    omega
  · exact ar_PF_U I.1 P d p (hnode d p (pn i) h)
  · subst ej
    obtain ⟨q1, q2, q3, q4, q5⟩ := P.2.2.1 j (by omega)
    have hlt2 : dp (pn j) < dp (pn (j + 1)) := by
      have h : dp (pn j) + 1 ≤ dp (pn (j + 1)) := p4
      omega
    refine ⟨q1, q2, hlt2, q3, ?_⟩
    rw [ar_un (fun z => by rw [z] at hlt2; omega), ar_PF_oi I P (j := j) (by omega)]
    simp
theorem ar_I_col (I : ar_I rt N LF va lv dp pf kb sb ch) {k i l g1 c1 : Nat} (P : ar_PF lv dp pf (ar_SL lv dp pf ch rt) k (i + 1) pn (some l)) (hkl : LF k = some l) (hl : l < 64) (h2 : ar_cnt (ch (pn i)) = 2)
    (hg1 : g1 < 16) (hc1 : ar_u (ch (pn i)) (ar_g k (dp (pn i))) none g1 = some c1) :
    ar_I (ar_rlR i c1 rt) (N - 1) (ar_u LF k none) va (ar_u lv (pn i) false) dp pf (ar_kD dp pf kb k) (ar_sI dp pf sb k (-(va l).toInt64)) (ar_rlC dp pn k i c1 (ar_u ch (pn i) (ar_u (ch (pn i)) (ar_g k (dp (pn i))) none))) := by
  have hk := P.1
  have hk0 : LF k ≠ none := by rw [hkl]; simp
  obtain ⟨p1, p2, p3, p4, p5⟩ := P.2.2.1 i (by omega)
  have h0 := ar_PF_o1 I P
  have et := ar_PF_et I P (i := i) (by omega)
  have hg := ar_g_lt k (dp (pn i))
  have hdel := ar_cnt_del (c := ch (pn i)) hg (by rw [h0]; simp)
  have gne : g1 ≠ ar_g k (dp (pn i)) := fun z => by
    rw [z, ar_us] at hc1
    exact absurd hc1 (by simp)
  have hc1' := hc1
  rw [ar_un gne] at hc1'
  have lvi : ∀ m, ar_u lv (pn i) false m = true → m ≠ pn i ∧ lv m = true := by
    intro m hm
    by_cases e : m = pn i
    · rw [e, ar_us] at hm
      exact absurd hm (by simp)
    · rw [ar_un e] at hm
      exact ⟨e, hm⟩
  have pji : ∀ j, i = j + 1 → pn j ≠ pn i ∧ pn j < 80 ∧ lv (pn j) = true ∧ dp (pn j) ≤ 3 ∧ ar_t k (dp (pn j)) = pf (pn j) := by
    intro j ej
    have a := P.2.2.1 j (by omega)
    refine ⟨fun z => ?_, a.1, a.2.1, (I.1.2.1 _ a.1 a.2.1).1, a.2.2.1⟩
    have := ar_PF_inj P (i := j) (j := i) (by omega) (by omega) z
    omega
  have slot : ∀ j, i = j + 1 → (ar_u ch (pn i) (ar_u (ch (pn i)) (ar_g k (dp (pn i))) none)) (pn j) (ar_g k (dp (pn j))) ≠ none := by
    intro j ej
    rw [ar_un (pji j ej).1, ar_PF_oi I P (j := j) (by omega)]
    simp
  have cntq : ∀ q, ar_cnt (ar_rlC dp pn k i c1 (ar_u ch (pn i) (ar_u (ch (pn i)) (ar_g k (dp (pn i))) none)) q) = ar_cnt (ar_u ch (pn i) (ar_u (ch (pn i)) (ar_g k (dp (pn i))) none) q) := fun q => ar_rl_cnt slot q
  refine ⟨?_, fun q hq hlq => ar_K_delI I hkl hq (lvi q hlq).2, fun q hq hlq => ?_, ?_, ar_N_del I hk hk0⟩
  · refine ar_col I.1 (n := pn i) (p1 := 16 * pf (pn i) + g1) (dP := ar_e dp pn i) (pP := ar_t k (ar_e dp pn i)) (o1 := some c1) hl hk0 p1 p2 p3 (ar_PF_H I.1 P) P.2.1
      (Or.inr ⟨pn i, g1, p1, p2, hg1, rfl, rfl, hc1'.symm⟩) (by rw [et]; omega) (by omega) (by simp) (fun p e1 e2 e3 => ?_) (fun q hq hlq z => ?_) (fun d p h => ar_PF_U I.1 P d p h) p5 (fun d p o h => ?_)
    · have hr := Nat.mod_lt p (show 0 < 16 by decide)
      have hdm := Nat.div_add_mod p 16
      have ge : p = 16 * pf (pn i) + p % 16 := by omega
      have hne : p % 16 ≠ g1 := fun z => e2 (by omega)
      have hne2 : p % 16 ≠ ar_g k (dp (pn i)) := fun z => e3 (by rw [et]; omega)
      have hz := ar_cnt_one (c := ar_u (ch (pn i)) (ar_g k (dp (pn i))) none) (by omega) hg1 (by rw [hc1]; simp) hr hne
      rw [ar_un hne2] at hz
      exact Or.inr ⟨pn i, p % 16, p1, p2, hr, rfl, ge, hz.symm⟩
    · have hdq := (I.1.2.1 q hq hlq).1
      exact ⟨_, Or.inr ⟨q, ar_g k (dp q), hq, hlq, ar_g_lt _ _, rfl, by rw [ar_t_g (by omega), z], rfl⟩⟩
    · rcases ar_SL_rl hk (fun j ej => by
        obtain ⟨z1, z2, z3, z4, z5⟩ := pji j ej
        exact ⟨z4, z5, fun q hq hlq e1 e2 => I.1.2.2 q (pn j) hq z2 (lvi q hlq).2 z3 e1 e2⟩) h with h' | ⟨h1, h2⟩
      · exact Or.inl h'
      · refine Or.inr ⟨h1, ?_⟩
        rcases h2 with z | ⟨q, g, a1, a2, a3, a4, a5, a6⟩
        · exact ⟨Or.inl z, fun w => by omega⟩
        · obtain ⟨z1, z2⟩ := lvi q a2
          rw [ar_un z1] at a6
          refine ⟨Or.inr ⟨q, g, a1, z2, a3, a4, a5, a6⟩, fun w1 w2 => z1 (I.1.2.2 q (pn i) a1 p1 z2 p2 (by omega) (by omega))⟩
  · rw [cntq, ar_un (lvi q hlq).1]
    exact I.2.2.1 q hq (lvi q hlq).2
  · have h := ar_sN_one (f := ar_pot (ar_u lv (pn i) false) (ar_rlC dp pn k i c1 (ar_u ch (pn i) (ar_u (ch (pn i)) (ar_g k (dp (pn i))) none)))) (g := ar_pot lv ch) (k := pn i) (fun q hq => by
      unfold ar_pot
      rw [cntq, ar_un hq, ar_un hq]) 80 p1
    have e1 : ar_pot (ar_u lv (pn i) false) (ar_rlC dp pn k i c1 (ar_u ch (pn i) (ar_u (ch (pn i)) (ar_g k (dp (pn i))) none))) (pn i) = 0 := by
      unfold ar_pot
      rw [ar_us]
      rfl
    have e2 : ar_pot lv ch (pn i) = 1 := by
      unfold ar_pot
      rw [if_pos p2, h2]
    have hP := I.2.2.2.1
    omega
end
end
section
section
variable {rt : Option Nat} {L : Nat} {pn : Nat → Nat} {N : Nat} {LF : Nat → Option Nat} {va : Nat → Int32} {al lv : Nat → Bool} {dp pf kb : Nat → Nat} {sb : Nat → Int64} {ch : Nat → Nat → Option Nat}
theorem ar_AL_del {kc sl : Int32} {lk lw sp : Nat → Int32} {k l : Nat} (h : ar_AL N LF va kc sl lk lw sp) (hkl : LF k = some l) (hN : 1 ≤ N) : ar_AL (N - 1) (ar_u LF k none) va (kc - 1) (sl + 1) lk lw (upd sp (64 - N) (nI l)) := by
  obtain ⟨B1, B2, B3, B4, B5, B6, B7⟩ := h
  obtain ⟨k1, k2, k3⟩ := B5 k l hkl
  have ef : 64 - (N - 1) = 64 - N + 1 := by omega
  have old : ∀ i, i < 64 - N → sp i ≠ nI l := fun i hi z => by
    obtain ⟨l', b1, b2, b3⟩ := B6 i hi
    have : l' = l := (nI_eq (by omega) (by omega)).mp (b2.symm.trans z)
    exact b3 k (by rw [hkl, this])
  refine ⟨by omega, ?_, ?_, B4, fun k' l' h => ?_, fun i hi => ?_, fun i j hi hj e => ?_⟩
  · rw [B2]
    exact pk_sub (b := 1) hN
  · rw [B3, ef]
    exact nI_1 _
  · by_cases e : k' = k
    · rw [e, ar_us] at h
      exact absurd h (by simp)
    · rw [ar_un e] at h
      exact B5 k' l' h
  · by_cases e : i = 64 - N
    · rw [e, pk_us]
      refine ⟨l, k2, rfl, fun k' h => ?_⟩
      by_cases ek : k' = k
      · rw [ek, ar_us] at h
        exact absurd h (by simp)
      · rw [ar_un ek] at h
        obtain ⟨c1, c2, c3⟩ := B5 k' l h
        exact ek ((nI_eq (by omega) (by omega)).mp (c3.symm.trans k3))
    · obtain ⟨l', b1, b2, b3⟩ := B6 i (by omega)
      rw [pk_un e]
      refine ⟨l', b1, b2, fun k' h => ?_⟩
      by_cases ek : k' = k
      · rw [ek, ar_us] at h
        exact absurd h (by simp)
      · rw [ar_un ek] at h
        exact b3 k' h
  · by_cases ei : i = 64 - N <;> by_cases ej : j = 64 - N
    · omega
    · rw [ei, pk_us, pk_un ej] at e
      exact absurd e.symm (old j (by omega))
    · rw [ej, pk_us, pk_un ei] at e
      exact absurd e (old i (by omega))
    · rw [pk_un ei, pk_un ej] at e
      exact B7 i j (by omega) (by omega) e
theorem ar_kO_D {k : Nat} {o : Option Nat} (h : ∀ m, o = some (64 + m) → ar_t k (dp m) ≠ pf m) (v : Int64) : ar_kO (ar_kD dp pf kb k) o = ar_kO kb o ∧ ar_sO va (ar_sI dp pf sb k v) o = ar_sO va sb o := by
  cases o with
  | none => exact ⟨rfl, rfl⟩
  | some c =>
    by_cases e : c < 64
    · rw [ar_kO_l e, ar_kO_l e, ar_sO_l e, ar_sO_l e]
      exact ⟨rfl, rfl⟩
    · obtain ⟨m, rfl⟩ : ∃ m, c = 64 + m := ⟨c - 64, by omega⟩
      rw [ar_kO_n, ar_kO_n, ar_sO_n, ar_sO_n]
      exact ⟨if_neg (h m rfl), if_neg (h m rfl)⟩
/-- the children that stay weigh what the node weighs after the credit -/
theorem ar_I_rest (I : ar_I rt N LF va lv dp pf kb sb ch) {k i l : Nat} (P : ar_PF lv dp pf (ar_SL lv dp pf ch rt) k (i + 1) pn (some l)) (hl : l < 64) :
    ar_sN (fun g => ar_kO (ar_kD dp pf kb k) (ar_u (ch (pn i)) (ar_g k (dp (pn i))) none g)) 16 = ar_kD dp pf kb k (pn i) ∧
    ar_sL (fun g => ar_sO va (ar_sI dp pf sb k (-(va l).toInt64)) (ar_u (ch (pn i)) (ar_g k (dp (pn i))) none g)) 16 = ar_sI dp pf sb k (-(va l).toInt64) (pn i) := by
  obtain ⟨p1, p2, p3, _⟩ := P.2.2.1 i (by omega)
  have h0 := ar_PF_o1 I P
  have hg := ar_g_lt k (dp (pn i))
  obtain ⟨s1, s2⟩ := ar_I_all I p1 p2
  have hx : ∀ g, g < 16 → ar_kO (ar_kD dp pf kb k) (ch (pn i) g) = ar_kO kb (ch (pn i) g) ∧ ar_sO va (ar_sI dp pf sb k (-(va l).toInt64)) (ch (pn i) g) = ar_sO va sb (ch (pn i) g) :=
    fun g hg => ar_kO_D (fun m em => ar_PF_nk I P (fun m z => by have := Option.some.inj z; omega) hg em) _
  have a := ar_sN_one (f := fun g => ar_kO (ar_kD dp pf kb k) (ar_u (ch (pn i)) (ar_g k (dp (pn i))) none g)) (g := fun g => ar_kO (ar_kD dp pf kb k) (ch (pn i) g)) (k := ar_g k (dp (pn i))) (fun g e => by
    show ar_kO _ (ar_u (ch (pn i)) (ar_g k (dp (pn i))) none g) = _
    rw [ar_un e]) 16 hg
  have b := ar_sL_one (f := fun g => ar_sO va (ar_sI dp pf sb k (-(va l).toInt64)) (ar_u (ch (pn i)) (ar_g k (dp (pn i))) none g)) (g := fun g => ar_sO va (ar_sI dp pf sb k (-(va l).toInt64)) (ch (pn i) g)) (k := ar_g k (dp (pn i))) (fun g e => by
    show ar_sO _ _ (ar_u (ch (pn i)) (ar_g k (dp (pn i))) none g) = _
    rw [ar_un e]) 16 hg
  have a1 : ar_sN (fun g => ar_kO (ar_kD dp pf kb k) (ch (pn i) g)) 16 = kb (pn i) := by
    rw [← s1]
    exact ar_sN_congr 16 (fun g hg => (hx g hg).1)
  have b1 : ar_sL (fun g => ar_sO va (ar_sI dp pf sb k (-(va l).toInt64)) (ch (pn i) g)) 16 = sb (pn i) := by
    rw [← s2]
    exact ar_sL_congr 16 (fun g hg => (hx g hg).2)
  have a2 : ar_kO (ar_kD dp pf kb k) (ch (pn i) (ar_g k (dp (pn i)))) = 1 := by rw [h0, ar_kO_l hl]
  have b2 : ar_sO va (ar_sI dp pf sb k (-(va l).toInt64)) (ch (pn i) (ar_g k (dp (pn i)))) = (va l).toInt64 := by rw [h0, ar_sO_l hl]
  have a3 : ar_kO (ar_kD dp pf kb k) (ar_u (ch (pn i)) (ar_g k (dp (pn i))) none (ar_g k (dp (pn i)))) = 0 := by rw [ar_us]; rfl
  have b3 : ar_sO va (ar_sI dp pf sb k (-(va l).toInt64)) (ar_u (ch (pn i)) (ar_g k (dp (pn i))) none (ar_g k (dp (pn i)))) = 0 := by rw [ar_us]; rfl
  rw [a1, a2, a3] at a
  rw [b1, b2, b3] at b
  have a4 : ar_kD dp pf kb k (pn i) = kb (pn i) - 1 := if_pos p3
  have b4 : ar_sI dp pf sb k (-(va l).toInt64) (pn i) = sb (pn i) + -(va l).toInt64 := if_pos p3
  refine ⟨by omega, ?_⟩
  rw [b4]
  grind
theorem ar_x_t139 {f_root f_keyCount f_spareLeaves f_spareSmalls f_spareWides f_pathLength : Int32} {a_leafKey a_leafValue a_spareLeaf a_depth a_prefix a_childCount a_keysBelow : Nat → Int32} {a_sumBelow : Nat → Int64} {a_smallDigit a_smallChild a_wideChild a_spareSmall a_spareWide a_path : Nat → Int32} {post : SX → Prop} {k i l : Nat} (A : ar_A rt (i + 1) pn (N - 1) (ar_u LF k none) va lv lv dp pf (ar_kD dp pf kb k) (ar_sI dp pf sb k (-(va l).toInt64)) (ar_u ch (pn i) (ar_u (ch (pn i)) (ar_g k (dp (pn i))) none)) (f_root, f_keyCount, f_spareLeaves, f_spareSmalls, f_spareWides, f_pathLength, a_leafKey, a_leafValue, a_spareLeaf, a_depth, a_prefix, a_childCount, a_keysBelow, a_sumBelow, a_smallDigit, a_smallChild, a_wideChild, a_spareSmall, a_spareWide, a_path)) (I : ar_I rt N LF va lv dp pf kb sb ch)
    (P : ar_PF lv dp pf (ar_SL lv dp pf ch rt) k (i + 1) pn (some l)) (hkl : LF k = some l) (hl : l < 64) (h6 : 64 ≤ pn i → 6 ≤ ar_cnt (ch (pn i)))
    (hp : ∀ u', ar_RX (ar_u (ar_M LF va) k none) u' → post u') : wX_takeOut_139 post (nI k) (nI i) (nI (64 + pn i)) (nI (ar_cnt (ar_u (ch (pn i)) (ar_g k (dp (pn i))) none))) f_root f_keyCount f_spareLeaves f_spareSmalls f_spareWides f_pathLength a_leafKey a_leafValue a_spareLeaf a_depth a_prefix a_childCount a_keysBelow a_sumBelow a_smallDigit a_smallChild a_wideChild a_spareSmall a_spareWide a_path := by
  have hk := P.1
  obtain ⟨p1, p2, p3, p4, p5⟩ := P.2.2.1 i (by omega)
  have h0 := ar_PF_o1 I P
  have hg := ar_g_lt k (dp (pn i))
  have hdel := ar_cnt_del (c := ch (pn i)) hg (by rw [h0]; simp)
  have hcl := ar_cnt_le (ch (pn i))
  have h2 := ar_G_2 I.1 p1 p2
  refine pk_eq (ar_cnt (ar_u (ch (pn i)) (ar_g k (dp (pn i))) none)) 1 (fun e1 => ?_) (fun e1 => ?_)
  · have n64 : pn i < 64 := by
      by_cases z : pn i < 64
      · exact z
      · have := h6 (by omega)
        omega
    have B := A
    obtain ⟨A1, A2, A3, A4, A5, A6⟩ := A
    obtain ⟨⟨r1, r2, r3, r4⟩, ⟨d1, d2, d3, d4, d5⟩, T1, T2⟩ := A5 (pn i) p1 p2
    have hS := T1 n64
    rw [ar_us] at hS r4
    rw [e1] at hS
    obtain ⟨g1, c1, b1, b2, b3, b4⟩ := hS.2.1 0 (by omega)
    have hc1 := r4 g1 c1 b1 b4
    have b3' : a_smallChild (4 * pn i + 0) = nI c1 := b3
    have hI := ar_I_col (va := va) I P hkl hl (by omega) b1 b4
    have e4 : 4 * (nI (64 + pn i) - 64) = nI (4 * pn i + 0) := by rw [ar_m64, ar_4n]; rfl
    refine And.intro (by rw [e4]; exact vp_in_nI (by omega) (by omega)) (nm_r (e' := nI c1) (by rw [e4, ar_cl (by omega)]; exact b3') ?_)
    refine ar_x_release B p1 p2 (fun u' A' => ?_)
    have A'' := ar_A_lv A' (lv' := ar_u lv (pn i) false) (fun q _ hq => by
      by_cases e : q = pn i
      · rw [e]; exact p2
      · rw [ar_un e] at hq
        exact hq)
    obtain ⟨f_root, f_keyCount, f_spareLeaves, f_spareSmalls, f_spareWides, f_pathLength, a_leafKey, a_leafValue, a_spareLeaf, a_depth, a_prefix, a_childCount, a_keysBelow, a_sumBelow, a_smallDigit, a_smallChild, a_wideChild, a_spareSmall, a_spareWide, a_path⟩ := u'
    refine ar_x_relink A'' hk hc1 (by omega) (fun j ej => ?_) (fun u2 A2' => ?_)
    · have a := P.2.2.1 j (by omega)
      have ne : pn j ≠ pn i := fun z => by
        have := ar_PF_inj P (i := j) (j := i) (by omega) (by omega) z
        omega
      rw [ar_un ne, ar_un ne, ar_PF_oi I P (j := j) (by omega)]
      exact ⟨a.2.1, by simp⟩
    · obtain ⟨f_root, f_keyCount, f_spareLeaves, f_spareSmalls, f_spareWides, f_pathLength, a_leafKey, a_leafValue, a_spareLeaf, a_depth, a_prefix, a_childCount, a_keysBelow, a_sumBelow, a_smallDigit, a_smallChild, a_wideChild, a_spareSmall, a_spareWide, a_path⟩ := u2
      exact hp _ ⟨_, _, _, _, _, _, _, _, _, _, _, _, A2', hI, ar_M_del.symm⟩
  · exact hp _ ⟨_, _, _, _, _, _, _, _, _, _, _, _, A, ar_I_del I P hkl hl (by omega) h6, ar_M_del.symm⟩
theorem ar_x_takeOut {post : SX → Prop} {u : SX} {k l : Nat} (A : ar_A rt L pn N LF va lv lv dp pf kb sb ch u) (I : ar_I rt N LF va lv dp pf kb sb ch) (P : ar_PF lv dp pf (ar_SL lv dp pf ch rt) k L pn (some l)) (hkl : LF k = some l) (hl : l < 64)
    (hp : ∀ u', ar_RX (ar_u (ar_M LF va) k none) u' → post u') : wpX_takeOut post u (nI l) (nI k) := by
  have hk := P.1
  have hlt := ar_A_lt A
  have hk0 : LF k ≠ none := by rw [hkl]; simp
  have hN1 := ar_I_pos I hlt hk0
  obtain ⟨f_root, f_keyCount, f_spareLeaves, f_spareSmalls, f_spareWides, f_pathLength, a_leafKey, a_leafValue, a_spareLeaf, a_depth, a_prefix, a_childCount, a_keysBelow, a_sumBelow, a_smallDigit, a_smallChild, a_wideChild, a_spareSmall, a_spareWide, a_path⟩ := u
  obtain ⟨A1, A2, A3, A4, A5, A6⟩ := A
  have AL' := ar_AL_del A2 hkl hN1
  have hN : N ≤ 64 := A2.1
  have hsl : f_spareLeaves = nI (64 - N) := A2.2.2.1
  have kv : a_leafValue = va := A2.2.2.2.1
  obtain ⟨q1, q2, q3⟩ := A6
  refine nm_e (And.intro (by rw [hsl]; exact vp_in_nI (by omega) (by omega)) (nm_r (e' := upd a_spareLeaf (64 - N) (nI l)) (by rw [hsl, ar_cl (by omega), ar_nb (by omega)]) (nm_e ?_)))
  have B : ar_A rt L pn (N - 1) (ar_u LF k none) va lv lv dp pf kb sb ch (f_root, f_keyCount - 1, f_spareLeaves + 1, f_spareSmalls, f_spareWides, f_pathLength, a_leafKey, a_leafValue, upd a_spareLeaf (64 - N) (nI l), a_depth, a_prefix, a_childCount, a_keysBelow, a_sumBelow, a_smallDigit, a_smallChild, a_wideChild, a_spareSmall, a_spareWide, a_path) := ⟨A1, AL', A3, A4, A5, q1, q2, q3⟩
  cases L with
  | zero =>
    obtain ⟨hno, hI⟩ := ar_I_last (va := va) I P hlt hkl hl
    exact br_t q2 (hp _ ⟨_, _, _, _, _, _, _, _, _, _, _, _, ⟨rfl, AL', A3, A4, fun q hq hlq => (hno q hq hlq).elim, q1, q2, q3⟩, hI, ar_M_del.symm⟩)
  | succ i =>
    obtain ⟨p1, p2, p3, p4, p5⟩ := P.2.2.1 i (by omega)
    have h0 := ar_PF_o1 I P
    have hg := ar_g_lt k (dp (pn i))
    have hdel := ar_cnt_del (c := ch (pn i)) hg (by rw [h0]; simp)
    have hcl := ar_cnt_le (ch (pn i))
    have inP : ∀ q, q < 80 → lv q = true → (∀ j, j < i + 1 → pn j ≠ q) → ar_t k (dp q) ≠ pf q := fun q hq hlq h z => by
      obtain ⟨j, hj, e⟩ := P.2.2.2 q hq hlq z
      exact h j hj e
    refine br_f (by rw [q2]; exact nI_ne0 (by omega) (by omega)) (And.intro (vp_in_nI hl (by omega)) ?_)
    have ev : a_leafValue (nI l).toNatClampNeg = va l := by rw [ar_cl (by omega), kv]
    rw [ev]
    refine ar_x_credit B (kb' := ar_kD dp pf kb k) (sb' := ar_sI dp pf sb k (-(va l).toInt64)) (fun j hj => (P.2.2.1 j hj).2.1) (fun a b ha hb e => ar_PF_inj P ha hb e) (fun j hj => ?_) (fun q hq hlq h => ⟨if_neg (inP q hq hlq h), if_neg (inP q hq hlq h)⟩) (fun u' A' => ?_)
    · obtain ⟨b1, b2, b3, _⟩ := P.2.2.1 j hj
      have hpos := ar_kb_pos I hk0 b1 b2 b3
      have hkb := (A5 (pn j) b1 b2).1.2.2.1
      have e1 : ar_kD dp pf kb k (pn j) = kb (pn j) - 1 := if_pos b3
      have e2 : ar_sI dp pf sb k (-(va l).toInt64) (pn j) = sb (pn j) + -(va l).toInt64 := if_pos b3
      rw [e1, e2]
      refine ⟨?_, by omega, rfl⟩
      have := pk_m1 (kb (pn j) - 1)
      rw [Nat.sub_add_cancel hpos] at this
      exact this
    · obtain ⟨f_root, f_keyCount, f_spareLeaves, f_spareSmalls, f_spareWides, f_pathLength, a_leafKey, a_leafValue, a_spareLeaf, a_depth, a_prefix, a_childCount, a_keysBelow, a_sumBelow, a_smallDigit, a_smallChild, a_wideChild, a_spareSmall, a_spareWide, a_path⟩ := u'
      have B' := A'
      obtain ⟨A1', A2', A3', A4', A5', A6'⟩ := A'
      obtain ⟨q1', q2', q3'⟩ := A6'
      obtain ⟨⟨r1, r2, r3, r4⟩, ⟨d1, d2, d3, d4, d5⟩, T⟩ := A5' (pn i) p1 p2
      have hv : vp_in (nI (pn i)) 80 := vp_in_nI p1 (by omega)
      refine nm_r (e' := nI i) (by rw [q2']; exact nI_pred i) (And.intro (vp_in_nI (by omega) (by omega)) (nm_r (e' := nI (64 + pn i)) (by rw [ar_cl (by omega)]; exact (q3' i (by omega)).2) (And.intro (by rw [ar_m64]; exact hv) ?_)))
      rw [ar_m64, ar_cl (by omega), d1]
      refine ar_x_dig hk r1 ?_
      refine ar_x_dropChild B' p1 p2 hg (by rw [h0]; simp) (fun u2 A2 => ?_)
      obtain ⟨f_root, f_keyCount, f_spareLeaves, f_spareSmalls, f_spareWides, f_pathLength, a_leafKey, a_leafValue, a_spareLeaf, a_depth, a_prefix, a_childCount, a_keysBelow, a_sumBelow, a_smallDigit, a_smallChild, a_wideChild, a_spareSmall, a_spareWide, a_path⟩ := u2
      have B2 := A2
      obtain ⟨C1, C2, C3, C4, C5, C6⟩ := A2
      have cc := (C5 (pn i) p1 p2).2.1.2.2.1
      rw [ar_us] at cc
      refine And.intro hv (nm_r (e' := nI (ar_cnt (ar_u (ch (pn i)) (ar_g k (dp (pn i))) none))) cc ?_)
      by_cases c64 : pn i < 64
      · exact br_t (nI_lt (b := 128) (by omega) (by decide)) (ar_x_t139 B2 I P hkl hl (fun z => absurd z (by omega)) hp)
      · have h5 := (I.2.2.1 _ p1 p2).2 (by omega)
        refine br_f (nI_nlt (b := 128) (by omega) (by omega)) (pk_eq (ar_cnt (ar_u (ch (pn i)) (ar_g k (dp (pn i))) none)) 4 (fun e4 => ?_) (fun e4 => ?_))
        · have hroom := (ar_I_room I hN).1
          obtain ⟨s1, s2⟩ := ar_I_rest (va := va) I P hl
          refine ar_x_rebS B2 p1 p2 (fun q _ h => h) hroom (fun g c hg' e => ?_) (by rw [ar_us]; omega) (by rw [ar_us, s1]; exact r3) (fun n' u3 hn' _ hln' A3 => ?_)
          · rw [ar_us] at e
            by_cases eg : g = ar_g k (dp (pn i))
            · rw [eg, ar_us] at e
              exact absurd e (by simp)
            · rw [ar_un eg] at e
              exact ar_I_hc2 I p1 p2 hg' e
          · have e5 : ar_u ch (pn i) (ar_u (ch (pn i)) (ar_g k (dp (pn i))) none) (pn i) = ar_u (ch (pn i)) (ar_g k (dp (pn i))) none := ar_us
            have s1' : ar_sN (fun g => ar_kO (ar_kD dp pf kb k) (ar_u ch (pn i) (ar_u (ch (pn i)) (ar_g k (dp (pn i))) none) (pn i) g)) 16 = ar_kD dp pf kb k (pn i) := by rw [e5]; exact s1
            have s2' : ar_sL (fun g => ar_sO va (ar_sI dp pf sb k (-(va l).toInt64)) (ar_u ch (pn i) (ar_u (ch (pn i)) (ar_g k (dp (pn i))) none) (pn i) g)) 16 = ar_sI dp pf sb k (-(va l).toInt64) (pn i) := by rw [e5]; exact s2
            rw [s1', s2'] at A3
            have nq : ∀ q, lv q = true → q ≠ n' := fun q h z => by rw [z, hln'] at h; exact absurd h (by simp)
            have hI := ar_I_shrink (va := va) I P hkl hl (by omega) hn' hln'
            obtain ⟨f_root, f_keyCount, f_spareLeaves, f_spareSmalls, f_spareWides, f_pathLength, a_leafKey, a_leafValue, a_spareLeaf, a_depth, a_prefix, a_childCount, a_keysBelow, a_sumBelow, a_smallDigit, a_smallChild, a_wideChild, a_spareSmall, a_spareWide, a_path⟩ := u3
            refine ar_x_relink A3 hk (c := 64 + n') (by omega) (by omega) (fun j ej => ?_) (fun u4 A4 => ?_)
            · have a := P.2.2.1 j (by omega)
              have z2 := nq _ a.2.1
              have z1 : pn j ≠ pn i := fun z => by
                have := ar_PF_inj P (i := j) (j := i) (by omega) (by omega) z
                omega
              rw [ar_un z1, ar_un z2, ar_un z2, ar_un z2, ar_un z1]
              refine ⟨a.2.1, ?_⟩
              rw [ar_PF_oi I P (j := j) (by omega)]
              simp
            · obtain ⟨f_root, f_keyCount, f_spareLeaves, f_spareSmalls, f_spareWides, f_pathLength, a_leafKey, a_leafValue, a_spareLeaf, a_depth, a_prefix, a_childCount, a_keysBelow, a_sumBelow, a_smallDigit, a_smallChild, a_wideChild, a_spareSmall, a_spareWide, a_path⟩ := u4
              exact hp _ ⟨_, _, _, _, _, _, _, _, _, _, _, _, A4, hI, ar_M_del.symm⟩
        · exact ar_x_t139 B2 I P hkl hl (fun _ => by omega) hp
end
end
section
/-! the calls of the component against the map -/
theorem ar_RX_lt {M : Nat → Option Int32} {u : SX} (R : ar_RX M u) : ∀ k, M k ≠ none → k < 65536 := by
  obtain ⟨rt, L, pn, N, LF, va, lv, dp, pf, kb, sb, ch, A, I, rfl⟩ := R
  exact ar_M_lt (ar_A_lt A)
theorem ar_RX_kc {M : Nat → Option Int32} {f_root f_keyCount f_spareLeaves f_spareSmalls f_spareWides f_pathLength : Int32} {a_leafKey a_leafValue a_spareLeaf a_depth a_prefix a_childCount a_keysBelow : Nat → Int32} {a_sumBelow : Nat → Int64} {a_smallDigit a_smallChild a_wideChild a_spareSmall a_spareWide a_path : Nat → Int32} (R : ar_RX M (f_root, f_keyCount, f_spareLeaves, f_spareSmalls, f_spareWides, f_pathLength, a_leafKey, a_leafValue, a_spareLeaf, a_depth, a_prefix, a_childCount, a_keysBelow, a_sumBelow, a_smallDigit, a_smallChild, a_wideChild, a_spareSmall, a_spareWide, a_path)) : f_keyCount = nI (ar_C M 65536) ∧ ar_C M 65536 ≤ 64 := by
  obtain ⟨rt, L, pn, N, LF, va, lv, dp, pf, kb, sb, ch, A, I, rfl⟩ := R
  rw [ar_C_M, ← I.2.2.2.2]
  exact ⟨A.2.1.2.1, A.2.1.1⟩
theorem ar_C_del1 {M : Nat → Option Int32} {k : Nat} (hk : k < 65536) (h : M k ≠ none) : ar_C (ar_u M k none) 65536 + 1 = ar_C M 65536 := by
  have c := ar_C_chg (F := M) (F' := ar_u M k none) (k := k) (fun i hi => ar_un hi) 65536
  rw [if_pos hk, if_pos hk, ar_us, ar_c1_ne h] at c
  have e : ar_c1 (none : Option Int32) = 0 := rfl
  omega
/-- the search, then the removal of a key that is there -/
theorem ar_x_findTake {M : Nat → Option Int32} {post : SX → Prop} {u : SX} (R : ar_RX M u) {k : Nat} (hk : k < 65536) (hM : M k ≠ none)
    (hp : ∀ u', ar_RX (ar_u M k none) u' → post u') : wpX_find (fun r u => wpX_takeOut post u r (nI k)) u (nI k) := by
  obtain ⟨rt, L, pn, N, LF, va, lv, dp, pf, kb, sb, ch, A, I, rfl⟩ := R
  refine ar_x_find A I.1 hk (fun L pn o r u' A' P hr => ?_)
  rcases hr with ⟨e1, e2⟩ | ⟨l, hl, e1, e2, e3⟩
  · exact absurd (ar_M_none e1) hM
  · subst e2
    subst e3
    exact ar_x_takeOut A' I P e1 hl hp
theorem ar_x_remove {M : Nat → Option Int32} {post : Int32 → SX → Prop} {u : SX} (R : ar_RX M u) {k : Nat} (hk : k < 65536)
    (h0 : M k ≠ none → ∀ u', ar_RX (ar_u M k none) u' → post (nI (ar_C M 65536 - 1)) u') (h1 : M k = none → ∀ u', ar_RX M u' → post (-3) u') : wpX_remove post u (nI k) := by
  obtain ⟨rt, L, pn, N, LF, va, lv, dp, pf, kb, sb, ch, A, I, rfl⟩ := R
  obtain ⟨f_root, f_keyCount, f_spareLeaves, f_spareSmalls, f_spareWides, f_pathLength, a_leafKey, a_leafValue, a_spareLeaf, a_depth, a_prefix, a_childCount, a_keysBelow, a_sumBelow, a_smallDigit, a_smallChild, a_wideChild, a_spareSmall, a_spareWide, a_path⟩ := u
  unfold wpX_remove
  refine ar_x_isKey hk ?_
  refine br_f (by decide) ?_
  refine ar_x_find A I.1 hk (fun L pn o r u' A' P hr => ?_)
  obtain ⟨f_root, f_keyCount, f_spareLeaves, f_spareSmalls, f_spareWides, f_pathLength, a_leafKey, a_leafValue, a_spareLeaf, a_depth, a_prefix, a_childCount, a_keysBelow, a_sumBelow, a_smallDigit, a_smallChild, a_wideChild, a_spareSmall, a_spareWide, a_path⟩ := u'
  rcases hr with ⟨e1, e2⟩ | ⟨l, hl, e1, e2, e3⟩
  · subst e2
    exact br_f (by decide) (h1 (ar_M_none e1) _ ⟨_, _, _, _, _, _, _, _, _, _, _, _, A', I, rfl⟩)
  · subst e2
    subst e3
    have hM : ar_M LF va k ≠ none := by rw [ar_M_some e1]; simp
    refine br_t (nI_pos' (by omega)) ?_
    refine ar_x_takeOut A' I P e1 hl (fun u2 R2 => ?_)
    obtain ⟨f_root, f_keyCount, f_spareLeaves, f_spareSmalls, f_spareWides, f_pathLength, a_leafKey, a_leafValue, a_spareLeaf, a_depth, a_prefix, a_childCount, a_keysBelow, a_sumBelow, a_smallDigit, a_smallChild, a_wideChild, a_spareSmall, a_spareWide, a_path⟩ := u2
    have hc := (ar_RX_kc R2).1
    have hd := ar_C_del1 hk hM
    have h := h0 hM _ R2
    show post f_keyCount _
    rw [hc]
    rw [← hd, Nat.add_sub_cancel, hc] at h
    exact h
theorem ar_x_removeN {post : Int32 → SX → Prop} {u : SX} {x : Int32} (hx : x < 0 ∨ (¬ x < 0 ∧ 65535 < x)) (h : post (-1) u) : wpX_remove post u x := by
  obtain ⟨f_root, f_keyCount, f_spareLeaves, f_spareSmalls, f_spareWides, f_pathLength, a_leafKey, a_leafValue, a_spareLeaf, a_depth, a_prefix, a_childCount, a_keysBelow, a_sumBelow, a_smallDigit, a_smallChild, a_wideChild, a_spareSmall, a_spareWide, a_path⟩ := u
  unfold wpX_remove
  refine ar_x_noKey hx ?_
  exact br_t rfl h
theorem ar_x_contains {M : Nat → Option Int32} {post : Int32 → SX → Prop} {u : SX} (R : ar_RX M u) {k : Nat} (hk : k < 65536)
    (h0 : M k ≠ none → ∀ u', ar_RX M u' → post 1 u') (h1 : M k = none → ∀ u', ar_RX M u' → post 0 u') : wpX_contains post u (nI k) := by
  obtain ⟨rt, L, pn, N, LF, va, lv, dp, pf, kb, sb, ch, A, I, rfl⟩ := R
  obtain ⟨f_root, f_keyCount, f_spareLeaves, f_spareSmalls, f_spareWides, f_pathLength, a_leafKey, a_leafValue, a_spareLeaf, a_depth, a_prefix, a_childCount, a_keysBelow, a_sumBelow, a_smallDigit, a_smallChild, a_wideChild, a_spareSmall, a_spareWide, a_path⟩ := u
  unfold wpX_contains
  refine ar_x_isKey hk ?_
  refine br_f (by decide) ?_
  refine ar_x_find A I.1 hk (fun L pn o r u' A' P hr => ?_)
  obtain ⟨f_root, f_keyCount, f_spareLeaves, f_spareSmalls, f_spareWides, f_pathLength, a_leafKey, a_leafValue, a_spareLeaf, a_depth, a_prefix, a_childCount, a_keysBelow, a_sumBelow, a_smallDigit, a_smallChild, a_wideChild, a_spareSmall, a_spareWide, a_path⟩ := u'
  rcases hr with ⟨e1, e2⟩ | ⟨l, hl, e1, e2, e3⟩
  · subst e2
    exact br_t (by decide) (h1 (ar_M_none e1) _ ⟨_, _, _, _, _, _, _, _, _, _, _, _, A', I, rfl⟩)
  · subst e3
    exact br_f (nI_pos (by omega)) (h0 (by rw [ar_M_some e1]; simp) _ ⟨_, _, _, _, _, _, _, _, _, _, _, _, A', I, rfl⟩)
theorem ar_x_containsN {post : Int32 → SX → Prop} {u : SX} {x : Int32} (hx : x < 0 ∨ (¬ x < 0 ∧ 65535 < x)) (h : post 0 u) : wpX_contains post u x := by
  obtain ⟨f_root, f_keyCount, f_spareLeaves, f_spareSmalls, f_spareWides, f_pathLength, a_leafKey, a_leafValue, a_spareLeaf, a_depth, a_prefix, a_childCount, a_keysBelow, a_sumBelow, a_smallDigit, a_smallChild, a_wideChild, a_spareSmall, a_spareWide, a_path⟩ := u
  unfold wpX_contains
  refine ar_x_noKey hx ?_
  exact br_t rfl h
theorem ar_x_valueOf {M : Nat → Option Int32} {post : Int32 → SX → Prop} {u : SX} (R : ar_RX M u) {k : Nat} (hk : k < 65536)
    (h0 : ∀ w, M k = some w → ∀ u', ar_RX M u' → post w u') (h1 : M k = none → ∀ u', ar_RX M u' → post 0 u') : wpX_valueOf post u (nI k) := by
  obtain ⟨rt, L, pn, N, LF, va, lv, dp, pf, kb, sb, ch, A, I, rfl⟩ := R
  obtain ⟨f_root, f_keyCount, f_spareLeaves, f_spareSmalls, f_spareWides, f_pathLength, a_leafKey, a_leafValue, a_spareLeaf, a_depth, a_prefix, a_childCount, a_keysBelow, a_sumBelow, a_smallDigit, a_smallChild, a_wideChild, a_spareSmall, a_spareWide, a_path⟩ := u
  unfold wpX_valueOf
  refine ar_x_isKey hk ?_
  refine br_f (by decide) ?_
  refine ar_x_find A I.1 hk (fun L pn o r u' A' P hr => ?_)
  obtain ⟨f_root, f_keyCount, f_spareLeaves, f_spareSmalls, f_spareWides, f_pathLength, a_leafKey, a_leafValue, a_spareLeaf, a_depth, a_prefix, a_childCount, a_keysBelow, a_sumBelow, a_smallDigit, a_smallChild, a_wideChild, a_spareSmall, a_spareWide, a_path⟩ := u'
  have kv : a_leafValue = va := A'.2.1.2.2.2.1
  rcases hr with ⟨e1, e2⟩ | ⟨l, hl, e1, e2, e3⟩
  · subst e2
    exact br_f (by decide) (h1 (ar_M_none e1) _ ⟨_, _, _, _, _, _, _, _, _, _, _, _, A', I, rfl⟩)
  · subst e3
    refine br_t (nI_pos' (by omega)) (And.intro (vp_in_nI hl (by omega)) ?_)
    have ev : a_leafValue (nI l).toNatClampNeg = va l := by rw [ar_cl (by omega), kv]
    rw [ev]
    exact h0 _ (ar_M_some e1) _ ⟨_, _, _, _, _, _, _, _, _, _, _, _, A', I, rfl⟩
theorem ar_x_valueOfN {post : Int32 → SX → Prop} {u : SX} {x : Int32} (hx : x < 0 ∨ (¬ x < 0 ∧ 65535 < x)) (h : post 0 u) : wpX_valueOf post u x := by
  obtain ⟨f_root, f_keyCount, f_spareLeaves, f_spareSmalls, f_spareWides, f_pathLength, a_leafKey, a_leafValue, a_spareLeaf, a_depth, a_prefix, a_childCount, a_keysBelow, a_sumBelow, a_smallDigit, a_smallChild, a_wideChild, a_spareSmall, a_spareWide, a_path⟩ := u
  unfold wpX_valueOf
  refine ar_x_noKey hx ?_
  exact br_t rfl h
theorem ar_X_above {M : Nat → Option Int32} {post : Int32 → Prop} {u : SX} (R : ar_RX M u) {x : Int32} (hp : ∀ r, ar_Ab M x.toInt r → post r) : wpX_above post u x := by
  obtain ⟨rt, L, pn, N, LF, va, lv, dp, pf, kb, sb, ch, A, I, rfl⟩ := R
  exact ar_x_above A I hp
theorem ar_X_below {M : Nat → Option Int32} {post : Int32 → Prop} {u : SX} (R : ar_RX M u) {x : Int32} (hp : ∀ r, ar_Be M x.toInt r → post r) : wpX_below post u x := by
  obtain ⟨rt, L, pn, N, LF, va, lv, dp, pf, kb, sb, ch, A, I, rfl⟩ := R
  exact ar_x_below A I hp
theorem ar_X_atRank {M : Nat → Option Int32} {post : Int32 → Prop} {u : SX} (R : ar_RX M u) {x : Int32} (hp : ∀ r, ar_Rk M x.toInt r → post r) : wpX_atRank post u x := by
  obtain ⟨rt, L, pn, N, LF, va, lv, dp, pf, kb, sb, ch, A, I, rfl⟩ := R
  exact ar_x_atRank A I hp
theorem ar_X_countRange {M : Nat → Option Int32} {post : Int32 → Prop} {u : SX} (R : ar_RX M u) {x y : Int32} (hp : post (nI (ar_R M x.toInt y.toInt))) : wpX_countRange post u x y := by
  obtain ⟨rt, L, pn, N, LF, va, lv, dp, pf, kb, sb, ch, A, I, rfl⟩ := R
  exact ar_x_countRange A I hp
theorem ar_X_sharedDigits {M : Nat → Option Int32} {post : Int32 → Prop} {u : SX} (R : ar_RX M u) {k : Nat} (hk : k < 65536) (hp : ∀ r, ar_Sh M k r → post r) : wpX_sharedDigits post u (nI k) := by
  obtain ⟨rt, L, pn, N, LF, va, lv, dp, pf, kb, sb, ch, A, I, rfl⟩ := R
  exact ar_x_sharedDigits A I hk hp
theorem ar_X_sumUnder {M : Nat → Option Int32} {post : Int64 → Prop} {u : SX} (R : ar_RX M u) {k d : Nat} (hk : k < 65536) (hd : d ≤ 4) (hp : post (ar_U M k d)) : wpX_sumUnder post u (nI k) (nI d) := by
  obtain ⟨rt, L, pn, N, LF, va, lv, dp, pf, kb, sb, ch, A, I, rfl⟩ := R
  exact ar_x_sumUnder A I hk hd hp
/-! a range is taken out -/
def ar_w32 (post : Int32 → SX → Prop) (x2 : Int32) (f : Nat) (x3 x4 x5 : Int32) (u : SX) : Prop := match u with
  | (f_root, f_keyCount, f_spareLeaves, f_spareSmalls, f_spareWides, f_pathLength, a_leafKey, a_leafValue, a_spareLeaf, a_depth, a_prefix, a_childCount, a_keysBelow, a_sumBelow, a_smallDigit, a_smallChild, a_wideChild, a_spareSmall, a_spareWide, a_path) => wX_removeRange_32 post x2 f x3 x4 x5 f_root f_keyCount f_spareLeaves f_spareSmalls f_spareWides f_pathLength a_leafKey a_leafValue a_spareLeaf a_depth a_prefix a_childCount a_keysBelow a_sumBelow a_smallDigit a_smallChild a_wideChild a_spareSmall a_spareWide a_path
theorem ar_R_del {M : Nat → Option Int32} {a b k : Nat} (hk : k < 65536) (h1 : a ≤ k) (h2 : k ≤ b) (h : M k ≠ none) : ar_R (ar_u M k none) a b + 1 = ar_R M a b := by
  have hs := ar_sN_one (f := fun j => if (a : Int) ≤ (j : Int) ∧ (j : Int) ≤ (b : Int) then ar_c1 (ar_u M k none j) else 0)
    (g := fun j => if (a : Int) ≤ (j : Int) ∧ (j : Int) ≤ (b : Int) then ar_c1 (M j) else 0) (k := k) (fun j hj => by
      show (if (a : Int) ≤ (j : Int) ∧ (j : Int) ≤ (b : Int) then ar_c1 (ar_u M k none j) else 0) = (if (a : Int) ≤ (j : Int) ∧ (j : Int) ≤ (b : Int) then ar_c1 (M j) else 0)
      rw [ar_un hj]) 65536 hk
  have x1 : (if (a : Int) ≤ (k : Int) ∧ (k : Int) ≤ (b : Int) then ar_c1 (M k) else 0) = 1 := by
    rw [if_pos (by omega), ar_c1_ne h]
  have x2 : (if (a : Int) ≤ (k : Int) ∧ (k : Int) ≤ (b : Int) then ar_c1 (ar_u M k none k) else 0) = 0 := by
    rw [if_pos (by omega), ar_us]
    rfl
  rw [x1, x2] at hs
  unfold ar_R
  omega
theorem ar_x_rr32 {M0 : Nat → Option Int32} {a b : Nat} (ha : a < 65536) (hb : b < 65536) (hC0 : ar_C M0 65536 ≤ 64) {post : Int32 → SX → Prop} (hp : ∀ u, ar_RX (ar_D M0 a b) u → post (nI (ar_R M0 a b)) u) :
    ∀ (f t c : Nat) (M : Nat → Option Int32) (r : Int32) (u : SX), t + f = 64 → a ≤ c → ar_RX M u → (∀ k, ¬ (a ≤ k ∧ k ≤ b) → M k = M0 k) → t + ar_R M a b = ar_R M0 a b → t + ar_C M 65536 = ar_C M0 65536 →
      (∀ k, M k ≠ none → a ≤ k → c ≤ k) → ar_Ab M ((c : Int) - 1) r → ar_w32 post (nI b) (f + 1) (nI t) r (nI t) u := by
  have fin : ∀ (t : Nat) (M : Nat → Option Int32) (u : SX), ar_RX M u → (∀ k, ¬ (a ≤ k ∧ k ≤ b) → M k = M0 k) → t + ar_R M a b = ar_R M0 a b → (∀ k, M k ≠ none → ¬ (a ≤ k ∧ k ≤ b)) → post (nI t) u := by
    intro t M u R h1 h2 h3
    have eM : M = ar_D M0 a b := by
      funext k
      show M k = if a ≤ k ∧ k ≤ b then none else M0 k
      by_cases z : a ≤ k ∧ k ≤ b
      · rw [if_pos z]
        by_cases w : M k = none
        · exact w
        · exact absurd z (h3 k w)
      · rw [if_neg z]
        exact h1 k z
    have e0 : ar_R M a b = 0 := by
      refine ar_sN_z (a := 0) 65536 (by omega) (fun k _ _ => ?_)
      show (if (a : Int) ≤ (k : Int) ∧ (k : Int) ≤ (b : Int) then ar_c1 (M k) else 0) = 0
      by_cases z : (a : Int) ≤ (k : Int) ∧ (k : Int) ≤ (b : Int)
      · rw [if_pos z]
        by_cases w : M k = none
        · rw [w]; rfl
        · exact absurd (by omega) (h3 k w)
      · exact if_neg z
    have et : t = ar_R M0 a b := by omega
    rw [et]
    exact hp u (eM ▸ R)
  intro f
  induction f with
  | zero =>
    intro t c M r u ht hac R h1 h2 h3 h4 h5
    have hlt := ar_RX_lt R
    obtain ⟨f_root, f_keyCount, f_spareLeaves, f_spareSmalls, f_spareWides, f_pathLength, a_leafKey, a_leafValue, a_spareLeaf, a_depth, a_prefix, a_childCount, a_keysBelow, a_sumBelow, a_smallDigit, a_smallChild, a_wideChild, a_spareSmall, a_spareWide, a_path⟩ := u
    refine br_t (nI_le (a := 64) (by omega) (by omega)) (fin t M _ R h1 h2 (fun k hk _ => ?_))
    have h6 := ar_C_lt hk (hlt k hk)
    omega
  | succ f ih =>
    intro t c M r u ht hac R h1 h2 h3 h4 h5
    have hlt := ar_RX_lt R
    have R0 := R
    obtain ⟨f_root, f_keyCount, f_spareLeaves, f_spareSmalls, f_spareWides, f_pathLength, a_leafKey, a_leafValue, a_spareLeaf, a_depth, a_prefix, a_childCount, a_keysBelow, a_sumBelow, a_smallDigit, a_smallChild, a_wideChild, a_spareSmall, a_spareWide, a_path⟩ := u
    refine br_f (nI_ge (b := 64) (by omega) (by decide)) ?_
    rcases h5 with ⟨e, h5⟩ | ⟨k, hk, e, k1, k2, k3⟩
    · subst e
      refine br_t (by decide) (fin t M _ R h1 h2 (fun k hk z => ?_))
      have := h5 k hk
      have := h4 k hk z.1
      omega
    · subst e
      refine br_f (nI_pos (by omega)) (pk_lt b k (fun z => fin t M _ R h1 h2 (fun j hj w => ?_)) (fun z => ?_))
      · have h6 := h4 j hj w.1
        have h7 := k3 j hj (by omega)
        omega
      · obtain ⟨rt, L, pn, N, LF, va, lv, dp, pf, kb, sb, ch, A, I, rfl⟩ := R
        refine ar_x_find A I.1 hk (fun L pn o r' u' A' P hr => ?_)
        obtain ⟨f_root, f_keyCount, f_spareLeaves, f_spareSmalls, f_spareWides, f_pathLength, a_leafKey, a_leafValue, a_spareLeaf, a_depth, a_prefix, a_childCount, a_keysBelow, a_sumBelow, a_smallDigit, a_smallChild, a_wideChild, a_spareSmall, a_spareWide, a_path⟩ := u'
        rcases hr with ⟨e1, e2⟩ | ⟨l, hl, e1, e2, e3⟩
        · exact absurd (ar_M_none e1) k1
        · subst e2
          subst e3
          refine ar_x_takeOut A' I P e1 hl (fun u2 R2 => ?_)
          have hd := ar_C_del1 hk k1
          have hr := ar_R_del (a := a) (b := b) hk (by omega) z k1
          have hI := fun r3 (hr3 : ar_Ab (ar_u (ar_M LF va) k none) ((k + 1 : Nat) - 1 : Int) r3) => ih (t + 1) (k + 1) (ar_u (ar_M LF va) k none) r3 u2 (by omega) (by omega) R2 (fun j hj => by
            rw [ar_un (fun w => hj (by omega))]
            exact h1 j hj) (by omega) (by omega) (fun j hj haj => by
            by_cases w : j = k
            · rw [w, ar_us] at hj
              exact absurd rfl hj
            · rw [ar_un w] at hj
              have h6 := h4 j hj haj
              have h7 := k3 j hj (by omega)
              omega) hr3
          obtain ⟨f_root, f_keyCount, f_spareLeaves, f_spareSmalls, f_spareWides, f_pathLength, a_leafKey, a_leafValue, a_spareLeaf, a_depth, a_prefix, a_childCount, a_keysBelow, a_sumBelow, a_smallDigit, a_smallChild, a_wideChild, a_spareSmall, a_spareWide, a_path⟩ := u2
          refine nm_r (nI_1 t) ?_
          refine ar_X_above (x := nI k) R2 (fun r3 hr3 => nm_r (nI_1 t) (hI r3 ?_))
          rw [nI_toInt (by omega)] at hr3
          have e : ((k + 1 : Nat) : Int) - 1 = (k : Int) := by omega
          rw [e]
          exact hr3
theorem ar_x_removeRange {M : Nat → Option Int32} {post : Int32 → SX → Prop} {u : SX} (R : ar_RX M u) {a b : Nat} (ha : a < 65536) (hb : b < 65536)
    (hp : ∀ u, ar_RX (ar_D M a b) u → post (nI (ar_R M a b)) u) : wpX_removeRange post u (nI a) (nI b) := by
  have R0 := R
  obtain ⟨f_root, f_keyCount, f_spareLeaves, f_spareSmalls, f_spareWides, f_pathLength, a_leafKey, a_leafValue, a_spareLeaf, a_depth, a_prefix, a_childCount, a_keysBelow, a_sumBelow, a_smallDigit, a_smallChild, a_wideChild, a_spareSmall, a_spareWide, a_path⟩ := u
  have hC := (ar_RX_kc R).2
  unfold wpX_removeRange
  refine ar_x_isKey ha ?_
  refine br_f (by decide) ?_
  refine ar_x_isKey hb ?_
  refine br_f (by decide) ?_
  refine ar_X_above R (fun r hr => ⟨65, ?_⟩)
  have e : (nI a - 1).toInt = (a : Int) - 1 := by
    rw [Int32.toInt_sub, nI_toInt (by omega), show (1 : Int32).toInt = 1 from by decide]
    exact Int.bmod_eq_of_le (by omega) (by omega)
  rw [e] at hr
  exact ar_x_rr32 ha hb hC hp 64 0 a M r _ (by omega) (Nat.le_refl _) R0 (fun _ _ => rfl) (by omega) (by omega) (fun k _ h => h) hr
theorem ar_x_removeRangeN1 {post : Int32 → SX → Prop} {u : SX} {x y : Int32} (hx : x < 0 ∨ (¬ x < 0 ∧ 65535 < x)) (h : post (-1) u) : wpX_removeRange post u x y := by
  obtain ⟨f_root, f_keyCount, f_spareLeaves, f_spareSmalls, f_spareWides, f_pathLength, a_leafKey, a_leafValue, a_spareLeaf, a_depth, a_prefix, a_childCount, a_keysBelow, a_sumBelow, a_smallDigit, a_smallChild, a_wideChild, a_spareSmall, a_spareWide, a_path⟩ := u
  unfold wpX_removeRange
  refine ar_x_noKey hx ?_
  exact br_t rfl h
theorem ar_x_removeRangeN2 {post : Int32 → SX → Prop} {u : SX} {a : Nat} {y : Int32} (ha : a < 65536) (hy : y < 0 ∨ (¬ y < 0 ∧ 65535 < y)) (h : post (-1) u) : wpX_removeRange post u (nI a) y := by
  obtain ⟨f_root, f_keyCount, f_spareLeaves, f_spareSmalls, f_spareWides, f_pathLength, a_leafKey, a_leafValue, a_spareLeaf, a_depth, a_prefix, a_childCount, a_keysBelow, a_sumBelow, a_smallDigit, a_smallChild, a_wideChild, a_spareSmall, a_spareWide, a_path⟩ := u
  unfold wpX_removeRange
  refine ar_x_isKey ha ?_
  refine br_f (by decide) ?_
  refine ar_x_noKey hy ?_
  exact br_t rfl h
theorem ar_y_removeRangeN1 {post : Int32 → SY → Prop} {v : SY} {x y : Int32} (hx : x < 0 ∨ (¬ x < 0 ∧ 65535 < x)) (h : post (-1) v) : wpY_removeRange post v x y := by
  obtain ⟨f, a, b⟩ := v
  unfold wpY_removeRange
  refine ar_y_noKey hx ?_
  exact br_t rfl h
theorem ar_y_removeRangeN2 {post : Int32 → SY → Prop} {v : SY} {c : Nat} {y : Int32} (ha : c < 65536) (hy : y < 0 ∨ (¬ y < 0 ∧ 65535 < y)) (h : post (-1) v) : wpY_removeRange post v (nI c) y := by
  obtain ⟨f, a, b⟩ := v
  unfold wpY_removeRange
  refine ar_y_isKey ha ?_
  refine br_f (by decide) ?_
  refine ar_y_noKey hy ?_
  exact br_t rfl h
end
section
/-! the constructors -/
theorem ar_x_init182 {f_root f_keyCount f_spareLeaves f_spareSmalls f_spareWides f_pathLength : Int32} {a_leafKey a_leafValue a_spareLeaf a_depth a_prefix a_childCount a_keysBelow : Nat → Int32} {a_sumBelow : Nat → Int64} {a_smallDigit a_smallChild a_wideChild a_spareSmall a_spareWide a_path : Nat → Int32} {post : SX → Prop} (hq : ∀ spw : Nat → Int32, (∀ i, i < 16 → spw i = nI (15 - i)) → post (f_root, f_keyCount, f_spareLeaves, f_spareSmalls, nI 16, f_pathLength, a_leafKey, a_leafValue, a_spareLeaf, a_depth, a_prefix, a_childCount, a_keysBelow, a_sumBelow, a_smallDigit, a_smallChild, a_wideChild, a_spareSmall, spw, a_path)) :
    ∀ (e t : Nat) (spw : Nat → Int32), t + e = 16 → (∀ i, i < t → spw i = nI (15 - i)) → wX_init_182 post f_root f_keyCount f_spareLeaves f_spareSmalls f_pathLength (e + 1) (nI e + (-1)) (nI t) a_leafKey a_leafValue a_spareLeaf a_depth a_prefix a_childCount a_keysBelow a_sumBelow a_smallDigit a_smallChild a_wideChild a_spareSmall spw a_path := by
  intro e
  induction e with
  | zero =>
    intro t spw ht h
    have et : t = 16 := by omega
    subst et
    exact br_t (by decide) (hq spw h)
  | succ e ih =>
    intro t spw ht h
    rw [pk_m1]
    refine br_f (nI_pos (by omega)) (And.intro (vp_in_nI (by omega) (by omega)) (nm_r (e' := upd spw t (nI e)) (by rw [ar_cl (by omega), ar_nb (by omega)]) (nm_r (nI_1 t) (nm_e (ih (t + 1) _ (by omega) (fun i hi => ?_))))))
    by_cases z : i = t
    · rw [z, pk_us, show e = 15 - t by omega]
    · rw [pk_un z]
      exact h i (by omega)
theorem ar_x_init127 {f_root f_keyCount f_spareLeaves f_spareSmalls f_spareWides f_pathLength : Int32} {a_leafKey a_leafValue a_spareLeaf a_depth a_prefix a_childCount a_keysBelow : Nat → Int32} {a_sumBelow : Nat → Int64} {a_smallDigit a_smallChild a_wideChild a_spareSmall a_spareWide a_path : Nat → Int32} {post : SX → Prop} (hq : ∀ spl sps : Nat → Int32, (∀ i, i < 64 → spl i = nI (63 - i) ∧ sps i = nI (63 - i)) → ∃ n182 : Nat, wX_init_182 post f_root f_keyCount (nI 64) (nI 64) f_pathLength n182 15 f_spareWides a_leafKey a_leafValue spl a_depth a_prefix a_childCount a_keysBelow a_sumBelow a_smallDigit a_smallChild a_wideChild sps a_spareWide a_path) :
    ∀ (e t : Nat) (spl sps : Nat → Int32), t + e = 64 → (∀ i, i < t → spl i = nI (63 - i) ∧ sps i = nI (63 - i)) → wX_init_127 post f_root f_keyCount f_spareWides f_pathLength (e + 1) (nI e + (-1)) (nI t) (nI t) a_leafKey a_leafValue spl a_depth a_prefix a_childCount a_keysBelow a_sumBelow a_smallDigit a_smallChild a_wideChild sps a_spareWide a_path := by
  intro e
  induction e with
  | zero =>
    intro t spl sps ht h
    have et : t = 64 := by omega
    subst et
    exact br_t (by decide) (hq spl sps h)
  | succ e ih =>
    intro t spl sps ht h
    rw [pk_m1]
    have hv : vp_in (nI t) 64 := vp_in_nI (by omega) (by omega)
    refine br_f (nI_pos (by omega)) (And.intro hv (nm_r (e' := upd spl t (nI e)) (by rw [ar_cl (by omega), ar_nb (by omega)]) (nm_r (nI_1 t) (And.intro hv (nm_r (e' := upd sps t (nI e)) (by rw [ar_cl (by omega), ar_nb (by omega)]) (nm_r (nI_1 t) (nm_e (ih (t + 1) _ _ (by omega) (fun i hi => ?_)))))))))
    by_cases z : i = t
    · rw [z, pk_us, pk_us, show e = 63 - t by omega]
      exact ⟨rfl, rfl⟩
    · rw [pk_un z, pk_un z]
      exact h i (by omega)
theorem ar_AP_0 {lim base : Nat} {sp : Nat → Int32} (hl : 0 < lim) (h64 : lim ≤ 64) (h : ∀ i, i < lim → sp i = nI (lim - 1 - i)) : ar_AP lim base (fun _ => false) (nI lim) sp := by
  refine ⟨lim, rfl, ?_, fun i hi => ⟨lim - 1 - i, by omega, h i hi, rfl⟩, fun i j hi hj e => ?_⟩
  · have e : ar_sN (fun _ => ar_b false) lim = 0 := ar_sN_z (a := 0) lim (by omega) (fun _ _ _ => rfl)
    rw [e]
    omega
  · rw [h i hi, h j hj, nI_eq (by omega) (by omega)] at e
    omega
theorem ar_I_0 : ar_I none 0 (fun _ => none) (fun _ => 0) (fun _ => false) (fun _ => 0) (fun _ => 0) (fun _ => 0) (fun _ => 0) (fun _ _ => none) := by
  refine ⟨⟨fun d p o h => ?_, fun n _ h => absurd h (by simp), fun n m _ _ h => absurd h (by simp)⟩, fun n _ h => absurd h (by simp), fun n _ h => absurd h (by simp), ?_, ?_⟩
  · rcases h with ⟨_, _, e⟩ | ⟨n, g, _, h2, _⟩
    · exact Or.inl ⟨e, fun _ _ => rfl⟩
    · exact absurd h2 (by simp)
  · exact ar_sN_z (a := 0) 80 (by omega) (fun q _ _ => rfl)
  · exact (ar_C_z (F := fun _ => (none : Option Nat)) (a := 0) (b := 65536) (by omega) (fun _ _ _ => rfl)).symm
theorem ar_x_init {post : SX → Prop} (hp : ∀ u, ar_RX (fun _ => none) u → post u) : wpX_init post := by
  refine ⟨65, ?_⟩
  refine ar_x_init127 (f_spareLeaves := 0) (f_spareSmalls := 0) (a_spareLeaf := fun _ => 0) (a_spareSmall := fun _ => 0) (fun spl sps h1 => ⟨17, ?_⟩) 64 0 (fun _ => 0) (fun _ => 0) (by omega) (fun i hi => by omega)
  refine ar_x_init182 (f_spareWides := 0) (a_spareWide := fun _ => 0) (fun spw h2 => hp _ ?_) 16 0 (fun _ => 0) (by omega) (fun i hi => by omega)
  refine ⟨none, 0, fun _ => 0, 0, fun _ => none, fun _ => 0, fun _ => false, fun _ => 0, fun _ => 0, fun _ => 0, fun _ => 0, fun _ _ => none, ⟨rfl, ⟨by omega, rfl, rfl, rfl, fun k l h => absurd h (by simp), fun i hi => ⟨63 - i, by omega, (h1 i (by omega)).1, fun k => by simp⟩, fun i j hi hj e => ?_⟩, ?_, ?_, fun n _ h => absurd h (by simp), by omega, rfl, fun i hi => by omega⟩, ar_I_0, rfl⟩
  · rw [(h1 i (by omega)).1, (h1 j (by omega)).1, nI_eq (by omega) (by omega)] at e
    omega
  · exact ar_AP_0 (lim := 64) (by omega) (by omega) (fun i hi => (h1 i hi).2)
  · exact ar_AP_0 (lim := 16) (by omega) (by omega) (fun i hi => h2 i hi)
theorem ar_y_init : ar_RY (fun _ => none) (0, (fun _ => 0), (fun _ => 0)) :=
  ⟨0, fun _ => 0, fun _ => 0, fun _ => 0, rfl, by omega, fun i hi => by omega, fun i j hi => by omega, fun k hk => absurd rfl hk⟩
theorem ar_x_sharedDigitsN {post : Int32 → Prop} {u : SX} {x : Int32} (hx : x < 0 ∨ (¬ x < 0 ∧ 65535 < x)) (h : post (-1)) : wpX_sharedDigits post u x := by
  obtain ⟨f_root, f_keyCount, f_spareLeaves, f_spareSmalls, f_spareWides, f_pathLength, a_leafKey, a_leafValue, a_spareLeaf, a_depth, a_prefix, a_childCount, a_keysBelow, a_sumBelow, a_smallDigit, a_smallChild, a_wideChild, a_spareSmall, a_spareWide, a_path⟩ := u
  unfold wpX_sharedDigits
  refine ar_x_noKey hx ?_
  exact br_t rfl h
theorem ar_y_sharedDigitsN {post : Int32 → Prop} {v : SY} {x : Int32} (hx : x < 0 ∨ (¬ x < 0 ∧ 65535 < x)) (h : post (-1)) : wpY_sharedDigits post v x := by
  obtain ⟨f, a, b⟩ := v
  unfold wpY_sharedDigits
  refine ar_y_noKey hx ?_
  exact br_t rfl h
theorem ar_x_sumUnderN {post : Int64 → Prop} {u : SX} {x y : Int32} (hx : x < 0 ∨ (¬ x < 0 ∧ 65535 < x)) (h : post 0) : wpX_sumUnder post u x y := by
  obtain ⟨f_root, f_keyCount, f_spareLeaves, f_spareSmalls, f_spareWides, f_pathLength, a_leafKey, a_leafValue, a_spareLeaf, a_depth, a_prefix, a_childCount, a_keysBelow, a_sumBelow, a_smallDigit, a_smallChild, a_wideChild, a_spareSmall, a_spareWide, a_path⟩ := u
  unfold wpX_sumUnder
  refine ar_x_noKey hx ?_
  exact br_t rfl h
theorem ar_y_sumUnderN {post : Int64 → Prop} {v : SY} {x y : Int32} (hx : x < 0 ∨ (¬ x < 0 ∧ 65535 < x)) (h : post 0) : wpY_sumUnder post v x y := by
  obtain ⟨f, a, b⟩ := v
  unfold wpY_sumUnder
  refine ar_y_noKey hx ?_
  exact br_t rfl h
theorem ar_x_sumUnderD {post : Int64 → Prop} {u : SX} {k : Nat} {y : Int32} (hk : k < 65536) (hy : y < 0 ∨ (¬ y < 0 ∧ ¬ y ≤ 4)) (h : post 0) : wpX_sumUnder post u (nI k) y := by
  obtain ⟨f_root, f_keyCount, f_spareLeaves, f_spareSmalls, f_spareWides, f_pathLength, a_leafKey, a_leafValue, a_spareLeaf, a_depth, a_prefix, a_childCount, a_keysBelow, a_sumBelow, a_smallDigit, a_smallChild, a_wideChild, a_spareSmall, a_spareWide, a_path⟩ := u
  unfold wpX_sumUnder
  refine ar_x_isKey hk ?_
  refine br_f (by decide) ?_
  rcases hy with hy | ⟨hy, hy2⟩
  · exact br_t hy h
  · exact br_f hy (br_f hy2 h)
theorem ar_y_sumUnderD {post : Int64 → Prop} {v : SY} {k : Nat} {y : Int32} (hk : k < 65536) (hy : y < 0 ∨ (¬ y < 0 ∧ ¬ y ≤ 4)) (h : post 0) : wpY_sumUnder post v (nI k) y := by
  obtain ⟨f, a, b⟩ := v
  unfold wpY_sumUnder
  refine ar_y_isKey hk ?_
  refine br_f (by decide) ?_
  rcases hy with hy | ⟨hy, hy2⟩
  · exact br_t hy h
  · exact br_f hy (br_f hy2 h)
end
section
/-! what is owed -/
def i_Rel (k : Nat) (u : SX) (v : SY) : Prop := ∃ M : Nat → Option Int32, ar_RX M u ∧ ar_RY M v
theorem i_up {k : Nat} {u : SX} {v : SY} (h : i_Rel k u v) : i_Rel (k + 3) u v := h
theorem i_vc0 : wpX_init (fun u => wpY_init (fun v => i_Rel 0 u v)) := ar_x_init (fun _ R => ⟨_, R, ar_y_init⟩)
theorem i_vc_put {k : Nat} {u : SX} {v : SY} (I : i_Rel k u v) (hk : k + 3 ≤ 1536) (v1 : Int32) (v2 : Int32) : wpX_put (fun r u' => wpY_put (fun r' v' => r' = r ∧ i_Rel (k + 3) u' v') v v1 v2) u v1 v2 := by
  obtain ⟨M, X, Y⟩ := I
  rcases ar_key v1 with ⟨a, ha, rfl⟩ | hx
  · refine ar_x_put X ha (fun h u' R => ?_) (fun h hc u' R => ?_) (fun h hc u' R => ?_)
    · exact ar_y_put Y ha v2 (fun _ v' S => ⟨rfl, _, R, S⟩) (fun z => absurd z h) (fun z => absurd z h)
    · exact ar_y_put Y ha v2 (fun z => absurd h z) (fun _ _ v' S => ⟨rfl, _, R, S⟩) (fun _ z => by omega)
    · exact ar_y_put Y ha v2 (fun z => absurd h z) (fun _ z => by omega) (fun _ _ => ⟨rfl, _, R, Y⟩)
  · exact ar_x_putN hx (ar_y_putN hx ⟨rfl, _, X, Y⟩)
theorem i_vc_remove {k : Nat} {u : SX} {v : SY} (I : i_Rel k u v) (hk : k + 3 ≤ 1536) (v1 : Int32) : wpX_remove (fun r u' => wpY_remove (fun r' v' => r' = r ∧ i_Rel (k + 3) u' v') v v1) u v1 := by
  obtain ⟨M, X, Y⟩ := I
  rcases ar_key v1 with ⟨a, ha, rfl⟩ | hx
  · refine ar_x_remove X ha (fun h u' R => ?_) (fun h u' R => ?_)
    · exact ar_y_remove Y ha (fun _ v' S => ⟨rfl, _, R, S⟩) (fun z => absurd z h)
    · exact ar_y_remove Y ha (fun z => absurd h z) (fun _ => ⟨rfl, _, R, Y⟩)
  · exact ar_x_removeN hx (ar_y_removeN hx ⟨rfl, _, X, Y⟩)
theorem i_vc_removeRange {k : Nat} {u : SX} {v : SY} (I : i_Rel k u v) (hk : k + 3 ≤ 1536) (v1 : Int32) (v2 : Int32) : wpX_removeRange (fun r u' => wpY_removeRange (fun r' v' => r' = r ∧ i_Rel (k + 3) u' v') v v1 v2) u v1 v2 := by
  obtain ⟨M, X, Y⟩ := I
  rcases ar_key v1 with ⟨a, ha, rfl⟩ | hx
  · rcases ar_key v2 with ⟨b, hb, rfl⟩ | hy
    · exact ar_x_removeRange X ha hb (fun u' R => ar_y_removeRange Y ha hb (fun v' S => ⟨rfl, _, R, S⟩))
    · exact ar_x_removeRangeN2 ha hy (ar_y_removeRangeN2 ha hy ⟨rfl, _, X, Y⟩)
  · exact ar_x_removeRangeN1 hx (ar_y_removeRangeN1 hx ⟨rfl, _, X, Y⟩)
theorem i_vc_contains {k : Nat} {u : SX} {v : SY} (I : i_Rel k u v) (hk : k + 3 ≤ 1536) (v1 : Int32) : wpX_contains (fun r u' => wpY_contains (fun r' => r' = r ∧ i_Rel (k + 3) u' v) v v1) u v1 := by
  obtain ⟨M, X, Y⟩ := I
  rcases ar_key v1 with ⟨a, ha, rfl⟩ | hx
  · refine ar_x_contains X ha (fun h u' R => ?_) (fun h u' R => ?_)
    · exact ar_y_contains Y (fun _ _ _ _ => ⟨rfl, _, R, Y⟩) (fun z => absurd (z a ha rfl) h)
    · exact ar_y_contains Y (fun b hb e z => absurd ((nI_eq (by omega) (by omega)).mp e ▸ h) z) (fun _ => ⟨rfl, _, R, Y⟩)
  · exact ar_x_containsN hx (ar_y_contains Y (fun b hb e _ => absurd hb (ar_keyN hx b e)) (fun _ => ⟨rfl, _, X, Y⟩))
theorem i_vc_valueOf {k : Nat} {u : SX} {v : SY} (I : i_Rel k u v) (hk : k + 3 ≤ 1536) (v1 : Int32) : wpX_valueOf (fun r u' => wpY_valueOf (fun r' => r' = r ∧ i_Rel (k + 3) u' v) v v1) u v1 := by
  obtain ⟨M, X, Y⟩ := I
  rcases ar_key v1 with ⟨a, ha, rfl⟩ | hx
  · refine ar_x_valueOf X ha (fun w h u' R => ?_) (fun h u' R => ?_)
    · refine ar_y_valueOf Y (fun b w' hb e z => ?_) (fun z => absurd (z a ha rfl) (by rw [h]; simp))
      have eb : a = b := (nI_eq (by omega) (by omega)).mp e
      subst eb
      rw [h] at z
      exact ⟨(Option.some.inj z).symm, _, R, Y⟩
    · refine ar_y_valueOf Y (fun b w' hb e z => ?_) (fun _ => ⟨rfl, _, R, Y⟩)
      have eb : a = b := (nI_eq (by omega) (by omega)).mp e
      subst eb
      rw [h] at z
      exact absurd z (by simp)
  · exact ar_x_valueOfN hx (ar_y_valueOf Y (fun b _ hb e _ => absurd hb (ar_keyN hx b e)) (fun _ => ⟨rfl, _, X, Y⟩))
theorem i_vc_size {k : Nat} {u : SX} {v : SY} (I : i_Rel k u v) (hk : k + 3 ≤ 1536) : wpX_size (fun r => wpY_size (fun r' => r' = r ∧ i_Rel (k + 3) u v) v) u := by
  obtain ⟨M, X, Y⟩ := I
  obtain ⟨f_root, f_keyCount, f_spareLeaves, f_spareSmalls, f_spareWides, f_pathLength, a_leafKey, a_leafValue, a_spareLeaf, a_depth, a_prefix, a_childCount, a_keysBelow, a_sumBelow, a_smallDigit, a_smallChild, a_wideChild, a_spareSmall, a_spareWide, a_path⟩ := u
  unfold wpX_size
  refine ar_y_size Y ?_
  exact ⟨(ar_RX_kc X).1.symm, _, X, Y⟩
theorem i_vc_above {k : Nat} {u : SX} {v : SY} (I : i_Rel k u v) (hk : k + 3 ≤ 1536) (v1 : Int32) : wpX_above (fun r => wpY_above (fun r' => r' = r ∧ i_Rel (k + 3) u v) v v1) u v1 := by
  obtain ⟨M, X, Y⟩ := I
  exact ar_X_above X (fun r h => ar_y_above Y (fun r' h' => ⟨ar_Ab_u h' h, _, X, Y⟩))
theorem i_vc_below {k : Nat} {u : SX} {v : SY} (I : i_Rel k u v) (hk : k + 3 ≤ 1536) (v1 : Int32) : wpX_below (fun r => wpY_below (fun r' => r' = r ∧ i_Rel (k + 3) u v) v v1) u v1 := by
  obtain ⟨M, X, Y⟩ := I
  exact ar_X_below X (fun r h => ar_y_below Y (fun r' h' => ⟨ar_Be_u h' h, _, X, Y⟩))
theorem i_vc_atRank {k : Nat} {u : SX} {v : SY} (I : i_Rel k u v) (hk : k + 3 ≤ 1536) (v1 : Int32) : wpX_atRank (fun r => wpY_atRank (fun r' => r' = r ∧ i_Rel (k + 3) u v) v v1) u v1 := by
  obtain ⟨M, X, Y⟩ := I
  exact ar_X_atRank X (fun r h => ar_y_atRank Y (fun r' h' => ⟨ar_Rk_u h' h, _, X, Y⟩))
theorem i_vc_countRange {k : Nat} {u : SX} {v : SY} (I : i_Rel k u v) (hk : k + 3 ≤ 1536) (v1 : Int32) (v2 : Int32) : wpX_countRange (fun r => wpY_countRange (fun r' => r' = r ∧ i_Rel (k + 3) u v) v v1 v2) u v1 v2 := by
  obtain ⟨M, X, Y⟩ := I
  exact ar_X_countRange X (ar_y_countRange Y ⟨rfl, _, X, Y⟩)
theorem i_vc_sharedDigits {k : Nat} {u : SX} {v : SY} (I : i_Rel k u v) (hk : k + 3 ≤ 1536) (v1 : Int32) : wpX_sharedDigits (fun r => wpY_sharedDigits (fun r' => r' = r ∧ i_Rel (k + 3) u v) v v1) u v1 := by
  obtain ⟨M, X, Y⟩ := I
  rcases ar_key v1 with ⟨a, ha, rfl⟩ | hx
  · exact ar_X_sharedDigits X ha (fun r h => ar_y_sharedDigits Y ha (fun r' h' => ⟨ar_Sh_u h' h, _, X, Y⟩))
  · exact ar_x_sharedDigitsN hx (ar_y_sharedDigitsN hx ⟨rfl, _, X, Y⟩)
theorem i_vc_sumUnder {k : Nat} {u : SX} {v : SY} (I : i_Rel k u v) (hk : k + 3 ≤ 1536) (v1 : Int32) (v2 : Int32) : wpX_sumUnder (fun r => wpY_sumUnder (fun r' => r' = r ∧ i_Rel (k + 3) u v) v v1 v2) u v1 v2 := by
  obtain ⟨M, X, Y⟩ := I
  rcases ar_key v1 with ⟨a, ha, rfl⟩ | hx
  · by_cases h0 : v2 < 0
    · exact ar_x_sumUnderD ha (Or.inl h0) (ar_y_sumUnderD ha (Or.inl h0) ⟨rfl, _, X, Y⟩)
    · by_cases h4 : v2 ≤ 4
      · obtain ⟨d, hd, rfl⟩ := nI_of2 (M := 4) (n := 4) (by decide) h0 h4
        exact ar_X_sumUnder X ha hd (ar_y_sumUnder Y ha hd ⟨rfl, _, X, Y⟩)
      · exact ar_x_sumUnderD ha (Or.inr ⟨h0, h4⟩) (ar_y_sumUnderD ha (Or.inr ⟨h0, h4⟩) ⟨rfl, _, X, Y⟩)
  · exact ar_x_sumUnderN hx (ar_y_sumUnderN hx ⟨rfl, _, X, Y⟩)
end
