section
/-! rows of kit/rows (starting text), then the bridge between ints and masks -/
theorem pk_us {f : Nat → Int32} {k : Nat} {x : Int32} : upd f k x k = x := if_pos rfl
theorem pk_un {f : Nat → Int32} {k j : Nat} {x : Int32} (h : j ≠ k) : upd f k x j = f j := if_neg h
theorem pk_sub {a b : Nat} (h : b ≤ a) : nI a - nI b = nI (a - b) := by
  obtain ⟨c, rfl⟩ : ∃ c, a = c + b := ⟨a - b, by omega⟩
  rw [← nI_add, Int32.add_sub_cancel, Nat.add_sub_cancel]
theorem pk_m1 (n : Nat) : nI (n + 1) + (-1) = nI n := by
  rw [← nI_1, Int32.add_assoc, show (1 : Int32) + (-1) = 0 from rfl, Int32.add_zero]
theorem pk_mul (a b : Nat) : nI a * nI b = nI (a * b) := (Int32.ofNat_mul a b).symm
theorem pk_div {a d : Nat} (ha : a < 2 ^ 31) (h0 : 0 < d) (hd : d < 2 ^ 31) : nI a / nI d = nI (a / d) := by
  apply Int32.toInt_inj.mp
  rw [lg_idiv_nonneg (by rw [nI_toInt ha]; omega) (by rw [nI_toInt hd]; omega), nI_toInt ha, nI_toInt hd, nI_toInt (Nat.lt_of_le_of_lt (Nat.div_le_self a d) ha)]
  first | rfl | exact (Int.natCast_ediv _ _).symm
theorem pk_rem {a d : Nat} (ha : a < 2 ^ 31) (h0 : 0 < d) (hd : d < 2 ^ 31) : nI a - nI a / nI d * nI d = nI (a % d) := by
  rw [pk_div ha h0 hd, pk_mul, pk_sub (Nat.div_mul_le_self a d)]
  exact congrArg nI (by have := Nat.div_add_mod' a d; omega)
theorem pk_le {x y : Int32} {A B : Prop} (a b : Nat) (f : a ≤ b → A) (g : b < a → B) (hx : x = nI a := by rfl) (hy : y = nI b := by rfl) (ha : a < 2 ^ 31 := by omega) (hb : b < 2 ^ 31 := by omega) : (x ≤ y → A) ∧ (¬ x ≤ y → B) := by
  subst hx hy
  rw [nI_leI ha hb]
  exact ⟨f, fun z => g (by omega)⟩
theorem pk_lt {x y : Int32} {A B : Prop} (a b : Nat) (f : a < b → A) (g : b ≤ a → B) (hx : x = nI a := by rfl) (hy : y = nI b := by rfl) (ha : a < 2 ^ 31 := by omega) (hb : b < 2 ^ 31 := by omega) : (x < y → A) ∧ (¬ x < y → B) := by
  subst hx hy
  rw [nI_ltI ha hb]
  exact ⟨f, fun z => g (by omega)⟩
theorem pk_eq {x y : Int32} {A B : Prop} (a b : Nat) (f : a = b → A) (g : a ≠ b → B) (hx : x = nI a := by rfl) (hy : y = nI b := by rfl) (ha : a < 2 ^ 31 := by omega) (hb : b < 2 ^ 31 := by omega) : (x = y → A) ∧ (¬ x = y → B) := by
  subst hx hy
  rw [nI_eq ha hb]
  exact ⟨f, g⟩
theorem pk_in {x : Int32} (n N : Nat) (h : n < N) (hx : x = nI n := by rfl) (hN : N < 2 ^ 31 := by omega) : vp_in x N := by
  subst hx
  exact vp_in_nI h hN
theorem pk_cl {x : Int32} (n : Nat) (hx : x = nI n := by rfl) (h : n < 2 ^ 31 := by omega) : x.toNatClampNeg = n := by
  subst hx
  exact nI_clamp h
theorem pk_tn {n : Nat} (h : n < 2 ^ 32) : (nI n).toBitVec.toNat = n := Nat.mod_eq_of_lt h
theorem pk_and (x : Int32) {m : Int32} (k : Nat) (hm : m.toBitVec.toNat = 2 ^ k - 1) : x &&& m = nI (x.toBitVec.toNat % 2 ^ k) := by
  apply Int32.toBitVec_inj.mp
  apply BitVec.eq_of_toNat_eq
  rw [Int32.toBitVec_and, BitVec.toNat_and, hm, Nat.and_two_pow_sub_one_eq_mod]
  show _ = (BitVec.ofNat 32 _).toNat
  rw [BitVec.toNat_ofNat]
  exact (Nat.mod_eq_of_lt (Nat.lt_of_le_of_lt (Nat.mod_le _ _) x.toBitVec.isLt)).symm
theorem pk_andN {n : Nat} (h : n < 2 ^ 32) {m : Int32} (k : Nat) (hm : m.toBitVec.toNat = 2 ^ k - 1) : nI n &&& m = nI (n % 2 ^ k) := by
  rw [pk_and _ k hm, pk_tn h]
theorem pk_shl (a s : Int32) (k : Nat) (hs : (s.toBitVec.smod 32).toNat = k) : (a <<< s).toBitVec.toNat = a.toBitVec.toNat * 2 ^ k % 2 ^ 32 := by
  show (a.toBitVec <<< (s.toBitVec.smod 32).toNat).toNat = _
  rw [hs, BitVec.toNat_shiftLeft, Nat.shiftLeft_eq]
theorem pk_shlN {n : Nat} (s : Int32) (k : Nat) (hs : (s.toBitVec.smod 32).toNat = k) (h : n * 2 ^ k < 2 ^ 32) : nI n <<< s = nI (n * 2 ^ k) := by
  apply Int32.toBitVec_inj.mp
  apply BitVec.eq_of_toNat_eq
  have hn : n < 2 ^ 32 := Nat.lt_of_le_of_lt (Nat.le_mul_of_pos_right n (Nat.two_pow_pos k)) h
  rw [pk_shl _ _ k hs, pk_tn hn, pk_tn h, Nat.mod_eq_of_lt h]
theorem pk_shr (a s : Int32) (k : Nat) (hs : (s.toBitVec.smod 32).toNat = k) : (a >>> s).toInt = a.toInt >>> k := by
  show (a.toBitVec.sshiftRight (s.toBitVec.smod 32).toNat).toInt = _
  rw [hs, BitVec.toInt_sshiftRight]
  rfl
theorem pk_shrN {n : Nat} (h : n < 2 ^ 31) (s : Int32) (k : Nat) (hs : (s.toBitVec.smod 32).toNat = k) : nI n >>> s = nI (n / 2 ^ k) := by
  apply Int32.toInt_inj.mp
  have h2 : n / 2 ^ k ≤ n := Nat.div_le_self _ _
  rw [pk_shr _ _ k hs, nI_toInt h, nI_toInt (by omega), Int.shiftRight_eq_div_pow]
  rfl
theorem pk_vb (z : Int32) : vp_nar .byte z.toInt8.toInt32 = z.toInt8.toInt32 := by rw [vp_nar_byte]; simp
theorem s_l : ∀ n, n < 32 → ((nI n &&& 31).toBitVec.smod 32).toNat = n := by decide +kernel
theorem nx_and (a b : Nat) : nI a &&& nI b = nI (a &&& b) := by
  apply Int32.toBitVec_inj.1
  show BitVec.ofNat 32 a &&& BitVec.ofNat 32 b = BitVec.ofNat 32 (a &&& b)
  apply BitVec.eq_of_getLsbD_eq
  intro i hi
  simp [hi]
theorem nx_xor (a b : Nat) : nI a ^^^ nI b = nI (a ^^^ b) := by
  apply Int32.toBitVec_inj.1
  show BitVec.ofNat 32 a ^^^ BitVec.ofNat 32 b = BitVec.ofNat 32 (a ^^^ b)
  apply BitVec.eq_of_getLsbD_eq
  intro i hi
  simp [hi]
/-! ===== own rows from here: masks below 128 as naturals ===== -/
theorem cd_or (a b : Nat) : nI a ||| nI b = nI (a ||| b) := by
  apply Int32.toBitVec_inj.1
  show BitVec.ofNat 32 a ||| BitVec.ofNat 32 b = BitVec.ofNat 32 (a ||| b)
  apply BitVec.eq_of_getLsbD_eq
  intro i hi
  simp [hi]
def cd_dif (s t : Nat) : Nat := s &&& (t ^^^ 4294967295)
theorem cd_m1 : (-1 : Int32) = nI 4294967295 := by decide
theorem cd_and_not (s t : Nat) : nI s &&& (nI t ^^^ (-1)) = nI (cd_dif s t) := by
  rw [cd_m1, nx_xor, nx_and]; rfl
theorem cd_one_shl {v : Nat} (hv : v < 7) : (1 : Int32) <<< (nI v &&& 31) = nI (2 ^ v) := by
  have h : ∀ w, w < 7 → (1 : Int32) <<< (nI w &&& 31) = nI (2 ^ w) := by decide +kernel
  exact h v hv
theorem cd_bit {s v : Nat} (hs : s < 128) (hv : v < 7) : (nI s >>> (nI v &&& 31)) &&& 1 = nI (s.testBit v).toNat := by
  rw [pk_shrN (by omega) (nI v &&& 31) v (s_l v (by omega)), pk_andN (Nat.lt_of_le_of_lt (Nat.div_le_self _ _) (by omega)) 1 (by decide), Nat.testBit_eq_decide_div_mod_eq]
  rcases Nat.mod_two_eq_zero_or_one (s / 2 ^ v) with h | h
  · rw [Nat.pow_one, h]; rfl
  · rw [Nat.pow_one, h]; rfl
theorem cd_bit0 {s v : Nat} (hs : s < 128) (hv : v < 7) : ((nI s >>> (nI v &&& 31)) &&& 1) = 0 ↔ s.testBit v = false := by
  rw [cd_bit hs hv]
  cases s.testBit v
  · exact ⟨fun _ => rfl, fun _ => rfl⟩
  · exact ⟨fun h => absurd h (by decide), fun h => nomatch h⟩
theorem cd_bit1 {s v : Nat} (hs : s < 128) (hv : v < 7) : ((nI s >>> (nI v &&& 31)) &&& 1) = 1 ↔ s.testBit v = true := by
  rw [cd_bit hs hv]
  cases s.testBit v
  · exact ⟨fun h => absurd h (by decide), fun h => nomatch h⟩
  · exact ⟨fun _ => rfl, fun _ => rfl⟩
theorem cd_byte {s : Nat} (hs : s < 128) : (nI s).toInt8.toInt32 = nI s := by
  have h : ∀ w, w < 128 → (nI w).toInt8.toInt32 = nI w := by decide +kernel
  exact h s hs
theorem cd_nar {s : Nat} (hs : s < 128) : vp_nar .byte (nI s) = nI s := by
  rw [vp_nar_byte, cd_byte hs]
theorem cd_nar8 {s : Nat} (hs : s < 128) : vp_nar .byte ((nI s).toInt8.toInt32) = nI s := by
  rw [cd_byte hs, cd_nar hs]
/-- a boolean as an int -/
def cd_bI (b : Bool) : Int32 := nI b.toNat
theorem cd_bI_t : cd_bI true = 1 := rfl
theorem cd_bI_f : cd_bI false = 0 := rfl
theorem cd_bI_nar (b : Bool) : narrow .boolean (.int (cd_bI b)) = .int (cd_bI b) := by
  cases b
  · rfl
  · rfl
theorem cd_bI_0 {b : Bool} : cd_bI b = 0 ↔ b = false := by
  cases b
  · exact ⟨fun _ => rfl, fun _ => rfl⟩
  · exact ⟨fun h => absurd h (by decide), fun h => nomatch h⟩
theorem cd_bI_1 {b : Bool} : cd_bI b = 1 ↔ b = true := by
  cases b
  · exact ⟨fun h => absurd h (by decide), fun h => nomatch h⟩
  · exact ⟨fun _ => rfl, fun _ => rfl⟩
/-- a branch on a boolean's int -/
theorem cd_bb {A B : Prop} (b : Bool) (f : b = false → A) (t : b = true → B) : (cd_bI b = 0 → A) ∧ (¬ cd_bI b = 0 → B) :=
  ⟨fun h => f (cd_bI_0.1 h), fun h => t (by cases b with
    | false => exact absurd rfl h
    | true => rfl)⟩
theorem cd_b0 {A B : Prop} {s v : Nat} (hs : s < 128) (hv : v < 7) (f : s.testBit v = false → A) (t : s.testBit v = true → B) :
    ((((nI s >>> (nI v &&& 31)) &&& 1) = 0) → A) ∧ (¬ ((nI s >>> (nI v &&& 31)) &&& 1) = 0 → B) :=
  ⟨fun h => f ((cd_bit0 hs hv).1 h), fun h => t (by
    cases e : s.testBit v with
    | false => exact absurd ((cd_bit0 hs hv).2 e) h
    | true => rfl)⟩
theorem cd_b1 {A B : Prop} {s v : Nat} (hs : s < 128) (hv : v < 7) (t : s.testBit v = true → A) (f : s.testBit v = false → B) :
    ((((nI s >>> (nI v &&& 31)) &&& 1) = 1) → A) ∧ (¬ ((nI s >>> (nI v &&& 31)) &&& 1) = 1 → B) :=
  ⟨fun h => t ((cd_bit1 hs hv).1 h), fun h => f (by
    cases e : s.testBit v with
    | true => exact absurd ((cd_bit1 hs hv).2 e) h
    | false => rfl)⟩
/-! ===== folds, loops ===== -/
def cd_fo {α : Type} (f : Nat → α → α) : Nat → Nat → α → α
  | 0, _, s => s
  | d + 1, i, s => cd_fo f d (i + 1) (f i s)
theorem cd_loop {α : Type} (W : Nat → Nat → α → Prop) (f : Nat → α → α) (I : Nat → α → Prop) (N : Nat) (Q : α → Prop)
    (hI : ∀ i s, i < N → I i s → I (i + 1) (f i s))
    (hx : ∀ n s, I N s → Q s → W (n + 1) N s)
    (hs : ∀ n i s, i < N → I i s → W n (i + 1) (f i s) → W (n + 1) i s) :
    ∀ d i s, i + d = N → I i s → Q (cd_fo f d i s) → ∀ n, d < n → W n i s := by
  intro d
  induction d with
  | zero =>
    intro i s hi hh hq n hn
    obtain ⟨m, rfl⟩ : ∃ m, n = m + 1 := ⟨n - 1, by omega⟩
    have e : i = N := by omega
    subst e
    exact hx m s hh hq
  | succ d ih =>
    intro i s hi hh hq n hn
    obtain ⟨m, rfl⟩ : ∃ m, n = m + 1 := ⟨n - 1, by omega⟩
    exact hs m i s (by omega) hh (ih (i + 1) (f i s) (by omega) (hI i s (by omega) hh) hq m (by omega))
theorem cd_foI {α : Type} (f : Nat → α → α) (I : Nat → α → Prop) (N : Nat) (hI : ∀ i s, i < N → I i s → I (i + 1) (f i s)) :
    ∀ d i s, i + d = N → I i s → I N (cd_fo f d i s) := by
  intro d
  induction d with
  | zero =>
    intro i s hi h
    have e : i = N := by omega
    subst e
    exact h
  | succ d ih =>
    intro i s hi h
    exact ih (i + 1) (f i s) (by omega) (hI i s (by omega) h)
/-- all of p from i on, d of them -/
def cd_al (p : Nat → Bool) : Nat → Nat → Bool
  | 0, _ => true
  | d + 1, i => p i && cd_al p d (i + 1)
theorem cd_al_iff (p : Nat → Bool) : ∀ d i, cd_al p d i = true ↔ ∀ j, i ≤ j → j < i + d → p j = true := by
  intro d
  induction d with
  | zero => intro i; exact ⟨fun _ j h1 h2 => absurd h2 (by omega), fun _ => rfl⟩
  | succ d ih =>
    intro i
    show (p i && cd_al p d (i + 1)) = true ↔ _
    rw [Bool.and_eq_true, ih (i + 1)]
    constructor
    · intro h j h1 h2
      rcases Nat.eq_or_lt_of_le h1 with e | e
      · exact e ▸ h.1
      · exact h.2 j (by omega) (by omega)
    · intro h
      exact ⟨h i (by omega) (by omega), fun j h1 h2 => h j (by omega) (by omega)⟩
theorem cd_al0 (p : Nat → Bool) (d : Nat) : cd_al p d 0 = true ↔ ∀ j, j < d → p j = true := by
  rw [cd_al_iff]
  exact ⟨fun h j hj => h j (by omega) (by omega), fun h j _ hj => h j (by omega)⟩
theorem cd_al_f (p : Nat → Bool) (d : Nat) : cd_al p d 0 = false ↔ ∃ j, j < d ∧ p j = false := by
  constructor
  · intro h
    apply Classical.byContradiction
    intro hn
    have : cd_al p d 0 = true := (cd_al0 p d).2 fun j hj => by
      cases e : p j with
      | true => rfl
      | false => exact absurd ⟨j, hj, e⟩ hn
    rw [h] at this
    exact nomatch this
  · intro ⟨j, hj, e⟩
    cases h : cd_al p d 0 with
    | false => rfl
    | true =>
      have := (cd_al0 p d).1 h j hj
      rw [e] at this
      exact nomatch this
end
section
/-! masks below 128, counting, pigeonhole, iterates -/
theorem cd_hi {s v : Nat} (hs : s < 128) (hv : 7 ≤ v) : s.testBit v = false :=
  Nat.testBit_lt_two_pow (Nat.lt_of_lt_of_le hs (Nat.pow_le_pow_right (n := 2) (by decide) hv))
theorem cd_lt7 {s v : Nat} (hs : s < 128) (h : s.testBit v = true) : v < 7 := by
  apply Classical.byContradiction
  intro hn
  rw [cd_hi hs (by omega)] at h
  exact nomatch h
theorem cd_tdif {s t v : Nat} (hs : s < 128) : (cd_dif s t).testBit v = (s.testBit v && !t.testBit v) := by
  unfold cd_dif
  rw [Nat.testBit_and, Nat.testBit_xor]
  by_cases h : v < 32
  · have e : (4294967295 : Nat).testBit v = true := by
      rw [show (4294967295 : Nat) = 2 ^ 32 - 1 from rfl, Nat.testBit_two_pow_sub_one]
      exact decide_eq_true h
    rw [e]
    cases t.testBit v <;> rfl
  · rw [cd_hi hs (by omega)]; rfl
theorem cd_and_lt {s t : Nat} (hs : s < 128) : s &&& t < 128 := Nat.lt_of_le_of_lt Nat.and_le_left hs
theorem cd_and_lt' {s t : Nat} (ht : t < 128) : s &&& t < 128 := Nat.lt_of_le_of_lt Nat.and_le_right ht
theorem cd_dif_lt {s t : Nat} (hs : s < 128) : cd_dif s t < 128 := cd_and_lt hs
theorem cd_or_lt {s t : Nat} (hs : s < 128) (ht : t < 128) : s ||| t < 128 := Nat.or_lt_two_pow (n := 7) hs ht
theorem cd_xor_lt {s t : Nat} (hs : s < 128) (ht : t < 128) : s ^^^ t < 128 := Nat.xor_lt_two_pow (n := 7) hs ht
theorem cd_pow_lt {v : Nat} (hv : v < 7) : 2 ^ v < 128 := Nat.pow_lt_pow_right (a := 2) (n := 7) (by decide) hv
theorem cd_tpow {v w : Nat} : (2 ^ v).testBit w = decide (v = w) := Nat.testBit_two_pow
theorem cd_ext {s t : Nat} (hs : s < 128) (ht : t < 128) (h : ∀ v, v < 7 → s.testBit v = t.testBit v) : s = t := by
  apply Nat.eq_of_testBit_eq
  intro i
  by_cases hi : i < 7
  · exact h i hi
  · rw [cd_hi hs (by omega), cd_hi ht (by omega)]
theorem cd_zero {s : Nat} (hs : s < 128) : s = 0 ↔ ∀ v, v < 7 → s.testBit v = false := by
  constructor
  · intro h v _
    rw [h]; exact Nat.zero_testBit v
  · intro h
    exact cd_ext hs (by decide) fun v hv => by rw [h v hv, Nat.zero_testBit]
theorem cd_nonzero {s : Nat} (hs : s < 128) (h : s ≠ 0) : ∃ v, v < 7 ∧ s.testBit v = true := by
  apply Classical.byContradiction
  intro hn
  apply h
  rw [cd_zero hs]
  intro v hv
  cases e : s.testBit v with
  | false => rfl
  | true => exact absurd ⟨v, hv, e⟩ hn
theorem cd_ne0 {s v : Nat} (h : s.testBit v = true) : s ≠ 0 := by
  intro e
  rw [e, Nat.zero_testBit] at h
  exact nomatch h
theorem cd_sub_le {s t : Nat} (hs : s < 128) (h : ∀ v, v < 7 → s.testBit v = true → t.testBit v = true) : s ≤ t := by
  have e : s &&& t = s := by
    apply cd_ext (cd_and_lt hs) hs
    intro v hv
    rw [Nat.testBit_and]
    cases e1 : s.testBit v with
    | false => rfl
    | true => rw [h v hv e1]; rfl
  rw [← e]
  exact Nat.and_le_right
theorem cd_sub_lt {s t w : Nat} (hs : s < 128) (h : ∀ v, v < 7 → s.testBit v = true → t.testBit v = true)
    (h1 : s.testBit w = false) (h2 : t.testBit w = true) : s < t := by
  rcases Nat.lt_or_eq_of_le (cd_sub_le hs h) with e | e
  · exact e
  · rw [e, h2] at h1
    exact nomatch h1
theorem cd_nb {b : Bool} (h : ¬ b = true) : b = false := by
  cases b with
  | false => rfl
  | true => exact absurd rfl h
theorem cd_nt {b : Bool} (h : ¬ b = false) : b = true := by
  cases b with
  | true => rfl
  | false => exact absurd rfl h
/-! counting -/
def cd_cnt (p : Nat → Bool) : Nat → Nat
  | 0 => 0
  | n + 1 => cd_cnt p n + (p n).toNat
theorem cd_cnt_le (p : Nat → Bool) : ∀ n, cd_cnt p n ≤ n := by
  intro n
  induction n with
  | zero => exact Nat.le_refl 0
  | succ n ih =>
    have h : (p n).toNat ≤ 1 := by cases p n <;> decide
    show cd_cnt p n + (p n).toNat ≤ n + 1
    omega
theorem cd_cnt_mono {p q : Nat → Bool} : ∀ {n : Nat}, (∀ i, i < n → p i = true → q i = true) → cd_cnt p n ≤ cd_cnt q n := by
  intro n
  induction n with
  | zero => intro _; exact Nat.le_refl 0
  | succ n ih =>
    intro h
    have h1 := ih fun i hi => h i (by omega)
    have h2 : (p n).toNat ≤ (q n).toNat := by
      cases e : p n with
      | false => exact Nat.zero_le _
      | true => rw [h n (by omega) e]; exact Nat.le_refl _
    show cd_cnt p n + (p n).toNat ≤ cd_cnt q n + (q n).toNat
    omega
theorem cd_cnt_congr {p q : Nat → Bool} : ∀ {n : Nat}, (∀ i, i < n → p i = q i) → cd_cnt p n = cd_cnt q n := by
  intro n h
  exact Nat.le_antisymm (cd_cnt_mono fun i hi e => by rw [← h i hi]; exact e) (cd_cnt_mono fun i hi e => by rw [h i hi]; exact e)
theorem cd_cnt_split {p q r : Nat → Bool} : ∀ {n : Nat}, (∀ i, i < n → (r i).toNat = (p i).toNat + (q i).toNat) → cd_cnt r n = cd_cnt p n + cd_cnt q n := by
  intro n
  induction n with
  | zero => intro _; rfl
  | succ n ih =>
    intro h
    have h1 := ih fun i hi => h i (by omega)
    have h2 := h n (by omega)
    show cd_cnt r n + (r n).toNat = (cd_cnt p n + (p n).toNat) + (cd_cnt q n + (q n).toNat)
    omega
theorem cd_cnt_none {p : Nat → Bool} : ∀ {n : Nat}, (∀ i, i < n → p i = false) → cd_cnt p n = 0 := by
  intro n
  induction n with
  | zero => intro _; rfl
  | succ n ih =>
    intro h
    show cd_cnt p n + (p n).toNat = 0
    rw [ih fun i hi => h i (by omega), h n (by omega)]; rfl
theorem cd_cnt_all {p : Nat → Bool} : ∀ {n : Nat}, (∀ i, i < n → p i = true) → cd_cnt p n = n := by
  intro n
  induction n with
  | zero => intro _; rfl
  | succ n ih =>
    intro h
    show cd_cnt p n + (p n).toNat = n + 1
    rw [ih fun i hi => h i (by omega), h n (by omega)]; rfl
theorem cd_cnt_one {w : Nat} : ∀ {n : Nat}, w < n → cd_cnt (fun i => decide (i = w)) n = 1 := by
  intro n
  induction n with
  | zero => intro h; exact absurd h (by omega)
  | succ n ih =>
    intro h
    show cd_cnt (fun i => decide (i = w)) n + (decide (n = w)).toNat = 1
    by_cases e : n = w
    · rw [cd_cnt_none (p := fun i => decide (i = w)) fun i hi => decide_eq_false (by omega), decide_eq_true e]; rfl
    · rw [ih (by omega), decide_eq_false e]; rfl
/-- one more at w -/
theorem cd_cnt_add {p q : Nat → Bool} {w n : Nat} (hw : w < n) (hp : p w = false) (hq : q w = true) (h : ∀ i, i < n → i ≠ w → q i = p i) :
    cd_cnt q n = cd_cnt p n + 1 := by
  rw [← cd_cnt_one hw]
  apply cd_cnt_split
  intro i hi
  by_cases e : i = w
  · subst e; rw [hp, hq, decide_eq_true rfl]; rfl
  · rw [h i hi e, decide_eq_false e]; rfl
theorem cd_cnt_lt {p q : Nat → Bool} {w n : Nat} (hw : w < n) (hp : p w = false) (hq : q w = true) (h : ∀ i, i < n → p i = true → q i = true) :
    cd_cnt p n < cd_cnt q n := by
  have h1 : cd_cnt (fun i => p i || decide (i = w)) n = cd_cnt p n + 1 := by
    apply cd_cnt_add hw hp
    · show (p w || decide (w = w)) = true
      rw [decide_eq_true rfl, Bool.or_true]
    · intro i _ e
      show (p i || decide (i = w)) = p i
      rw [decide_eq_false e, Bool.or_false]
  have h2 : cd_cnt (fun i => p i || decide (i = w)) n ≤ cd_cnt q n := by
    apply cd_cnt_mono
    intro i hi e
    rcases Bool.or_eq_true_iff.mp e with e | e
    · exact h i hi e
    · rw [of_decide_eq_true e]; exact hq
  omega
theorem cd_cnt_pos {p : Nat → Bool} {w n : Nat} (hw : w < n) (hp : p w = true) : 0 < cd_cnt p n := by
  have h := cd_cnt_lt (p := fun _ => false) (q := p) hw rfl hp (fun i _ e => nomatch e)
  omega
theorem cd_cnt_ex {p : Nat → Bool} {n : Nat} (h : 0 < cd_cnt p n) : ∃ w, w < n ∧ p w = true := by
  apply Classical.byContradiction
  intro hn
  rw [cd_cnt_none fun i hi => cd_nb fun e => hn ⟨i, hi, e⟩] at h
  exact absurd h (by decide)
/-- an injection between counted sets -/
theorem cd_inj {p : Nat → Bool} {f : Nat → Nat} {m : Nat} : ∀ (n : Nat) (q : Nat → Bool),
    (∀ i, i < n → p i = true → f i < m ∧ q (f i) = true) →
    (∀ i j, i < n → j < n → p i = true → p j = true → f i = f j → i = j) → cd_cnt p n ≤ cd_cnt q m := by
  intro n
  induction n with
  | zero => intro q _ _; exact Nat.zero_le _
  | succ n ih =>
    intro q h1 h2
    show cd_cnt p n + (p n).toNat ≤ cd_cnt q m
    cases e : p n with
    | false =>
      have := ih q (fun i hi => h1 i (by omega)) (fun i j hi hj => h2 i j (by omega) (by omega))
      show cd_cnt p n + 0 ≤ _
      omega
    | true =>
      obtain ⟨hf, hq⟩ := h1 n (by omega) e
      have h3 := ih (fun i => q i && !decide (i = f n)) (fun i hi hp => by
          refine ⟨(h1 i (by omega) hp).1, ?_⟩
          show (q (f i) && !decide (f i = f n)) = true
          rw [(h1 i (by omega) hp).2, decide_eq_false (fun ee => absurd (h2 i n (by omega) (by omega) hp e ee) (by omega))]
          rfl) (fun i j hi hj => h2 i j (by omega) (by omega))
      have h4 : cd_cnt (fun i => q i && !decide (i = f n)) m < cd_cnt q m := by
        apply cd_cnt_lt (w := f n) hf
        · show (q (f n) && !decide (f n = f n)) = false
          rw [decide_eq_true rfl]; cases q (f n) <;> rfl
        · exact hq
        · intro i _ e
          exact (Bool.and_eq_true_iff.mp e).1
      show cd_cnt p n + 1 ≤ _
      omega
/-! the number of a mask's vertices -/
def cd_ones (s : Nat) : Nat := cd_cnt (fun v => s.testBit v) 7
theorem cd_ones_le (s : Nat) : cd_ones s ≤ 7 := cd_cnt_le _ 7
theorem cd_ones_mono {s t : Nat} (h : ∀ v, v < 7 → s.testBit v = true → t.testBit v = true) : cd_ones s ≤ cd_ones t := cd_cnt_mono h
theorem cd_ones_lt {s t w : Nat} (hw : w < 7) (h1 : s.testBit w = false) (h2 : t.testBit w = true)
    (h : ∀ v, v < 7 → s.testBit v = true → t.testBit v = true) : cd_ones s < cd_ones t := cd_cnt_lt hw h1 h2 h
theorem cd_ones_pos {s v : Nat} (hv : v < 7) (h : s.testBit v = true) : 0 < cd_ones s := cd_cnt_pos (p := fun v => s.testBit v) hv h
theorem cd_ones_0 {s : Nat} (hs : s < 128) (h : cd_ones s = 0) : s = 0 := by
  apply Classical.byContradiction
  intro hn
  obtain ⟨v, hv, e⟩ := cd_nonzero hs hn
  have := cd_ones_pos hv e
  omega
theorem cd_ones_or {s v : Nat} (hv : v < 7) (h : s.testBit v = false) : cd_ones (s ||| 2 ^ v) = cd_ones s + 1 := by
  apply cd_cnt_add hv h
  · show (s ||| 2 ^ v).testBit v = true
    rw [Nat.testBit_or, cd_tpow, decide_eq_true rfl, Bool.or_true]
  · intro i _ e
    show (s ||| 2 ^ v).testBit i = s.testBit i
    rw [Nat.testBit_or, cd_tpow, decide_eq_false (fun x => e x.symm), Bool.or_false]
theorem cd_ones_dif {s v : Nat} (hs : s < 128) (hv : v < 7) (h : s.testBit v = true) : cd_ones s = cd_ones (cd_dif s (2 ^ v)) + 1 := by
  apply cd_cnt_add hv
  · show (cd_dif s (2 ^ v)).testBit v = false
    rw [cd_tdif hs, cd_tpow, decide_eq_true rfl]; cases s.testBit v <;> rfl
  · exact h
  · intro i _ e
    show s.testBit i = (cd_dif s (2 ^ v)).testBit i
    rw [cd_tdif hs, cd_tpow, decide_eq_false (fun x => e x.symm)]; cases s.testBit i <;> rfl
theorem cd_ones_two {x y : Nat} (hx : x < 7) (hy : y < 7) (h : x ≠ y) : cd_ones (2 ^ x ||| 2 ^ y) = 2 := by
  have h1 : cd_ones (2 ^ x) = 1 := by
    have h : ∀ x, x < 7 → cd_ones (2 ^ x) = 1 := by decide +kernel
    exact h x hx
  rw [cd_ones_or hy (by rw [cd_tpow]; exact decide_eq_false h), h1]
theorem cd_ones_2 {s : Nat} (hs : s < 128) (h : cd_ones s = 2) : ∃ a b, a < b ∧ b < 7 ∧ s = 2 ^ a ||| 2 ^ b := by
  have h0 : ∀ s, s < 128 → cd_ones s = 2 → ∃ b, b < 7 ∧ ∃ a, a < b ∧ s = 2 ^ a ||| 2 ^ b := by decide +kernel
  obtain ⟨b, hb, a, ha, e⟩ := h0 s hs h
  exact ⟨a, b, ha, hb, e⟩
/-! iterates -/
def cd_it (f : Nat → Nat) : Nat → Nat → Nat
  | 0, s => s
  | k + 1, s => f (cd_it f k s)
theorem cd_itI (f : Nat → Nat) (I : Nat → Prop) (hI : ∀ s, I s → I (f s)) : ∀ k s, I s → I (cd_it f k s) := by
  intro k
  induction k with
  | zero => intro s h; exact h
  | succ k ih => intro s h; exact hI _ (ih s h)
theorem cd_fo_it (f : Nat → Nat) : ∀ d i s, cd_fo (fun _ s => f s) d i (f s) = f (cd_fo (fun _ s => f s) d i s) := by
  intro d
  induction d with
  | zero => intro i s; rfl
  | succ d ih => intro i s; exact ih (i + 1) (f s)
theorem cd_fo_eq_it (f : Nat → Nat) : ∀ d i s, cd_fo (fun _ s => f s) d i s = cd_it f d s := by
  intro d
  induction d with
  | zero => intro i s; rfl
  | succ d ih =>
    intro i s
    show cd_fo (fun _ s => f s) d (i + 1) (f s) = f (cd_it f d s)
    rw [cd_fo_it, ih]
theorem cd_eq_of_ones {s t : Nat} (hs : s < 128) (ht : t < 128) (h : ∀ v, v < 7 → s.testBit v = true → t.testBit v = true) (hn : cd_ones t ≤ cd_ones s) : t = s := by
  apply cd_ext ht hs
  intro v hv
  cases e : s.testBit v with
  | true => exact h v hv e
  | false =>
    cases e2 : t.testBit v with
    | false => rfl
    | true =>
      have := cd_ones_lt hv e e2 h
      omega
/-- what grows stands still after seven steps -/
theorem cd_grow (f : Nat → Nat) (hf : ∀ s, s < 128 → f s < 128 ∧ ∀ v, v < 7 → s.testBit v = true → (f s).testBit v = true)
    {s : Nat} (hs : s < 128) (h1 : 1 ≤ cd_ones s) : f (cd_it f 7 s) = cd_it f 7 s := by
  have key : ∀ k, cd_it f k s < 128 ∧ (f (cd_it f k s) = cd_it f k s ∨ k + 1 ≤ cd_ones (cd_it f k s)) := by
    intro k
    induction k with
    | zero => exact ⟨hs, Or.inr h1⟩
    | succ k ih =>
      obtain ⟨hb, ih⟩ := ih
      obtain ⟨hb2, hsub⟩ := hf _ hb
      refine ⟨hb2, ?_⟩
      by_cases e : f (cd_it f k s) = cd_it f k s
      · left
        show f (f (cd_it f k s)) = f (cd_it f k s)
        rw [e]; exact e
      · rcases ih with ih | ih
        · exact absurd ih e
        · right
          show k + 1 + 1 ≤ cd_ones (f (cd_it f k s))
          apply Classical.byContradiction
          intro hn
          exact e (cd_eq_of_ones hb hb2 hsub (by omega))
  rcases (key 7).2 with e | e
  · exact e
  · have := cd_ones_le (cd_it f 7 s)
    omega
/-- what shrinks stands still after seven steps -/
theorem cd_shrink (f : Nat → Nat) (hf : ∀ s, s < 128 → f s < 128 ∧ ∀ v, v < 7 → (f s).testBit v = true → s.testBit v = true)
    {s : Nat} (hs : s < 128) : f (cd_it f 7 s) = cd_it f 7 s := by
  have key : ∀ k, cd_it f k s < 128 ∧ (f (cd_it f k s) = cd_it f k s ∨ cd_ones (cd_it f k s) + k ≤ 7) := by
    intro k
    induction k with
    | zero => exact ⟨hs, Or.inr (cd_ones_le s)⟩
    | succ k ih =>
      obtain ⟨hb, ih⟩ := ih
      obtain ⟨hb2, hsub⟩ := hf _ hb
      refine ⟨hb2, ?_⟩
      by_cases e : f (cd_it f k s) = cd_it f k s
      · left
        show f (f (cd_it f k s)) = f (cd_it f k s)
        rw [e]; exact e
      · rcases ih with ih | ih
        · exact absurd ih e
        · right
          show cd_ones (f (cd_it f k s)) + (k + 1) ≤ 7
          apply Classical.byContradiction
          intro hn
          exact e (cd_eq_of_ones hb2 hb hsub (by omega)).symm
  obtain ⟨hb, hk⟩ := key 7
  rcases hk with e | e
  · exact e
  · have h0 := cd_ones_0 hb (by omega)
    obtain ⟨hb2, hsub⟩ := hf _ hb
    rw [cd_zero hb] at h0
    apply cd_ext hb2 hb
    intro v hv
    rw [h0 v hv]
    apply cd_nb
    intro h
    have := hsub v hv h
    rw [h0 v hv] at this
    exact nomatch this
end
section
/-! graphs on seven vertices: cliques, easy vertices, the core, and Dirac's theorem -/
def ch_Good (g : Nat → Nat) : Prop :=
  ∀ v, v < 7 → g v < 128 ∧ (g v).testBit v = false ∧ ∀ w, w < 7 → (g v).testBit w = (g w).testBit v
def ch_ok (g : Nat → Nat) (s v : Nat) : Bool := !s.testBit v || decide (cd_dif (cd_dif s (g v)) (2 ^ v) = 0)
def ch_cq (g : Nat → Nat) (s : Nat) : Bool := cd_al (ch_ok g s) 7 0
def ch_ez (g : Nat → Nat) (v s : Nat) : Bool := ch_cq g (g v &&& s)
def ch_cs (g : Nat → Nat) (v s : Nat) : Nat := if s.testBit v && ch_ez g v s then cd_dif s (2 ^ v) else s
def ch_sweep (g : Nat → Nat) (s : Nat) : Nat := cd_fo (ch_cs g) 7 0 s
def ch_core (g : Nat → Nat) : Nat := cd_it (ch_sweep g) 7 127
def ch_Cl (g : Nat → Nat) (s : Nat) : Prop :=
  ∀ v w, v < 7 → w < 7 → s.testBit v = true → s.testBit w = true → v ≠ w → (g v).testBit w = true
theorem ch_ok_iff {g : Nat → Nat} {s v : Nat} (hs : s < 128) : ch_ok g s v = true ↔
    (s.testBit v = true → ∀ w, w < 7 → s.testBit w = true → v ≠ w → (g v).testBit w = true) := by
  unfold ch_ok
  rw [Bool.or_eq_true, decide_eq_true_iff, cd_zero (cd_dif_lt (cd_dif_lt hs))]
  constructor
  · intro h hv w hw hsw hvw
    rcases h with h | h
    · rw [hv] at h; exact nomatch h
    · have := h w hw
      rw [cd_tdif (cd_dif_lt hs), cd_tdif hs, cd_tpow, hsw, decide_eq_false hvw] at this
      cases e : (g v).testBit w with
      | true => rfl
      | false => rw [e] at this; exact nomatch this
  · intro h
    by_cases hv : s.testBit v = true
    · right
      intro w hw
      rw [cd_tdif (cd_dif_lt hs), cd_tdif hs, cd_tpow]
      by_cases e : v = w
      · rw [decide_eq_true e]; cases s.testBit w <;> cases (g v).testBit w <;> rfl
      · cases e2 : s.testBit w with
        | false => rfl
        | true => rw [h hv w hw e2 e]; rfl
    · left
      rw [cd_nb hv]; rfl
theorem ch_cq_iff {g : Nat → Nat} {s : Nat} (hs : s < 128) : ch_cq g s = true ↔ ch_Cl g s := by
  unfold ch_cq
  rw [cd_al0]
  constructor
  · intro h v w hv hw h1 h2 h3
    exact (ch_ok_iff hs).1 (h v hv) h1 w hw h2 h3
  · intro h v hv
    exact (ch_ok_iff hs).2 fun h1 w hw h2 h3 => h v w hv hw h1 h2 h3
theorem ch_cq_not {g : Nat → Nat} {s : Nat} (hs : s < 128) (h : ch_cq g s = false) :
    ∃ x y, x < 7 ∧ y < 7 ∧ s.testBit x = true ∧ s.testBit y = true ∧ x ≠ y ∧ (g x).testBit y = false := by
  apply Classical.byContradiction
  intro hn
  have : ch_cq g s = true := (ch_cq_iff hs).2 fun x y hx hy h1 h2 h3 => cd_nt fun e => hn ⟨x, y, hx, hy, h1, h2, h3, e⟩
  rw [h] at this
  exact nomatch this
/-! the core -/
theorem ch_cs_lt {g : Nat → Nat} {v s : Nat} (hs : s < 128) : ch_cs g v s < 128 := by
  unfold ch_cs
  split
  · exact cd_dif_lt hs
  · exact hs
theorem ch_cs_sub {g : Nat → Nat} {v s w : Nat} (hs : s < 128) (h : (ch_cs g v s).testBit w = true) : s.testBit w = true := by
  unfold ch_cs at h
  split at h
  · rw [cd_tdif hs] at h
    exact (Bool.and_eq_true_iff.mp h).1
  · exact h
theorem ch_sweep_lt {g : Nat → Nat} {s : Nat} (hs : s < 128) : ch_sweep g s < 128 :=
  cd_foI (ch_cs g) (fun _ s => s < 128) 7 (fun _ _ _ h => ch_cs_lt h) 7 0 s rfl hs
theorem ch_sweep_sub {g : Nat → Nat} {s w : Nat} (hs : s < 128) (h : (ch_sweep g s).testBit w = true) : s.testBit w = true :=
  (cd_foI (ch_cs g) (fun _ t => t < 128 ∧ (t.testBit w = true → s.testBit w = true)) 7
    (fun _ _ _ h => ⟨ch_cs_lt h.1, fun z => h.2 (ch_cs_sub h.1 z)⟩) 7 0 s rfl ⟨hs, fun z => z⟩).2 h
theorem ch_core_lt (g : Nat → Nat) : ch_core g < 128 := cd_itI (ch_sweep g) (fun s => s < 128) (fun _ h => ch_sweep_lt h) 7 127 (by decide)
theorem ch_core_fix (g : Nat → Nat) : ch_sweep g (ch_core g) = ch_core g :=
  cd_shrink (ch_sweep g) (fun _ hs => ⟨ch_sweep_lt hs, fun _ _ h => ch_sweep_sub hs h⟩) (by decide)
/-- a sweep that changes nothing met no easy vertex -/
theorem ch_fix_at {g : Nat → Nat} {C : Nat} (hC : C < 128) : ∀ d i s, i + d = 7 → s < 128 → (∀ w, s.testBit w = true → C.testBit w = true) →
    cd_fo (ch_cs g) d i s = C → ∀ v, i ≤ v → v < 7 → C.testBit v = true → ch_ez g v C = false := by
  intro d
  induction d with
  | zero => intro i s hi _ _ _ v h1 h2; exact absurd h2 (by omega)
  | succ d ih =>
    intro i s hi hs hsub he v h1 h2 hv
    have hs' : ch_cs g i s < 128 := ch_cs_lt hs
    have hsub' : ∀ w, (ch_cs g i s).testBit w = true → C.testBit w = true := fun w h => hsub w (ch_cs_sub hs h)
    -- the fold from i + 1 ends in C, which lies in each set on the way
    have hin : ∀ w, C.testBit w = true → (ch_cs g i s).testBit w = true := by
      intro w hw
      have h3 := (cd_foI (ch_cs g) (fun _ t => t < 128 ∧ (t.testBit w = true → (ch_cs g i s).testBit w = true)) 7
        (fun _ _ _ h => ⟨ch_cs_lt h.1, fun z => h.2 (ch_cs_sub h.1 z)⟩) d (i + 1) (ch_cs g i s) (by omega) ⟨hs', fun z => z⟩).2
      have h4 : cd_fo (ch_cs g) d (i + 1) (ch_cs g i s) = C := he
      rw [h4] at h3
      exact h3 hw
    rcases Nat.eq_or_lt_of_le h1 with e | e
    · subst e
      have hsC : s = C := cd_ext hs hC fun w _ => by
        cases e1 : C.testBit w with
        | true => exact ch_cs_sub hs (hin w e1)
        | false => exact cd_nb fun z => by rw [hsub w z] at e1; exact nomatch e1
      have h5 := hin i hv
      apply cd_nb
      intro hz
      rw [hsC] at h5
      unfold ch_cs at h5
      rw [hv, hz, Bool.true_and, if_pos rfl, cd_tdif hC, cd_tpow, hv, decide_eq_true rfl] at h5
      exact nomatch h5
    · exact ih (i + 1) _ (by omega) hs' hsub' he v e h2 hv
theorem ch_core_noeasy (g : Nat → Nat) : ∀ v, v < 7 → (ch_core g).testBit v = true → ch_ez g v (ch_core g) = false := fun v hv h =>
  ch_fix_at (ch_core_lt g) 7 0 (ch_core g) rfl (ch_core_lt g) (fun _ z => z) (ch_core_fix g) v (by omega) hv h
/-! no way around a gap -/
def ch_NW (g : Nat → Nat) : Prop := ∀ v a b, v < 7 → a < 7 → b < 7 → (g v).testBit a = true → (g v).testBit b = true → a ≠ b → (g a).testBit b = false →
  ∃ Z, Z < 128 ∧ Z.testBit a = true ∧ Z.testBit b = false ∧
    ∀ x y, x < 7 → y < 7 → Z.testBit x = true → (g x).testBit y = true → (y = b ∨ (y ≠ v ∧ (g v).testBit y = false)) → Z.testBit y = true
theorem ch_sym {g : Nat → Nat} (G : ch_Good g) {x y : Nat} (hx : x < 7) (hy : y < 7) {b : Bool} (h : (g x).testBit y = b) : (g y).testBit x = b := by
  rw [(G y hy).2.2 x hx]; exact h
/-- Dirac: B lies in C beyond v's neighbours, and nothing of C beyond v's neighbours is joined to it from outside -/
theorem ch_dirac {g : Nat → Nat} (G : ch_Good g) (NW : ch_NW g) {C : Nat} (hC : C < 128)
    (hne : ∀ v, v < 7 → C.testBit v = true → ∃ x y, x < 7 ∧ y < 7 ∧ C.testBit x = true ∧ C.testBit y = true ∧ (g v).testBit x = true ∧ (g v).testBit y = true ∧ x ≠ y ∧ (g x).testBit y = false) :
    ∀ B, B < 128 → ∀ v, v < 7 → C.testBit v = true →
      (∀ x, x < 7 → B.testBit x = true → C.testBit x = true ∧ x ≠ v ∧ (g v).testBit x = false) →
      (∀ x y, x < 7 → y < 7 → B.testBit x = true → (g x).testBit y = true → C.testBit y = true → y ≠ v → (g v).testBit y = false → B.testBit y = true) →
      (∃ x, x < 7 ∧ B.testBit x = true) → False := by
  intro B
  induction B using Nat.strongRecOn with
  | ind B ih =>
    intro hB v hv hCv hin hcl hx0
    -- the border of B
    have hbord : ∀ x b, x < 7 → b < 7 → C.testBit x = true → B.testBit x = false → B.testBit b = true → (g b).testBit x = true → (g v).testBit x = true := by
      intro x b hx hb h1 h2 h3 h4
      apply cd_nt
      intro h5
      by_cases e : x = v
      · subst e
        have h6 := ch_sym G hb hx h4
        rw [(hin b hb h3).2.2] at h6
        exact nomatch h6
      · have := hcl b x hb hx h3 h4 h1 e h5
        rw [h2] at this
        exact nomatch this
    have hS : ∀ x y b c, x < 7 → y < 7 → b < 7 → c < 7 → C.testBit x = true → C.testBit y = true → B.testBit x = false → B.testBit y = false →
        B.testBit b = true → B.testBit c = true → (g b).testBit x = true → (g c).testBit y = true → x ≠ y → (g x).testBit y = true := by
      intro x y b c hx hy hb hc hCx hCy hBx hBy hBb hBc hbx hcy hxy
      apply cd_nt
      intro hnxy
      obtain ⟨Z, hZ, hZa, hZb, hZc⟩ := NW v x y hv hx hy (hbord x b hx hb hCx hBx hBb hbx) (hbord y c hy hc hCy hBy hBc hcy) hxy hnxy
      have hbZ : Z.testBit b = true := hZc x b hx hb hZa (ch_sym G hb hx hbx) (Or.inr ⟨(hin b hb hBb).2.1, (hin b hb hBb).2.2⟩)
      by_cases e : B &&& Z = B
      · have hcZ : Z.testBit c = true := by
          have h1 : (B &&& Z).testBit c = true := by rw [e]; exact hBc
          rw [Nat.testBit_and] at h1
          exact (Bool.and_eq_true_iff.mp h1).2
        have := hZc c y hc hy hcZ hcy (Or.inl rfl)
        rw [hZb] at this
        exact nomatch this
      · have hlt : B &&& Z < B := Nat.lt_of_le_of_ne Nat.and_le_left e
        refine ih (B &&& Z) hlt (cd_and_lt hB) v hv hCv ?_ ?_ ⟨b, hb, by rw [Nat.testBit_and, hBb, hbZ]; rfl⟩
        · intro x1 hx1 h1
          rw [Nat.testBit_and] at h1
          exact hin x1 hx1 (Bool.and_eq_true_iff.mp h1).1
        · intro x1 y1 hx1 hy1 h1 h2 h3 h4 h5
          rw [Nat.testBit_and] at h1
          obtain ⟨h6, h7⟩ := Bool.and_eq_true_iff.mp h1
          rw [Nat.testBit_and, hcl x1 y1 hx1 hy1 h6 h2 h3 h4 h5, hZc x1 y1 hx1 hy1 h7 h2 (Or.inr ⟨h4, h5⟩)]
          rfl
    by_cases hcase : ∃ s b y, s < 7 ∧ b < 7 ∧ y < 7 ∧ C.testBit s = true ∧ B.testBit s = false ∧ B.testBit b = true ∧ (g b).testBit s = true ∧ B.testBit y = true ∧ (g s).testBit y = false
    · obtain ⟨s, b, y, hs, hb, hy, hCs, hBs, hBb, hbs, hBy, hsy⟩ := hcase
      have hsb := ch_sym G hb hs hbs
      have hmem : ∀ x, (cd_dif B (g s)).testBit x = true ↔ B.testBit x = true ∧ (g s).testBit x = false := by
        intro x
        rw [cd_tdif hB, Bool.and_eq_true, Bool.not_eq_true']
      refine ih (cd_dif B (g s)) ?_ (cd_dif_lt hB) s hs hCs ?_ ?_ ⟨y, hy, (hmem y).2 ⟨hBy, hsy⟩⟩
      · apply cd_sub_lt (w := b) (cd_dif_lt hB) (fun x _ h => ((hmem x).1 h).1) _ hBb
        apply cd_nb
        intro h
        rw [((hmem b).1 h).2] at hsb
        exact nomatch hsb
      · intro x hx h
        obtain ⟨h1, h2⟩ := (hmem x).1 h
        refine ⟨(hin x hx h1).1, ?_, h2⟩
        intro e
        subst e
        rw [h1] at hBs
        exact nomatch hBs
      · intro x z hx hz h1 h2 h3 h4 h5
        obtain ⟨h6, h7⟩ := (hmem x).1 h1
        refine (hmem z).2 ⟨?_, h5⟩
        apply cd_nt
        intro h8
        have := hS s z b x hs hz hb hx hCs h3 hBs h8 hBb h6 hbs h2 (fun e => h4 e.symm)
        rw [h5] at this
        exact nomatch this
    · have hall : ∀ s b y, s < 7 → b < 7 → y < 7 → C.testBit s = true → B.testBit s = false → B.testBit b = true → (g b).testBit s = true → B.testBit y = true → (g s).testBit y = true := by
        intro s b y hs hb hy h1 h2 h3 h4 h5
        apply cd_nt
        intro h6
        exact hcase ⟨s, b, y, hs, hb, hy, h1, h2, h3, h4, h5, h6⟩
      obtain ⟨b, hb, hBb⟩ := hx0
      obtain ⟨x, y, hx, hy, hCx, hCy, hbx, hby, hxy, hnxy⟩ := hne b hb (hin b hb hBb).1
      have hnyx := ch_sym G hx hy hnxy
      have hBx : B.testBit x = true := by
        apply cd_nt
        intro h
        cases e : B.testBit y with
        | true =>
          have := hall x b y hx hb hy hCx h hBb hbx e
          rw [hnxy] at this
          exact nomatch this
        | false =>
          have := hS x y b b hx hy hb hb hCx hCy h e hBb hBb hbx hby hxy
          rw [hnxy] at this
          exact nomatch this
      have hBy : B.testBit y = true := by
        apply cd_nt
        intro h
        have := hall y b x hy hb hx hCy h hBb hby hBx
        rw [hnyx] at this
        exact nomatch this
      have hmem : ∀ z, (cd_dif (cd_dif B (g x)) (2 ^ x)).testBit z = true ↔ B.testBit z = true ∧ (g x).testBit z = false ∧ z ≠ x := by
        intro z
        rw [cd_tdif (cd_dif_lt hB), cd_tdif hB, cd_tpow]
        by_cases e : x = z
        · rw [decide_eq_true e]
          constructor
          · intro h
            rw [Bool.not_true, Bool.and_false] at h
            exact nomatch h
          · intro h
            exact absurd e.symm h.2.2
        · rw [decide_eq_false e, Bool.not_false, Bool.and_true, Bool.and_eq_true, Bool.not_eq_true']
          exact ⟨fun h => ⟨h.1, h.2, fun ee => e ee.symm⟩, fun h => ⟨h.1, h.2.1⟩⟩
      refine ih (cd_dif (cd_dif B (g x)) (2 ^ x)) ?_ (cd_dif_lt (cd_dif_lt hB)) x hx hCx ?_ ?_ ⟨y, hy, (hmem y).2 ⟨hBy, hnxy, fun e => hxy e.symm⟩⟩
      · apply cd_sub_lt (w := x) (cd_dif_lt (cd_dif_lt hB)) (fun z _ h => ((hmem z).1 h).1) _ hBx
        apply cd_nb
        intro h
        exact ((hmem x).1 h).2.2 rfl
      · intro z hz h
        obtain ⟨h1, h2, h3⟩ := (hmem z).1 h
        exact ⟨(hin z hz h1).1, h3, h2⟩
      · intro z w hz hw h1 h2 h3 h4 h5
        obtain ⟨h6, h7, h8⟩ := (hmem z).1 h1
        refine (hmem w).2 ⟨?_, h5, h4⟩
        apply cd_nt
        intro h9
        have := ch_sym G hw hx (hall w z x hw hz hx h3 h9 h6 h2 hBx)
        rw [h5] at this
        exact nomatch this
/-- where there is no way around a gap, all falls apart -/
theorem ch_core_zero {g : Nat → Nat} (G : ch_Good g) (NW : ch_NW g) : ch_core g = 0 := by
  apply Classical.byContradiction
  intro hn
  have hC := ch_core_lt g
  have hne : ∀ v, v < 7 → (ch_core g).testBit v = true → ∃ x y, x < 7 ∧ y < 7 ∧ (ch_core g).testBit x = true ∧ (ch_core g).testBit y = true ∧ (g v).testBit x = true ∧ (g v).testBit y = true ∧ x ≠ y ∧ (g x).testBit y = false := by
    intro v hv h
    obtain ⟨x, y, hx, hy, h1, h2, h3, h4⟩ := ch_cq_not (cd_and_lt (G v hv).1) (ch_core_noeasy g v hv h)
    rw [Nat.testBit_and] at h1 h2
    obtain ⟨h5, h6⟩ := Bool.and_eq_true_iff.mp h1
    obtain ⟨h7, h8⟩ := Bool.and_eq_true_iff.mp h2
    exact ⟨x, y, hx, hy, h6, h8, h5, h7, h3, h4⟩
  obtain ⟨v, hv, hvC⟩ := cd_nonzero hC hn
  obtain ⟨x, y, hx, hy, hCx, hCy, _, _, hxy, hnxy⟩ := hne v hv hvC
  have hmem : ∀ z, (cd_dif (cd_dif (ch_core g) (g x)) (2 ^ x)).testBit z = true ↔ (ch_core g).testBit z = true ∧ (g x).testBit z = false ∧ z ≠ x := by
    intro z
    rw [cd_tdif (cd_dif_lt hC), cd_tdif hC, cd_tpow]
    by_cases e : x = z
    · rw [decide_eq_true e]
      constructor
      · intro h
        rw [Bool.not_true, Bool.and_false] at h
        exact nomatch h
      · intro h
        exact absurd e.symm h.2.2
    · rw [decide_eq_false e, Bool.not_false, Bool.and_true, Bool.and_eq_true, Bool.not_eq_true']
      exact ⟨fun h => ⟨h.1, h.2, fun ee => e ee.symm⟩, fun h => ⟨h.1, h.2.1⟩⟩
  refine ch_dirac G NW hC hne (cd_dif (cd_dif (ch_core g) (g x)) (2 ^ x)) (cd_dif_lt (cd_dif_lt hC)) x hx hCx ?_ ?_ ⟨y, hy, (hmem y).2 ⟨hCy, hnxy, fun e => hxy e.symm⟩⟩
  · intro z _ h
    obtain ⟨h1, h2, h3⟩ := (hmem z).1 h
    exact ⟨h1, h3, h2⟩
  · intro z w _ _ _ _ h3 h4 h5
    exact (hmem w).2 ⟨h3, h5, h4⟩
end
section
/-! holes: what the reference's test says, cycles, ways around, parity -/
def ch_sw (g : Nat → Nat) (s v r : Nat) : Nat := if r.testBit v then r ||| (g v &&& s) else r
def ch_pass (g : Nat → Nat) (s r : Nat) : Nat := cd_fo (ch_sw g s) 7 0 r
def ch_down (g : Nat → Nat) (s : Nat) : Nat → Bool → Nat → Bool × Nat
  | 0, ok, f => (ok, f)
  | k + 1, ok, f => ch_down g s k (ok && (!s.testBit k || decide (cd_ones (g k &&& s) = 2))) (if s.testBit k then k else f)
def ch_ho (g : Nat → Nat) (s : Nat) : Bool :=
  (ch_down g s 7 (decide (4 ≤ cd_ones s)) 0).1 && decide (cd_it (ch_pass g s) 7 (2 ^ (ch_down g s 7 (decide (4 ≤ cd_ones s)) 0).2) = s)
theorem ch_down_1 (g : Nat → Nat) (s : Nat) : ∀ k ok f, (ch_down g s k ok f).1 = true ↔
    (ok = true ∧ ∀ v, v < k → s.testBit v = true → cd_ones (g v &&& s) = 2) := by
  intro k
  induction k with
  | zero => intro ok f; exact ⟨fun h => ⟨h, fun v hv => absurd hv (by omega)⟩, fun h => h.1⟩
  | succ k ih =>
    intro ok f
    show (ch_down g s k _ _).1 = true ↔ _
    rw [ih, Bool.and_eq_true, Bool.or_eq_true, decide_eq_true_iff, Bool.not_eq_true']
    constructor
    · intro h
      refine ⟨h.1.1, fun v hv hsv => ?_⟩
      by_cases e : v = k
      · subst e
        rcases h.1.2 with h1 | h1
        · rw [hsv] at h1; exact nomatch h1
        · exact h1
      · exact h.2 v (by omega) hsv
    · intro h
      refine ⟨⟨h.1, ?_⟩, fun v hv => h.2 v (by omega)⟩
      cases e : s.testBit k with
      | false => exact Or.inl rfl
      | true => exact Or.inr (h.2 k (by omega) e)
theorem ch_down_2 (g : Nat → Nat) {s : Nat} : ∀ k ok f, k ≤ 7 → f < 7 → ((∃ v, v < k ∧ s.testBit v = true) ∨ s.testBit f = true) →
    (ch_down g s k ok f).2 < 7 ∧ s.testBit (ch_down g s k ok f).2 = true := by
  intro k
  induction k with
  | zero =>
    intro ok f _ hf h
    rcases h with ⟨v, hv, _⟩ | h
    · exact absurd hv (by omega)
    · exact ⟨hf, h⟩
  | succ k ih =>
    intro ok f hk hf h
    show (ch_down g s k _ _).2 < 7 ∧ s.testBit (ch_down g s k _ _).2 = true
    cases e : s.testBit k with
    | true =>
      rw [if_pos rfl]
      exact ih _ k (by omega) (by omega) (Or.inr e)
    | false =>
      rw [if_neg (by decide)]
      refine ih _ f (by omega) hf ?_
      rcases h with ⟨v, hv, h⟩ | h
      · refine Or.inl ⟨v, ?_, h⟩
        by_cases e2 : v = k
        · subst e2; rw [e] at h; exact nomatch h
        · omega
      · exact Or.inr h
theorem ch_down_lt (g : Nat → Nat) (s : Nat) : ∀ k ok f, k ≤ 7 → f < 7 → (ch_down g s k ok f).2 < 7 := by
  intro k
  induction k with
  | zero => intro ok f _ hf; exact hf
  | succ k ih =>
    intro ok f hk hf
    show (ch_down g s k _ _).2 < 7
    exact ih _ _ (by omega) (by split <;> omega)
theorem ch_sw_lt {g : Nat → Nat} {s v r : Nat} (hs : s < 128) (hr : r < 128) : ch_sw g s v r < 128 := by
  unfold ch_sw
  split
  · exact cd_or_lt hr (cd_and_lt' hs)
  · exact hr
theorem ch_sw_up {g : Nat → Nat} {s v r w : Nat} (h : r.testBit w = true) : (ch_sw g s v r).testBit w = true := by
  unfold ch_sw
  split
  · rw [Nat.testBit_or, h]; rfl
  · exact h
theorem ch_pass_lt {g : Nat → Nat} {s r : Nat} (hs : s < 128) (hr : r < 128) : ch_pass g s r < 128 :=
  cd_foI (ch_sw g s) (fun _ t => t < 128) 7 (fun _ _ _ h => ch_sw_lt hs h) 7 0 r rfl hr
theorem ch_pass_up {g : Nat → Nat} {s r w : Nat} (h : r.testBit w = true) : (ch_pass g s r).testBit w = true :=
  cd_foI (ch_sw g s) (fun _ t => t.testBit w = true) 7 (fun _ _ _ h => ch_sw_up h) 7 0 r rfl h
theorem ch_pass_in {g : Nat → Nat} {s r Z : Nat} (hZ : ∀ x y, x < 7 → Z.testBit x = true → (g x).testBit y = true → s.testBit y = true → Z.testBit y = true)
    (hr : ∀ y, r.testBit y = true → Z.testBit y = true) : ∀ y, (ch_pass g s r).testBit y = true → Z.testBit y = true :=
  cd_foI (ch_sw g s) (fun _ t => ∀ y, t.testBit y = true → Z.testBit y = true) 7 (fun i t hi h y hy => by
    unfold ch_sw at hy
    split at hy
    · rename_i hti
      rw [Nat.testBit_or, Nat.testBit_and] at hy
      rcases Bool.or_eq_true_iff.mp hy with hy | hy
      · exact h y hy
      · obtain ⟨h1, h2⟩ := Bool.and_eq_true_iff.mp hy
        exact hZ i y hi (h i hti) h1 h2
    · exact h y hy) 7 0 r rfl hr
theorem ch_pass_cl {g : Nat → Nat} {s r x y : Nat} (hx : x < 7) (h1 : r.testBit x = true) (h2 : (g x).testBit y = true) (h3 : s.testBit y = true) :
    (ch_pass g s r).testBit y = true := by
  have := cd_foI (ch_sw g s) (fun i t => (t.testBit x = true) ∧ (x < i → t.testBit y = true)) 7 (fun i t hi h => by
    refine ⟨ch_sw_up h.1, fun hxi => ?_⟩
    by_cases e : x = i
    · subst e
      unfold ch_sw
      rw [if_pos h.1, Nat.testBit_or, Nat.testBit_and, h2, h3]
      cases t.testBit y <;> rfl
    · exact ch_sw_up (h.2 (by omega))) 7 0 r rfl ⟨h1, fun h => absurd h (by omega)⟩
  exact this.2 hx
def ch_Hole (g : Nat → Nat) (s : Nat) : Prop :=
  4 ≤ cd_ones s ∧ (∀ v, v < 7 → s.testBit v = true → cd_ones (g v &&& s) = 2) ∧
  ∀ Z, Z < 128 → (∃ z, z < 7 ∧ Z.testBit z = true ∧ s.testBit z = true) →
    (∀ x y, x < 7 → y < 7 → Z.testBit x = true → s.testBit x = true → s.testBit y = true → (g x).testBit y = true → Z.testBit y = true) →
    ∀ y, y < 7 → s.testBit y = true → Z.testBit y = true
theorem ch_ho_iff {g : Nat → Nat} (G : ch_Good g) {s : Nat} (hs : s < 128) : ch_ho g s = true ↔ ch_Hole g s := by
  unfold ch_ho
  rw [Bool.and_eq_true, ch_down_1, decide_eq_true_iff, decide_eq_true_iff]
  have hfix : ∀ f, f < 7 → ch_pass g s (cd_it (ch_pass g s) 7 (2 ^ f)) = cd_it (ch_pass g s) 7 (2 ^ f) := fun f hf =>
    cd_grow (ch_pass g s) (fun r hr => ⟨ch_pass_lt hs hr, fun v _ h => ch_pass_up h⟩) (cd_pow_lt hf) (cd_ones_pos hf Nat.testBit_two_pow_self)
  have hex : 4 ≤ cd_ones s → ∃ v, v < 7 ∧ s.testBit v = true := fun h4 => cd_cnt_ex (p := fun v => s.testBit v) (by
    have : 4 ≤ cd_cnt (fun v => s.testBit v) 7 := h4
    omega)
  generalize hF : (ch_down g s 7 (decide (4 ≤ cd_ones s)) 0).2 = F
  constructor
  · intro ⟨⟨h4, hdeg⟩, hreach⟩
    obtain ⟨hF7, hFs⟩ := ch_down_2 g 7 (decide (4 ≤ cd_ones s)) 0 (by omega) (by omega) (Or.inl (hex h4))
    rw [hF] at hF7 hFs
    refine ⟨h4, hdeg, ?_⟩
    intro Z hZ ⟨z, hz, hZz, hsz⟩ hcl y hy hsy
    have main : ∀ Z : Nat, (∀ x y, x < 7 → y < 7 → Z.testBit x = true → s.testBit x = true → s.testBit y = true → (g x).testBit y = true → Z.testBit y = true) →
        Z.testBit F = true → ∀ y, y < 7 → s.testBit y = true → Z.testBit y = true := by
      intro Z hcl hZF y hy hsy
      have h1 : ∀ y, (cd_it (ch_pass g s) 7 (2 ^ F)).testBit y = true → (Z &&& s).testBit y = true := by
        apply cd_itI (ch_pass g s) (fun r => ∀ y, r.testBit y = true → (Z &&& s).testBit y = true)
        · intro r hr
          apply ch_pass_in _ hr
          intro x y hx h1 h2 h3
          rw [Nat.testBit_and] at h1 ⊢
          obtain ⟨h4, h5⟩ := Bool.and_eq_true_iff.mp h1
          rw [hcl x y hx (cd_lt7 hs h3) h4 h5 h3 h2, h3]; rfl
        · intro y hy
          rw [cd_tpow] at hy
          rw [← of_decide_eq_true hy, Nat.testBit_and, hZF, hFs]; rfl
      rw [hreach] at h1
      have := h1 y hsy
      rw [Nat.testBit_and] at this
      exact (Bool.and_eq_true_iff.mp this).1
    cases e : Z.testBit F with
    | true => exact main Z hcl e y hy hsy
    | false =>
      have h2 := main (cd_dif s Z) (fun x w hx hw h1 h2 h3 h4 => by
        rw [cd_tdif hs] at h1 ⊢
        rw [h3, Bool.true_and, Bool.not_eq_true']
        apply cd_nb
        intro h5
        have := hcl w x hw hx h5 h3 h2 (ch_sym G hx hw h4)
        rw [this, h2] at h1
        exact nomatch h1) (by rw [cd_tdif hs, hFs, e]; rfl) z hz hsz
      rw [cd_tdif hs, hsz, hZz] at h2
      exact nomatch h2
  · intro ⟨h4, hdeg, hcon⟩
    obtain ⟨hF7, hFs⟩ := ch_down_2 g 7 (decide (4 ≤ cd_ones s)) 0 (by omega) (by omega) (Or.inl (hex h4))
    rw [hF] at hF7 hFs
    refine ⟨⟨h4, hdeg⟩, ?_⟩
    have hRlt : cd_it (ch_pass g s) 7 (2 ^ F) < 128 := cd_itI (ch_pass g s) (fun r => r < 128) (fun r h => ch_pass_lt hs h) 7 _ (cd_pow_lt hF7)
    have hRF : (cd_it (ch_pass g s) 7 (2 ^ F)).testBit F = true :=
      cd_itI (ch_pass g s) (fun r => r.testBit F = true) (fun r h => ch_pass_up h) 7 _ Nat.testBit_two_pow_self
    have hRs : ∀ y, (cd_it (ch_pass g s) 7 (2 ^ F)).testBit y = true → s.testBit y = true := by
      apply cd_itI (ch_pass g s) (fun r => ∀ y, r.testBit y = true → s.testBit y = true)
      · intro r hr
        exact ch_pass_in (fun x y _ _ _ h => h) hr
      · intro y hy
        rw [cd_tpow] at hy
        rw [← of_decide_eq_true hy]; exact hFs
    have h5 := hcon _ hRlt ⟨F, hF7, hRF, hFs⟩ (fun x y hx hy h1 _ h3 h4 => by
      rw [← hfix F hF7]
      exact ch_pass_cl hx h1 h4 h3)
    apply cd_ext hRlt hs
    intro v hv
    cases e : s.testBit v with
    | true => exact h5 v hv e
    | false =>
      apply cd_nb
      intro h
      rw [hRs v h] at e
      exact nomatch e
/-! two neighbours in a hole, and they aren't joined -/
theorem ch_two {t x y z : Nat} (ht : t < 128) (h2 : cd_ones t = 2) (hx : x < 7) (hy : y < 7) (hxy : x ≠ y) (h3 : t.testBit x = true) (h4 : t.testBit y = true)
    (hz : t.testBit z = true) : z = x ∨ z = y := by
  have e := cd_eq_of_ones (s := 2 ^ x ||| 2 ^ y) (t := t) (cd_or_lt (cd_pow_lt hx) (cd_pow_lt hy)) ht (fun v _ h => by
    rw [Nat.testBit_or, cd_tpow, cd_tpow] at h
    rcases Bool.or_eq_true_iff.mp h with h | h
    · rw [← of_decide_eq_true h]; exact h3
    · rw [← of_decide_eq_true h]; exact h4) (by rw [h2, cd_ones_two hx hy hxy]; exact Nat.le_refl 2)
  rw [e, Nat.testBit_or, cd_tpow, cd_tpow] at hz
  rcases Bool.or_eq_true_iff.mp hz with h | h
  · exact Or.inl (of_decide_eq_true h).symm
  · exact Or.inr (of_decide_eq_true h).symm
theorem ch_gap {g : Nat → Nat} (G : ch_Good g) {s v : Nat} (hs : s < 128) (H : ch_Hole g s) (hv : v < 7) (hsv : s.testBit v = true) :
    ∃ a b, a < b ∧ b < 7 ∧ (∀ y, ((g v).testBit y = true ∧ s.testBit y = true) ↔ (y = a ∨ y = b)) ∧ (g a).testBit b = false := by
  obtain ⟨h4, hdeg, hcon⟩ := H
  obtain ⟨a, b, hab, hb, e⟩ := cd_ones_2 (cd_and_lt (G v hv).1) (hdeg v hv hsv)
  have hmem : ∀ y, ((g v).testBit y = true ∧ s.testBit y = true) ↔ (y = a ∨ y = b) := by
    intro y
    have h1 : (g v &&& s).testBit y = (2 ^ a ||| 2 ^ b).testBit y := by rw [e]
    rw [Nat.testBit_and, Nat.testBit_or, cd_tpow, cd_tpow] at h1
    rw [← Bool.and_eq_true, h1, Bool.or_eq_true, decide_eq_true_iff, decide_eq_true_iff]
    exact ⟨fun h => h.imp Eq.symm Eq.symm, fun h => h.imp Eq.symm Eq.symm⟩
  refine ⟨a, b, hab, hb, hmem, ?_⟩
  apply cd_nb
  intro hadj
  have ha : a < 7 := by omega
  obtain ⟨hva, hsa⟩ := (hmem a).2 (Or.inl rfl)
  obtain ⟨hvb, hsb⟩ := (hmem b).2 (Or.inr rfl)
  have hav := ch_sym G hv ha hva
  have hbv := ch_sym G hv hb hvb
  have hba := ch_sym G ha hb hadj
  have hva' : v ≠ a := fun ee => by subst ee; rw [(G v hv).2.1] at hva; exact nomatch hva
  have hvb' : v ≠ b := fun ee => by subst ee; rw [(G v hv).2.1] at hvb; exact nomatch hvb
  have hZm : ∀ y, ((2 ^ v ||| 2 ^ a) ||| 2 ^ b).testBit y = true ↔ (y = v ∨ y = a ∨ y = b) := by
    intro y
    rw [Nat.testBit_or, Nat.testBit_or, cd_tpow, cd_tpow, cd_tpow, Bool.or_eq_true, Bool.or_eq_true, decide_eq_true_iff, decide_eq_true_iff, decide_eq_true_iff]
    constructor
    · rintro ((h | h) | h)
      · exact Or.inl h.symm
      · exact Or.inr (Or.inl h.symm)
      · exact Or.inr (Or.inr h.symm)
    · rintro (h | h | h)
      · exact Or.inl (Or.inl h.symm)
      · exact Or.inl (Or.inr h.symm)
      · exact Or.inr h.symm
  have hsub := hcon ((2 ^ v ||| 2 ^ a) ||| 2 ^ b) (cd_or_lt (cd_or_lt (cd_pow_lt hv) (cd_pow_lt ha)) (cd_pow_lt hb)) ⟨v, hv, (hZm v).2 (Or.inl rfl), hsv⟩ (by
    intro x y hx hy h1 h2 h3 h5
    rw [hZm] at h1 ⊢
    rcases h1 with h1 | h1 | h1
    · subst h1
      exact Or.inr ((hmem y).1 ⟨h5, h3⟩)
    · subst h1
      have := ch_two (t := g x &&& s) (x := v) (y := b) (z := y) (cd_and_lt (G x hx).1) (hdeg x hx h2) hv hb hvb'
        (by rw [Nat.testBit_and, hav, hsv]; rfl) (by rw [Nat.testBit_and, hadj, hsb]; rfl) (by rw [Nat.testBit_and, h5, h3]; rfl)
      rcases this with h | h
      · exact Or.inl h
      · exact Or.inr (Or.inr h)
    · subst h1
      have := ch_two (t := g x &&& s) (x := v) (y := a) (z := y) (cd_and_lt (G x hx).1) (hdeg x hx h2) hv ha hva'
        (by rw [Nat.testBit_and, hbv, hsv]; rfl) (by rw [Nat.testBit_and, hba, hsa]; rfl) (by rw [Nat.testBit_and, h5, h3]; rfl)
      rcases this with h | h
      · exact Or.inl h
      · exact Or.inr (Or.inl h))
  have h6 := cd_ones_mono (s := s) hsub
  have h7 : cd_ones ((2 ^ v ||| 2 ^ a) ||| 2 ^ b) = 3 := by
    rw [cd_ones_or hb (by rw [Nat.testBit_or, cd_tpow, cd_tpow, decide_eq_false hvb', decide_eq_false (by omega)]; rfl), cd_ones_two hv ha hva']
  omega
/-- a hole is never taken apart -/
theorem ch_hole_core {g : Nat → Nat} (G : ch_Good g) {H : Nat} (hH : H < 128) (hh : ch_Hole g H) : ch_core g ≠ 0 := by
  have hstep : ∀ v s, v < 7 → s < 128 ∧ (∀ y, H.testBit y = true → s.testBit y = true) → ch_cs g v s < 128 ∧ ∀ y, H.testBit y = true → (ch_cs g v s).testBit y = true := by
    intro v s hv ⟨hs, hsub⟩
    refine ⟨ch_cs_lt hs, fun y hy => ?_⟩
    unfold ch_cs
    split
    · rename_i hc
      obtain ⟨hc1, hc2⟩ := Bool.and_eq_true_iff.mp hc
      rw [cd_tdif hs, hsub y hy, Bool.true_and, Bool.not_eq_true', cd_tpow]
      apply decide_eq_false
      intro e
      subst e
      obtain ⟨a, b, hab, hb, hmem, hgap⟩ := ch_gap G hH hh hv hy
      obtain ⟨h1, h2⟩ := (hmem a).2 (Or.inl rfl)
      obtain ⟨h3, h4⟩ := (hmem b).2 (Or.inr rfl)
      have := (ch_cq_iff (cd_and_lt (G v hv).1)).1 hc2 a b (by omega) hb (by rw [Nat.testBit_and, h1, hsub a h2]; rfl) (by rw [Nat.testBit_and, h3, hsub b h4]; rfl) (by omega)
      rw [hgap] at this
      exact nomatch this
    · exact hsub y hy
  have hall : ch_core g < 128 ∧ ∀ y, H.testBit y = true → (ch_core g).testBit y = true := by
    unfold ch_core
    apply cd_itI (ch_sweep g) (fun s => s < 128 ∧ ∀ y, H.testBit y = true → s.testBit y = true)
    · intro s hs
      exact cd_foI (ch_cs g) (fun _ s => s < 128 ∧ ∀ y, H.testBit y = true → s.testBit y = true) 7 (fun v s hv h => hstep v s hv h) 7 0 s rfl hs
    · refine ⟨by decide, fun y hy => ?_⟩
      have h127 : ∀ y, y < 7 → (127 : Nat).testBit y = true := by decide
      exact h127 y (cd_lt7 hH hy)
  obtain ⟨v, hv, hsv⟩ := cd_cnt_ex (p := fun v => H.testBit v) (n := 7) (by
    have : 4 ≤ cd_cnt (fun v => H.testBit v) 7 := hh.1
    omega)
  exact cd_ne0 (hall.2 v hsv)
end
section
/-! cycles make holes; the shortest way around a gap is one; every hole has a short way around -/
def cd_mk (q : Nat → Nat) : Nat → Nat
  | 0 => 0
  | m + 1 => cd_mk q m ||| 2 ^ q m
theorem cd_mk_mem (q : Nat → Nat) : ∀ m x, (cd_mk q m).testBit x = true ↔ ∃ i, i < m ∧ q i = x := by
  intro m
  induction m with
  | zero =>
    intro x
    show (0 : Nat).testBit x = true ↔ _
    rw [Nat.zero_testBit]
    exact ⟨(fun h => nomatch h), fun ⟨i, hi, _⟩ => absurd hi (by omega)⟩
  | succ m ih =>
    intro x
    show (cd_mk q m ||| 2 ^ q m).testBit x = true ↔ _
    rw [Nat.testBit_or, Bool.or_eq_true, ih, cd_tpow, decide_eq_true_iff]
    constructor
    · rintro (⟨i, hi, e⟩ | e)
      · exact ⟨i, by omega, e⟩
      · exact ⟨m, by omega, e⟩
    · intro ⟨i, hi, e⟩
      by_cases h : i = m
      · subst h; exact Or.inr e
      · exact Or.inl ⟨i, by omega, e⟩
theorem cd_mk_lt {q : Nat → Nat} : ∀ m, (∀ i, i < m → q i < 7) → cd_mk q m < 128 := by
  intro m
  induction m with
  | zero => intro _; exact (by decide : (0 : Nat) < 128)
  | succ m ih =>
    intro h
    exact cd_or_lt (ih fun i hi => h i (by omega)) (cd_pow_lt (h m (by omega)))
theorem cd_mk_ones {q : Nat → Nat} : ∀ m, (∀ i, i < m → q i < 7) → (∀ i j, i < m → j < m → q i = q j → i = j) → cd_ones (cd_mk q m) = m := by
  intro m
  induction m with
  | zero => intro _ _; exact (by decide : cd_ones 0 = 0)
  | succ m ih =>
    intro h hinj
    show cd_ones (cd_mk q m ||| 2 ^ q m) = m + 1
    rw [cd_ones_or (h m (by omega)), ih (fun i hi => h i (by omega)) (fun i j hi hj => hinj i j (by omega) (by omega))]
    apply cd_nb
    rw [cd_mk_mem]
    intro ⟨i, hi, e⟩
    have := hinj i m (by omega) (by omega) e
    omega
theorem ch_cycle {g : Nat → Nat} (G : ch_Good g) {q : Nat → Nat} {m : Nat} (hm : 4 ≤ m) (hq : ∀ i, i < m → q i < 7)
    (hinj : ∀ i j, i < m → j < m → q i = q j → i = j)
    (hadj : ∀ i j, i < j → j < m → ((g (q i)).testBit (q j) = true ↔ (j = i + 1 ∨ (i = 0 ∧ j = m - 1)))) :
    ch_Hole g (cd_mk q m) := by
  refine ⟨by rw [cd_mk_ones m hq hinj]; exact hm, ?_, ?_⟩
  · intro v hv hsv
    obtain ⟨i, hi, e⟩ := (cd_mk_mem q m v).1 hsv
    subst e
    -- the two places beside i
    obtain ⟨x, y, hx, hy, hxy, hnb⟩ : ∃ x y, x < m ∧ y < m ∧ x ≠ y ∧ ∀ j, j < m → ((g (q i)).testBit (q j) = true ↔ (j = x ∨ j = y)) := by
      have hirr : (g (q i)).testBit (q i) = false := (G (q i) (hq i hi)).2.1
      have hsy : ∀ j, j < m → (g (q i)).testBit (q j) = (g (q j)).testBit (q i) := fun j hj => (G (q i) (hq i hi)).2.2 (q j) (hq j hj)
      by_cases h0 : i = 0
      · refine ⟨1, m - 1, by omega, by omega, by omega, fun j hj => ?_⟩
        by_cases ej : j = i
        · subst ej
          rw [hirr]
          exact ⟨(fun h => nomatch h), fun h => absurd h (by omega)⟩
        · rw [hadj i j (by omega) hj]
          omega
      · by_cases h1 : i = m - 1
        · refine ⟨0, m - 2, by omega, by omega, by omega, fun j hj => ?_⟩
          by_cases ej : j = i
          · subst ej
            rw [hirr]
            exact ⟨(fun h => nomatch h), fun h => absurd h (by omega)⟩
          · rw [hsy j hj, hadj j i (by omega) hi]
            omega
        · refine ⟨i - 1, i + 1, by omega, by omega, by omega, fun j hj => ?_⟩
          by_cases ej : j = i
          · subst ej
            rw [hirr]
            exact ⟨(fun h => nomatch h), fun h => absurd h (by omega)⟩
          · by_cases ej2 : i < j
            · rw [hadj i j ej2 hj]
              omega
            · rw [hsy j hj, hadj j i (by omega) hi]
              omega
    have e : g (q i) &&& cd_mk q m = 2 ^ q x ||| 2 ^ q y := by
      apply cd_ext (cd_and_lt (G _ (hq i hi)).1) (cd_or_lt (cd_pow_lt (hq x hx)) (cd_pow_lt (hq y hy)))
      intro w hw
      rw [Bool.eq_iff_iff, Nat.testBit_and, Nat.testBit_or, cd_tpow, cd_tpow, Bool.and_eq_true, Bool.or_eq_true, decide_eq_true_iff, decide_eq_true_iff, cd_mk_mem]
      constructor
      · intro ⟨h1, j, hj, ej⟩
        subst ej
        rcases (hnb j hj).1 h1 with h | h
        · subst h; exact Or.inl rfl
        · subst h; exact Or.inr rfl
      · rintro (h | h)
        · subst h; exact ⟨(hnb x hx).2 (Or.inl rfl), x, hx, rfl⟩
        · subst h; exact ⟨(hnb y hy).2 (Or.inr rfl), y, hy, rfl⟩
    rw [e]
    exact cd_ones_two (hq x hx) (hq y hy) fun ee => hxy (hinj x y hx hy ee)
  · intro Z _ ⟨z, hz, hZz, hsz⟩ hcl y hy hsy
    obtain ⟨i, hi, ei⟩ := (cd_mk_mem q m z).1 hsz
    obtain ⟨j, hj, ej⟩ := (cd_mk_mem q m y).1 hsy
    subst ei ej
    have hmem : ∀ k, k < m → (cd_mk q m).testBit (q k) = true := fun k hk => (cd_mk_mem q m _).2 ⟨k, hk, rfl⟩
    have hup : ∀ k, i ≤ k → k < m → Z.testBit (q k) = true := by
      intro k
      induction k with
      | zero =>
        intro h1 _
        have e0 : i = 0 := by omega
        subst e0
        exact hZz
      | succ k ih =>
        intro h1 h2
        by_cases e : i = k + 1
        · subst e; exact hZz
        · exact hcl (q k) (q (k + 1)) (hq k (by omega)) (hq (k + 1) h2) (ih (by omega) (by omega)) (hmem k (by omega)) (hmem (k + 1) h2)
            ((hadj k (k + 1) (by omega) h2).2 (Or.inl rfl))
    have hdn : ∀ d k, k + d = i → Z.testBit (q k) = true := by
      intro d
      induction d with
      | zero => intro k hk; have e : k = i := by omega
                subst e; exact hZz
      | succ d ih =>
        intro k hk
        exact hcl (q (k + 1)) (q k) (hq _ (by omega)) (hq k (by omega)) (ih (k + 1) (by omega)) (hmem _ (by omega)) (hmem k (by omega))
          (ch_sym G (hq k (by omega)) (hq (k + 1) (by omega)) ((hadj k (k + 1) (by omega) (by omega)).2 (Or.inl rfl)))
    by_cases h : i ≤ j
    · exact hup j h hj
    · exact hdn (i - j) j (by omega)
/-! what is reached in k steps -/
def ch_ns (g : Nat → Nat) (av r v t : Nat) : Nat := t ||| (if r.testBit v then cd_dif (g v) av else 0)
def ch_nx (g : Nat → Nat) (av r : Nat) : Nat := cd_fo (ch_ns g av r) 7 0 r
def ch_rch (g : Nat → Nat) (a av k : Nat) : Nat := cd_it (ch_nx g av) k (2 ^ a)
theorem ch_nx_lt {g : Nat → Nat} (G : ch_Good g) {av r : Nat} (hr : r < 128) : ch_nx g av r < 128 :=
  cd_foI (ch_ns g av r) (fun _ t => t < 128) 7 (fun v t hv h => by
    unfold ch_ns
    split
    · exact cd_or_lt h (cd_dif_lt (G v hv).1)
    · exact cd_or_lt h (by decide)) 7 0 r rfl hr
theorem ch_nx_mem {g : Nat → Nat} (G : ch_Good g) {av r : Nat} (y : Nat) : (ch_nx g av r).testBit y = true ↔
    (r.testBit y = true ∨ ∃ x, x < 7 ∧ r.testBit x = true ∧ (g x).testBit y = true ∧ av.testBit y = false) := by
  apply cd_foI (ch_ns g av r) (fun i t => t.testBit y = true ↔ (r.testBit y = true ∨ ∃ x, x < i ∧ r.testBit x = true ∧ (g x).testBit y = true ∧ av.testBit y = false)) 7
  · intro i t hi h
    show (t ||| _).testBit y = true ↔ _
    rw [Nat.testBit_or, Bool.or_eq_true, h]
    constructor
    · rintro ((h1 | ⟨x, hx, h1⟩) | h1)
      · exact Or.inl h1
      · exact Or.inr ⟨x, by omega, h1⟩
      · split at h1
        · rename_i h2
          rw [cd_tdif (G i hi).1, Bool.and_eq_true, Bool.not_eq_true'] at h1
          exact Or.inr ⟨i, by omega, h2, h1⟩
        · rw [Nat.zero_testBit] at h1
          exact nomatch h1
    · rintro (h1 | ⟨x, hx, h1, h2, h3⟩)
      · exact Or.inl (Or.inl h1)
      · by_cases e : x = i
        · subst e
          right
          rw [if_pos h1, cd_tdif (G x hi).1, h2, h3]; rfl
        · exact Or.inl (Or.inr ⟨x, by omega, h1, h2, h3⟩)
  · rfl
  · exact ⟨fun h => Or.inl h, fun h => h.elim id fun ⟨x, hx, _⟩ => absurd hx (by omega)⟩
theorem ch_rch_lt {g : Nat → Nat} (G : ch_Good g) {a av : Nat} (ha : a < 7) (k : Nat) : ch_rch g a av k < 128 :=
  cd_itI (ch_nx g av) (fun r => r < 128) (fun r h => ch_nx_lt G h) k _ (cd_pow_lt ha)
theorem ch_rch_s {g : Nat → Nat} (G : ch_Good g) {a av : Nat} (k y : Nat) : (ch_rch g a av (k + 1)).testBit y = true ↔
    ((ch_rch g a av k).testBit y = true ∨ ∃ x, x < 7 ∧ (ch_rch g a av k).testBit x = true ∧ (g x).testBit y = true ∧ av.testBit y = false) :=
  ch_nx_mem G y
theorem ch_rch_mono {g : Nat → Nat} (G : ch_Good g) {a av y : Nat} : ∀ d k, (ch_rch g a av k).testBit y = true → (ch_rch g a av (k + d)).testBit y = true := by
  intro d
  induction d with
  | zero => intro k h; exact h
  | succ d ih => intro k h; exact (ch_rch_s G (k + d) y).2 (Or.inl (ih k h))
theorem ch_rch_fix {g : Nat → Nat} (G : ch_Good g) {a av : Nat} (ha : a < 7) : ch_nx g av (ch_rch g a av 7) = ch_rch g a av 7 :=
  cd_grow (ch_nx g av) (fun r hr => ⟨ch_nx_lt G hr, fun v _ h => (ch_nx_mem G v).2 (Or.inl h)⟩) (cd_pow_lt ha) (cd_ones_pos ha Nat.testBit_two_pow_self)
/-- a shortest way -/
theorem ch_path {g : Nat → Nat} (G : ch_Good g) {a av : Nat} (ha : a < 7) : ∀ k w, (ch_rch g a av k).testBit w = true →
    (∀ j, j < k → (ch_rch g a av j).testBit w = false) →
    ∃ p : Nat → Nat, p 0 = a ∧ p k = w ∧ (∀ i, i ≤ k → p i < 7 ∧ (ch_rch g a av i).testBit (p i) = true ∧ ∀ j, j < i → (ch_rch g a av j).testBit (p i) = false) ∧
      (∀ i, i < k → (g (p i)).testBit (p (i + 1)) = true) ∧ (∀ i, 0 < i → i ≤ k → av.testBit (p i) = false) := by
  intro k
  induction k with
  | zero =>
    intro w hw _
    have e : w = a := by
      have h : (2 ^ a).testBit w = true := hw
      rw [cd_tpow] at h
      exact (of_decide_eq_true h).symm
    subst e
    refine ⟨fun _ => w, rfl, rfl, fun i hi => ?_, fun i hi => absurd hi (by omega), fun i h1 h2 => absurd h1 (by omega)⟩
    have e0 : i = 0 := by omega
    subst e0
    exact ⟨ha, hw, fun j hj => absurd hj (by omega)⟩
  | succ k ih =>
    intro w hw hmin
    rcases (ch_rch_s G k w).1 hw with h | ⟨x, hx, h1, h2, h3⟩
    · rw [hmin k (by omega)] at h; exact nomatch h
    · have hxmin : ∀ j, j < k → (ch_rch g a av j).testBit x = false := by
        intro j hj
        apply cd_nb
        intro h
        have := (ch_rch_s G j w).2 (Or.inr ⟨x, hx, h, h2, h3⟩)
        rw [hmin (j + 1) (by omega)] at this
        exact nomatch this
      obtain ⟨p, hp0, hpk, hpi, hpa, hpv⟩ := ih x h1 hxmin
      have hle : ∀ i, i ≤ k → (fun i => if i ≤ k then p i else w) i = p i := fun i hi => if_pos hi
      have hlast : (fun i => if i ≤ k then p i else w) (k + 1) = w := if_neg (by omega)
      refine ⟨fun i => if i ≤ k then p i else w, ?_, hlast, ?_, ?_, ?_⟩
      · rw [hle 0 (by omega)]; exact hp0
      · intro i hi
        by_cases e : i = k + 1
        · subst e
          rw [hlast]
          exact ⟨cd_lt7 (G x hx).1 h2, hw, hmin⟩
        · rw [hle i (by omega)]
          exact hpi i (by omega)
      · intro i hi
        by_cases e : i = k
        · subst e
          rw [hlast, hle i (by omega), hpk]
          exact h2
        · rw [hle i (by omega), hle (i + 1) (by omega)]
          exact hpa i (by omega)
      · intro i h4 h5
        by_cases e : i = k + 1
        · subst e
          rw [hlast]; exact h3
        · rw [hle i (by omega)]
          exact hpv i h4 (by omega)
def ch_av (g : Nat → Nat) (v b : Nat) : Nat := cd_dif (g v ||| 2 ^ v) (2 ^ b)
theorem ch_av_mem {g : Nat → Nat} (G : ch_Good g) {v b : Nat} (hv : v < 7) (y : Nat) : (ch_av g v b).testBit y = true ↔ (((g v).testBit y = true ∨ y = v) ∧ y ≠ b) := by
  unfold ch_av
  rw [cd_tdif (cd_or_lt (G v hv).1 (cd_pow_lt hv)), Nat.testBit_or, cd_tpow, cd_tpow, Bool.and_eq_true, Bool.or_eq_true, decide_eq_true_iff, Bool.not_eq_true', decide_eq_false_iff_not]
  exact ⟨fun h => ⟨h.1.imp id Eq.symm, fun e => h.2 e.symm⟩, fun h => ⟨h.1.imp id Eq.symm, fun e => h.2 e.symm⟩⟩
/-- the shortest way around a gap makes a hole -/
theorem ch_way_hole {g : Nat → Nat} (G : ch_Good g) {v a b n : Nat} (hv : v < 7) (ha : a < 7) (hb : b < 7) (hva : (g v).testBit a = true) (hvb : (g v).testBit b = true)
    (hab : a ≠ b) (hnab : (g a).testBit b = false) (hn : (ch_rch g a (ch_av g v b) n).testBit b = true)
    (hmin : ∀ j, j < n → (ch_rch g a (ch_av g v b) j).testBit b = false) : ∃ H, H < 128 ∧ ch_Hole g H ∧ cd_ones H = n + 2 := by
  obtain ⟨p, hp0, hpn, hpi, hpa, hpv⟩ := ch_path G ha n b hn hmin
  have hva' : v ≠ a := fun e => by subst e; rw [(G v hv).2.1] at hva; exact nomatch hva
  have hvb' : v ≠ b := fun e => by subst e; rw [(G v hv).2.1] at hvb; exact nomatch hvb
  have hn0 : n ≠ 0 := by
    intro e
    subst e
    exact hab (hp0.symm.trans hpn)
  have hn1 : n ≠ 1 := by
    intro e
    subst e
    have := hpa 0 (by omega)
    rw [hp0, hpn, hnab] at this
    exact nomatch this
  -- levels
  have hlev : ∀ i j, i ≤ n → j ≤ n → i < j → p i ≠ p j := by
    intro i j hi hj hij e
    have h1 := (hpi i hi).2.1
    have h2 := (hpi j hj).2.2 i hij
    rw [e, h2] at h1
    exact nomatch h1
  have hpb : ∀ i, i < n → p i ≠ b := fun i hi e => hlev i n (by omega) (by omega) hi (by rw [e, hpn])
  have hnv : ∀ i, i ≤ n → p i ≠ v := by
    intro i hi e
    by_cases h0 : i = 0
    · subst h0; exact hva' (e.symm.trans hp0)
    · have h1 := hpv i (by omega) hi
      rw [e] at h1
      have h2 := (ch_av_mem G hv (b := b) v).2 ⟨Or.inr rfl, hvb'⟩
      rw [h1] at h2
      exact nomatch h2
  have hvp : ∀ i, 0 < i → i < n → (g v).testBit (p i) = false := by
    intro i h0 hi
    apply cd_nb
    intro h
    have h2 := (ch_av_mem G hv (b := b) (p i)).2 ⟨Or.inl h, hpb i hi⟩
    rw [hpv i h0 (by omega)] at h2
    exact nomatch h2
  have hpp : ∀ i j, i < j → j ≤ n → (g (p i)).testBit (p j) = true → j = i + 1 := by
    intro i j hij hj h
    apply Classical.byContradiction
    intro hne
    have h1 := (ch_rch_s G i (p j)).2 (Or.inr ⟨p i, (hpi i (by omega)).1, (hpi i (by omega)).2.1, h, hpv j (by omega) hj⟩)
    rw [(hpi j hj).2.2 (i + 1) (by omega)] at h1
    exact nomatch h1
  have hq0 : (fun i => if i = 0 then v else p (i - 1)) 0 = v := rfl
  have hqs : ∀ i, i ≠ 0 → (fun i => if i = 0 then v else p (i - 1)) i = p (i - 1) := fun i hi => if_neg hi
  have hq : ∀ i, i < n + 2 → (fun i => if i = 0 then v else p (i - 1)) i < 7 := by
    intro i hi
    by_cases e : i = 0
    · subst e; exact hv
    · rw [hqs i e]; exact (hpi (i - 1) (by omega)).1
  have hinj : ∀ i j, i < n + 2 → j < n + 2 → (fun i => if i = 0 then v else p (i - 1)) i = (fun i => if i = 0 then v else p (i - 1)) j → i = j := by
    intro i j hi hj e
    by_cases ei : i = 0
    · by_cases ej : j = 0
      · omega
      · rw [hqs j ej, ei, hq0] at e
        exact absurd e.symm (hnv (j - 1) (by omega))
    · by_cases ej : j = 0
      · rw [hqs i ei, ej, hq0] at e
        exact absurd e (hnv (i - 1) (by omega))
      · rw [hqs i ei, hqs j ej] at e
        rcases Nat.lt_trichotomy (i - 1) (j - 1) with h | h | h
        · exact absurd e (hlev _ _ (by omega) (by omega) h)
        · omega
        · exact absurd e.symm (hlev _ _ (by omega) (by omega) h)
  refine ⟨cd_mk (fun i => if i = 0 then v else p (i - 1)) (n + 2), cd_mk_lt _ hq, ch_cycle G (by omega) hq hinj ?_, cd_mk_ones _ hq hinj⟩
  intro i j hij hj
  have ej : j ≠ 0 := by omega
  rw [if_neg ej]
  by_cases ei : i = 0
  · subst ei
    rw [if_pos rfl]
    by_cases e1 : j = 1
    · subst e1
      rw [show (1 - 1 : Nat) = 0 from rfl, hp0]
      exact ⟨fun _ => Or.inl rfl, fun _ => hva⟩
    · by_cases e2 : j = n + 1
      · subst e2
        rw [Nat.add_sub_cancel, hpn]
        exact ⟨fun _ => Or.inr ⟨rfl, rfl⟩, fun _ => hvb⟩
      · rw [hvp (j - 1) (by omega) (by omega)]
        exact ⟨(fun h => nomatch h), fun h => absurd h (by omega)⟩
  · rw [if_neg ei]
    constructor
    · intro h
      have := hpp (i - 1) (j - 1) (by omega) (by omega) h
      left
      omega
    · intro h
      have e : j - 1 = (i - 1) + 1 := by omega
      rw [e]
      exact hpa (i - 1) (by omega)
/-- without a hole there is no way around -/
theorem ch_nw {g : Nat → Nat} (G : ch_Good g) (hno : ∀ s, s < 128 → ¬ ch_Hole g s) : ch_NW g := by
  intro v a b hv ha hb hva hvb hab hnab
  have hvb' : v ≠ b := fun e => by subst e; rw [(G v hv).2.1] at hvb; exact nomatch hvb
  have hall : ∀ n, (ch_rch g a (ch_av g v b) n).testBit b = false := by
    intro n
    induction n using Nat.strongRecOn with
    | ind n ih =>
      apply cd_nb
      intro h
      obtain ⟨H, hH, hh, _⟩ := ch_way_hole G hv ha hb hva hvb hab hnab h ih
      exact hno H hH hh
  refine ⟨ch_rch g a (ch_av g v b) 7, ch_rch_lt G ha 7, ?_, hall 7, ?_⟩
  · have := ch_rch_mono G (a := a) (av := ch_av g v b) (y := a) 7 0 Nat.testBit_two_pow_self
    exact this
  · intro x y hx _ h1 h2 h3
    rw [← ch_rch_fix G ha, ch_nx_mem G]
    refine Or.inr ⟨x, hx, h1, h2, ?_⟩
    apply cd_nb
    rw [ch_av_mem G hv]
    intro ⟨h4, h5⟩
    rcases h3 with h3 | ⟨h3, h6⟩
    · exact h5 h3
    · rcases h4 with h4 | h4
      · rw [h6] at h4; exact nomatch h4
      · exact h3 h4
/-- Dirac's theorem, as both sides ask it -/
theorem ch_neat_iff {g : Nat → Nat} (G : ch_Good g) : ch_core g = 0 ↔ ∀ s, s < 128 → ch_ho g s = false := by
  constructor
  · intro h s hs
    apply cd_nb
    intro hh
    exact ch_hole_core G hs ((ch_ho_iff G hs).1 hh) h
  · intro h
    apply ch_core_zero G
    apply ch_nw G
    intro s hs hh
    have := (ch_ho_iff G hs).2 hh
    rw [h s hs] at this
    exact nomatch this
/-! parity -/
def cd_sum (f : Nat → Nat) : Nat → Nat
  | 0 => 0
  | n + 1 => cd_sum f n + f n
theorem cd_sum_add (f h : Nat → Nat) : ∀ n, cd_sum (fun x => f x + h x) n = cd_sum f n + cd_sum h n := by
  intro n
  induction n with
  | zero => rfl
  | succ n ih =>
    show cd_sum (fun x => f x + h x) n + (f n + h n) = (cd_sum f n + f n) + (cd_sum h n + h n)
    omega
theorem cd_sum_congr {f h : Nat → Nat} : ∀ n, (∀ i, i < n → f i = h i) → cd_sum f n = cd_sum h n := by
  intro n
  induction n with
  | zero => intro _; rfl
  | succ n ih =>
    intro hh
    show cd_sum f n + f n = cd_sum h n + h n
    rw [ih fun i hi => hh i (by omega), hh n (by omega)]
theorem cd_even {e : Nat → Nat → Nat} : ∀ n, (∀ x y, x < n → y < n → e x y = e y x) → (∀ x, x < n → e x x = 0) → cd_sum (fun x => cd_sum (e x) n) n % 2 = 0 := by
  intro n
  induction n with
  | zero => intro _ _; rfl
  | succ n ih =>
    intro h1 h2
    have h3 := ih (fun x y hx hy => h1 x y (by omega) (by omega)) (fun x hx => h2 x (by omega))
    show (cd_sum (fun x => cd_sum (e x) n + e x n) n + (cd_sum (e n) n + e n n)) % 2 = 0
    rw [cd_sum_add, h2 n (by omega), cd_sum_congr (f := fun x => e x n) (h := e n) n fun i hi => h1 i n (by omega) (by omega)]
    omega
theorem cd_odd {f : Nat → Nat} {a : Nat} (ha : f a % 2 = 1) : ∀ n, (∀ x, x < n → x ≠ a → f x % 2 = 0) → cd_sum f n % 2 = if a < n then 1 else 0 := by
  intro n
  induction n with
  | zero => intro _; rfl
  | succ n ih =>
    intro h
    have h1 := ih fun x hx => h x (by omega)
    show (cd_sum f n + f n) % 2 = _
    by_cases e : n = a
    · subst e
      rw [if_neg (by omega)] at h1
      rw [if_pos (by omega)]
      omega
    · have h2 := h n (by omega) e
      by_cases e2 : a < n
      · rw [if_pos e2] at h1
        rw [if_pos (by omega)]
        omega
      · rw [if_neg e2] at h1
        rw [if_neg (by omega)]
        omega
theorem cd_cnt_sum (p : Nat → Bool) : ∀ n, cd_cnt p n = cd_sum (fun i => (p i).toNat) n := by
  intro n
  induction n with
  | zero => rfl
  | succ n ih =>
    show cd_cnt p n + _ = cd_sum _ n + _
    rw [ih]
theorem ch_parity {g : Nat → Nat} (G : ch_Good g) {T a : Nat} (ha : a < 7) (haT : T.testBit a = true) (h1 : cd_ones (g a &&& T) = 1)
    (h2 : ∀ x, x < 7 → T.testBit x = true → x ≠ a → cd_ones (g x &&& T) = 2) : False := by
  have hev := cd_even (e := fun x y => (T.testBit x && ((g x).testBit y && T.testBit y)).toNat) 7 (fun x y hx hy => by
    show (T.testBit x && ((g x).testBit y && T.testBit y)).toNat = (T.testBit y && ((g y).testBit x && T.testBit x)).toNat
    rw [(G x hx).2.2 y hy]
    cases T.testBit x <;> cases T.testBit y <;> cases (g y).testBit x <;> rfl) (fun x hx => by
    show (T.testBit x && ((g x).testBit x && T.testBit x)).toNat = 0
    rw [(G x hx).2.1]
    cases T.testBit x <;> rfl)
  have hrow : ∀ x, T.testBit x = true → cd_sum (fun y => (T.testBit x && ((g x).testBit y && T.testBit y)).toNat) 7 = cd_ones (g x &&& T) := by
    intro x hx
    unfold cd_ones
    rw [cd_cnt_sum]
    apply cd_sum_congr
    intro i _
    show _ = ((g x &&& T).testBit i).toNat
    rw [hx, Nat.testBit_and, Bool.true_and]
  have hodd := cd_odd (f := fun x => cd_sum (fun y => (T.testBit x && ((g x).testBit y && T.testBit y)).toNat) 7) (a := a) (by
    show cd_sum (fun y => (T.testBit a && ((g a).testBit y && T.testBit y)).toNat) 7 % 2 = 1
    rw [hrow a haT, h1]) 7 (fun x hx hxa => by
    show cd_sum (fun y => (T.testBit x && ((g x).testBit y && T.testBit y)).toNat) 7 % 2 = 0
    cases e : T.testBit x with
    | true =>
      have := hrow x e
      rw [e] at this
      rw [this, h2 x hx e hxa]
    | false => rfl)
  rw [if_pos ha] at hodd
  rw [hodd] at hev
  exact absurd hev (by decide)
end
section
/-! every hole has a short way around; the smallest hole -/
theorem ch_hole_way {g : Nat → Nat} (G : ch_Good g) {s : Nat} (hs : s < 128) (H : ch_Hole g s) :
    ∃ v a b, v < 7 ∧ a < b ∧ b < 7 ∧ (g v).testBit a = true ∧ (g v).testBit b = true ∧ (g a).testBit b = false ∧
      (ch_rch g a (ch_av g v b) (cd_ones s - 2)).testBit b = true := by
  obtain ⟨v, hv, hsv⟩ := cd_cnt_ex (p := fun v => s.testBit v) (n := 7) (by
    have : 4 ≤ cd_cnt (fun v => s.testBit v) 7 := H.1
    omega)
  obtain ⟨a, b, hab, hb, hmem, hgap⟩ := ch_gap G hs H hv hsv
  obtain ⟨h4, hdeg, _⟩ := H
  obtain ⟨hva, hsa⟩ := (hmem a).2 (Or.inl rfl)
  obtain ⟨hvb, hsb⟩ := (hmem b).2 (Or.inr rfl)
  have ha : a < 7 := by omega
  have hva' : v ≠ a := fun e => by subst e; rw [(G v hv).2.1] at hva; exact nomatch hva
  have hvb' : v ≠ b := fun e => by subst e; rw [(G v hv).2.1] at hvb; exact nomatch hvb
  refine ⟨v, a, b, hv, hab, hb, hva, hvb, hgap, ?_⟩
  have hK : ∀ y, (cd_dif s (2 ^ v)).testBit y = true ↔ (s.testBit y = true ∧ y ≠ v) := by
    intro y
    rw [cd_tdif hs, cd_tpow, Bool.and_eq_true, Bool.not_eq_true', decide_eq_false_iff_not]
    exact ⟨fun h => ⟨h.1, fun e => h.2 e.symm⟩, fun h => ⟨h.1, fun e => h.2 e.symm⟩⟩
  have hZ : ∀ k y, (ch_rch g a (ch_av g v b) k &&& cd_dif s (2 ^ v)).testBit y = true ↔ ((ch_rch g a (ch_av g v b) k).testBit y = true ∧ s.testBit y = true ∧ y ≠ v) := by
    intro k y
    rw [Nat.testBit_and, Bool.and_eq_true, hK]
  have ha0 : ∀ k, (ch_rch g a (ch_av g v b) k).testBit a = true := by
    intro k
    have := ch_rch_mono G (a := a) (av := ch_av g v b) (y := a) k 0 Nat.testBit_two_pow_self
    rw [Nat.zero_add] at this
    exact this
  have hZlt : ∀ k, ch_rch g a (ch_av g v b) k &&& cd_dif s (2 ^ v) < 128 := fun k => cd_and_lt (ch_rch_lt G ha k)
  have key : ∀ k, (ch_rch g a (ch_av g v b) k).testBit b = false → k + 1 ≤ cd_ones (ch_rch g a (ch_av g v b) k &&& cd_dif s (2 ^ v)) := by
    intro k
    induction k with
    | zero =>
      intro _
      exact cd_ones_pos ha ((hZ 0 a).2 ⟨ha0 0, hsa, fun e => hva' e.symm⟩)
    | succ k ih =>
      intro hbk
      have hbk0 : (ch_rch g a (ch_av g v b) k).testBit b = false := by
        apply cd_nb
        intro h
        rw [(ch_rch_s G k b).2 (Or.inl h)] at hbk
        exact nomatch hbk
      have ih' := ih hbk0
      apply Classical.byContradiction
      intro hno
      have hsub : ∀ y, y < 7 → (ch_rch g a (ch_av g v b) k &&& cd_dif s (2 ^ v)).testBit y = true → (ch_rch g a (ch_av g v b) (k + 1) &&& cd_dif s (2 ^ v)).testBit y = true := by
        intro y _ h
        obtain ⟨h1, h2⟩ := (hZ k y).1 h
        exact (hZ (k + 1) y).2 ⟨(ch_rch_s G k y).2 (Or.inl h1), h2⟩
      have heq := cd_eq_of_ones (hZlt k) (hZlt (k + 1)) hsub (by omega)
      have hcl : ∀ x y, x < 7 → (ch_rch g a (ch_av g v b) k &&& cd_dif s (2 ^ v)).testBit x = true → (g x).testBit y = true → s.testBit y = true → y ≠ v →
          (ch_rch g a (ch_av g v b) k &&& cd_dif s (2 ^ v)).testBit y = true := by
        intro x y hx h1 h2 h3 h5
        obtain ⟨h6, h7, h8⟩ := (hZ k x).1 h1
        by_cases ea : y = a
        · subst ea
          exact (hZ k y).2 ⟨ha0 k, h3, h5⟩
        · by_cases eb : y = b
          · subst eb
            have := (ch_rch_s G k y).2 (Or.inr ⟨x, hx, h6, h2, by
              apply cd_nb
              rw [ch_av_mem G hv]
              intro h9
              exact h9.2 rfl⟩)
            rw [hbk] at this
            exact nomatch this
          · rw [← heq]
            refine (hZ (k + 1) y).2 ⟨(ch_rch_s G k y).2 (Or.inr ⟨x, hx, h6, h2, ?_⟩), h3, h5⟩
            apply cd_nb
            rw [ch_av_mem G hv]
            rintro ⟨h9 | h9, _⟩
            · rcases (hmem y).1 ⟨h9, h3⟩ with h | h
              · exact ea h
              · exact eb h
            · exact h5 h9
      have haT : (ch_rch g a (ch_av g v b) k &&& cd_dif s (2 ^ v)).testBit a = true := (hZ k a).2 ⟨ha0 k, hsa, fun e => hva' e.symm⟩
      apply ch_parity G (T := ch_rch g a (ch_av g v b) k &&& cd_dif s (2 ^ v)) ha haT
      · have h1 : cd_ones (g a &&& s) = 2 := hdeg a ha hsa
        have hav := ch_sym G hv ha hva
        rw [cd_ones_dif (cd_and_lt (G a ha).1) hv (by rw [Nat.testBit_and, hav, hsv]; rfl)] at h1
        have e : g a &&& (ch_rch g a (ch_av g v b) k &&& cd_dif s (2 ^ v)) = cd_dif (g a &&& s) (2 ^ v) := by
          apply cd_ext (cd_and_lt (G a ha).1) (cd_dif_lt (cd_and_lt (G a ha).1))
          intro y hy
          rw [Bool.eq_iff_iff, Nat.testBit_and (g a) (ch_rch g a (ch_av g v b) k &&& cd_dif s (2 ^ v)) y, Bool.and_eq_true, cd_tdif (cd_and_lt (G a ha).1), Bool.and_eq_true, Nat.testBit_and (g a) s y, Bool.and_eq_true, Bool.not_eq_true', cd_tpow, decide_eq_false_iff_not]
          constructor
          · intro ⟨h5, h6⟩
            obtain ⟨_, h7, h8⟩ := (hZ k y).1 h6
            exact ⟨⟨h5, h7⟩, fun e => h8 e.symm⟩
          · intro ⟨⟨h5, h6⟩, h7⟩
            exact ⟨h5, hcl a y ha haT h5 h6 fun e => h7 e.symm⟩
        rw [e]
        omega
      · intro x hx hxT hxa
        obtain ⟨h6, h7, h8⟩ := (hZ k x).1 hxT
        have hxb : x ≠ b := fun e => by subst e; rw [h6] at hbk0; exact nomatch hbk0
        have hvx : (g x).testBit v = false := by
          apply cd_nb
          intro h
          rcases (hmem x).1 ⟨ch_sym G hx hv h, h7⟩ with h | h
          · exact hxa h
          · exact hxb h
        have e : g x &&& (ch_rch g a (ch_av g v b) k &&& cd_dif s (2 ^ v)) = g x &&& s := by
          apply cd_ext (cd_and_lt (G x hx).1) (cd_and_lt (G x hx).1)
          intro y hy
          rw [Bool.eq_iff_iff, Nat.testBit_and (g x) (ch_rch g a (ch_av g v b) k &&& cd_dif s (2 ^ v)) y, Bool.and_eq_true, Nat.testBit_and (g x) s y, Bool.and_eq_true]
          constructor
          · intro ⟨h5, h9⟩
            exact ⟨h5, ((hZ k y).1 h9).2.1⟩
          · intro ⟨h5, h9⟩
            refine ⟨h5, hcl x y hx hxT h5 h9 fun e => ?_⟩
            subst e
            rw [hvx] at h5
            exact nomatch h5
        rw [e]
        exact hdeg x hx h7
  apply cd_nt
  intro hbn
  have h1 := key _ hbn
  have h2 : cd_ones (ch_rch g a (ch_av g v b) (cd_ones s - 2) &&& cd_dif s (2 ^ v)) < cd_ones (cd_dif s (2 ^ v)) := by
    apply cd_ones_lt hb
    · apply cd_nb
      intro h
      rw [((hZ _ b).1 h).1] at hbn
      exact nomatch hbn
    · exact (hK b).2 ⟨hsb, fun e => hvb' e.symm⟩
    · intro y _ h
      obtain ⟨_, h5, h6⟩ := (hZ _ y).1 h
      exact (hK y).2 ⟨h5, h6⟩
  have h3 := cd_ones_dif hs hv hsv
  omega
/-! the least number of joins of a way: 8 when there is none -/
def ch_arf (g : Nat → Nat) (b av : Nat) : Nat → Nat → Nat → Nat
  | 0, _, _ => 8
  | d + 1, n, r => if r.testBit b then n else ch_arf g b av d (n + 1) (ch_nx g av r)
def ch_ar (g : Nat → Nat) (a b av : Nat) : Nat := ch_arf g b av 8 0 (2 ^ a)
theorem ch_arf_spec (g : Nat → Nat) (a b av : Nat) : ∀ d n, n + d = 8 → (∀ j, j < n → (ch_rch g a av j).testBit b = false) →
    (∃ m, m < 8 ∧ ch_arf g b av d n (ch_rch g a av n) = m ∧ (ch_rch g a av m).testBit b = true ∧ ∀ j, j < m → (ch_rch g a av j).testBit b = false) ∨
    (ch_arf g b av d n (ch_rch g a av n) = 8 ∧ ∀ j, j < 8 → (ch_rch g a av j).testBit b = false) := by
  intro d
  induction d with
  | zero =>
    intro n hn h
    have e : n = 8 := by omega
    subst e
    exact Or.inr ⟨rfl, h⟩
  | succ d ih =>
    intro n hn h
    cases e : (ch_rch g a av n).testBit b with
    | true =>
      left
      refine ⟨n, by omega, ?_, e, h⟩
      show (if (ch_rch g a av n).testBit b then n else _) = n
      rw [e, if_pos rfl]
    | false =>
      have e2 : ch_arf g b av (d + 1) n (ch_rch g a av n) = ch_arf g b av d (n + 1) (ch_rch g a av (n + 1)) := by
        show (if (ch_rch g a av n).testBit b then n else _) = _
        rw [e, if_neg (by decide)]; rfl
      rw [e2]
      apply ih (n + 1) (by omega)
      intro j hj
      by_cases ej : j = n
      · subst ej; exact e
      · exact h j (by omega)
theorem ch_ar_spec (g : Nat → Nat) (a b av : Nat) :
    (∃ m, m < 8 ∧ ch_ar g a b av = m ∧ (ch_rch g a av m).testBit b = true ∧ ∀ j, j < m → (ch_rch g a av j).testBit b = false) ∨
    (ch_ar g a b av = 8 ∧ ∀ j, j < 8 → (ch_rch g a av j).testBit b = false) :=
  ch_arf_spec g a b av 8 0 rfl (fun j hj => absurd hj (by omega))
theorem ch_ar_le (g : Nat → Nat) (a b av : Nat) : ch_ar g a b av ≤ 8 := by
  rcases ch_ar_spec g a b av with ⟨m, h1, h2, _⟩ | ⟨h1, _⟩ <;> omega
/-! the least of some numbers, 0 when there are none -/
def ch_ms (c : Nat → Nat) (i m : Nat) : Nat := if c i = 0 then m else if m = 0 ∨ c i < m then c i else m
def ch_mn (c : Nat → Nat) (N : Nat) : Nat := cd_fo (ch_ms c) N 0 0
theorem ch_mn_spec (c : Nat → Nat) (N : Nat) : (ch_mn c N = 0 ∧ ∀ i, i < N → c i = 0) ∨
    (ch_mn c N ≠ 0 ∧ (∃ i, i < N ∧ c i = ch_mn c N) ∧ ∀ i, i < N → c i ≠ 0 → ch_mn c N ≤ c i) := by
  unfold ch_mn
  apply cd_foI (ch_ms c) (fun k m => (m = 0 ∧ ∀ i, i < k → c i = 0) ∨ (m ≠ 0 ∧ (∃ i, i < k ∧ c i = m) ∧ ∀ i, i < k → c i ≠ 0 → m ≤ c i)) N
  · intro i m hi h
    unfold ch_ms
    by_cases h0 : c i = 0
    · rw [if_pos h0]
      rcases h with ⟨h1, h2⟩ | ⟨h1, ⟨j, hj, h2⟩, h3⟩
      · refine Or.inl ⟨h1, fun j hj => ?_⟩
        by_cases e : j = i
        · subst e; exact h0
        · exact h2 j (by omega)
      · refine Or.inr ⟨h1, ⟨j, by omega, h2⟩, fun j hj hcj => ?_⟩
        by_cases e : j = i
        · subst e; exact absurd h0 hcj
        · exact h3 j (by omega) hcj
    · rw [if_neg h0]
      by_cases hc : m = 0 ∨ c i < m
      · rw [if_pos hc]
        refine Or.inr ⟨h0, ⟨i, by omega, rfl⟩, fun j hj hcj => ?_⟩
        by_cases e : j = i
        · subst e; exact Nat.le_refl _
        · rcases h with ⟨h1, h2⟩ | ⟨h1, _, h3⟩
          · exact absurd (h2 j (by omega)) hcj
          · have := h3 j (by omega) hcj
            omega
      · rw [if_neg hc]
        rcases h with ⟨h1, h2⟩ | ⟨h1, ⟨j, hj, h2⟩, h3⟩
        · exact absurd (Or.inl h1) hc
        · refine Or.inr ⟨h1, ⟨j, by omega, h2⟩, fun j hj hcj => ?_⟩
          by_cases e : j = i
          · subst e; omega
          · exact h3 j (by omega) hcj
  · omega
  · exact Or.inl ⟨rfl, fun i hi => absurd hi (by omega)⟩
theorem ch_mn_eq {c d : Nat → Nat} {N M : Nat} (h1 : ∀ i, i < N → c i ≠ 0 → ∃ j, j < M ∧ d j = c i)
    (h2 : ∀ j, j < M → d j ≠ 0 → ∃ i, i < N ∧ c i ≠ 0 ∧ c i ≤ d j) : ch_mn c N = ch_mn d M := by
  rcases ch_mn_spec c N with ⟨e1, k1⟩ | ⟨e1, ⟨i, hi, f1⟩, k1⟩
  · rcases ch_mn_spec d M with ⟨e2, _⟩ | ⟨e2, ⟨j, hj, f2⟩, _⟩
    · rw [e1, e2]
    · obtain ⟨i, hi, hc, _⟩ := h2 j hj (by omega)
      exact absurd (k1 i hi) hc
  · obtain ⟨j, hj, f3⟩ := h1 i hi (by omega)
    rcases ch_mn_spec d M with ⟨e2, k2⟩ | ⟨e2, ⟨j2, hj2, f2⟩, k2⟩
    · have := k2 j hj
      omega
    · have h3 := k2 j hj (by omega)
      obtain ⟨i2, hi2, hc2, hle⟩ := h2 j2 hj2 (by omega)
      have h4 := k1 i2 hi2 hc2
      omega
def ch_gp (g : Nat → Nat) (v a b : Nat) : Bool := decide (a < b) && ((g v).testBit a && ((g v).testBit b && !(g a).testBit b))
def ch_cX (g : Nat → Nat) (i : Nat) : Nat :=
  if ch_gp g (i / 49) (i / 7 % 7) (i % 7) then
    (if ch_ar g (i / 7 % 7) (i % 7) (ch_av g (i / 49) (i % 7)) ≤ 7 then ch_ar g (i / 7 % 7) (i % 7) (ch_av g (i / 49) (i % 7)) + 2 else 0) else 0
def ch_cY (g : Nat → Nat) (s : Nat) : Nat := if ch_ho g s then cd_ones s else 0
theorem ch_smallest {g : Nat → Nat} (G : ch_Good g) : ch_mn (ch_cX g) 343 = ch_mn (ch_cY g) 128 := by
  apply ch_mn_eq
  · intro i hi hc
    unfold ch_cX at hc ⊢
    cases hg : ch_gp g (i / 49) (i / 7 % 7) (i % 7) with
    | false => rw [hg, if_neg (by decide)] at hc; exact absurd rfl hc
    | true =>
      rw [hg, if_pos rfl] at hc
      rw [if_pos rfl]
      by_cases h7 : ch_ar g (i / 7 % 7) (i % 7) (ch_av g (i / 49) (i % 7)) ≤ 7
      · rw [if_pos h7]
        unfold ch_gp at hg
        rw [Bool.and_eq_true, Bool.and_eq_true, Bool.and_eq_true, decide_eq_true_iff, Bool.not_eq_true'] at hg
        obtain ⟨hab, hva, hvb, hnab⟩ := hg
        rcases ch_ar_spec g (i / 7 % 7) (i % 7) (ch_av g (i / 49) (i % 7)) with ⟨m, hm, e, hr, hmin⟩ | ⟨e, _⟩
        · obtain ⟨H, hH, hh, ho⟩ := ch_way_hole G (v := i / 49) (a := i / 7 % 7) (b := i % 7) (by omega) (by omega) (by omega) hva hvb (by omega) hnab hr hmin
          refine ⟨H, hH, ?_⟩
          unfold ch_cY
          rw [(ch_ho_iff G hH).2 hh, if_pos rfl, ho, e]
        · omega
      · rw [if_neg h7] at hc; exact absurd rfl hc
  · intro s hs hc
    unfold ch_cY at hc ⊢
    cases hh : ch_ho g s with
    | false => rw [hh, if_neg (by decide)] at hc; exact absurd rfl hc
    | true =>
      rw [if_pos rfl]
      have hH := (ch_ho_iff G hs).1 hh
      obtain ⟨v, a, b, hv, hab, hb, hva, hvb, hnab, hr⟩ := ch_hole_way G hs hH
      have h4 := hH.1
      have h7 := cd_ones_le s
      have e1 : (v * 49 + a * 7 + b) / 49 = v := by omega
      have e2 : (v * 49 + a * 7 + b) / 7 % 7 = a := by omega
      have e3 : (v * 49 + a * 7 + b) % 7 = b := by omega
      have hg : ch_gp g v a b = true := by
        unfold ch_gp
        rw [decide_eq_true hab, hva, hvb, hnab]; rfl
      have hle : ch_ar g a b (ch_av g v b) ≤ cd_ones s - 2 := by
        rcases ch_ar_spec g a b (ch_av g v b) with ⟨m, hm, e, _, hmin⟩ | ⟨_, hno⟩
        · apply Classical.byContradiction
          intro hn
          have := hmin (cd_ones s - 2) (by omega)
          rw [hr] at this
          exact nomatch this
        · have := hno (cd_ones s - 2) (by omega)
          rw [hr] at this
          exact nomatch this
      refine ⟨v * 49 + a * 7 + b, by omega, ?_⟩
      unfold ch_cX
      rw [e1, e2, e3, hg, if_pos rfl, if_pos (by omega)]
      omega
end
section
/-! the branches of cliques, and the counts over all 128 sets -/
def ch_ff (c : Nat) : Nat → Nat → Nat
  | 0, v => v
  | d + 1, v => if c.testBit v then v else ch_ff c d (v + 1)
def ch_fs (c : Nat) : Nat := ch_ff c 6 0
theorem ch_fs_spec {c : Nat} (hc : c < 128) (h : c ≠ 0) : ch_fs c < 7 ∧ c.testBit (ch_fs c) = true := by
  have h0 : ∀ c, c < 128 → c ≠ 0 → ch_fs c < 7 ∧ c.testBit (ch_fs c) = true := by decide +kernel
  exact h0 c hc h
/-- the larger of two, as the code asks it -/
def ch_mx (L n : Nat) : Nat := if n ≤ L then L else n
def ch_ex (sn : Nat → Nat) : Nat → Nat → Nat → Nat → Nat → Nat → Nat × Nat
  | 0, _, _, _, L, F => (L, F)
  | k + 1, h, c, p, L, F =>
    if c = 0 then (ch_mx L (cd_ones h), F + (decide (p = 0)).toNat)
    else
      ch_ex sn k h (cd_dif c (2 ^ ch_fs c)) (p ||| 2 ^ ch_fs c)
        (ch_ex sn k (h ||| 2 ^ ch_fs c) (c &&& sn (ch_fs c)) (p &&& sn (ch_fs c)) L F).1
        (ch_ex sn k (h ||| 2 ^ ch_fs c) (c &&& sn (ch_fs c)) (p &&& sn (ch_fs c)) L F).2
/-- what a branch knows -/
def ch_Br (sn : Nat → Nat) (h c p : Nat) : Prop :=
  h < 128 ∧ c < 128 ∧ p < 128 ∧ ch_Cl sn h ∧
  (∀ v, v < 7 → c.testBit v = true → h.testBit v = false ∧ ∀ u, u < 7 → h.testBit u = true → (sn u).testBit v = true) ∧
  (∀ v, v < 7 → p.testBit v = true → h.testBit v = false ∧ ∀ u, u < 7 → h.testBit u = true → (sn u).testBit v = true) ∧
  (∀ v, v < 7 → h.testBit v = false → (∀ u, u < 7 → h.testBit u = true → (sn u).testBit v = true) → c.testBit v = true ∨ p.testBit v = true)
theorem ch_Cl_or {sn : Nat → Nat} (G : ch_Good sn) {h v : Nat} (hv : v < 7) (hnv : h.testBit v = false) (hc : ch_Cl sn h) :
    ch_Cl sn (h ||| 2 ^ v) ↔ ∀ u, u < 7 → h.testBit u = true → (sn u).testBit v = true := by
  constructor
  · intro hh u hu h1
    refine hh u v hu hv (by rw [Nat.testBit_or, h1]; rfl) (by rw [Nat.testBit_or, cd_tpow, decide_eq_true rfl, Bool.or_true]) ?_
    intro e
    subst e
    rw [hnv] at h1
    exact nomatch h1
  · intro hh x y hx hy h1 h2 hxy
    rw [Nat.testBit_or, cd_tpow, Bool.or_eq_true, decide_eq_true_iff] at h1 h2
    rcases h1 with h1 | h1
    · rcases h2 with h2 | h2
      · exact hc x y hx hy h1 h2 hxy
      · subst h2; exact hh x hx h1
    · rcases h2 with h2 | h2
      · subst h1; exact ch_sym G hy hx (hh y hy h2)
      · exact absurd (h1.symm.trans h2) hxy
theorem ch_Br_in {sn : Nat → Nat} (G : ch_Good sn) {h c p v : Nat} (hv : v < 7) (hcv : c.testBit v = true) (B : ch_Br sn h c p) :
    ch_Br sn (h ||| 2 ^ v) (c &&& sn v) (p &&& sn v) := by
  obtain ⟨b1, b2, b3, b4, b5, b6, b7⟩ := B
  obtain ⟨hnv, hadj⟩ := b5 v hv hcv
  have hor : ∀ w, (h ||| 2 ^ v).testBit w = true ↔ (h.testBit w = true ∨ w = v) := by
    intro w
    rw [Nat.testBit_or, cd_tpow, Bool.or_eq_true, decide_eq_true_iff]
    exact ⟨fun h => h.imp id Eq.symm, fun h => h.imp id Eq.symm⟩
  have hside : ∀ q : Nat, (∀ w, w < 7 → q.testBit w = true → h.testBit w = false ∧ ∀ u, u < 7 → h.testBit u = true → (sn u).testBit w = true) →
      ∀ w, w < 7 → (q &&& sn v).testBit w = true → (h ||| 2 ^ v).testBit w = false ∧ ∀ u, u < 7 → (h ||| 2 ^ v).testBit u = true → (sn u).testBit w = true := by
    intro q hq w hw h1
    rw [Nat.testBit_and, Bool.and_eq_true] at h1
    obtain ⟨h2, h3⟩ := hq w hw h1.1
    refine ⟨?_, fun u hu h4 => ?_⟩
    · apply cd_nb
      rw [hor]
      rintro (h5 | h5)
      · rw [h2] at h5; exact nomatch h5
      · subst h5
        have := h1.2
        rw [(G w hw).2.1] at this
        exact nomatch this
    · rcases (hor u).1 h4 with h5 | h5
      · exact h3 u hu h5
      · subst h5; exact h1.2
  refine ⟨cd_or_lt b1 (cd_pow_lt hv), cd_and_lt b2, cd_and_lt b3, (ch_Cl_or G hv hnv b4).2 hadj, hside c b5, hside p b6, ?_⟩
  intro w hw h1 h2
  have h3 : h.testBit w = false := by
    apply cd_nb
    intro h
    rw [(hor w).2 (Or.inl h)] at h1
    exact nomatch h1
  have h4 : (sn v).testBit w = true := h2 v hv ((hor v).2 (Or.inr rfl))
  rw [Nat.testBit_and, Nat.testBit_and, h4, Bool.and_true, Bool.and_true]
  exact b7 w hw h3 fun u hu h5 => h2 u hu ((hor u).2 (Or.inl h5))
theorem ch_Br_out {sn : Nat → Nat} {h c p v : Nat} (hv : v < 7) (hcv : c.testBit v = true) (B : ch_Br sn h c p) :
    ch_Br sn h (cd_dif c (2 ^ v)) (p ||| 2 ^ v) := by
  obtain ⟨b1, b2, b3, b4, b5, b6, b7⟩ := B
  refine ⟨b1, cd_dif_lt b2, cd_or_lt b3 (cd_pow_lt hv), b4, ?_, ?_, ?_⟩
  · intro w hw h1
    rw [cd_tdif b2, Bool.and_eq_true] at h1
    exact b5 w hw h1.1
  · intro w hw h1
    rw [Nat.testBit_or, cd_tpow, Bool.or_eq_true, decide_eq_true_iff] at h1
    rcases h1 with h1 | h1
    · exact b6 w hw h1
    · subst h1; exact b5 v hw hcv
  · intro w hw h1 h2
    by_cases e : v = w
    · right
      rw [Nat.testBit_or, cd_tpow, decide_eq_true e, Bool.or_true]
    · rw [cd_tdif b2, Nat.testBit_or, cd_tpow, decide_eq_false e, Bool.or_false]
      rcases b7 w hw h1 h2 with h3 | h3
      · left; rw [h3]; rfl
      · exact Or.inr h3
/-- the sets of a branch -/
def ch_fam (sn : Nat → Nat) (h c H : Nat) : Bool := decide (cd_dif h H = 0) && (decide (cd_dif H (h ||| c) = 0) && ch_cq sn H)
theorem ch_fam_iff {sn : Nat → Nat} {h c H : Nat} (hh : h < 128) (hH : H < 128) : ch_fam sn h c H = true ↔
    ((∀ v, v < 7 → h.testBit v = true → H.testBit v = true) ∧ (∀ v, v < 7 → H.testBit v = true → h.testBit v = true ∨ c.testBit v = true) ∧ ch_Cl sn H) := by
  unfold ch_fam
  rw [Bool.and_eq_true, Bool.and_eq_true, decide_eq_true_iff, decide_eq_true_iff, ch_cq_iff hH, cd_zero (cd_dif_lt hh), cd_zero (cd_dif_lt hH)]
  constructor
  · intro ⟨h1, h2, h3⟩
    refine ⟨fun v hv h4 => ?_, fun v hv h4 => ?_, h3⟩
    · have := h1 v hv
      rw [cd_tdif hh, h4, Bool.true_and, Bool.not_eq_false'] at this
      exact this
    · have := h2 v hv
      rw [cd_tdif hH, h4, Bool.true_and, Bool.not_eq_false', Nat.testBit_or, Bool.or_eq_true] at this
      exact this
  · intro ⟨h1, h2, h3⟩
    refine ⟨fun v hv => ?_, fun v hv => ?_, h3⟩
    · rw [cd_tdif hh]
      cases e : h.testBit v with
      | false => rfl
      | true => rw [h1 v hv e]; rfl
    · rw [cd_tdif hH, Nat.testBit_or]
      cases e : H.testBit v with
      | false => rfl
      | true =>
        rcases h2 v hv e with h4 | h4
        · rw [h4]; rfl
        · rw [h4, Bool.or_true]; rfl
theorem ch_fam_split {sn : Nat → Nat} (G : ch_Good sn) {h c p v H : Nat} (hv : v < 7) (hcv : c.testBit v = true) (B : ch_Br sn h c p) (hH : H < 128) :
    (ch_fam sn (h ||| 2 ^ v) (c &&& sn v) H = true ↔ (ch_fam sn h c H = true ∧ H.testBit v = true)) ∧
    (ch_fam sn h (cd_dif c (2 ^ v)) H = true ↔ (ch_fam sn h c H = true ∧ H.testBit v = false)) := by
  obtain ⟨b1, b2, b3, b4, b5, b6, b7⟩ := B
  obtain ⟨hnv, hadj⟩ := b5 v hv hcv
  have hor : ∀ w, (h ||| 2 ^ v).testBit w = true ↔ (h.testBit w = true ∨ w = v) := by
    intro w
    rw [Nat.testBit_or, cd_tpow, Bool.or_eq_true, decide_eq_true_iff]
    exact ⟨fun h => h.imp id Eq.symm, fun h => h.imp id Eq.symm⟩
  rw [ch_fam_iff (cd_or_lt b1 (cd_pow_lt hv)) hH, ch_fam_iff b1 hH, ch_fam_iff b1 hH]
  constructor
  · constructor
    · intro ⟨h1, h2, h3⟩
      refine ⟨⟨fun w hw h4 => h1 w hw ((hor w).2 (Or.inl h4)), fun w hw h4 => ?_, h3⟩, h1 v hv ((hor v).2 (Or.inr rfl))⟩
      rcases h2 w hw h4 with h5 | h5
      · rcases (hor w).1 h5 with h6 | h6
        · exact Or.inl h6
        · subst h6; exact Or.inr hcv
      · rw [Nat.testBit_and, Bool.and_eq_true] at h5
        exact Or.inr h5.1
    · intro ⟨⟨h1, h2, h3⟩, h4⟩
      refine ⟨fun w hw h5 => ?_, fun w hw h5 => ?_, h3⟩
      · rcases (hor w).1 h5 with h6 | h6
        · exact h1 w hw h6
        · subst h6; exact h4
      · by_cases e : w = v
        · exact Or.inl ((hor w).2 (Or.inr e))
        · rcases h2 w hw h5 with h6 | h6
          · exact Or.inl ((hor w).2 (Or.inl h6))
          · right
            rw [Nat.testBit_and, h6, h3 v w hv hw h4 h5 (fun ee => e ee.symm)]; rfl
  · constructor
    · intro ⟨h1, h2, h3⟩
      refine ⟨⟨h1, fun w hw h4 => ?_, h3⟩, ?_⟩
      · rcases h2 w hw h4 with h5 | h5
        · exact Or.inl h5
        · rw [cd_tdif b2, Bool.and_eq_true] at h5
          exact Or.inr h5.1
      · apply cd_nb
        intro h4
        rcases h2 v hv h4 with h5 | h5
        · rw [hnv] at h5; exact nomatch h5
        · rw [cd_tdif b2, cd_tpow, decide_eq_true rfl, hcv] at h5
          exact nomatch h5
    · intro ⟨⟨h1, h2, h3⟩, h4⟩
      refine ⟨h1, fun w hw h5 => ?_, h3⟩
      rcases h2 w hw h5 with h6 | h6
      · exact Or.inl h6
      · right
        rw [cd_tdif b2, h6, cd_tpow, decide_eq_false]; rfl
        intro e
        subst e
        rw [h4] at h5
        exact nomatch h5
/-- no vertex can be added -/
def ch_fv (sn : Nat → Nat) (H v : Nat) : Bool := H.testBit v || !ch_cq sn (H ||| 2 ^ v)
def ch_full (sn : Nat → Nat) (H : Nat) : Bool := cd_al (ch_fv sn H) 7 0
theorem ch_mx_ge (L n : Nat) : L ≤ ch_mx L n ∧ n ≤ ch_mx L n ∧ (ch_mx L n = L ∨ ch_mx L n = n) := by
  unfold ch_mx
  split <;> omega
/-- what the branches give -/
theorem ch_ex_spec {sn : Nat → Nat} (G : ch_Good sn) : ∀ k h c p L F, cd_ones c < k → ch_Br sn h c p →
    (L ≤ (ch_ex sn k h c p L F).1 ∧ (∀ H, H < 128 → ch_fam sn h c H = true → cd_ones H ≤ (ch_ex sn k h c p L F).1) ∧
      ((ch_ex sn k h c p L F).1 = L ∨ ∃ H, H < 128 ∧ ch_fam sn h c H = true ∧ cd_ones H = (ch_ex sn k h c p L F).1)) ∧
    (ch_ex sn k h c p L F).2 = F + cd_cnt (fun H => ch_fam sn h c H && ch_full sn H) 128 := by
  intro k
  induction k with
  | zero => intro h c p L F hk; exact absurd hk (by omega)
  | succ k ih =>
    intro h c p L F hk B
    by_cases hc0 : c = 0
    · have e : ch_ex sn (k + 1) h c p L F = (ch_mx L (cd_ones h), F + (decide (p = 0)).toNat) := by
        show (if c = 0 then _ else _) = _
        rw [if_pos hc0]
      rw [e]
      subst hc0
      obtain ⟨b1, b2, b3, b4, b5, b6, b7⟩ := B
      obtain ⟨m1, m2, m3⟩ := ch_mx_ge L (cd_ones h)
      have hfam : ∀ H, H < 128 → (ch_fam sn h 0 H = true ↔ H = h) := by
        intro H hH
        rw [ch_fam_iff b1 hH]
        constructor
        · intro ⟨h1, h2, _⟩
          apply cd_ext hH b1
          intro v hv
          rw [Bool.eq_iff_iff]
          refine ⟨fun h3 => ?_, h1 v hv⟩
          rcases h2 v hv h3 with h4 | h4
          · exact h4
          · rw [Nat.zero_testBit] at h4; exact nomatch h4
        · intro e
          subst e
          exact ⟨fun _ _ z => z, fun _ _ z => Or.inl z, b4⟩
      refine ⟨⟨m1, fun H hH hf => ?_, ?_⟩, ?_⟩
      · rw [(hfam H hH).1 hf]; exact m2
      · rcases m3 with m3 | m3
        · exact Or.inl m3
        · exact Or.inr ⟨h, b1, (hfam h b1).2 rfl, m3.symm⟩
      · show F + (decide (p = 0)).toNat = F + _
        have hfull : ch_full sn h = decide (p = 0) := by
          rw [Bool.eq_iff_iff, decide_eq_true_iff, cd_zero b3]
          unfold ch_full
          rw [cd_al0]
          constructor
          · intro h1 v hv
            apply cd_nb
            intro h2
            obtain ⟨h3, h4⟩ := b6 v hv h2
            have h5 := h1 v hv
            unfold ch_fv at h5
            rw [h3, Bool.false_or, Bool.not_eq_true', (ch_cq_iff (cd_or_lt b1 (cd_pow_lt hv))).2 ((ch_Cl_or G hv h3 b4).2 h4)] at h5
            exact nomatch h5
          · intro h1 v hv
            unfold ch_fv
            cases e : h.testBit v with
            | true => rfl
            | false =>
              rw [Bool.false_or, Bool.not_eq_true']
              apply cd_nb
              rw [ch_cq_iff (cd_or_lt b1 (cd_pow_lt hv)), ch_Cl_or G hv e b4]
              intro h2
              rcases b7 v hv e h2 with h3 | h3
              · rw [Nat.zero_testBit] at h3; exact nomatch h3
              · rw [h1 v hv] at h3; exact nomatch h3
        rw [← hfull]
        cases ef : ch_full sn h with
        | true =>
          rw [cd_cnt_congr (q := fun H => decide (H = h)) fun H hH => ?_, cd_cnt_one b1]; rfl
          show (ch_fam sn h 0 H && ch_full sn H) = decide (H = h)
          by_cases e : H = h
          · rw [(hfam H hH).2 e, decide_eq_true e, e, ef]; rfl
          · rw [decide_eq_false e, cd_nb (fun z => e ((hfam H hH).1 z)), Bool.false_and]
        | false =>
          rw [cd_cnt_none fun H hH => ?_]; rfl
          show (ch_fam sn h 0 H && ch_full sn H) = false
          by_cases e : H = h
          · rw [e, ef, Bool.and_false]
          · rw [cd_nb (fun z => e ((hfam H hH).1 z)), Bool.false_and]
    · obtain ⟨hv, hcv⟩ := ch_fs_spec B.2.1 hc0
      have hlt1 : cd_ones (c &&& sn (ch_fs c)) < cd_ones c := by
        apply cd_ones_lt hv _ hcv
        · intro w _ h1
          rw [Nat.testBit_and, Bool.and_eq_true] at h1
          exact h1.1
        · rw [Nat.testBit_and, (G _ hv).2.1, Bool.and_false]
      have hlt2 : cd_ones (cd_dif c (2 ^ ch_fs c)) < cd_ones c := by
        have := cd_ones_dif B.2.1 hv hcv
        omega
      have hs := fun H hH => ch_fam_split G (H := H) hv hcv B hH
      obtain ⟨⟨i1, i2, i3⟩, i4⟩ := ih (h ||| 2 ^ ch_fs c) (c &&& sn (ch_fs c)) (p &&& sn (ch_fs c)) L F (by omega) (ch_Br_in G hv hcv B)
      have e : ch_ex sn (k + 1) h c p L F = ch_ex sn k h (cd_dif c (2 ^ ch_fs c)) (p ||| 2 ^ ch_fs c)
        (ch_ex sn k (h ||| 2 ^ ch_fs c) (c &&& sn (ch_fs c)) (p &&& sn (ch_fs c)) L F).1
        (ch_ex sn k (h ||| 2 ^ ch_fs c) (c &&& sn (ch_fs c)) (p &&& sn (ch_fs c)) L F).2 := by
        show (if c = 0 then _ else _) = _
        rw [if_neg hc0]
      rw [e]
      generalize (ch_ex sn k (h ||| 2 ^ ch_fs c) (c &&& sn (ch_fs c)) (p &&& sn (ch_fs c)) L F).1 = L1 at *
      generalize (ch_ex sn k (h ||| 2 ^ ch_fs c) (c &&& sn (ch_fs c)) (p &&& sn (ch_fs c)) L F).2 = F1 at *
      obtain ⟨⟨j1, j2, j3⟩, j4⟩ := ih h (cd_dif c (2 ^ ch_fs c)) (p ||| 2 ^ ch_fs c) L1 F1 (by omega) (ch_Br_out hv hcv B)
      generalize (ch_ex sn k h (cd_dif c (2 ^ ch_fs c)) (p ||| 2 ^ ch_fs c) L1 F1).1 = L2 at *
      generalize (ch_ex sn k h (cd_dif c (2 ^ ch_fs c)) (p ||| 2 ^ ch_fs c) L1 F1).2 = F2 at *
      refine ⟨⟨by omega, fun H hH hf => ?_, ?_⟩, ?_⟩
      · cases e2 : H.testBit (ch_fs c) with
        | true =>
          have := i2 H hH ((hs H hH).1.2 ⟨hf, e2⟩)
          omega
        | false => exact j2 H hH ((hs H hH).2.2 ⟨hf, e2⟩)
      · rcases j3 with j3 | ⟨H, hH, j3, j5⟩
        · rcases i3 with i3 | ⟨H, hH, i3, i5⟩
          · left; omega
          · exact Or.inr ⟨H, hH, ((hs H hH).1.1 i3).1, by omega⟩
        · exact Or.inr ⟨H, hH, ((hs H hH).2.1 j3).1, j5⟩
      · rw [j4, i4, Nat.add_assoc, Nat.add_left_cancel_iff]
        symm
        apply cd_cnt_split
        intro H hH
        show (ch_fam sn h c H && ch_full sn H).toNat = (ch_fam sn (h ||| 2 ^ ch_fs c) (c &&& sn (ch_fs c)) H && ch_full sn H).toNat + (ch_fam sn h (cd_dif c (2 ^ ch_fs c)) H && ch_full sn H).toNat
        obtain ⟨s1, s2⟩ := hs H hH
        have n1 : ch_fam sn h c H = false ∨ H.testBit (ch_fs c) = false → ch_fam sn (h ||| 2 ^ ch_fs c) (c &&& sn (ch_fs c)) H = false := fun hn => cd_nb fun z => by
          obtain ⟨z1, z2⟩ := s1.1 z
          rcases hn with hn | hn
          · rw [z1] at hn; exact nomatch hn
          · rw [z2] at hn; exact nomatch hn
        have n2 : ch_fam sn h c H = false ∨ H.testBit (ch_fs c) = true → ch_fam sn h (cd_dif c (2 ^ ch_fs c)) H = false := fun hn => cd_nb fun z => by
          obtain ⟨z1, z2⟩ := s2.1 z
          rcases hn with hn | hn
          · rw [z1] at hn; exact nomatch hn
          · rw [z2] at hn; exact nomatch hn
        cases e1 : ch_fam sn h c H with
        | false =>
          rw [n1 (Or.inl e1), n2 (Or.inl e1)]; rfl
        | true =>
          cases e2 : H.testBit (ch_fs c) with
          | true =>
            rw [s1.2 ⟨e1, e2⟩, n2 (Or.inr e2)]
            cases ch_full sn H <;> rfl
          | false =>
            rw [s2.2 ⟨e1, e2⟩, n1 (Or.inr e2)]
            cases ch_full sn H <;> rfl
/-! from the start, and the reference's counts -/
theorem ch_127 : ∀ v, v < 7 → (127 : Nat).testBit v = true := by decide
theorem ch_Br_0 (sn : Nat → Nat) : ch_Br sn 0 127 0 := by
  refine ⟨by decide, by decide, by decide, ?_, ?_, ?_, ?_⟩
  · intro v w _ _ h
    rw [Nat.zero_testBit] at h
    exact nomatch h
  · intro v _ _
    refine ⟨Nat.zero_testBit v, fun u _ h => ?_⟩
    rw [Nat.zero_testBit] at h
    exact nomatch h
  · intro v _ h
    rw [Nat.zero_testBit] at h
    exact nomatch h
  · intro v hv _ _
    exact Or.inl (ch_127 v hv)
theorem ch_fam_0 {sn : Nat → Nat} {H : Nat} (hH : H < 128) : ch_fam sn 0 127 H = ch_cq sn H := by
  rw [Bool.eq_iff_iff, ch_fam_iff (by decide) hH, ch_cq_iff hH]
  constructor
  · intro h; exact h.2.2
  · intro h
    refine ⟨fun v _ h1 => ?_, fun v hv _ => Or.inr (ch_127 v hv), h⟩
    rw [Nat.zero_testBit] at h1
    exact nomatch h1
def ch_lg (q : Nat → Bool) (s m : Nat) : Nat := if q s then ch_mx m (cd_ones s) else m
def ch_large (q : Nat → Bool) : Nat := cd_fo (ch_lg q) 128 0 0
theorem ch_large_spec (q : Nat → Bool) : (∀ H, H < 128 → q H = true → cd_ones H ≤ ch_large q) ∧
    (ch_large q = 0 ∨ ∃ H, H < 128 ∧ q H = true ∧ cd_ones H = ch_large q) := by
  unfold ch_large
  apply cd_foI (ch_lg q) (fun i m => (∀ H, H < i → q H = true → cd_ones H ≤ m) ∧ (m = 0 ∨ ∃ H, H < i ∧ q H = true ∧ cd_ones H = m)) 128
  · intro i m hi ⟨h1, h2⟩
    unfold ch_lg
    obtain ⟨m1, m2, m3⟩ := ch_mx_ge m (cd_ones i)
    cases e : q i with
    | true =>
      rw [if_pos rfl]
      refine ⟨fun H hH hq => ?_, ?_⟩
      · by_cases eh : H = i
        · subst eh; exact m2
        · have := h1 H (by omega) hq
          omega
      · rcases m3 with m3 | m3
        · rw [m3]
          rcases h2 with h2 | ⟨H, hH, h3, h4⟩
          · exact Or.inl h2
          · exact Or.inr ⟨H, by omega, h3, h4⟩
        · exact Or.inr ⟨i, by omega, e, m3.symm⟩
    | false =>
      rw [if_neg (by decide)]
      refine ⟨fun H hH hq => ?_, ?_⟩
      · by_cases eh : H = i
        · subst eh; rw [e] at hq; exact nomatch hq
        · exact h1 H (by omega) hq
      · rcases h2 with h2 | ⟨H, hH, h3, h4⟩
        · exact Or.inl h2
        · exact Or.inr ⟨H, by omega, h3, h4⟩
  · rfl
  · exact ⟨fun H hH => absurd hH (by omega), Or.inl rfl⟩
theorem ch_large_eq {sn : Nat → Nat} (G : ch_Good sn) {q : Nat → Bool} (hq : ∀ s, s < 128 → q s = ch_cq sn s) :
    (ch_ex sn 8 0 127 0 0 0).1 = ch_large q := by
  obtain ⟨⟨_, h1, h2⟩, _⟩ := ch_ex_spec G 8 0 127 0 0 0 (by decide) (ch_Br_0 sn)
  obtain ⟨h3, h4⟩ := ch_large_spec q
  apply Nat.le_antisymm
  · rcases h2 with h2 | ⟨H, hH, h5, h6⟩
    · omega
    · rw [← h6]
      apply h3 H hH
      rw [hq H hH, ← ch_fam_0 hH]; exact h5
  · rcases h4 with h4 | ⟨H, hH, h5, h6⟩
    · omega
    · rw [← h6]
      apply h1 H hH
      rw [ch_fam_0 hH, ← hq H hH]; exact h5
theorem ch_full_eq {sn : Nat → Nat} (G : ch_Good sn) : (ch_ex sn 8 0 127 0 0 0).2 = cd_cnt (fun H => ch_cq sn H && ch_full sn H) 128 := by
  obtain ⟨_, h1⟩ := ch_ex_spec G 8 0 127 0 0 0 (by decide) (ch_Br_0 sn)
  rw [h1, Nat.zero_add]
  apply cd_cnt_congr
  intro H hH
  show (ch_fam sn 0 127 H && ch_full sn H) = (ch_cq sn H && ch_full sn H)
  rw [ch_fam_0 hH]
theorem ch_ex_le (sn : Nat → Nat) : ∀ k h c p L F, L ≤ 7 → F ≤ F + 0 → (ch_ex sn k h c p L F).1 ≤ 7 := by
  intro k
  induction k with
  | zero => intro h c p L F hL _; exact hL
  | succ k ih =>
    intro h c p L F hL _
    show (if c = 0 then _ else _ : Nat × Nat).1 ≤ 7
    split
    · show ch_mx L (cd_ones h) ≤ 7
      have := cd_ones_le h
      unfold ch_mx
      split <;> omega
    · exact ih _ _ _ _ _ (ih _ _ _ _ _ hL (by omega)) (by omega)
/-! sets without joined vertices: cliques of the graph of the others -/
def ch_cg (g : Nat → Nat) (v : Nat) : Nat := cd_dif (cd_dif 127 (g v)) (2 ^ v)
theorem ch_cg_mem {g : Nat → Nat} {v w : Nat} : (ch_cg g v).testBit w = true ↔ (w < 7 ∧ (g v).testBit w = false ∧ v ≠ w) := by
  unfold ch_cg
  rw [cd_tdif (cd_dif_lt (by decide)), cd_tdif (by decide), cd_tpow, Bool.and_eq_true, Bool.and_eq_true, Bool.not_eq_true', Bool.not_eq_true', decide_eq_false_iff_not]
  constructor
  · intro ⟨⟨h1, h2⟩, h3⟩
    exact ⟨cd_lt7 (by decide) h1, h2, h3⟩
  · intro ⟨h1, h2, h3⟩
    exact ⟨⟨ch_127 w h1, h2⟩, h3⟩
theorem ch_cg_good {g : Nat → Nat} (G : ch_Good g) : ch_Good (ch_cg g) := by
  intro v hv
  refine ⟨cd_dif_lt (cd_dif_lt (by decide)), ?_, fun w hw => ?_⟩
  · apply cd_nb
    rw [ch_cg_mem]
    intro h
    exact h.2.2 rfl
  · rw [Bool.eq_iff_iff, ch_cg_mem, ch_cg_mem, (G v hv).2.2 w hw]
    exact ⟨fun h => ⟨hv, h.2.1, fun e => h.2.2 e.symm⟩, fun h => ⟨hw, h.2.1, fun e => h.2.2 e.symm⟩⟩
def ch_apo (g : Nat → Nat) (s v : Nat) : Bool := !s.testBit v || decide (s &&& g v = 0)
def ch_ap (g : Nat → Nat) (s : Nat) : Bool := cd_al (ch_apo g s) 7 0
theorem ch_ap_iff {g : Nat → Nat} {s : Nat} (hs : s < 128) : ch_ap g s = true ↔
    ∀ v w, v < 7 → w < 7 → s.testBit v = true → s.testBit w = true → (g v).testBit w = false := by
  unfold ch_ap
  rw [cd_al0]
  constructor
  · intro h v w hv hw h1 h2
    have h3 := h v hv
    unfold ch_apo at h3
    rw [h1, Bool.not_true, Bool.false_or, decide_eq_true_iff, cd_zero (cd_and_lt hs)] at h3
    have h4 := h3 w hw
    rw [Nat.testBit_and, h2, Bool.true_and] at h4
    exact h4
  · intro h v hv
    unfold ch_apo
    cases e : s.testBit v with
    | false => rfl
    | true =>
      rw [Bool.not_true, Bool.false_or, decide_eq_true_iff, cd_zero (cd_and_lt hs)]
      intro w hw
      rw [Nat.testBit_and]
      cases e2 : s.testBit w with
      | false => rfl
      | true => rw [h v w hv hw e e2]; rfl
theorem ch_ap_eq {g : Nat → Nat} (G : ch_Good g) {s : Nat} (hs : s < 128) : ch_ap g s = ch_cq (ch_cg g) s := by
  rw [Bool.eq_iff_iff, ch_ap_iff hs, ch_cq_iff hs]
  constructor
  · intro h v w hv hw h1 h2 h3
    exact ch_cg_mem.2 ⟨hw, h v w hv hw h1 h2, h3⟩
  · intro h v w hv hw h1 h2
    by_cases e : v = w
    · subst e; exact (G v hv).2.1
    · exact (ch_cg_mem.1 (h v w hv hw h1 h2 e)).2.1
end
section
/-! colourings: the least number of colours -/
def co_Col (g : Nat → Nat) (s k : Nat) (c : Nat → Nat) : Prop :=
  (∀ v, v < 7 → s.testBit v = true → c v < k) ∧
  ∀ v w, v < 7 → w < 7 → s.testBit v = true → s.testBit w = true → (g v).testBit w = true → c v ≠ c w
def co_Able (g : Nat → Nat) (s k : Nat) : Prop := ∃ c, co_Col g s k c
/-- t is the least number of colours for s -/
def co_Chi (g : Nat → Nat) (s t : Nat) : Prop := ∀ k, co_Able g s k ↔ t ≤ k
theorem co_Chi_eq {g : Nat → Nat} {s t t' : Nat} (h : co_Chi g s t) (h' : co_Chi g s t') : t = t' :=
  Nat.le_antisymm ((h t').1 ((h' t').2 (Nat.le_refl _))) ((h' t).1 ((h t).2 (Nat.le_refl _)))
theorem co_mono {g : Nat → Nat} {s k k' : Nat} (hk : k ≤ k') (h : co_Able g s k) : co_Able g s k' := by
  obtain ⟨c, h1, h2⟩ := h
  exact ⟨c, fun v hv hs => Nat.lt_of_lt_of_le (h1 v hv hs) hk, h2⟩
theorem co_7 {g : Nat → Nat} (G : ch_Good g) (s : Nat) : co_Able g s 7 := by
  refine ⟨fun v => v, fun v hv _ => hv, fun v w hv _ _ _ h e => ?_⟩
  have e' : v = w := e
  subst e'
  rw [(G v hv).2.1] at h
  exact nomatch h
theorem co_0 (g : Nat → Nat) (k : Nat) : co_Able g 0 k := by
  refine ⟨fun _ => 0, fun v _ h => ?_, fun v w _ _ h => ?_⟩
  · rw [Nat.zero_testBit] at h; exact nomatch h
  · rw [Nat.zero_testBit] at h; exact nomatch h
/-- the mask of a test -/
def cd_pm (p : Nat → Bool) : Nat → Nat
  | 0 => 0
  | n + 1 => cd_pm p n ||| (if p n then 2 ^ n else 0)
theorem cd_pm_mem (p : Nat → Bool) : ∀ n x, (cd_pm p n).testBit x = true ↔ (x < n ∧ p x = true) := by
  intro n
  induction n with
  | zero =>
    intro x
    show (0 : Nat).testBit x = true ↔ _
    rw [Nat.zero_testBit]
    exact ⟨(fun h => nomatch h), fun h => absurd h.1 (by omega)⟩
  | succ n ih =>
    intro x
    show (cd_pm p n ||| (if p n then 2 ^ n else 0)).testBit x = true ↔ _
    rw [Nat.testBit_or, Bool.or_eq_true, ih]
    cases e : p n with
    | true =>
      rw [if_pos rfl, cd_tpow, decide_eq_true_iff]
      constructor
      · rintro (h | h)
        · exact ⟨by omega, h.2⟩
        · subst h; exact ⟨by omega, e⟩
      · intro h
        by_cases ex : n = x
        · exact Or.inr ex
        · exact Or.inl ⟨by omega, h.2⟩
    | false =>
      rw [if_neg (by decide), Nat.zero_testBit]
      constructor
      · rintro (h | h)
        · exact ⟨by omega, h.2⟩
        · exact nomatch h
      · intro h
        by_cases ex : x = n
        · subst ex; rw [e] at h; exact nomatch h.2
        · exact Or.inl ⟨by omega, h.2⟩
theorem cd_pm_lt (p : Nat → Bool) : cd_pm p 7 < 128 := by
  apply Nat.lt_pow_two_of_testBit (n := 7)
  intro i hi
  apply cd_nb
  rw [cd_pm_mem]
  intro h
  omega
/-- a part without joined vertices takes one colour more -/
theorem co_add {g : Nat → Nat} {s p k : Nat} (hs : s < 128) (hp : p < 128) (hap : ch_ap g p = true) (h : co_Able g (cd_dif s p) k) : co_Able g s (k + 1) := by
  obtain ⟨c, h1, h2⟩ := h
  rw [ch_ap_iff hp] at hap
  have hm : ∀ v, s.testBit v = true → p.testBit v = false → (cd_dif s p).testBit v = true := by
    intro v h3 h4
    rw [cd_tdif hs, h3, h4]; rfl
  refine ⟨fun v => if p.testBit v then k else c v, fun v hv hsv => ?_, fun v w hv hw hsv hsw hvw => ?_⟩
  · show (if p.testBit v then k else c v) < k + 1
    cases e : p.testBit v with
    | true => rw [if_pos rfl]; omega
    | false =>
      rw [if_neg (by decide)]
      have := h1 v hv (hm v hsv e)
      omega
  · show (if p.testBit v then k else c v) ≠ (if p.testBit w then k else c w)
    cases e : p.testBit v with
    | true =>
      cases e2 : p.testBit w with
      | true =>
        rw [hap v w hv hw e e2] at hvw
        exact nomatch hvw
      | false =>
        rw [if_pos rfl, if_neg (by decide)]
        have := h1 w hw (hm w hsw e2)
        omega
    | false =>
      cases e2 : p.testBit w with
      | true =>
        rw [if_pos rfl, if_neg (by decide)]
        have := h1 v hv (hm v hsv e)
        omega
      | false =>
        rw [if_neg (by decide), if_neg (by decide)]
        exact h2 v w hv hw (hm v hsv e) (hm w hsw e2) hvw
/-- a colouring has a part that is a last colour -/
theorem co_least {g : Nat → Nat} {s t : Nat} (hs : s < 128) (h0 : s ≠ 0) (T : Nat → Nat)
    (hT : ∀ p, p < 128 → p ≠ 0 → (∀ v, v < 7 → p.testBit v = true → s.testBit v = true) → co_Chi g (cd_dif s p) (T p))
    (ht : ∀ p, p < 128 → p ≠ 0 → (∀ v, v < 7 → p.testBit v = true → s.testBit v = true) → ch_ap g p = true → t ≤ T p + 1) :
    ∀ k, co_Able g s k → t ≤ k := by
  intro k
  induction k with
  | zero =>
    intro ⟨c, h1, _⟩
    obtain ⟨v, hv, h2⟩ := cd_nonzero hs h0
    exact absurd (h1 v hv h2) (by omega)
  | succ k ih =>
    intro ⟨c, h1, h2⟩
    have hm : ∀ v, (cd_pm (fun v => s.testBit v && decide (c v = k)) 7).testBit v = true ↔ (v < 7 ∧ s.testBit v = true ∧ c v = k) := by
      intro v
      rw [cd_pm_mem]
      show (v < 7 ∧ (s.testBit v && decide (c v = k)) = true) ↔ _
      rw [Bool.and_eq_true, decide_eq_true_iff]
    have hplt := cd_pm_lt (fun v => s.testBit v && decide (c v = k))
    generalize cd_pm (fun v => s.testBit v && decide (c v = k)) 7 = p at hm hplt
    by_cases hp0 : p = 0
    · have : co_Able g s k := by
        refine ⟨c, fun v hv hsv => ?_, h2⟩
        have h3 := h1 v hv hsv
        have h4 : c v ≠ k := fun e => by
          have := (hm v).2 ⟨hv, hsv, e⟩
          rw [hp0, Nat.zero_testBit] at this
          exact nomatch this
        omega
      have := ih this
      omega
    · have hsub : ∀ v, v < 7 → p.testBit v = true → s.testBit v = true := fun v _ h => ((hm v).1 h).2.1
      have hap : ch_ap g p = true := by
        rw [ch_ap_iff hplt]
        intro v w hv hw h3 h4
        obtain ⟨_, h5, h6⟩ := (hm v).1 h3
        obtain ⟨_, h7, h8⟩ := (hm w).1 h4
        apply cd_nb
        intro h9
        exact h2 v w hv hw h5 h7 h9 (h6.trans h8.symm)
      have h3 := ht p hplt hp0 hsub hap
      have h4 : co_Able g (cd_dif s p) k := by
        refine ⟨c, fun v hv hsv => ?_, fun v w hv hw h5 h6 h7 => ?_⟩
        · rw [cd_tdif hs, Bool.and_eq_true, Bool.not_eq_true'] at hsv
          have h5 := h1 v hv hsv.1
          have h6 : c v ≠ k := fun e => by
            have := (hm v).2 ⟨hv, hsv.1, e⟩
            rw [hsv.2] at this
            exact nomatch this
          omega
        · rw [cd_tdif hs, Bool.and_eq_true] at h5 h6
          exact h2 v w hv hw h5.1 h6.1 h7
      have h5 := (hT p hplt hp0 hsub k).1 h4
      omega
/-! a clique's vertices have different colours -/
theorem co_clique {g : Nat → Nat} {H k : Nat} (hH : H < 128) (hc : ch_cq g H = true) (h : co_Able g 127 k) : cd_ones H ≤ k := by
  obtain ⟨c, h1, h2⟩ := h
  rw [ch_cq_iff hH] at hc
  have h3 := cd_inj (p := fun v => H.testBit v) (f := c) (m := k) 7 (fun _ => true) (fun v hv _ => ⟨h1 v hv (ch_127 v hv), rfl⟩) (fun v w hv hw h4 h5 e => by
    apply Classical.byContradiction
    intro hn
    exact h2 v w hv hw (ch_127 v hv) (ch_127 w hw) (hc v w hv hw h4 h5 hn) e)
  rw [cd_cnt_all (p := fun _ => true) fun _ _ => rfl] at h3
  exact h3
/-- an easy vertex can be coloured last -/
theorem co_easy {g : Nat → Nat} (G : ch_Good g) {w v s : Nat} (hs : s < 128) (hv : v < 7) (hsv : s.testBit v = true)
    (hw : ∀ H, H < 128 → ch_cq g H = true → cd_ones H ≤ w) (hez : ch_ez g v s = true) (h : co_Able g (cd_dif s (2 ^ v)) w) : co_Able g s w := by
  obtain ⟨c, h1, h2⟩ := h
  have hQ : g v &&& s < 128 := cd_and_lt (G v hv).1
  have hcl := (ch_cq_iff hQ).1 hez
  have hvQ : (g v &&& s).testBit v = false := by rw [Nat.testBit_and, (G v hv).2.1]; rfl
  have hones : cd_ones (g v &&& s) + 1 ≤ w := by
    rw [← cd_ones_or hv hvQ]
    apply hw _ (cd_or_lt hQ (cd_pow_lt hv))
    rw [ch_cq_iff (cd_or_lt hQ (cd_pow_lt hv)), ch_Cl_or G hv hvQ hcl]
    intro u hu h3
    rw [Nat.testBit_and, Bool.and_eq_true] at h3
    exact ch_sym G hv hu h3.1
  obtain ⟨e, he, hfree⟩ : ∃ e, e < w ∧ ∀ u, u < 7 → (g v &&& s).testBit u = true → c u ≠ e := by
    apply Classical.byContradiction
    intro hn
    have hall : ∀ e, e < w → ∃ u, u < 7 ∧ (g v &&& s).testBit u = true ∧ c u = e := by
      intro e he
      apply Classical.byContradiction
      intro hn2
      exact hn ⟨e, he, fun u hu h3 h4 => hn2 ⟨u, hu, h3, h4⟩⟩
    have hch : ∃ f : Nat → Nat, ∀ e, e < w → f e < 7 ∧ (g v &&& s).testBit (f e) = true ∧ c (f e) = e := by
      refine ⟨fun e => if he : e < w then Classical.choose (hall e he) else 0, fun e he => ?_⟩
      have e1 : (fun e => if he : e < w then Classical.choose (hall e he) else 0) e = Classical.choose (hall e he) := dif_pos he
      rw [e1]
      exact Classical.choose_spec (hall e he)
    obtain ⟨f, hf⟩ := hch
    have h3 := cd_inj (p := fun _ => true) (f := f) (m := 7) w (fun u => (g v &&& s).testBit u) (fun e he _ => ⟨(hf e he).1, (hf e he).2.1⟩) (fun i j hi hj _ _ ee => by
      rw [← (hf i hi).2.2, ← (hf j hj).2.2, ee])
    rw [cd_cnt_all (p := fun _ => true) fun _ _ => rfl] at h3
    have h4 : w ≤ cd_ones (g v &&& s) := h3
    omega
  have hm : ∀ u, s.testBit u = true → u ≠ v → (cd_dif s (2 ^ v)).testBit u = true := by
    intro u h3 h4
    rw [cd_tdif hs, h3, cd_tpow, decide_eq_false (fun ee => h4 ee.symm)]; rfl
  have hfr : ∀ u, u < 7 → s.testBit u = true → (g v).testBit u = true → c u ≠ e := fun u hu h3 h4 =>
    hfree u hu (by rw [Nat.testBit_and, h3, h4]; rfl)
  refine ⟨fun u => if u = v then e else c u, fun u hu hsu => ?_, fun x y hx hy hsx hsy hxy => ?_⟩
  · show (if u = v then e else c u) < w
    by_cases eu : u = v
    · rw [if_pos eu]; exact he
    · rw [if_neg eu]; exact h1 u hu (hm u hsu eu)
  · show (if x = v then e else c x) ≠ (if y = v then e else c y)
    by_cases ex : x = v
    · by_cases ey : y = v
      · rw [ex, ey, (G v hv).2.1] at hxy
        exact nomatch hxy
      · rw [if_pos ex, if_neg ey]
        subst ex
        exact (hfr y hy hsy hxy).symm
    · by_cases ey : y = v
      · rw [if_neg ex, if_pos ey]
        subst ey
        exact hfr x hx hsx (ch_sym G hx hy hxy)
      · rw [if_neg ex, if_neg ey]
        exact h2 x y hx hy (hm x hsx ex) (hm y hsy ey) hxy
theorem co_back {g : Nat → Nat} (G : ch_Good g) {w : Nat} (hw : ∀ H, H < 128 → ch_cq g H = true → cd_ones H ≤ w) : ∀ d i s, i + d = 7 → s < 128 →
    co_Able g (cd_fo (ch_cs g) d i s) w → co_Able g s w := by
  intro d
  induction d with
  | zero => intro i s _ _ h; exact h
  | succ d ih =>
    intro i s hi hs h
    have h1 := ih (i + 1) (ch_cs g i s) (by omega) (ch_cs_lt hs) h
    unfold ch_cs at h1
    split at h1
    · rename_i hc
      obtain ⟨h2, h3⟩ := Bool.and_eq_true_iff.mp hc
      exact co_easy G hs (by omega) h2 hw h3 h1
    · exact h1
theorem co_back_it {g : Nat → Nat} (G : ch_Good g) {w : Nat} (hw : ∀ H, H < 128 → ch_cq g H = true → cd_ones H ≤ w) : ∀ k s, s < 128 →
    co_Able g (cd_it (ch_sweep g) k s) w → co_Able g s w := by
  intro k
  induction k with
  | zero => intro s _ h; exact h
  | succ k ih =>
    intro s hs h
    exact ih s hs (co_back G hw 7 0 _ rfl (cd_itI (ch_sweep g) (fun s => s < 128) (fun _ h => ch_sweep_lt h) k s hs) h)
/-- a neat graph needs no more colours than its largest clique has vertices -/
theorem co_neat {g : Nat → Nat} (G : ch_Good g) (h0 : ch_core g = 0) : co_Chi g 127 (ch_large (ch_cq g)) := by
  obtain ⟨h1, h2⟩ := ch_large_spec (ch_cq g)
  intro k
  constructor
  · intro h
    rcases h2 with h2 | ⟨H, hH, h3, h4⟩
    · omega
    · rw [← h4]; exact co_clique hH h3 h
  · intro h
    apply co_mono h
    apply co_back_it G h1 7 127 (by decide)
    have e : cd_it (ch_sweep g) 7 127 = 0 := h0
    rw [e]
    exact co_0 g _
/-- the search from the largest clique on -/
theorem co_search {g : Nat → Nat} (G : ch_Good g) {n : Nat} (hn : n = 7 ∨ co_Able g 127 n) (hlo : ∀ j, ch_large (ch_cq g) ≤ j → j < n → ¬ co_Able g 127 j) : co_Chi g 127 n := by
  obtain ⟨_, h2⟩ := ch_large_spec (ch_cq g)
  intro k
  constructor
  · intro h
    have hk : ch_large (ch_cq g) ≤ k := by
      rcases h2 with h2 | ⟨H, hH, h3, h4⟩
      · omega
      · rw [← h4]; exact co_clique hH h3 h
    apply Classical.byContradiction
    intro hnk
    exact hlo k hk (by omega) h
  · intro h
    apply co_mono h
    rcases hn with hn | hn
    · rw [hn]; exact co_7 G 127
    · exact hn
/-! the search for a colouring with n colours, vertex by vertex -/
def co_up (c : Nat → Nat) (w e : Nat) : Nat → Nat := fun j => if j = w then e else c j
def co_Ext (g : Nat → Nat) (n v : Nat) (c : Nat → Nat) : Prop := ∃ s, co_Col g 127 n s ∧ ∀ j, j < v → s j = c j
def co_fit (g : Nat → Nat) (c : Nat → Nat) (v e : Nat) : Prop := ∀ w, w < v → (g v).testBit w = true → c w ≠ e
theorem co_Ext_fit {g : Nat → Nat} {n v e : Nat} {c : Nat → Nat} (hv : v < 7) (h : co_Ext g n (v + 1) (co_up c v e)) : co_fit g c v e := by
  obtain ⟨s, ⟨_, h2⟩, h3⟩ := h
  intro w hw h4 h5
  have e1 := h3 w (by omega)
  have e2 := h3 v (by omega)
  unfold co_up at e1 e2
  rw [if_neg (by omega)] at e1
  rw [if_pos rfl] at e2
  exact h2 v w hv (by omega) (ch_127 v hv) (ch_127 w (by omega)) h4 (by rw [e1, e2, h5])
/-- one new colour is enough -/
theorem co_swap {g : Nat → Nat} {n v f : Nat} {c : Nat → Nat} (hv : v < 7) (hf : ∀ w, w < v → c w < f) (h : co_Ext g n v c) :
    ∃ e, e ≤ f ∧ e < n ∧ co_Ext g n (v + 1) (co_up c v e) := by
  obtain ⟨s, ⟨h1, h2⟩, h3⟩ := h
  have hup : ∀ (t : Nat → Nat) e, (∀ j, j < v → t j = c j) → t v = e → ∀ j, j < v + 1 → t j = co_up c v e j := by
    intro t e h4 h5 j hj
    unfold co_up
    by_cases ej : j = v
    · subst ej; rw [if_pos rfl]; exact h5
    · rw [if_neg ej]; exact h4 j (by omega)
  by_cases hle : s v ≤ f
  · exact ⟨s v, hle, h1 v hv (ch_127 v hv), s, ⟨h1, h2⟩, hup s (s v) h3 rfl⟩
  · have hsv := h1 v hv (ch_127 v hv)
    refine ⟨f, Nat.le_refl f, by omega, fun j => if s j = s v then f else if s j = f then s v else s j, ⟨fun x hx hx2 => ?_, fun x y hx hy hx2 hy2 hxy => ?_⟩, hup _ f (fun j hj => ?_) ?_⟩
    · show (if s x = s v then f else if s x = f then s v else s x) < n
      have := h1 x hx hx2
      split
      · omega
      · split
        · omega
        · omega
    · have hne := h2 x y hx hy hx2 hy2 hxy
      show (if s x = s v then f else if s x = f then s v else s x) ≠ (if s y = s v then f else if s y = f then s v else s y)
      by_cases a1 : s x = s v
      · rw [if_pos a1]
        by_cases a2 : s y = s v
        · exact absurd (a1.trans a2.symm) hne
        · rw [if_neg a2]
          by_cases a3 : s y = f
          · rw [if_pos a3]; omega
          · rw [if_neg a3]; omega
      · rw [if_neg a1]
        by_cases a2 : s y = s v
        · rw [if_pos a2]
          by_cases a3 : s x = f
          · rw [if_pos a3]; omega
          · rw [if_neg a3]; omega
        · rw [if_neg a2]
          by_cases a3 : s x = f
          · rw [if_pos a3]
            by_cases a4 : s y = f
            · exact absurd (a3.trans a4.symm) hne
            · rw [if_neg a4]; omega
          · rw [if_neg a3]
            by_cases a4 : s y = f
            · rw [if_pos a4]; omega
            · rw [if_neg a4]; omega
    · show (if s j = s v then f else if s j = f then s v else s j) = c j
      have e1 := h3 j hj
      have e2 := hf j hj
      rw [if_neg (by omega), if_neg (by omega)]
      exact e1
    · show (if s v = s v then f else if s v = f then s v else s v) = f
      rw [if_pos rfl]
theorem co_Ext_0 {g : Nat → Nat} {n : Nat} {c : Nat → Nat} : co_Ext g n 0 c ↔ co_Able g 127 n :=
  ⟨fun ⟨s, h, _⟩ => ⟨s, h⟩, fun ⟨s, h⟩ => ⟨s, h, fun j hj => absurd hj (by omega)⟩⟩
theorem co_Ext_congr {g : Nat → Nat} {n v : Nat} {c d : Nat → Nat} (h : ∀ j, j < v → c j = d j) (hc : co_Ext g n v c) : co_Ext g n v d := by
  obtain ⟨s, h1, h2⟩ := hc
  exact ⟨s, h1, fun j hj => (h2 j hj).trans (h j hj)⟩
/-- what the search knows at vertex v, with colour k to be tried next -/
def co_Inv (g : Nat → Nat) (n v k : Nat) (c : Nat → Nat) : Prop :=
  (∀ j, j < v → c j < n ∧ c j ≤ j) ∧ k ≤ v + 1 ∧ (∀ j, j < v → co_fit g c j (c j)) ∧
  (∀ w, w < v → ∀ e, e < c w → ¬ co_Ext g n (w + 1) (co_up c w e)) ∧ (∀ e, e < k → ¬ co_Ext g n (v + 1) (co_up c v e))
/-- rounds that a vertex may still take -/
def co_D : Nat → Nat
  | 0 => 6786
  | 1 => 3392
  | 2 => 1130
  | 3 => 282
  | 4 => 56
  | 5 => 9
  | _ => 1
theorem co_D_s : ∀ v, v < 6 → co_D v = 2 + (v + 2) * co_D (v + 1) := by decide
def co_M (c : Nat → Nat) : Nat → Nat
  | 0 => 0
  | v + 1 => co_M c v + ((v - c v) * co_D v + 1)
theorem co_M_congr {c d : Nat → Nat} : ∀ v, (∀ j, j < v → c j = d j) → co_M c v = co_M d v := by
  intro v
  induction v with
  | zero => intro _; rfl
  | succ v ih =>
    intro h
    show co_M c v + _ = co_M d v + _
    rw [ih fun j hj => h j (by omega), h v (by omega)]
/-- back to the vertex before -/
theorem co_pop {g : Nat → Nat} {n v k f : Nat} {c : Nat → Nat} (hv : v < 7) (I : co_Inv g n v k c) (hf : ∀ w, w < v → c w < f)
    (hno : ∀ e, k ≤ e → e < n → e ≤ f → ¬ co_fit g c v e) : ¬ co_Ext g n v c := by
  intro h
  obtain ⟨e, he, hen, hE⟩ := co_swap hv hf h
  by_cases hk : e < k
  · exact I.2.2.2.2 e hk hE
  · exact hno e (by omega) hen he (co_Ext_fit hv hE)
theorem co_pop_s {g : Nat → Nat} {n v k : Nat} {c : Nat → Nat} (I : co_Inv g n (v + 1) k c) (hE : ¬ co_Ext g n (v + 1) c) : co_Inv g n v (c v + 1) c := by
  obtain ⟨i1, i2, i3, i4, i5⟩ := I
  refine ⟨fun j hj => i1 j (by omega), ?_, fun j hj => i3 j (by omega), fun w hw => i4 w (by omega), fun e he hx => ?_⟩
  · have := (i1 v (by omega)).2
    omega
  · by_cases e1 : e < c v
    · exact i4 v (by omega) e e1 hx
    · have e2 : e = c v := by omega
      subst e2
      apply hE
      apply co_Ext_congr _ hx
      intro j _
      unfold co_up
      split
      · rename_i ej; rw [ej]
      · rfl
theorem co_push {g : Nat → Nat} {n v k e : Nat} {c : Nat → Nat} (hv : v < 7) (I : co_Inv g n v k c) (hke : k ≤ e) (hen : e < n) (hev : e ≤ v)
    (hfit : co_fit g c v e) (hno : ∀ e', k ≤ e' → e' < e → ¬ co_fit g c v e') : co_Inv g n (v + 1) 0 (co_up c v e) := by
  obtain ⟨i1, i2, i3, i4, i5⟩ := I
  have hlo : ∀ j, j < v → co_up c v e j = c j := fun j hj => if_neg (by omega)
  have hat : co_up c v e v = e := if_pos rfl
  refine ⟨fun j hj => ?_, by omega, fun j hj => ?_, fun w hw x hx hE => ?_, fun x hx => absurd hx (by omega)⟩
  · by_cases ej : j = v
    · subst ej; rw [hat]; exact ⟨hen, hev⟩
    · rw [hlo j (by omega)]; exact i1 j (by omega)
  · intro w hw h1
    by_cases ej : j = v
    · subst ej
      rw [hat, hlo w hw]
      exact hfit w hw h1
    · rw [hlo j (by omega), hlo w (by omega)]
      exact i3 j (by omega) w hw h1
  · by_cases ew : w = v
    · subst ew
      rw [hat] at hx
      have hE' : co_Ext g n (w + 1) (co_up c w x) := by
        apply co_Ext_congr _ hE
        intro j _
        unfold co_up
        by_cases ej : j = w
        · rw [if_pos ej, if_pos ej]
        · rw [if_neg ej, if_neg ej, if_neg ej]
      by_cases hk : x < k
      · exact i5 x hk hE'
      · exact hno x (by omega) hx (co_Ext_fit hv hE')
    · rw [hlo w (by omega)] at hx
      refine i4 w (by omega) x hx (co_Ext_congr ?_ hE)
      intro j hj
      unfold co_up
      by_cases ej : j = w
      · rw [if_pos ej, if_pos ej]
      · rw [if_neg ej, if_neg ej, if_neg (by omega)]
theorem co_done {g : Nat → Nat} (G : ch_Good g) {n k : Nat} {c : Nat → Nat} (I : co_Inv g n 7 k c) : co_Able g 127 n := by
  obtain ⟨i1, _, i3, _, _⟩ := I
  refine ⟨c, fun v hv _ => (i1 v hv).1, fun v w hv hw _ _ h => ?_⟩
  rcases Nat.lt_trichotomy v w with e | e | e
  · exact i3 w hw v e (ch_sym G hv hw h)
  · subst e
    rw [(G v hv).2.1] at h
    exact nomatch h
  · exact fun x => i3 v hv w e h x.symm
theorem co_Inv_0 (g : Nat → Nat) (n : Nat) (c : Nat → Nat) : co_Inv g n 0 0 c :=
  ⟨fun j hj => absurd hj (by omega), by omega, fun j hj => absurd hj (by omega), fun w hw => absurd hw (by omega), fun e he => absurd he (by omega)⟩
/-- the measure falls -/
theorem co_M_pop (c : Nat → Nat) (v k : Nat) (h : c v ≤ v) : co_M c v + ((v + 1 - (c v + 1)) * co_D v + 1) + 1 ≤ co_M c (v + 1) + ((v + 1 + 1 - k) * co_D (v + 1) + 1) := by
  show _ ≤ (co_M c v + ((v - c v) * co_D v + 1)) + _
  have e : v + 1 - (c v + 1) = v - c v := by omega
  rw [e]
  omega
theorem co_M_push (c : Nat → Nat) (v k e : Nat) (hv : v < 6) (hke : k ≤ e) (hev : e ≤ v) :
    co_M (co_up c v e) (v + 1) + ((v + 1 + 1 - 0) * co_D (v + 1) + 1) + 1 ≤ co_M c v + ((v + 1 - k) * co_D v + 1) := by
  show (co_M (co_up c v e) v + ((v - co_up c v e v) * co_D v + 1)) + _ + 1 ≤ _
  have h1 : co_M (co_up c v e) v = co_M c v := co_M_congr v fun j hj => if_neg (by omega)
  have h2 : co_up c v e v = e := if_pos rfl
  rw [h1, h2]
  have h3 := co_D_s v hv
  have h4 : (v + 1 - k) * co_D v = (v - e) * co_D v + (e + 1 - k) * co_D v := by
    rw [← Nat.add_mul]
    congr 1
    omega
  have h5 : 1 * co_D v ≤ (e + 1 - k) * co_D v := Nat.mul_le_mul_right _ (by omega)
  rw [Nat.one_mul, h3] at h5
  have h6 : v + 1 + 1 - 0 = v + 2 := by omega
  rw [h6, h4]
  rw [h3] at h4 ⊢
  omega
end
section
/-! X's walks: the small helpers -/
def xw_AG (a : Nat → Int32) (g : Nat → Nat) : Prop := ∀ v, v < 7 → a v = nI (g v)
theorem xw_n7 {i : Nat} (h : i < 7) : ¬ (7 : Int32) ≤ nI i := nI_ge (b := 7) h (by decide)
theorem xw_7 : (7 : Int32) ≤ nI 7 := by decide
theorem xw_clamp {v : Nat} (h : v < 128) : (nI v).toNatClampNeg = v := nI_clamp (by omega)
theorem xw_isVertex_in {post : Int32 → Prop} {j : Nat} (hj : j < 7) (h : post 1) : wpX_isVertex post (nI j) :=
  br_f (nI_pos (by omega)) (br_f (xw_n7 hj) h)
theorem xw_isVertex_out {post : Int32 → Prop} {x : Int32} (hx : x < 0 ∨ (7 : Int32) ≤ x) (h : post 0) : wpX_isVertex post x := by
  by_cases h0 : x < 0
  · exact br_t h0 h
  · rcases hx with hx | hx
    · exact absurd hx h0
    · exact br_f h0 (br_t hx h)
theorem xw_vertex (x : Int32) : (x < 0 ∨ (7 : Int32) ≤ x) ∨ ∃ j, j < 7 ∧ x = nI j := by
  by_cases h : x < 0
  · exact Or.inl (Or.inl h)
  · obtain ⟨j, hj, e⟩ := nI_of h
    by_cases h2 : j < 7
    · exact Or.inr ⟨j, h2, e⟩
    · refine Or.inl (Or.inr ?_)
      rw [e]
      exact nI_le (a := 7) (by omega) hj
theorem xw_in {post : Int32 → Prop} {s v : Nat} (hs : s < 128) (hv : v < 7) (h : post (cd_bI (s.testBit v))) : wpX_in post (nI s) (nI v) :=
  cd_b0 hs hv (fun e => by rw [e] at h; exact h) (fun e => by rw [e] at h; exact h)
theorem xw_ones {post : Int32 → Prop} {s : Nat} (hs : s < 128) (h : post (nI (cd_ones s))) : wpX_ones post (nI s) :=
  ⟨8, cd_loop (fun n i c => wX_ones_4 post (nI s) n (nI c) (nI i)) (fun v n => n + (s.testBit v).toNat) (fun _ _ => True) 7 (fun c => post (nI c))
    (fun _ _ _ _ => trivial) (fun n c _ hc => br_t xw_7 hc)
    (fun n i c hi _ hW => br_f (xw_n7 hi) (nm_r (by rw [cd_bit hs hi, nI_add]) (nm_r (nI_1 i) hW)))
    7 0 0 rfl trivial h 8 (by omega)⟩
theorem xw_first_l {post : Int32 → Prop} {c : Nat} (hc : c < 128) : ∀ d v, v + d = 6 → post (nI (ch_ff c d v)) → ∀ n, d < n → wX_first_2 post (nI c) n (nI v) := by
  intro d
  induction d with
  | zero =>
    intro v hv h n hn
    obtain ⟨m, rfl⟩ : ∃ m, n = m + 1 := ⟨n - 1, by omega⟩
    have e : v = 6 := by omega
    subst e
    exact br_t (by decide) h
  | succ d ih =>
    intro v hv h n hn
    obtain ⟨m, rfl⟩ : ∃ m, n = m + 1 := ⟨n - 1, by omega⟩
    refine br_f (nI_ge (b := 6) (by omega) (by decide)) (xw_in hc (by omega) (cd_bb _ (fun e => ?_) (fun e => ?_)))
    · refine nm_r (nI_1 v) (ih (v + 1) (by omega) ?_ m (by omega))
      have e2 : ch_ff c (d + 1) v = ch_ff c d (v + 1) := by
        show (if c.testBit v then v else _) = _
        rw [e, if_neg (by decide)]
      rw [e2] at h
      exact h
    · have e2 : ch_ff c (d + 1) v = v := by
        show (if c.testBit v then v else _) = _
        rw [e, if_pos rfl]
      rw [e2] at h
      exact h
theorem xw_first {post : Int32 → Prop} {c : Nat} (hc : c < 128) (h : post (nI (ch_fs c))) : wpX_first post (nI c) :=
  ⟨7, xw_first_l hc 6 0 rfl h 7 (by omega)⟩
/-! turning a join -/
def ch_fl (g : Nat → Nat) (a b : Nat) : Nat → Nat := fun v => if v = b then g b ^^^ 2 ^ a else if v = a then g a ^^^ 2 ^ b else g v
def ch_tn (g : Nat → Nat) (f : Nat → Int32) (a b : Nat) : Nat → Int32 := upd (upd f a (nI (g a ^^^ 2 ^ b))) b (nI (g b ^^^ 2 ^ a))
theorem ch_tn_AG {g : Nat → Nat} {f : Nat → Int32} {a b : Nat} (A : xw_AG f g) : xw_AG (ch_tn g f a b) (ch_fl g a b) := by
  intro v hv
  unfold ch_tn ch_fl
  by_cases e : v = b
  · subst e; rw [pk_us, if_pos rfl]
  · rw [pk_un e, if_neg e]
    by_cases e2 : v = a
    · subst e2; rw [pk_us, if_pos rfl]
    · rw [pk_un e2, if_neg e2]; exact A v hv
theorem ch_tn_tn {g : Nat → Nat} {f : Nat → Int32} {a b : Nat} (ha : a < 7) (hb : b < 7) (hab : a ≠ b) (A : xw_AG f g) :
    ch_tn (ch_fl g a b) (ch_tn g f a b) a b = f := by
  funext v
  unfold ch_tn
  by_cases e : v = b
  · subst e
    rw [pk_us, A v hb]
    unfold ch_fl
    rw [if_pos rfl, Nat.xor_assoc, Nat.xor_self, Nat.xor_zero]
  · rw [pk_un e]
    by_cases e2 : v = a
    · subst e2
      rw [pk_us, A v ha]
      unfold ch_fl
      rw [if_neg e, if_pos rfl, Nat.xor_assoc, Nat.xor_self, Nat.xor_zero]
    · rw [pk_un e2, pk_un e, pk_un e2]
theorem ch_fl_good {g : Nat → Nat} {a b : Nat} (ha : a < 7) (hb : b < 7) (hab : a ≠ b) (G : ch_Good g) : ch_Good (ch_fl g a b) := by
  have hm : ∀ v w, v < 7 → (ch_fl g a b v).testBit w = ((g v).testBit w ^^ (decide (v = b ∧ w = a) || decide (v = a ∧ w = b))) := by
    intro v w hv
    unfold ch_fl
    by_cases e : v = b
    · subst e
      rw [if_pos rfl, Nat.testBit_xor, cd_tpow]
      have h1 : decide (v = a ∧ w = v) = false := decide_eq_false fun h => hab h.1.symm
      rw [h1, Bool.or_false]
      congr 1
      rw [Bool.eq_iff_iff, decide_eq_true_iff, decide_eq_true_iff]
      exact ⟨fun h => ⟨rfl, h.symm⟩, fun h => h.2.symm⟩
    · rw [if_neg e]
      have h1 : decide (v = b ∧ w = a) = false := decide_eq_false fun h => e h.1
      rw [h1, Bool.false_or]
      by_cases e2 : v = a
      · subst e2
        rw [if_pos rfl, Nat.testBit_xor, cd_tpow]
        congr 1
        rw [Bool.eq_iff_iff, decide_eq_true_iff, decide_eq_true_iff]
        exact ⟨fun h => ⟨rfl, h.symm⟩, fun h => h.2.symm⟩
      · rw [if_neg e2]
        have h2 : decide (v = a ∧ w = b) = false := decide_eq_false fun h => e2 h.1
        rw [h2, Bool.xor_false]
  intro v hv
  refine ⟨?_, ?_, fun w hw => ?_⟩
  · unfold ch_fl
    split
    · exact cd_xor_lt (G b hb).1 (cd_pow_lt ha)
    · split
      · exact cd_xor_lt (G a ha).1 (cd_pow_lt hb)
      · exact (G v hv).1
  · rw [hm v v hv, (G v hv).2.1, decide_eq_false (fun h => hab (h.2.symm.trans h.1)), decide_eq_false (fun h => hab (h.1.symm.trans h.2))]; rfl
  · rw [hm v w hv, hm w v hw, (G v hv).2.2 w hw]
    congr 1
    rw [Bool.or_comm]
    congr 1
    · rw [Bool.eq_iff_iff, decide_eq_true_iff, decide_eq_true_iff]; exact ⟨fun h => ⟨h.2, h.1⟩, fun h => ⟨h.2, h.1⟩⟩
    · rw [Bool.eq_iff_iff, decide_eq_true_iff, decide_eq_true_iff]; exact ⟨fun h => ⟨h.2, h.1⟩, fun h => ⟨h.2, h.1⟩⟩
section
variable {fb fl ff : Int32} {aj an ac ao ap ak aw : Nat → Int32}
theorem xw_turn {post : SX → Prop} {g : Nat → Nat} {a b : Nat} (G : ch_Good g) (A : xw_AG aj g) (ha : a < 7) (hb : b < 7) (hab : a ≠ b)
    (h : post (fb, fl, ff, ch_tn g aj a b, an, ac, ao, ap, ak, aw)) : wpX_turn post (fb, fl, ff, aj, an, ac, ao, ap, ak, aw) (nI a) (nI b) := by
  have ia : vp_in (nI a) 7 := vp_in_nI ha (by decide)
  have ib : vp_in (nI b) 7 := vp_in_nI hb (by decide)
  refine ⟨ia, ia, nm_r (e' := upd aj a (nI (g a ^^^ 2 ^ b))) ?_ ⟨ib, ib, nm_r (e' := ch_tn g aj a b) ?_ h⟩⟩
  · rw [xw_clamp (by omega), A a ha, cd_one_shl hb, nx_xor, cd_nar8 (cd_xor_lt (G a ha).1 (cd_pow_lt hb))]
  · rw [xw_clamp (by omega), pk_un (fun e => hab e.symm), A b hb, cd_one_shl ha, nx_xor, cd_nar8 (cd_xor_lt (G b hb).1 (cd_pow_lt ha))]
    rfl
theorem xw_isClique_l {post : Int32 → Prop} {g : Nat → Nat} {s : Nat} (A : xw_AG aj g) (hs : s < 128) : ∀ d v, v + d = 7 →
    post (cd_bI (cd_al (ch_ok g s) d v)) → ∀ n, d < n → wX_isClique_2 post (nI s) fb fl ff aj an ac ao ap ak aw n (nI v) := by
  intro d
  induction d with
  | zero =>
    intro v hv h n hn
    obtain ⟨m, rfl⟩ : ∃ m, n = m + 1 := ⟨n - 1, by omega⟩
    have e : v = 7 := by omega
    subst e
    exact br_t xw_7 h
  | succ d ih =>
    intro v hv h n hn
    obtain ⟨m, rfl⟩ : ∃ m, n = m + 1 := ⟨n - 1, by omega⟩
    have hv7 : v < 7 := by omega
    have h' : post (cd_bI (ch_ok g s v && cd_al (ch_ok g s) d (v + 1))) := h
    refine br_f (xw_n7 hv7) (xw_in hs hv7 (cd_bb _ (fun e => ?_) (fun e => ?_)))
    · refine nm_r (nI_1 v) (ih (v + 1) (by omega) ?_ m (by omega))
      have e2 : ch_ok g s v = true := by unfold ch_ok; rw [e]; rfl
      rw [e2, Bool.true_and] at h'
      exact h'
    · refine ⟨vp_in_nI hv7 (by decide), ?_⟩
      have e3 : (nI s &&& ((aj (nI v).toNatClampNeg) ^^^ (-1))) &&& (((1 : Int32) <<< (nI v &&& 31)) ^^^ (-1)) = nI (cd_dif (cd_dif s (g v)) (2 ^ v)) := by
        rw [xw_clamp (by omega), A v hv7, cd_one_shl hv7, cd_and_not, cd_and_not]
      rw [e3]
      refine pk_eq (cd_dif (cd_dif s (g v)) (2 ^ v)) 0 (fun e4 => ?_) (fun e4 => ?_) rfl rfl (Nat.lt_of_lt_of_le (cd_dif_lt (cd_dif_lt hs)) (by decide)) (by decide)
      · refine nm_r (nI_1 v) (ih (v + 1) (by omega) ?_ m (by omega))
        have e2 : ch_ok g s v = true := by unfold ch_ok; rw [e4, decide_eq_true rfl, Bool.or_true]
        rw [e2, Bool.true_and] at h'
        exact h'
      · have e2 : ch_ok g s v = false := by unfold ch_ok; rw [e, decide_eq_false e4]; rfl
        rw [e2, Bool.false_and] at h'
        exact h'
theorem xw_isClique {post : Int32 → Prop} {g : Nat → Nat} {s : Nat} (A : xw_AG aj g) (hs : s < 128) (h : post (cd_bI (ch_cq g s))) :
    wpX_isClique post (fb, fl, ff, aj, an, ac, ao, ap, ak, aw) (nI s) :=
  ⟨8, xw_isClique_l A hs 7 0 rfl h 8 (by omega)⟩
theorem xw_isEasy {post : Int32 → Prop} {g : Nat → Nat} {v s : Nat} (G : ch_Good g) (A : xw_AG aj g) (hv : v < 7) (h : post (cd_bI (ch_ez g v s))) :
    wpX_isEasy post (fb, fl, ff, aj, an, ac, ao, ap, ak, aw) (nI v) (nI s) := by
  refine ⟨vp_in_nI hv (by decide), ?_⟩
  rw [xw_clamp (by omega), A v hv, nx_and]
  exact xw_isClique A (cd_and_lt (G v hv).1) ⟨cd_bI_nar _, h⟩
/-! the core, and whether all falls apart -/
theorem xw_core_in {post : Int32 → Prop} {J5 : Int32 → Int32 → Prop} {g : Nat → Nat} {i s : Nat} (G : ch_Good g) (A : xw_AG aj g) (hs : s < 128)
    (h : J5 (nI (ch_sweep g s)) (nI (i + 1))) : ∃ n, wX_core_13 post J5 (nI i) fb fl ff aj an ac ao ap ak aw n (nI s) 0 :=
  ⟨8, cd_loop (fun n v s => wX_core_13 post J5 (nI i) fb fl ff aj an ac ao ap ak aw n (nI s) (nI v)) (ch_cs g) (fun _ s => s < 128) 7 (fun s => J5 (nI s) (nI (i + 1)))
    (fun _ _ _ hh => ch_cs_lt hh)
    (fun n s _ hh => br_t xw_7 (nm_r (nI_1 i) hh))
    (fun n v s hv hs hW => br_f (xw_n7 hv) (xw_in hs hv (cd_bb _
      (fun e => nm_r (nI_1 v) (by
        have e2 : ch_cs g v s = s := by unfold ch_cs; rw [e]; rfl
        rw [e2] at hW
        exact hW))
      (fun e => xw_isEasy G A hv (cd_bb _
        (fun e3 => nm_r (nI_1 v) (by
          have e2 : ch_cs g v s = s := by unfold ch_cs; rw [e3, Bool.and_false]; rfl
          rw [e2] at hW
          exact hW))
        (fun e3 => nm_r (e' := nI (ch_cs g v s)) (by
          have e2 : ch_cs g v s = cd_dif s (2 ^ v) := by unfold ch_cs; rw [e, e3]; rfl
          rw [e2, cd_one_shl hv, cd_and_not]) (nm_r (nI_1 v) hW)))))))
    7 0 s rfl hs h 8 (by omega)⟩
theorem xw_core {post : Int32 → Prop} {g : Nat → Nat} (G : ch_Good g) (A : xw_AG aj g) (h : post (nI (ch_core g))) :
    wpX_core post (fb, fl, ff, aj, an, ac, ao, ap, ak, aw) := by
  have h' : post (nI (cd_fo (fun _ s => ch_sweep g s) 7 0 127)) := by rw [cd_fo_eq_it]; exact h
  exact ⟨8, cd_loop (fun n i s => wX_core_5 post fb fl ff aj an ac ao ap ak aw n (nI s) (nI i)) (fun _ s => ch_sweep g s) (fun _ s => s < 128) 7 (fun s => post (nI s))
    (fun _ _ _ hh => ch_sweep_lt hh) (fun n s _ hh => br_t xw_7 hh)
    (fun n i s hi hs hW => br_f (xw_n7 hi) (xw_core_in G A hs hW))
    7 0 127 rfl (by decide) h' 8 (by omega)⟩
def ch_nt (g : Nat → Nat) : Bool := decide (ch_core g = 0)
theorem xw_neat {post : Int32 → Prop} {g : Nat → Nat} (G : ch_Good g) (A : xw_AG aj g) (h : post (cd_bI (ch_nt g))) :
    wpX_neat post (fb, fl, ff, aj, an, ac, ao, ap, ak, aw) := by
  refine xw_core G A (pk_eq (ch_core g) 0 (fun e => ?_) (fun e => ?_) rfl rfl (Nat.lt_of_lt_of_le (ch_core_lt g) (by decide)) (by decide))
  · unfold ch_nt at h
    rw [decide_eq_true e] at h
    exact h
  · unfold ch_nt at h
    rw [decide_eq_false e] at h
    exact h
def ch_es (g : Nat → Nat) (v s : Nat) : Nat := if ch_ez g v 127 then s ||| 2 ^ v else s
theorem xw_easy {post : Int32 → Prop} {g : Nat → Nat} (G : ch_Good g) (A : xw_AG aj g) (h : post (nI (cd_fo (ch_es g) 7 0 0))) :
    wpX_easy post (fb, fl, ff, aj, an, ac, ao, ap, ak, aw) :=
  ⟨8, cd_loop (fun n v s => wX_easy_4 post fb fl ff aj an ac ao ap ak aw n (nI s) (nI v)) (ch_es g) (fun _ _ => True) 7 (fun s => post (nI s))
    (fun _ _ _ _ => trivial) (fun n s _ hh => br_t xw_7 hh)
    (fun n v s hv _ hW => br_f (xw_n7 hv) (xw_isEasy G A hv (cd_bb _
      (fun e => nm_r (e' := nI (ch_es g v s)) (by
        have e2 : ch_es g v s = s := by unfold ch_es; rw [e]; rfl
        rw [e2, ← nI_0, cd_or, Nat.or_zero]) (nm_r (nI_1 v) hW))
      (fun e => nm_r (e' := nI (ch_es g v s)) (by
        have e2 : ch_es g v s = s ||| 2 ^ v := by unfold ch_es; rw [e]; rfl
        rw [e2, cd_one_shl hv, cd_or]) (nm_r (nI_1 v) hW)))))
    7 0 0 rfl trivial h 8 (by omega)⟩
theorem xw_joins {post : Int32 → Prop} {g : Nat → Nat} (G : ch_Good g) (A : xw_AG aj g) (h : post (nI (cd_fo (fun v n => n + cd_ones (g v)) 7 0 0) / 2)) :
    wpX_joins post (fb, fl, ff, aj, an, ac, ao, ap, ak, aw) :=
  ⟨8, cd_loop (fun n v s => wX_joins_4 post fb fl ff aj an ac ao ap ak aw n (nI s) (nI v)) (fun v n => n + cd_ones (g v)) (fun _ _ => True) 7 (fun s => post (nI s / 2))
    (fun _ _ _ _ => trivial) (fun n s _ hh => br_t xw_7 ⟨by decide, hh⟩)
    (fun n v s hv _ hW => br_f (xw_n7 hv) ⟨vp_in_nI hv (by decide), by
      rw [xw_clamp (by omega), A v hv]
      exact xw_ones (G v hv).1 (nm_r (nI_add _ _) (nm_r (nI_1 v) hW))⟩)
    7 0 0 rfl trivial h 8 (by omega)⟩
end
end
section
/-! X: branches of cliques -/
section
variable {fb fl ff : Int32} {aj an ac ao ap ak aw : Nat → Int32}
theorem xw_look {post : SX → Prop} {g : Nat → Nat} (G : ch_Good g) (A : xw_AG aj g)
    (h : ∀ an', xw_AG an' g → post (fb, fl, ff, aj, an', ac, ao, ap, ak, aw)) : wpX_lookPlainly post (fb, fl, ff, aj, an, ac, ao, ap, ak, aw) :=
  ⟨8, loop_i (fun n i s => wX_lookPlainly_2 post fb fl ff n (nI i) aj s ac ao ap ak aw) (fun i s => ∀ v, v < i → s v = nI (g v)) 7
    (fun n s hh => br_t xw_7 (h s hh))
    (fun n i s hi hh hW => br_f (xw_n7 hi) ⟨vp_in_nI hi (by decide), vp_in_nI hi (by decide), nm_r (e' := upd s i (nI (g i))) (by
      rw [xw_clamp (by omega), A i hi, cd_nar (G i hi).1]) (nm_r (nI_1 i) (hW _ fun v hv => by
        by_cases e : v = i
        · subst e; exact pk_us
        · rw [pk_un e]; exact hh v (by omega)))⟩)
    8 0 an (by omega) (by omega) (fun v hv => absurd hv (by omega))⟩
theorem xw_push {post : SX → Prop} {b h c p : Nat} (hb : b < 64) (hh : h < 128) (hc : c < 128) (hp : p < 128)
    (k : post (nI (b + 1), fl, ff, aj, an, upd ac b (nI h), upd ao b (nI c), upd ap b (nI p), ak, aw)) :
    wpX_pushBranch post (nI b, fl, ff, aj, an, ac, ao, ap, ak, aw) (nI h) (nI c) (nI p) := by
  have ib : vp_in (nI b) 64 := vp_in_nI hb (by decide)
  refine ⟨ib, nm_r (e' := upd ac b (nI h)) ?_ ⟨ib, nm_r (e' := upd ao b (nI c)) ?_ ⟨ib, nm_r (e' := upd ap b (nI p)) ?_ (nm_r (nI_1 b) k)⟩⟩⟩
  · rw [xw_clamp (by omega), cd_nar8 hh]
  · rw [xw_clamp (by omega), cd_nar8 hc]
  · rw [xw_clamp (by omega), cd_nar8 hp]
/-- rounds that a branch takes at most -/
def xw_cost (c : Nat) : Nat := 2 * 2 ^ cd_ones c - 1
theorem xw_cost_pos (c : Nat) : 1 ≤ xw_cost c := by
  unfold xw_cost
  have := Nat.two_pow_pos (cd_ones c)
  omega
theorem xw_cost_0 {c : Nat} (h : cd_ones c = 0) : xw_cost c = 1 := by
  unfold xw_cost
  rw [h]
theorem xw_cost_s {c d e : Nat} (hd : cd_ones d < cd_ones c) (he : cd_ones e < cd_ones c) : xw_cost d + xw_cost e + 1 ≤ xw_cost c := by
  unfold xw_cost
  obtain ⟨m, hm⟩ : ∃ m, cd_ones c = m + 1 := ⟨cd_ones c - 1, by omega⟩
  have h1 : 2 ^ cd_ones d ≤ 2 ^ m := Nat.pow_le_pow_right (by decide) (by omega)
  have h2 : 2 ^ cd_ones e ≤ 2 ^ m := Nat.pow_le_pow_right (by decide) (by omega)
  have h3 := Nat.two_pow_pos (cd_ones d)
  have h4 := Nat.two_pow_pos (cd_ones e)
  rw [hm, Nat.pow_succ]
  omega
/-- one branch, with all that comes of it -/
theorem xw_branch {post : SX → Prop} {sn : Nat → Nat} (G : ch_Good sn) (A : xw_AG an sn) : ∀ k h c p, cd_ones c < k → h < 128 → c < 128 → p < 128 →
    ∀ (b x L F : Nat) (ac ao ap : Nat → Int32), b + cd_ones c < 64 → x + xw_cost c ≤ 256 → L ≤ 7 → F + xw_cost c ≤ 256 →
    ac b = nI h → ao b = nI c → ap b = nI p →
    (∀ (x' : Nat) (ac' ao' ap' : Nat → Int32), x' ≤ x + xw_cost c → (∀ j, j < b → ac' j = ac j ∧ ao' j = ao j ∧ ap' j = ap j) →
      (ch_ex sn k h c p L F).1 ≤ 7 → (ch_ex sn k h c p L F).2 ≤ F + xw_cost c →
      wX_explore_25 post (258 - x') (nI x') (nI b) (nI (ch_ex sn k h c p L F).1) (nI (ch_ex sn k h c p L F).2) aj an ac' ao' ap' ak aw) →
    wX_explore_25 post (258 - x) (nI x) (nI (b + 1)) (nI L) (nI F) aj an ac ao ap ak aw := by
  intro k
  induction k with
  | zero => intro h c p hk; exact absurd hk (by omega)
  | succ k ih =>
    intro h c p hk hh hc hp b x L F ac ao ap hb hx hL hF ea eo ep K
    have hpos := xw_cost_pos c
    obtain ⟨n, hn⟩ : ∃ n, 258 - x = n + 1 := ⟨257 - x, by omega⟩
    have hn2 : n = 258 - (x + 1) := by omega
    rw [hn]
    have ib : vp_in (nI b) 64 := vp_in_nI (by omega) (by decide)
    have eb : nI (b + 1) - 1 = nI b := nI_pred b
    refine br_f (nI_ge (b := 256) (by omega) (by decide)) (br_f (nI_nle (by omega) (by omega)) (nm_r eb ⟨ib, nm_r (e' := nI h) (by rw [xw_clamp (by omega), ea]) ⟨ib, nm_r (e' := nI c) (by rw [xw_clamp (by omega), eo]) ⟨ib, nm_r (e' := nI p) (by rw [xw_clamp (by omega), ep]) ?_⟩⟩⟩))
    refine pk_eq c 0 (fun e0 => ?_) (fun e0 => ?_) rfl rfl (by omega) (by decide)
    · have ee : ch_ex sn (k + 1) h c p L F = (ch_mx L (cd_ones h), F + (decide (p = 0)).toNat) := by
        show (if c = 0 then _ else _) = _
        rw [if_pos e0]
      rw [ee] at K
      have hol := cd_ones_le h
      have hmx : ch_mx L (cd_ones h) ≤ 7 := by unfold ch_mx; split <;> omega
      have hle1 : (decide (p = 0)).toNat ≤ 1 := by cases decide (p = 0) <;> decide
      have hK := K (x + 1) ac ao ap (by omega) (fun j _ => ⟨rfl, rfl, rfl⟩) hmx (show F + (decide (p = 0)).toNat ≤ _ by omega)
      rw [← hn2] at hK
      have fin : ∀ z, z = nI (ch_mx L (cd_ones h)) → wX_explore_109 post (wX_explore_25 post n) (nI x) (nI p) z (nI b) (nI L) (nI F) aj an ac ao ap ak aw := by
        intro z ez
        subst ez
        refine pk_eq p 0 (fun ep0 => ?_) (fun ep0 => ?_) rfl rfl (by omega) (by decide)
        · rw [decide_eq_true ep0] at hK
          exact nm_r (nI_1 F) (nm_r (nI_1 x) hK)
        · rw [decide_eq_false ep0] at hK
          exact nm_r (by rw [← nI_0, nI_add]; rfl) (nm_r (nI_1 x) hK)
      refine xw_ones hh (pk_le (cd_ones h) L (fun hle => fin _ ?_) (fun hlt => fin _ ?_) rfl rfl (by omega) (by omega))
      · unfold ch_mx; rw [if_pos hle]
      · unfold ch_mx; rw [if_neg (by omega)]
    · obtain ⟨hv, hcv⟩ := ch_fs_spec hc e0
      have hlt1 : cd_ones (c &&& sn (ch_fs c)) < cd_ones c := by
        apply cd_ones_lt hv _ hcv
        · intro w _ h1
          rw [Nat.testBit_and, Bool.and_eq_true] at h1
          exact h1.1
        · rw [Nat.testBit_and, (G _ hv).2.1, Bool.and_false]
      have hlt2 : cd_ones (cd_dif c (2 ^ ch_fs c)) < cd_ones c := by
        have := cd_ones_dif hc hv hcv
        omega
      have hcs := xw_cost_s hlt1 hlt2
      have e : ch_ex sn (k + 1) h c p L F = ch_ex sn k h (cd_dif c (2 ^ ch_fs c)) (p ||| 2 ^ ch_fs c)
        (ch_ex sn k (h ||| 2 ^ ch_fs c) (c &&& sn (ch_fs c)) (p &&& sn (ch_fs c)) L F).1
        (ch_ex sn k (h ||| 2 ^ ch_fs c) (c &&& sn (ch_fs c)) (p &&& sn (ch_fs c)) L F).2 := by
        show (if c = 0 then _ else _) = _
        rw [if_neg e0]
      rw [e] at K
      have iv : vp_in (nI (ch_fs c)) 7 := vp_in_nI hv (by decide)
      have h1c : cd_dif c (2 ^ ch_fs c) < 128 := cd_dif_lt hc
      have h1p : p ||| 2 ^ ch_fs c < 128 := cd_or_lt hp (cd_pow_lt hv)
      have h2h : h ||| 2 ^ ch_fs c < 128 := cd_or_lt hh (cd_pow_lt hv)
      have h2c : c &&& sn (ch_fs c) < 128 := cd_and_lt hc
      have h2p : p &&& sn (ch_fs c) < 128 := cd_and_lt hp
      refine xw_first hc ?_
      rw [cd_one_shl hv, cd_and_not c, cd_or p, cd_or h]
      refine xw_push (by omega) hh h1c h1p ?_
      refine ⟨iv, iv, ?_⟩
      rw [xw_clamp (by omega), A _ hv, nx_and c, nx_and p]
      refine xw_push (by omega) h2h h2c h2p (nm_r (nI_1 x) ?_)
      rw [hn2]
      refine ih (h ||| 2 ^ ch_fs c) (c &&& sn (ch_fs c)) (p &&& sn (ch_fs c)) (by omega) h2h h2c h2p (b + 1) (x + 1) L F _ _ _ (by omega) (by omega) hL (by omega) pk_us pk_us pk_us ?_
      intro x1 ac1 ao1 ap1 hx1 hag1 hL1 hF1
      obtain ⟨k1, k2, k3⟩ := hag1 b (by omega)
      rw [pk_un (by omega), pk_us] at k1 k2 k3
      generalize (ch_ex sn k (h ||| 2 ^ ch_fs c) (c &&& sn (ch_fs c)) (p &&& sn (ch_fs c)) L F).1 = L1 at *
      generalize (ch_ex sn k (h ||| 2 ^ ch_fs c) (c &&& sn (ch_fs c)) (p &&& sn (ch_fs c)) L F).2 = F1 at *
      refine ih h (cd_dif c (2 ^ ch_fs c)) (p ||| 2 ^ ch_fs c) (by omega) hh h1c h1p b x1 L1 F1 ac1 ao1 ap1 (by omega) (by omega) hL1 (by omega) k1 k2 k3 ?_
      intro x2 ac2 ao2 ap2 hx2 hag2 hL2 hF2
      refine K x2 ac2 ao2 ap2 (by omega) ?_ hL2 (by omega)
      intro j hj
      obtain ⟨q1, q2, q3⟩ := hag2 j hj
      obtain ⟨r1, r2, r3⟩ := hag1 j (by omega)
      rw [pk_un (by omega), pk_un (by omega)] at r1 r2 r3
      exact ⟨q1.trans r1, q2.trans r2, q3.trans r3⟩
theorem xw_explore {post : SX → Prop} {sn : Nat → Nat} (G : ch_Good sn) (A : xw_AG an sn)
    (h : ∀ ac' ao' ap', post (0, nI (ch_ex sn 8 0 127 0 0 0).1, nI (ch_ex sn 8 0 127 0 0 0).2, aj, an, ac', ao', ap', ak, aw)) :
    wpX_explore post (fb, fl, ff, aj, an, ac, ao, ap, ak, aw) := by
  have hc : xw_cost 127 = 255 := by decide
  have h7 : cd_ones 127 = 7 := by decide
  unfold wpX_explore
  refine xw_push (b := 0) (h := 0) (c := 127) (p := 0) (by omega) (by decide) (by decide) (by decide) ?_
  refine ⟨258, ?_⟩
  refine xw_branch G A 8 0 127 0 (by omega) (by decide) (by decide) (by decide) 0 0 0 0 _ _ _ (by omega) (by omega) (by omega) (by omega) pk_us pk_us pk_us ?_
  intro x' ac' ao' ap' hx' _ _ _
  obtain ⟨n, hn⟩ : ∃ n, 258 - x' = n + 1 := ⟨257 - x', by omega⟩
  rw [hn]
  exact br_f (nI_ge (b := 256) (by omega) (by decide)) (br_t (by decide) (h ac' ao' ap'))
theorem xw_largestClique {post : Int32 → SX → Prop} {g : Nat → Nat} (G : ch_Good g) (A : xw_AG aj g)
    (h : ∀ f an' ac' ao' ap', post (nI (ch_large (ch_cq g))) (0, nI (ch_large (ch_cq g)), f, aj, an', ac', ao', ap', ak, aw)) :
    wpX_largestClique post (fb, fl, ff, aj, an, ac, ao, ap, ak, aw) := by
  refine xw_look G A fun an' A' => xw_explore G A' fun ac' ao' ap' => ?_
  have e := ch_large_eq G (q := ch_cq g) fun _ _ => rfl
  rw [e]
  exact h _ _ _ _ _
theorem xw_fullCliques {post : Int32 → SX → Prop} {g : Nat → Nat} (G : ch_Good g) (A : xw_AG aj g)
    (h : ∀ l f an' ac' ao' ap', post (nI (cd_cnt (fun H => ch_cq g H && ch_full g H) 128)) (0, l, f, aj, an', ac', ao', ap', ak, aw)) :
    wpX_fullCliques post (fb, fl, ff, aj, an, ac, ao, ap, ak, aw) := by
  refine xw_look G A fun an' A' => xw_explore G A' fun ac' ao' ap' => ?_
  rw [ch_full_eq G]
  exact h _ _ _ _ _ _
theorem xw_largestApart {post : Int32 → SX → Prop} {g : Nat → Nat} (G : ch_Good g) (A : xw_AG aj g)
    (h : ∀ l f an' ac' ao' ap', post (nI (ch_large (ch_ap g))) (0, l, f, aj, an', ac', ao', ap', ak, aw)) :
    wpX_largestApart post (fb, fl, ff, aj, an, ac, ao, ap, ak, aw) :=
  ⟨8, loop_i (fun n i s => wX_largestApart_2 post fb fl ff n (nI i) aj s ac ao ap ak aw) (fun i s => ∀ v, v < i → s v = nI (ch_cg g v)) 7
    (fun n s hh => br_t xw_7 (xw_explore (ch_cg_good G) hh fun ac' ao' ap' => by
      rw [ch_large_eq (ch_cg_good G) (q := ch_ap g) fun s hs => ch_ap_eq G hs]
      exact h _ _ _ _ _ _))
    (fun n i s hi hh hW => br_f (xw_n7 hi) ⟨vp_in_nI hi (by decide), vp_in_nI hi (by decide), nm_r (e' := upd s i (nI (ch_cg g i))) (by
      rw [xw_clamp (by omega), A i hi, cd_one_shl hi, show (127 : Int32) = nI 127 from rfl, cd_and_not, cd_and_not]
      rw [show cd_dif (cd_dif 127 (g i)) (2 ^ i) = ch_cg g i from rfl, cd_nar8 (ch_cg_good G i hi).1]) (nm_r (nI_1 i) (hW _ fun v hv => by
        by_cases e : v = i
        · subst e; exact pk_us
        · rw [pk_un e]; exact hh v (by omega)))⟩)
    8 0 an (by omega) (by omega) (fun v hv => absurd hv (by omega))⟩
end
end
section
/-! X: colours -/
def co_fa (g : Nat → Nat) (c : Nat → Nat) (v e w : Nat) : Bool := !(g v).testBit w || !decide (c w = e)
def co_fb (g : Nat → Nat) (c : Nat → Nat) (v e : Nat) : Bool := cd_al (co_fa g c v e) v 0
theorem co_fb_iff {g : Nat → Nat} {c : Nat → Nat} {v e : Nat} : co_fb g c v e = true ↔ co_fit g c v e := by
  unfold co_fb
  rw [cd_al0]
  constructor
  · intro h w hw h1 h2
    have h3 := h w hw
    unfold co_fa at h3
    rw [h1, decide_eq_true h2] at h3
    exact nomatch h3
  · intro h w hw
    unfold co_fa
    cases e1 : (g v).testBit w with
    | false => rfl
    | true => rw [decide_eq_false (h w hw e1)]; rfl
section
variable {fb fl ff : Int32} {aj an ac ao ap ak aw : Nat → Int32}
theorem xw_fits_l {post : Int32 → Prop} {g : Nat → Nat} {c : Nat → Nat} {v e : Nat} (G : ch_Good g) (A : xw_AG aj g) (hv : v < 7) (he : e < 128)
    (hk : ∀ w, w < v → ak w = nI (c w) ∧ c w ≤ w) : ∀ d w, w + d = v → post (cd_bI (cd_al (co_fa g c v e) d w)) → ∀ n, d < n →
    wX_fits_2 post (nI v) (nI e) fb fl ff aj an ac ao ap ak aw n (nI w) := by
  intro d
  induction d with
  | zero =>
    intro w hw h n hn
    obtain ⟨m, rfl⟩ : ∃ m, n = m + 1 := ⟨n - 1, by omega⟩
    have ew : w = v := by omega
    subst ew
    exact br_t (nI_le (Nat.le_refl _) (by omega)) h
  | succ d ih =>
    intro w hw h n hn
    obtain ⟨m, rfl⟩ : ∃ m, n = m + 1 := ⟨n - 1, by omega⟩
    have hwv : w < v := by omega
    have h' : post (cd_bI (co_fa g c v e w && cd_al (co_fa g c v e) d (w + 1))) := h
    refine br_f (nI_ge hwv (by omega)) ⟨vp_in_nI hv (by decide), ?_⟩
    rw [xw_clamp (v := v) (by omega), A v hv]
    refine xw_in (G v hv).1 (by omega) (cd_bb _ (fun e1 => ?_) (fun e1 => ?_))
    · refine nm_r (nI_1 w) (ih (w + 1) (by omega) ?_ m (by omega))
      have e2 : co_fa g c v e w = true := by unfold co_fa; rw [e1]; rfl
      rw [e2, Bool.true_and] at h'
      exact h'
    · refine ⟨vp_in_nI (by omega) (by decide), ?_⟩
      have hcw := (hk w hwv).2
      refine pk_eq (c w) e (fun e2 => ?_) (fun e2 => ?_) (by rw [xw_clamp (by omega), (hk w hwv).1]) rfl (by omega) (by omega)
      · have e3 : co_fa g c v e w = false := by unfold co_fa; rw [e1, decide_eq_true e2]; rfl
        rw [e3, Bool.false_and] at h'
        exact h'
      · refine nm_r (nI_1 w) (ih (w + 1) (by omega) ?_ m (by omega))
        have e3 : co_fa g c v e w = true := by unfold co_fa; rw [e1, decide_eq_false e2]; rfl
        rw [e3, Bool.true_and] at h'
        exact h'
theorem xw_fits {post : Int32 → Prop} {g : Nat → Nat} {c : Nat → Nat} {v e : Nat} (G : ch_Good g) (A : xw_AG aj g) (hv : v < 7) (he : e < 128)
    (hk : ∀ w, w < v → ak w = nI (c w) ∧ c w ≤ w) (h : post (cd_bI (co_fb g c v e))) : wpX_fits post (fb, fl, ff, aj, an, ac, ao, ap, ak, aw) (nI v) (nI e) :=
  ⟨v + 1, xw_fits_l G A hv he hk v 0 (by omega) h (v + 1) (by omega)⟩
theorem xw_next_2 {post : Int32 → Prop} {g : Nat → Nat} {c : Nat → Nat} {v nn f k0 : Nat} (G : ch_Good g) (A : xw_AG aj g) (hv : v < 7) (hnn : nn ≤ 7) (hf : f ≤ 7)
    (hk : ∀ w, w < v → ak w = nI (c w) ∧ c w ≤ w)
    (h1 : ∀ e, k0 ≤ e → e < nn → e ≤ f → co_fit g c v e → (∀ e', k0 ≤ e' → e' < e → ¬ co_fit g c v e') → post (nI e))
    (h2 : (∀ e, k0 ≤ e → e < nn → e ≤ f → ¬ co_fit g c v e) → post (-1)) :
    ∀ d k, nn ≤ k + d → k ≤ 8 → k0 ≤ k → (∀ e', k0 ≤ e' → e' < k → ¬ co_fit g c v e') → ∀ n, d < n →
    wX_nextColour_52 post (nI v) (nI nn) (nI f) fb fl ff aj an ac ao ap ak aw n (nI k) := by
  intro d
  induction d with
  | zero =>
    intro k hd hk8 hk0 hno n hn
    obtain ⟨m, rfl⟩ : ∃ m, n = m + 1 := ⟨n - 1, by omega⟩
    exact br_t (nI_le (by omega) (by omega)) (h2 fun e a1 a2 _ => hno e a1 (by omega))
  | succ d ih =>
    intro k hd hk8 hk0 hno n hn
    obtain ⟨m, rfl⟩ : ∃ m, n = m + 1 := ⟨n - 1, by omega⟩
    refine pk_le nn k (fun e1 => ?_) (fun e1 => ?_) rfl rfl (by omega) (by omega)
    · exact h2 fun e a1 a2 _ => hno e a1 (by omega)
    · refine pk_lt f k (fun e2 => ?_) (fun e2 => ?_) rfl rfl (by omega) (by omega)
      · exact h2 fun e a1 _ a3 => hno e a1 (by omega)
      · refine xw_fits G A hv (by omega) hk (cd_bb _ (fun e3 => ?_) (fun e3 => ?_))
        · refine nm_r (nI_1 k) (ih (k + 1) (by omega) (by omega) (by omega) (fun e' a1 a2 => ?_) m (by omega))
          by_cases ee : e' = k
          · subst ee
            intro h3
            rw [co_fb_iff.2 h3] at e3
            exact nomatch e3
          · exact hno e' a1 (by omega)
        · exact h1 k hk0 e1 e2 (co_fb_iff.1 e3) hno
theorem xw_nextColour {post : Int32 → Prop} {g : Nat → Nat} {c : Nat → Nat} {v nn k : Nat} (G : ch_Good g) (A : xw_AG aj g) (hv : v < 7) (hnn : nn ≤ 7)
    (hk : ∀ w, w < v → ak w = nI (c w) ∧ c w ≤ w) (hav : ak v + 1 = nI k) (hk8 : k ≤ 8)
    (h1 : ∀ f e, (∀ w, w < v → c w < f) → f ≤ v → k ≤ e → e < nn → e ≤ f → co_fit g c v e → (∀ e', k ≤ e' → e' < e → ¬ co_fit g c v e') → post (nI e))
    (h2 : ∀ f, (∀ w, w < v → c w < f) → (∀ e, k ≤ e → e < nn → e ≤ f → ¬ co_fit g c v e) → post (-1)) :
    wpX_nextColour post (fb, fl, ff, aj, an, ac, ao, ap, ak, aw) (nI v) (nI nn) :=
  ⟨v + 1, loop_i (fun n i f => wX_nextColour_5 post (nI v) (nI nn) fb fl ff aj an ac ao ap ak aw n (nI f) (nI i)) (fun i f => (∀ w, w < i → c w < f) ∧ f ≤ i) v
    (fun n f hh => br_t (nI_le (Nat.le_refl _) (by omega)) ⟨vp_in_nI (by omega) (by decide), nm_r (e' := nI k) (by rw [xw_clamp (by omega), hav])
      ⟨nn + 1, xw_next_2 G A hv hnn (by omega) hk (fun e => h1 f e hh.1 hh.2) (h2 f hh.1) nn k (by omega) hk8 (Nat.le_refl _) (fun e' a1 a2 => absurd a1 (by omega)) (nn + 1) (by omega)⟩⟩)
    (fun n i f hi hh hW => br_f (nI_ge hi (by omega)) ⟨vp_in_nI (by omega) (by decide), by
      have hci := hk i hi
      refine pk_lt (c i) f (fun e1 => ?_) (fun e1 => ?_) (by rw [xw_clamp (by omega), hci.1]) rfl (by omega) (by omega)
      · refine nm_r (nI_1 i) (hW f ⟨fun w hw => ?_, by omega⟩)
        by_cases ew : w = i
        · subst ew; exact e1
        · exact hh.1 w (by omega)
      · refine ⟨vp_in_nI (by omega) (by decide), nm_r (e' := nI (c i + 1)) (by rw [xw_clamp (by omega), hci.1, nI_1]) (nm_r (nI_1 i) (hW (c i + 1) ⟨fun w hw => ?_, by omega⟩))⟩
        by_cases ew : w = i
        · subst ew; omega
        · have := hh.1 w (by omega)
          omega⟩)
    (v + 1) 0 0 (by omega) (by omega) ⟨fun w hw => absurd hw (by omega), by omega⟩⟩
theorem xw_nar_m1 : vp_nar .byte (-1) = (-1 : Int32) := by rw [vp_nar_byte]; decide
theorem xw_can_l {post : Int32 → SX → Prop} {g : Nat → Nat} {nn : Nat} (G : ch_Good g) (A : xw_AG aj g) (hnn : nn ≤ 7)
    (hT : ∀ ak', co_Able g 127 nn → post 1 (fb, fl, ff, aj, an, ac, ao, ap, ak', aw))
    (hF : ∀ ak', ¬ co_Able g 127 nn → post 0 (fb, fl, ff, aj, an, ac, ao, ap, ak', aw)) :
    ∀ (m v k : Nat) (c : Nat → Nat) (ak : Nat → Int32) (x : Nat), v < 7 → co_Inv g nn v k c → (∀ w, w < v → ak w = nI (c w)) → ak v + 1 = nI k →
    x + m ≤ 8191 → co_M c v + ((v + 1 - k) * co_D v + 1) ≤ m →
    wX_canColour_11 post (nI nn) fb fl ff (8200 - x) (nI v) (nI x) aj an ac ao ap ak aw := by
  intro m
  induction m with
  | zero => intro v k c ak x _ _ _ _ _ hm; exact absurd hm (by omega)
  | succ m ih =>
    intro v k c ak x hv I hk hav hx hm
    obtain ⟨n, hn⟩ : ∃ n, 8200 - x = n + 1 := ⟨8199 - x, by omega⟩
    have hn2 : n = 8200 - (x + 1) := by omega
    rw [hn]
    have hk' : ∀ w, w < v → ak w = nI (c w) ∧ c w ≤ w := fun w hw => ⟨hk w hw, (I.1 w hw).2⟩
    have hk8 : k ≤ 8 := by have := I.2.1; omega
    refine br_f (nI_ge (b := 8192) (by omega) (by decide)) (br_f (nI_pos (by omega)) (xw_nextColour G A hv hnn hk' hav hk8 ?_ ?_))
    · intro f e hf hfv hke hen hef hfit hno
      have P := co_push hv I hke hen (by omega) hfit hno
      refine br_t (nI_pos' (by omega)) ⟨vp_in_nI (by omega) (by decide), nm_r (e' := upd ak v (nI e)) (by rw [xw_clamp (by omega), cd_nar8 (by omega)]) (nm_r (nI_1 v) ?_)⟩
      refine pk_eq (v + 1) 7 (fun e7 => ?_) (fun e7 => ?_) rfl rfl (by omega) (by decide)
      · rw [e7] at P
        exact hT _ (co_done G P)
      · refine ⟨vp_in_nI (by omega) (by decide), nm_r (e' := upd (upd ak v (nI e)) (v + 1) (-1)) (by rw [xw_clamp (by omega), xw_nar_m1]) (nm_r (nI_1 x) ?_)⟩
        rw [hn2]
        refine ih (v + 1) 0 (co_up c v e) _ (x + 1) (by omega) P ?_ ?_ (by omega) ?_
        · intro w hw
          rw [pk_un (by omega)]
          by_cases ew : w = v
          · subst ew
            rw [pk_us]
            have e2 : co_up c w e w = e := if_pos rfl
            rw [e2]
          · rw [pk_un ew, hk w (by omega)]
            have e2 : co_up c v e w = c w := if_neg ew
            rw [e2]
        · rw [pk_us]; decide
        · have := co_M_push c v k e (by omega) hke (by omega)
          omega
    · intro f hf hno
      have hE := co_pop hv I hf hno
      refine br_f (by decide) ?_
      cases v with
      | zero =>
        have hnA : ¬ co_Able g 127 nn := fun h => hE (co_Ext_0.2 h)
        obtain ⟨n', hn'⟩ : ∃ n', n = n' + 1 := ⟨n - 1, by omega⟩
        rw [hn']
        exact nm_e (nm_e (br_c (fun _ => hF _ hnA) (fun _ => br_t (by decide) (hF _ hnA))))
      | succ v =>
        refine nm_r (pk_m1 v) (nm_r (nI_1 x) ?_)
        rw [hn2]
        refine ih v (c v + 1) c ak (x + 1) (by omega) (co_pop_s I hE) (fun w hw => hk w (by omega)) (by rw [hk v (by omega), nI_1]) (by omega) ?_
        have := co_M_pop c v k (I.1 v (by omega)).2
        omega
theorem xw_canColour {post : Int32 → SX → Prop} {g : Nat → Nat} {nn : Nat} (G : ch_Good g) (A : xw_AG aj g) (hnn : nn ≤ 7)
    (hT : ∀ ak', co_Able g 127 nn → post 1 (fb, fl, ff, aj, an, ac, ao, ap, ak', aw))
    (hF : ∀ ak', ¬ co_Able g 127 nn → post 0 (fb, fl, ff, aj, an, ac, ao, ap, ak', aw)) :
    wpX_canColour post (fb, fl, ff, aj, an, ac, ao, ap, ak, aw) (nI nn) := by
  refine nm_r (e' := upd ak 0 (-1)) (by rw [xw_nar_m1]) ⟨8200, ?_⟩
  exact xw_can_l G A hnn hT hF 6787 0 0 (fun _ => 0) _ 0 (by omega) (co_Inv_0 g nn _) (fun w hw => absurd hw (by omega)) (by rw [pk_us]; decide) (by omega) (by decide)
theorem xw_colours_l {post : Int32 → SX → Prop} {g : Nat → Nat} (G : ch_Good g) (A : xw_AG aj g)
    (h : ∀ t ak', co_Chi g 127 t → post (nI t) (fb, fl, ff, aj, an, ac, ao, ap, ak', aw)) :
    ∀ (d n : Nat) (ak : Nat → Int32), n + d = 7 → (∀ j, ch_large (ch_cq g) ≤ j → j < n → ¬ co_Able g 127 j) → ∀ m, d < m →
    wX_colours_14 post m (nI n) fb fl ff aj an ac ao ap ak aw := by
  intro d
  induction d with
  | zero =>
    intro n ak hn hlo m hm
    obtain ⟨m', rfl⟩ : ∃ m', m = m' + 1 := ⟨m - 1, by omega⟩
    have e : n = 7 := by omega
    subst e
    exact br_t xw_7 (h 7 ak (co_search G (Or.inl rfl) hlo))
  | succ d ih =>
    intro n ak hn hlo m hm
    obtain ⟨m', rfl⟩ : ∃ m', m = m' + 1 := ⟨m - 1, by omega⟩
    refine br_f (xw_n7 (by omega)) (xw_canColour G A (by omega) (fun ak' hA => ?_) (fun ak' hA => ?_))
    · exact br_f (by decide) (h n ak' (co_search G (Or.inr hA) hlo))
    · refine br_t rfl (nm_r (nI_1 n) (ih (n + 1) ak' (by omega) (fun j h1 h2 => ?_) m' (by omega)))
      by_cases e : j = n
      · subst e; exact hA
      · exact hlo j h1 (by omega)
end
theorem co_large_le (q : Nat → Bool) : ch_large q ≤ 7 := by
  rcases (ch_large_spec q).2 with h | ⟨H, _, _, h⟩
  · omega
  · rw [← h]; exact cd_ones_le H
theorem xw_colours {post : Int32 → SX → Prop} {g : Nat → Nat} {fb fl ff : Int32} {aj an ac ao ap ak aw : Nat → Int32} (G : ch_Good g) (A : xw_AG aj g)
    (h : ∀ t fb' fl' ff' an' ac' ao' ap' ak', co_Chi g 127 t → post (nI t) (fb', fl', ff', aj, an', ac', ao', ap', ak', aw)) :
    wpX_colours post (fb, fl, ff, aj, an, ac, ao, ap, ak, aw) := by
  unfold wpX_colours
  refine xw_largestClique G A fun f an' ac' ao' ap' => ?_
  refine xw_neat G A (cd_bb _ (fun e => ?_) (fun e => ?_))
  · have hle := co_large_le (ch_cq g)
    exact ⟨8, xw_colours_l G A (fun t ak' hC => h t _ _ _ _ _ _ _ _ hC) (7 - ch_large (ch_cq g)) (ch_large (ch_cq g)) ak (by omega) (fun j h1 h2 => absurd h1 (by omega)) 8 (by omega)⟩
  · exact h _ _ _ _ _ _ _ _ _ (co_neat G (of_decide_eq_true e))
end
section
/-! X: orders, ways around, the smallest hole, joining more -/
def ch_os (g : Nat → Nat) (t : Nat → Int32) (s v : Nat) (acc : Int32) : Int32 := if s.testBit v && ch_ez g v s then acc + t (cd_dif s (2 ^ v)) else acc
def ch_Ord (g : Nat → Nat) (t : Nat → Int32) (N : Nat) : Prop := t 0 = 1 ∧ ∀ s, 1 ≤ s → s < N → t s = cd_fo (ch_os g t s) 7 0 0
theorem ch_dif1_lt {s v : Nat} (hs : s < 128) (h : s.testBit v = true) : cd_dif s (2 ^ v) < s := by
  apply cd_sub_lt (w := v) (cd_dif_lt hs) _ _ h
  · intro w _ h1
    rw [cd_tdif hs, Bool.and_eq_true] at h1
    exact h1.1
  · rw [cd_tdif hs, cd_tpow, decide_eq_true rfl, Bool.not_true, Bool.and_false]
theorem ch_os_congr {g : Nat → Nat} {t t' : Nat → Int32} {s : Nat} (hs : s < 128) (h : ∀ j, j < s → t j = t' j) : ∀ d i acc,
    cd_fo (ch_os g t s) d i acc = cd_fo (ch_os g t' s) d i acc := by
  intro d
  induction d with
  | zero => intro i acc; rfl
  | succ d ih =>
    intro i acc
    show cd_fo (ch_os g t s) d (i + 1) (ch_os g t s i acc) = cd_fo (ch_os g t' s) d (i + 1) (ch_os g t' s i acc)
    have e : ch_os g t s i acc = ch_os g t' s i acc := by
      unfold ch_os
      cases e1 : s.testBit i with
      | false => rfl
      | true => rw [h _ (ch_dif1_lt hs e1)]
    rw [e, ih]
theorem ch_Ord_s {g : Nat → Nat} {t : Nat → Int32} {i : Nat} (h1 : 1 ≤ i) (hi : i < 128) (h : ch_Ord g t i) : ch_Ord g (upd t i (cd_fo (ch_os g t i) 7 0 0)) (i + 1) := by
  refine ⟨by rw [pk_un (by omega)]; exact h.1, fun s hs1 hs2 => ?_⟩
  by_cases e : s = i
  · subst e
    rw [pk_us]
    exact ch_os_congr hi (fun j hj => (pk_un (by omega)).symm) 7 0 0
  · rw [pk_un e, h.2 s hs1 (by omega)]
    exact ch_os_congr (by omega) (fun j hj => (pk_un (by omega)).symm) 7 0 0
theorem ch_Ord_eq {g : Nat → Nat} {t t' : Nat → Int32} (h : ch_Ord g t 128) (h' : ch_Ord g t' 128) : ∀ s, s < 128 → t s = t' s := by
  intro s
  induction s using Nat.strongRecOn with
  | ind s ih =>
    intro hs
    by_cases e : s = 0
    · subst e; rw [h.1, h'.1]
    · rw [h.2 s (by omega) hs, h'.2 s (by omega) hs]
      exact ch_os_congr hs (fun j hj => ih j hj (by omega)) 7 0 0
theorem ch_uu {t : Nat → Int32} {s : Nat} {x y : Int32} : upd (upd t s x) s y = upd t s y := by
  funext j
  by_cases e : j = s
  · subst e; rw [pk_us, pk_us]
  · rw [pk_un e, pk_un e, pk_un e]
section
variable {fb fl ff : Int32} {aj an ac ao ap ak aw : Nat → Int32}
theorem xw_orders_in {post : Int32 → SX → Prop} {J9 : Int32 → (Nat → Int32) → (Nat → Int32) → (Nat → Int32) → (Nat → Int32) → (Nat → Int32) → (Nat → Int32) → (Nat → Int32) → Prop}
    {g : Nat → Nat} {s : Nat} {t : Nat → Int32} (G : ch_Good g) (A : xw_AG aj g) (hs : s < 128)
    (h : J9 (nI (s + 1)) aj an ac ao ap ak (upd t s (cd_fo (ch_os g t s) 7 0 0))) :
    ∃ n, wX_orders_24 post J9 (nI s) fb fl ff n 0 aj an ac ao ap ak (upd t s 0) :=
  ⟨8, cd_loop (fun n v acc => wX_orders_24 post J9 (nI s) fb fl ff n (nI v) aj an ac ao ap ak (upd t s acc)) (ch_os g t s) (fun _ _ => True) 7
    (fun acc => J9 (nI (s + 1)) aj an ac ao ap ak (upd t s acc))
    (fun _ _ _ _ => trivial) (fun n acc _ hh => br_t xw_7 (nm_r (nI_1 s) hh))
    (fun n v acc hv _ hW => br_f (xw_n7 hv) (xw_in hs hv (cd_bb _
      (fun e => nm_r (nI_1 v) (by
        have e2 : ch_os g t s v acc = acc := by unfold ch_os; rw [e]; rfl
        rw [e2] at hW
        exact hW))
      (fun e => xw_isEasy G A hv (cd_bb _
        (fun e3 => nm_r (nI_1 v) (by
          have e2 : ch_os g t s v acc = acc := by unfold ch_os; rw [e3, Bool.and_false]; rfl
          rw [e2] at hW
          exact hW))
        (fun e3 => by
          have hd := ch_dif1_lt hs e
          have e2 : ch_os g t s v acc = acc + t (cd_dif s (2 ^ v)) := by unfold ch_os; rw [e, e3]; rfl
          have e4 : nI s &&& (((1 : Int32) <<< (nI v &&& 31)) ^^^ (-1)) = nI (cd_dif s (2 ^ v)) := by rw [cd_one_shl hv, cd_and_not]
          have is : vp_in (nI s) 128 := vp_in_nI hs (by decide)
          rw [e4]
          refine ⟨is, vp_in_nI (by omega) (by decide), is, nm_r (e' := upd t s (ch_os g t s v acc)) ?_ (nm_r (nI_1 v) hW)⟩
          rw [xw_clamp hs, xw_clamp (by omega), ch_uu, pk_us, pk_un (by omega), e2]))))))
    7 0 0 rfl trivial h 8 (by omega)⟩
theorem xw_orders {post : Int32 → SX → Prop} {g : Nat → Nat} (G : ch_Good g) (A : xw_AG aj g)
    (h : ∀ t, ch_Ord g t 128 → post (t 127) (fb, fl, ff, aj, an, ac, ao, ap, ak, t)) : wpX_orders post (fb, fl, ff, aj, an, ac, ao, ap, ak, aw) := by
  refine nm_e ⟨128, ?_⟩
  exact loop_i (fun n i t => 1 ≤ i → wX_orders_9 post fb fl ff n (nI i) aj an ac ao ap ak t) (fun i t => 1 ≤ i → ch_Ord g t i) 128
    (fun n t hh h1 => br_t (by decide) (h t (hh h1)))
    (fun n i t hi hh hW h1 => br_f (nI_nlt (b := i) (a := 127) (by omega) (by decide)) ⟨vp_in_nI hi (by decide), nm_r (e' := upd t i 0) (by rw [xw_clamp hi])
      (xw_orders_in G A hi (hW _ (fun _ => ch_Ord_s h1 hi (hh h1)) (by omega)))⟩)
    128 1 _ (by omega) (by omega) (fun _ => ⟨pk_us, fun s h1 h2 => absurd h1 (by omega)⟩) (by omega)
end
end
section
/-! X: ways around, the smallest hole, joining more -/
def ch_hI (m : Nat) : Int32 := if m = 0 then -1 else nI m
def ch_up (m c : Nat) : Nat := if c = 0 then m else if m = 0 ∨ c < m then c else m
def ch_nj (g : Nat → Nat) (a b : Nat) : Nat := (!(g a).testBit b && ch_nt (ch_fl g a b)).toNat
def ch_op (g : Nat → Nat) (c : Nat) : Bool := decide (c / 7 < c % 7) && !(g (c / 7)).testBit (c % 7)
def ch_ny (g : Nat → Nat) (c n : Nat) : Nat := if ch_op g c then n + (ch_nt (ch_fl g (c / 7) (c % 7))).toNat else n
def ch_nJ (g : Nat → Nat) : Nat := cd_fo (ch_ny g) 49 0 0
theorem ch_nJ_le (g : Nat → Nat) : ch_nJ g ≤ 49 := by
  apply cd_foI (ch_ny g) (fun i n => n ≤ i) 49
  · intro i n _ h
    unfold ch_ny
    have : (ch_nt (ch_fl g (i / 7) (i % 7))).toNat ≤ 1 := by cases ch_nt (ch_fl g (i / 7) (i % 7)) <;> decide
    split <;> omega
  · rfl
  · omega
def ch_nq (f : Nat → Nat → Nat) (c n : Nat) : Nat := if c / 7 < c % 7 then n + f (c / 7) (c % 7) else n
theorem ch_sums (f : Nat → Nat → Nat) : cd_fo (fun a c => cd_fo (fun b c => c + f a b) (6 - a) (a + 1) c) 7 0 0 = cd_fo (ch_nq f) 49 0 0 := rfl
theorem ch_fo_congr {α : Type} {f h : Nat → α → α} (e : ∀ i s, f i s = h i s) : ∀ d i s, cd_fo f d i s = cd_fo h d i s := by
  have e2 : f = h := by funext i s; exact e i s
  intro d i s
  rw [e2]
theorem ch_nJ_eq (g : Nat → Nat) : cd_fo (fun a c => cd_fo (fun b c => c + ch_nj g a b) (6 - a) (a + 1) c) 7 0 0 = ch_nJ g := by
  rw [ch_sums]
  apply ch_fo_congr
  intro c n
  unfold ch_nq ch_ny ch_op ch_nj
  by_cases e : c / 7 < c % 7
  · rw [if_pos e, decide_eq_true e, Bool.true_and]
    cases (g (c / 7)).testBit (c % 7)
    · rw [Bool.not_false, if_pos rfl, Bool.true_and]
    · rw [Bool.not_true, if_neg (by decide), Bool.false_and]; rfl
  · rw [if_neg e, decide_eq_false e, Bool.false_and, if_neg (by decide)]
section
variable {fb fl ff : Int32} {aj an ac ao ap ak aw : Nat → Int32}
theorem xw_around_in {post : Int32 → Prop} {J8 : Int32 → Int32 → Prop} {x2 : Int32} {g : Nat → Nat} {av r n : Nat} (G : ch_Good g) (A : xw_AG aj g) (hr : r < 128)
    (h : J8 (nI (ch_nx g av r)) (nI (n + 1))) : ∃ m, wX_around_34 post J8 x2 (nI av) (nI r) (nI n) fb fl ff aj an ac ao ap ak aw m (nI r) 0 :=
  ⟨8, cd_loop (fun m v t => wX_around_34 post J8 x2 (nI av) (nI r) (nI n) fb fl ff aj an ac ao ap ak aw m (nI t) (nI v)) (ch_ns g av r) (fun _ _ => True) 7
    (fun t => J8 (nI t) (nI (n + 1)))
    (fun _ _ _ _ => trivial) (fun m t _ hh => br_t xw_7 (nm_r (nI_1 n) hh))
    (fun m v t hv _ hW => br_f (xw_n7 hv) (xw_in hr hv (cd_bb _
      (fun e => nm_r (e' := nI (ch_ns g av r v t)) (by
        have e2 : ch_ns g av r v t = t ||| 0 := by unfold ch_ns; rw [e]; rfl
        rw [e2, ← nI_0, cd_or]) (nm_r (nI_1 v) hW))
      (fun e => ⟨vp_in_nI hv (by decide), nm_r (e' := nI (ch_ns g av r v t)) (by
        have e2 : ch_ns g av r v t = t ||| cd_dif (g v) av := by unfold ch_ns; rw [e]; rfl
        rw [e2, xw_clamp (by omega), A v hv, cd_and_not, cd_or]) (nm_r (nI_1 v) hW)⟩))))
    7 0 r rfl trivial h 8 (by omega)⟩
theorem xw_around_l {post : Int32 → Prop} {g : Nat → Nat} {b av : Nat} (G : ch_Good g) (A : xw_AG aj g) (hb : b < 7) : ∀ d n r, n + d = 8 → r < 128 →
    post (nI (ch_arf g b av d n r)) → ∀ m, d < m → wX_around_8 post (nI b) (nI av) fb fl ff aj an ac ao ap ak aw m (nI r) (nI n) := by
  intro d
  induction d with
  | zero =>
    intro n r hn hr h m hm
    obtain ⟨m', rfl⟩ : ∃ m', m = m' + 1 := ⟨m - 1, by omega⟩
    have e : n = 8 := by omega
    subst e
    exact br_t (by decide) h
  | succ d ih =>
    intro n r hn hr h m hm
    obtain ⟨m', rfl⟩ : ∃ m', m = m' + 1 := ⟨m - 1, by omega⟩
    refine br_f (nI_nlt (b := n) (a := 7) (by omega) (by decide)) (xw_in hr hb (cd_bb _ (fun e => ?_) (fun e => ?_)))
    · refine xw_around_in G A hr (ih (n + 1) (ch_nx g av r) (by omega) (ch_nx_lt G hr) ?_ m' (by omega))
      have e2 : ch_arf g b av (d + 1) n r = ch_arf g b av d (n + 1) (ch_nx g av r) := by
        show (if r.testBit b then n else _) = _
        rw [e, if_neg (by decide)]
      rw [e2] at h
      exact h
    · have e2 : ch_arf g b av (d + 1) n r = n := by
        show (if r.testBit b then n else _) = _
        rw [e, if_pos rfl]
      rw [e2] at h
      exact h
theorem xw_around {post : Int32 → Prop} {g : Nat → Nat} {a b av : Nat} (G : ch_Good g) (A : xw_AG aj g) (ha : a < 7) (hb : b < 7) (h : post (nI (ch_ar g a b av))) :
    wpX_around post (fb, fl, ff, aj, an, ac, ao, ap, ak, aw) (nI a) (nI b) (nI av) :=
  nm_r (cd_one_shl ha) ⟨9, xw_around_l G A hb 8 0 (2 ^ a) rfl (cd_pow_lt ha) h 9 (by omega)⟩
theorem xw_sh_127 {post : Int32 → Prop} {J4 : Int32 → Int32 → Prop} {m i z : Nat} (hm : m ≤ 9) (hz : z ≤ 8)
    (h : J4 (ch_hI (ch_up m (if z ≤ 7 then z + 2 else 0))) (nI (i + 1))) : wX_smallestHole_127 post J4 (ch_hI m) (nI i) (nI z) fb fl ff aj an ac ao ap ak aw := by
  refine pk_lt 7 z (fun e => ?_) (fun e => ?_) rfl rfl (by decide) (by omega)
  · rw [if_neg (by omega)] at h
    exact nm_r (nI_1 i) h
  · rw [if_pos e] at h
    have ez : nI z + 2 = nI (z + 2) := nI_add z 2
    have hnew : ch_up m (z + 2) = z + 2 → J4 (nI z + 2) (nI (i + 1)) := by
      intro e2
      rw [e2] at h
      unfold ch_hI at h
      rw [if_neg (by omega)] at h
      rw [ez]; exact h
    have hold : ch_up m (z + 2) = m → J4 (ch_hI m) (nI (i + 1)) := by
      intro e2
      rw [e2] at h
      exact h
    by_cases hm0 : m = 0
    · have hlt : ch_hI m < 0 := by rw [hm0]; decide
      exact br_t hlt (nm_e (nm_r (nI_1 i) (hnew (by unfold ch_up; rw [if_neg (by omega), if_pos (Or.inl hm0)]))))
    · have e3 : ch_hI m = nI m := by unfold ch_hI; rw [if_neg hm0]
      have hlt : ¬ ch_hI m < 0 := by rw [e3]; exact nI_pos (by omega)
      refine br_f hlt (pk_le m (z + 2) (fun e4 => ?_) (fun e4 => ?_) e3 ez (by omega) (by omega))
      · exact nm_r (nI_1 i) (hold (by unfold ch_up; rw [if_neg (by omega), if_neg (by omega)]))
      · exact nm_e (nm_r (nI_1 i) (hnew (by unfold ch_up; rw [if_neg (by omega), if_pos (Or.inr e4)])))
theorem xw_sh_86 {post : Int32 → Prop} {J4 : Int32 → Int32 → Prop} {g : Nat → Nat} {m i v a b : Nat} {q : Bool} (G : ch_Good g) (A : xw_AG aj g) (hm : m ≤ 9) (hv : v < 7) (ha : a < 7) (hb : b < 7)
    (h : J4 (ch_hI (ch_up m (if q then (if ch_ar g a b (ch_av g v b) ≤ 7 then ch_ar g a b (ch_av g v b) + 2 else 0) else 0))) (nI (i + 1))) :
    wX_smallestHole_86 post J4 (ch_hI m) (nI i) (nI v) (nI a) (nI b) (cd_bI q) fb fl ff aj an ac ao ap ak aw := by
  refine ⟨vp_in_nI hv (by decide), nm_r (e' := nI (ch_av g v b)) ?_ (cd_bb _ (fun e => ?_) (fun e => ?_))⟩
  · rw [xw_clamp (by omega), A v hv, cd_one_shl hv, cd_one_shl hb, cd_or, cd_and_not]; rfl
  · rw [e, if_neg (by decide)] at h
    exact xw_sh_127 (z := 8) hm (by omega) (by rw [if_neg (by omega)]; exact h)
  · rw [e, if_pos rfl] at h
    exact xw_around G A ha hb (xw_sh_127 hm (ch_ar_le g a b _) h)
theorem ch_cX_le (g : Nat → Nat) (i : Nat) : ch_cX g i ≤ 9 := by
  unfold ch_cX
  split
  · split <;> omega
  · omega
theorem ch_up_le {m c : Nat} (hm : m ≤ 9) (hc : c ≤ 9) : ch_up m c ≤ 9 := by
  unfold ch_up
  split
  · exact hm
  · split
    · exact hc
    · exact hm
theorem xw_smallestHole {post : Int32 → Prop} {g : Nat → Nat} (G : ch_Good g) (A : xw_AG aj g) (h : post (ch_hI (ch_mn (ch_cX g) 343))) :
    wpX_smallestHole post (fb, fl, ff, aj, an, ac, ao, ap, ak, aw) := by
  refine ⟨344, cd_loop (fun n i m => wX_smallestHole_4 post fb fl ff aj an ac ao ap ak aw n (ch_hI m) (nI i)) (ch_ms (ch_cX g)) (fun _ m => m ≤ 9) 343 (fun m => post (ch_hI m))
    (fun i m _ hm => ch_up_le hm (ch_cX_le g i)) (fun n m _ hh => br_t (by decide) hh) ?_ 343 0 0 rfl (by omega) h 344 (by omega)⟩
  intro n i m hi hm hW
  have hv : i / 49 < 7 := by omega
  have ha : i / 7 % 7 < 7 := by omega
  have hb : i % 7 < 7 := by omega
  have e1 : nI i / 49 = nI (i / 49) := pk_div (d := 49) (by omega) (by decide) (by decide)
  have e0 : nI i / 7 = nI (i / 7) := pk_div (d := 7) (by omega) (by decide) (by decide)
  have e2 : nI i / 7 - nI i / 7 / 7 * 7 = nI (i / 7 % 7) := by rw [e0]; exact pk_rem (d := 7) (by omega) (by decide) (by decide)
  have e3 : nI i - nI i / 7 * 7 = nI (i % 7) := pk_rem (d := 7) (by omega) (by decide) (by decide)
  have hW' : wX_smallestHole_4 post fb fl ff aj an ac ao ap ak aw n (ch_hI (ch_up m (ch_cX g i))) (nI (i + 1)) := hW
  unfold ch_cX at hW'
  have fin : ∀ q, ch_gp g (i / 49) (i / 7 % 7) (i % 7) = q →
      wX_smallestHole_86 post (wX_smallestHole_4 post fb fl ff aj an ac ao ap ak aw n) (ch_hI m) (nI i) (nI (i / 49)) (nI (i / 7 % 7)) (nI (i % 7)) (cd_bI q) fb fl ff aj an ac ao ap ak aw := by
    intro q eq
    rw [eq] at hW'
    exact xw_sh_86 G A hm hv ha hb hW'
  refine br_f (nI_ge (b := 343) (by omega) (by decide)) ⟨by decide, nm_r e1 ⟨by decide, by decide, nm_r e2 ⟨by decide, nm_r e3 ?_⟩⟩⟩
  have hz : ch_gp g (i / 49) (i / 7 % 7) (i % 7) = false →
      wX_smallestHole_85 post (wX_smallestHole_4 post fb fl ff aj an ac ao ap ak aw n) (ch_hI m) (nI i) (nI (i / 49)) (nI (i / 7 % 7)) (nI (i % 7)) fb fl ff aj an ac ao ap ak aw := fun e => fin false e
  refine pk_le (i % 7) (i / 7 % 7) (fun e => ?_) (fun e => ?_) rfl rfl (by omega) (by omega)
  · exact hz (by unfold ch_gp; rw [decide_eq_false (by omega), Bool.false_and])
  · have dt : decide (i / 7 % 7 < i % 7) = true := decide_eq_true e
    refine ⟨vp_in_nI hv (by decide), ?_⟩
    rw [xw_clamp (v := i / 49) (by omega), A _ hv]
    refine xw_in (G _ hv).1 ha (cd_bb _ (fun f1 => ?_) (fun f1 => ?_))
    · exact hz (by unfold ch_gp; rw [f1, Bool.false_and, Bool.and_false])
    · refine ⟨vp_in_nI hv (by decide), xw_in (G _ hv).1 hb (cd_bb _ (fun f2 => ?_) (fun f2 => ?_))⟩
      · exact hz (by unfold ch_gp; rw [f2, Bool.false_and, Bool.and_false, Bool.and_false])
      · refine ⟨vp_in_nI ha (by decide), ?_⟩
        rw [xw_clamp (v := i / 7 % 7) (by omega), A _ ha]
        refine xw_in (G _ ha).1 hb (cd_bb _ (fun f3 => ?_) (fun f3 => ?_))
        · exact fin true (by unfold ch_gp; rw [dt, f1, f2, f3]; rfl)
        · exact hz (by unfold ch_gp; rw [f3, Bool.not_true, Bool.and_false, Bool.and_false, Bool.and_false])
/-! joining more -/
theorem xw_neatWith {post : Int32 → SX → Prop} {g : Nat → Nat} {a b : Nat} (G : ch_Good g) (A : xw_AG aj g) (ha : a < 7) (hb : b < 7) (hab : a ≠ b)
    (h : post (cd_bI (ch_nt (ch_fl g a b))) (fb, fl, ff, aj, an, ac, ao, ap, ak, aw)) : wpX_neatWith post (fb, fl, ff, aj, an, ac, ao, ap, ak, aw) (nI a) (nI b) := by
  unfold wpX_neatWith
  refine xw_turn G A ha hb hab ?_
  refine xw_neat (ch_fl_good ha hb hab G) (ch_tn_AG A) ?_
  refine xw_turn (ch_fl_good ha hb hab G) (ch_tn_AG A) ha hb hab ?_
  rw [ch_tn_tn ha hb hab A]
  exact ⟨cd_bI_nar _, h⟩
theorem xw_neatJoins {post : Int32 → SX → Prop} {g : Nat → Nat} (G : ch_Good g) (A : xw_AG aj g)
    (h : post (nI (ch_nJ g)) (fb, fl, ff, aj, an, ac, ao, ap, ak, aw)) : wpX_neatJoins post (fb, fl, ff, aj, an, ac, ao, ap, ak, aw) := by
  rw [← ch_nJ_eq] at h
  refine ⟨8, cd_loop (fun n a c => wX_neatJoins_4 post n (nI c) (nI a) fb fl ff aj an ac ao ap ak aw) (fun a c => cd_fo (fun b c => c + ch_nj g a b) (6 - a) (a + 1) c) (fun _ _ => True) 7
    (fun c => post (nI c) (fb, fl, ff, aj, an, ac, ao, ap, ak, aw))
    (fun _ _ _ _ => trivial) (fun n c _ hh => br_t xw_7 hh) ?_ 7 0 0 rfl trivial h 8 (by omega)⟩
  intro n a c ha _ hW
  refine br_f (xw_n7 ha) (nm_r (nI_1 a) ⟨8, ?_⟩)
  refine cd_loop (fun m b c => wX_neatJoins_14 post (wX_neatJoins_4 post n) (nI a) m (nI c) (nI b) fb fl ff aj an ac ao ap ak aw) (fun b c => c + ch_nj g a b) (fun b _ => a < b) 7
    (fun c => wX_neatJoins_4 post n (nI c) (nI (a + 1)) fb fl ff aj an ac ao ap ak aw)
    (fun _ _ _ hab => by omega) (fun m c _ hh => br_t xw_7 (nm_r (nI_1 a) hh)) ?_ (6 - a) (a + 1) c (by omega) (by omega) hW 8 (by omega)
  intro m b c hb hab hW2
  refine br_f (xw_n7 hb) ⟨vp_in_nI ha (by decide), ?_⟩
  rw [xw_clamp (v := a) (by omega), A a ha]
  refine xw_in (G a ha).1 hb (cd_bb _ (fun e => ?_) (fun e => ?_))
  · refine xw_neatWith G A ha hb (by omega) (cd_bb _ (fun e2 => ?_) (fun e2 => ?_))
    · have e3 : ch_nj g a b = 0 := by unfold ch_nj; rw [e2, Bool.and_false]; rfl
      rw [e3] at hW2
      exact nm_r (e' := nI (c + 0)) (by rw [← nI_0, nI_add]) (nm_r (nI_1 b) hW2)
    · have e3 : ch_nj g a b = 1 := by unfold ch_nj; rw [e2, e]; rfl
      rw [e3] at hW2
      exact nm_r (nI_1 c) (nm_r (nI_1 b) hW2)
  · have e3 : ch_nj g a b = 0 := by unfold ch_nj; rw [e, Bool.not_true, Bool.false_and]; rfl
    rw [e3] at hW2
    exact nm_r (e' := nI (c + 0)) (by rw [← nI_0, nI_add]) (nm_r (nI_1 b) hW2)
def ch_fp (g : Nat → Nat) (c : Nat) : Bool := !(ch_op g c && decide (0 < ch_nJ (ch_fl g (c / 7) (c % 7))))
def ch_f23 (b : Bool) : Int32 := if b then 3 else 2
def ch_fill (g : Nat → Nat) : Int32 := if ch_nt g then 0 else if 0 < ch_nJ g then 1 else ch_f23 (cd_al (ch_fp g) 49 0)
theorem xw_fill_l {post : Int32 → SX → Prop} {g : Nat → Nat} (G : ch_Good g) (A : xw_AG aj g) : ∀ d i, i + d = 49 →
    post (ch_f23 (cd_al (ch_fp g) d i)) (fb, fl, ff, aj, an, ac, ao, ap, ak, aw) → ∀ n, d < n → wX_fill_22 post n (nI i) fb fl ff aj an ac ao ap ak aw := by
  intro d
  induction d with
  | zero =>
    intro i hi h n hn
    obtain ⟨m, rfl⟩ : ∃ m, n = m + 1 := ⟨n - 1, by omega⟩
    have e : i = 49 := by omega
    subst e
    exact br_t (by decide) h
  | succ d ih =>
    intro i hi h n hn
    obtain ⟨m, rfl⟩ : ∃ m, n = m + 1 := ⟨n - 1, by omega⟩
    have ha : i / 7 < 7 := by omega
    have hb : i % 7 < 7 := by omega
    have e0 : nI i / 7 = nI (i / 7) := pk_div (d := 7) (by omega) (by decide) (by decide)
    have e3 : nI i - nI i / 7 * 7 = nI (i % 7) := pk_rem (d := 7) (by omega) (by decide) (by decide)
    have h' : post (ch_f23 (ch_fp g i && cd_al (ch_fp g) d (i + 1))) (fb, fl, ff, aj, an, ac, ao, ap, ak, aw) := h
    have go : ch_fp g i = true → wX_fill_22 post m (nI (i + 1)) fb fl ff aj an ac ao ap ak aw := by
      intro e
      rw [e, Bool.true_and] at h'
      exact ih (i + 1) (by omega) h' m (by omega)
    refine br_f (nI_ge (b := 49) (by omega) (by decide)) ⟨by decide, nm_r e0 ⟨by decide, nm_r e3 ?_⟩⟩
    refine pk_le (i % 7) (i / 7) (fun e => ?_) (fun e => ?_) rfl rfl (by omega) (by omega)
    · exact nm_r (nI_1 i) (go (by unfold ch_fp ch_op; rw [decide_eq_false (p := i / 7 < i % 7) (by omega), Bool.false_and, Bool.false_and]; rfl))
    · have dt : decide (i / 7 < i % 7) = true := decide_eq_true e
      refine ⟨vp_in_nI ha (by decide), ?_⟩
      rw [xw_clamp (v := i / 7) (by omega), A _ ha]
      refine xw_in (G _ ha).1 hb (cd_bb _ (fun f1 => ?_) (fun f1 => ?_))
      · have hop : ch_op g i = true := by unfold ch_op; rw [dt, f1]; rfl
        have hab : i / 7 ≠ i % 7 := by omega
        have hle := ch_nJ_le (ch_fl g (i / 7) (i % 7))
        refine xw_turn G A ha hb hab ?_
        refine xw_neatJoins (ch_fl_good ha hb hab G) (ch_tn_AG A) ?_
        refine xw_turn (ch_fl_good ha hb hab G) (ch_tn_AG A) ha hb hab ?_
        rw [ch_tn_tn ha hb hab A]
        refine pk_le (ch_nJ (ch_fl g (i / 7) (i % 7))) 0 (fun e4 => ?_) (fun e4 => ?_) rfl rfl (by omega) (by decide)
        · exact nm_r (nI_1 i) (go (by unfold ch_fp; rw [decide_eq_false (p := 0 < ch_nJ (ch_fl g (i / 7) (i % 7))) (by omega), Bool.and_false]; rfl))
        · have e5 : ch_fp g i = false := by unfold ch_fp; rw [hop, decide_eq_true e4]; rfl
          rw [e5, Bool.false_and] at h'
          exact h'
      · exact nm_r (nI_1 i) (go (by unfold ch_fp ch_op; rw [f1, Bool.not_true, Bool.and_false, Bool.false_and]; rfl))
theorem xw_fill {post : Int32 → SX → Prop} {g : Nat → Nat} (G : ch_Good g) (A : xw_AG aj g)
    (h : post (ch_fill g) (fb, fl, ff, aj, an, ac, ao, ap, ak, aw)) : wpX_fill post (fb, fl, ff, aj, an, ac, ao, ap, ak, aw) := by
  unfold wpX_fill
  unfold ch_fill at h
  refine xw_neat G A (cd_bb _ (fun e => ?_) (fun e => ?_))
  · rw [e, if_neg (by decide)] at h
    refine xw_neatJoins G A ?_
    have hle := ch_nJ_le g
    refine pk_le (ch_nJ g) 0 (fun e2 => ?_) (fun e2 => ?_) rfl rfl (by omega) (by decide)
    · rw [if_neg (by omega)] at h
      exact ⟨50, xw_fill_l G A 49 0 rfl h 50 (by omega)⟩
    · rw [if_pos e2] at h
      exact h
  · rw [e, if_pos rfl] at h
    exact h
end
end
section
/-! Y's walks -/
theorem yw_gt6 {x : Int32} (h : (7 : Int32) ≤ x) : 6 < x := Int32.lt_of_lt_of_le (by decide) h
section
variable {f t : Nat → Int32}
theorem yw_pair_in {post : Int32 → Prop} {a b : Nat} (ha : a < 7) (hb : b < 7) (hab : a ≠ b) (h : post 1) : wpY_pair post (f, t) (nI a) (nI b) :=
  br_f (fun e => hab ((nI_eq (by omega) (by omega)).1 e)) (br_f (nI_pos (by omega)) (br_f (nI_nlt (b := a) (a := 6) (by omega) (by decide))
    (br_f (nI_pos (by omega)) (br_f (nI_nlt (b := b) (a := 6) (by omega) (by decide)) h))))
theorem yw_pair_out {post : Int32 → Prop} {x y : Int32} (ho : x = y ∨ (x < 0 ∨ (7 : Int32) ≤ x) ∨ (y < 0 ∨ (7 : Int32) ≤ y)) (h : post 0) : wpY_pair post (f, t) x y := by
  refine br_c (fun _ => h) (fun n1 => br_c (fun _ => h) (fun n2 => br_c (fun _ => h) (fun n3 => br_c (fun _ => h) (fun n4 => br_c (fun _ => h) (fun n5 => ?_)))))
  rcases ho with ho | (ho | ho) | (ho | ho)
  · exact absurd ho n1
  · exact absurd ho n2
  · exact absurd (yw_gt6 ho) n3
  · exact absurd ho n4
  · exact absurd (yw_gt6 ho) n5
theorem yw_flip {post : SY → Prop} {g : Nat → Nat} {a b : Nat} (A : xw_AG f g) (ha : a < 7) (hb : b < 7) (hab : a ≠ b)
    (h : post (ch_tn g f a b, t)) : wpY_flip post (f, t) (nI a) (nI b) := by
  have ia : vp_in (nI a) 7 := vp_in_nI ha (by decide)
  have ib : vp_in (nI b) 7 := vp_in_nI hb (by decide)
  refine ⟨ia, ia, nm_r (e' := upd f a (nI (g a ^^^ 2 ^ b))) ?_ ⟨ib, ib, nm_r (e' := ch_tn g f a b) ?_ h⟩⟩
  · rw [xw_clamp (by omega), A a ha, cd_one_shl hb, nx_xor]
  · rw [xw_clamp (by omega), pk_un (fun e => hab e.symm), A b hb, cd_one_shl ha, nx_xor]
    rfl
theorem yw_joined {post : Int32 → Prop} {g : Nat → Nat} {a b : Nat} (G : ch_Good g) (A : xw_AG f g) (ha : a < 7) (hb : b < 7) (h : post (cd_bI ((g a).testBit b))) :
    wpY_joined post (f, t) (nI a) (nI b) := by
  refine ⟨vp_in_nI ha (by decide), ?_⟩
  rw [xw_clamp (v := a) (by omega), A a ha]
  exact cd_b1 (G a ha).1 hb (fun e => by rw [e] at h; exact h) (fun e => by rw [e] at h; exact h)
theorem yw_count {post : Int32 → Prop} {s : Nat} (hs : s < 128) (h : post (nI (cd_ones s))) : wpY_count post (f, t) (nI s) :=
  ⟨8, cd_loop (fun n i c => wY_count_4 post (nI s) f t n (nI c) (nI i)) (fun v n => n + (s.testBit v).toNat) (fun _ _ => True) 7 (fun c => post (nI c))
    (fun _ _ _ _ => trivial) (fun n c _ hc => br_t xw_7 hc)
    (fun n i c hi _ hW => br_f (xw_n7 hi) (nm_r (by rw [cd_bit hs hi, nI_add]) (nm_r (nI_1 i) hW)))
    7 0 0 rfl trivial h 8 (by omega)⟩
theorem yw_joins {post : Int32 → Prop} {g : Nat → Nat} (G : ch_Good g) (A : xw_AG f g) (h : post (nI (cd_fo (fun v n => n + cd_ones (g v)) 7 0 0) / 2)) :
    wpY_joins post (f, t) :=
  ⟨8, cd_loop (fun n v s => wY_joins_4 post f t n (nI s) (nI v)) (fun v n => n + cd_ones (g v)) (fun _ _ => True) 7 (fun s => post (nI s / 2))
    (fun _ _ _ _ => trivial) (fun n s _ hh => br_t xw_7 ⟨by decide, hh⟩)
    (fun n v s hv _ hW => br_f (xw_n7 hv) ⟨vp_in_nI hv (by decide), by
      rw [xw_clamp (by omega), A v hv]
      exact yw_count (G v hv).1 (nm_r (nI_add _ _) (nm_r (nI_1 v) hW))⟩)
    7 0 0 rfl trivial h 8 (by omega)⟩
theorem yw_clique_0 {post : Int32 → Prop} {x : Int32} (h : post 0) : ∀ d v, v + d = 7 → ∀ n, d < n → wY_clique_18 post x f t n 0 (nI v) := by
  intro d
  induction d with
  | zero =>
    intro v hv n hn
    obtain ⟨m, rfl⟩ : ∃ m, n = m + 1 := ⟨n - 1, by omega⟩
    have e : v = 7 := by omega
    subst e
    exact br_t xw_7 ⟨rfl, h⟩
  | succ d ih =>
    intro v hv n hn
    obtain ⟨m, rfl⟩ : ∃ m, n = m + 1 := ⟨n - 1, by omega⟩
    exact br_f (xw_n7 (by omega)) (br_t rfl (nm_r (nI_1 v) (ih (v + 1) (by omega) m (by omega))))
theorem yw_clique_l {post : Int32 → Prop} {g : Nat → Nat} {s : Nat} (A : xw_AG f g) (hs : s < 128) : ∀ d v, v + d = 7 →
    post (cd_bI (cd_al (ch_ok g s) d v)) → ∀ n, d < n → wY_clique_18 post (nI s) f t n 1 (nI v) := by
  intro d
  induction d with
  | zero =>
    intro v hv h n hn
    obtain ⟨m, rfl⟩ : ∃ m, n = m + 1 := ⟨n - 1, by omega⟩
    have e : v = 7 := by omega
    subst e
    exact br_t xw_7 ⟨rfl, h⟩
  | succ d ih =>
    intro v hv h n hn
    obtain ⟨m, rfl⟩ : ∃ m, n = m + 1 := ⟨n - 1, by omega⟩
    have hv7 : v < 7 := by omega
    have h' : post (cd_bI (ch_ok g s v && cd_al (ch_ok g s) d (v + 1))) := h
    refine br_f (xw_n7 hv7) (br_f (by decide) (cd_b0 hs hv7 (fun e => ?_) (fun e => ?_)))
    · refine nm_r (nI_1 v) (ih (v + 1) (by omega) ?_ m (by omega))
      have e2 : ch_ok g s v = true := by unfold ch_ok; rw [e]; rfl
      rw [e2, Bool.true_and] at h'
      exact h'
    · refine ⟨vp_in_nI hv7 (by decide), ?_⟩
      have e3 : (nI s &&& ((f (nI v).toNatClampNeg) ^^^ (-1))) &&& (((1 : Int32) <<< (nI v &&& 31)) ^^^ (-1)) = nI (cd_dif (cd_dif s (g v)) (2 ^ v)) := by
        rw [xw_clamp (by omega), A v hv7, cd_one_shl hv7, cd_and_not, cd_and_not]
      rw [e3]
      refine pk_eq (cd_dif (cd_dif s (g v)) (2 ^ v)) 0 (fun e4 => ?_) (fun e4 => ?_) rfl rfl (Nat.lt_of_lt_of_le (cd_dif_lt (cd_dif_lt hs)) (by decide)) (by decide)
      · refine nm_r (nI_1 v) (ih (v + 1) (by omega) ?_ m (by omega))
        have e2 : ch_ok g s v = true := by unfold ch_ok; rw [e4, decide_eq_true rfl, Bool.or_true]
        rw [e2, Bool.true_and] at h'
        exact h'
      · have e2 : ch_ok g s v = false := by unfold ch_ok; rw [e, decide_eq_false e4]; rfl
        rw [e2, Bool.false_and] at h'
        exact nm_r (nI_1 v) (yw_clique_0 h' d (v + 1) (by omega) m (by omega))
theorem yw_clique {post : Int32 → Prop} {g : Nat → Nat} {s : Nat} (A : xw_AG f g) (hs : s < 128) (h : post (cd_bI (ch_cq g s))) : wpY_clique post (f, t) (nI s) :=
  br_f (nI_pos (by omega)) (br_f (nI_nlt (b := s) (a := 127) (by omega) (by decide)) ⟨8, yw_clique_l A hs 7 0 rfl h 8 (by omega)⟩)
theorem yw_clique_out {post : Int32 → Prop} {x : Int32} (hx : x < 0 ∨ 127 < x) (h : post 0) : wpY_clique post (f, t) x := by
  refine br_c (fun _ => ⟨8, yw_clique_0 h 7 0 rfl 8 (by omega)⟩) (fun n1 => br_c (fun _ => ⟨8, yw_clique_0 h 7 0 rfl 8 (by omega)⟩) (fun n2 => ?_))
  rcases hx with hx | hx
  · exact absurd hx n1
  · exact absurd hx n2
theorem yw_apart_0 {post : Int32 → Prop} {x : Int32} (h : post 0) : ∀ d v, v + d = 7 → ∀ n, d < n → wY_apart_4 post x f t n 0 (nI v) := by
  intro d
  induction d with
  | zero =>
    intro v hv n hn
    obtain ⟨m, rfl⟩ : ∃ m, n = m + 1 := ⟨n - 1, by omega⟩
    have e : v = 7 := by omega
    subst e
    exact br_t xw_7 ⟨rfl, h⟩
  | succ d ih =>
    intro v hv n hn
    obtain ⟨m, rfl⟩ : ∃ m, n = m + 1 := ⟨n - 1, by omega⟩
    exact br_f (xw_n7 (by omega)) (br_t rfl (nm_r (nI_1 v) (ih (v + 1) (by omega) m (by omega))))
theorem yw_apart_l {post : Int32 → Prop} {g : Nat → Nat} {s : Nat} (A : xw_AG f g) (hs : s < 128) : ∀ d v, v + d = 7 →
    post (cd_bI (cd_al (ch_apo g s) d v)) → ∀ n, d < n → wY_apart_4 post (nI s) f t n 1 (nI v) := by
  intro d
  induction d with
  | zero =>
    intro v hv h n hn
    obtain ⟨m, rfl⟩ : ∃ m, n = m + 1 := ⟨n - 1, by omega⟩
    have e : v = 7 := by omega
    subst e
    exact br_t xw_7 ⟨rfl, h⟩
  | succ d ih =>
    intro v hv h n hn
    obtain ⟨m, rfl⟩ : ∃ m, n = m + 1 := ⟨n - 1, by omega⟩
    have hv7 : v < 7 := by omega
    have h' : post (cd_bI (ch_apo g s v && cd_al (ch_apo g s) d (v + 1))) := h
    refine br_f (xw_n7 hv7) (br_f (by decide) (cd_b0 hs hv7 (fun e => ?_) (fun e => ?_)))
    · refine nm_r (nI_1 v) (ih (v + 1) (by omega) ?_ m (by omega))
      have e2 : ch_apo g s v = true := by unfold ch_apo; rw [e]; rfl
      rw [e2, Bool.true_and] at h'
      exact h'
    · refine ⟨vp_in_nI hv7 (by decide), ?_⟩
      have e3 : nI s &&& f (nI v).toNatClampNeg = nI (s &&& g v) := by
        rw [xw_clamp (by omega), A v hv7, nx_and]
      rw [e3]
      refine pk_eq (s &&& g v) 0 (fun e4 => ?_) (fun e4 => ?_) rfl rfl (Nat.lt_of_lt_of_le (cd_and_lt hs) (by decide)) (by decide)
      · refine nm_r (nI_1 v) (ih (v + 1) (by omega) ?_ m (by omega))
        have e2 : ch_apo g s v = true := by unfold ch_apo; rw [e4, decide_eq_true rfl, Bool.or_true]
        rw [e2, Bool.true_and] at h'
        exact h'
      · have e2 : ch_apo g s v = false := by unfold ch_apo; rw [e, decide_eq_false e4]; rfl
        rw [e2, Bool.false_and] at h'
        exact nm_r (nI_1 v) (yw_apart_0 h' d (v + 1) (by omega) m (by omega))
theorem yw_apart {post : Int32 → Prop} {g : Nat → Nat} {s : Nat} (A : xw_AG f g) (hs : s < 128) (h : post (cd_bI (ch_ap g s))) : wpY_apart post (f, t) (nI s) :=
  ⟨8, yw_apart_l A hs 7 0 rfl h 8 (by omega)⟩
theorem yw_easyIn {post : Int32 → Prop} {g : Nat → Nat} {v s : Nat} (G : ch_Good g) (A : xw_AG f g) (hv : v < 7) (h : post (cd_bI (ch_ez g v s))) :
    wpY_easyIn post (f, t) (nI v) (nI s) := by
  refine ⟨vp_in_nI hv (by decide), ?_⟩
  rw [xw_clamp (v := v) (by omega), A v hv, nx_and]
  exact yw_clique A (cd_and_lt (G v hv).1) ⟨cd_bI_nar _, h⟩
theorem yw_easy {post : Int32 → Prop} {g : Nat → Nat} (G : ch_Good g) (A : xw_AG f g) (h : post (nI (cd_fo (ch_es g) 7 0 0))) : wpY_easy post (f, t) :=
  ⟨8, cd_loop (fun n v s => wY_easy_4 post f t n (nI s) (nI v)) (ch_es g) (fun _ _ => True) 7 (fun s => post (nI s))
    (fun _ _ _ _ => trivial) (fun n s _ hh => br_t xw_7 hh)
    (fun n v s hv _ hW => br_f (xw_n7 hv) (yw_easyIn G A hv (cd_bb _
      (fun e => nm_r (nI_1 v) (by
        have e2 : ch_es g v s = s := by unfold ch_es; rw [e]; rfl
        rw [e2] at hW
        exact hW))
      (fun e => nm_r (e' := nI (ch_es g v s)) (by
        have e2 : ch_es g v s = s ||| 2 ^ v := by unfold ch_es; rw [e]; rfl
        rw [e2, cd_one_shl hv, cd_or]) (nm_r (nI_1 v) hW)))))
    7 0 0 rfl trivial h 8 (by omega)⟩
theorem yw_core_in {post : Int32 → Prop} {J5 : Int32 → Int32 → Prop} {g : Nat → Nat} {i s : Nat} (G : ch_Good g) (A : xw_AG f g) (hs : s < 128)
    (h : J5 (nI (ch_sweep g s)) (nI (i + 1))) : ∃ n, wY_core_13 post J5 (nI i) f t n (nI s) 0 :=
  ⟨8, cd_loop (fun n v s => wY_core_13 post J5 (nI i) f t n (nI s) (nI v)) (ch_cs g) (fun _ s => s < 128) 7 (fun s => J5 (nI s) (nI (i + 1)))
    (fun _ _ _ hh => ch_cs_lt hh)
    (fun n s _ hh => br_t xw_7 (nm_r (nI_1 i) hh))
    (fun n v s hv hs hW => br_f (xw_n7 hv) (cd_b1 hs hv
      (fun e => yw_easyIn G A hv (cd_bb _
        (fun e3 => br_t rfl (nm_r (nI_1 v) (by
          have e2 : ch_cs g v s = s := by unfold ch_cs; rw [e3, Bool.and_false]; rfl
          rw [e2] at hW
          exact hW)))
        (fun e3 => br_f (by decide) (nm_r (e' := nI (ch_cs g v s)) (by
          have e2 : ch_cs g v s = cd_dif s (2 ^ v) := by unfold ch_cs; rw [e, e3]; rfl
          rw [e2, cd_one_shl hv, cd_and_not]) (nm_r (nI_1 v) hW)))))
      (fun e => br_t rfl (nm_r (nI_1 v) (by
        have e2 : ch_cs g v s = s := by unfold ch_cs; rw [e]; rfl
        rw [e2] at hW
        exact hW)))))
    7 0 s rfl hs h 8 (by omega)⟩
theorem yw_core {post : Int32 → Prop} {g : Nat → Nat} (G : ch_Good g) (A : xw_AG f g) (h : post (nI (ch_core g))) : wpY_core post (f, t) := by
  have h' : post (nI (cd_fo (fun _ s => ch_sweep g s) 7 0 127)) := by rw [cd_fo_eq_it]; exact h
  exact ⟨8, cd_loop (fun n i s => wY_core_5 post f t n (nI s) (nI i)) (fun _ s => ch_sweep g s) (fun _ s => s < 128) 7 (fun s => post (nI s))
    (fun _ _ _ hh => ch_sweep_lt hh) (fun n s _ hh => br_t xw_7 hh)
    (fun n i s hi hs hW => br_f (xw_n7 hi) (yw_core_in G A hs hW))
    7 0 127 rfl (by decide) h' 8 (by omega)⟩
/-! holes -/
theorem yw_pass {post : Int32 → Prop} {J : Int32 → Int32 → Prop} {x2 : Int32} {g : Nat → Nat} {i s r : Nat} (A : xw_AG f g) (hs : s < 128) (hr : r < 128)
    (h : J (nI (ch_pass g s r)) (nI (i + 1))) : ∃ n, wY_hole_115 post J (nI s) x2 (nI i) f t n (nI r) 0 :=
  ⟨8, cd_loop (fun n v r => wY_hole_115 post J (nI s) x2 (nI i) f t n (nI r) (nI v)) (ch_sw g s) (fun _ r => r < 128) 7 (fun r => J (nI r) (nI (i + 1)))
    (fun _ _ _ hh => ch_sw_lt hs hh) (fun n r _ hh => br_t xw_7 (nm_r (nI_1 i) hh))
    (fun n v r hv hr hW => br_f (xw_n7 hv) (cd_b1 hr hv
      (fun e => ⟨vp_in_nI hv (by decide), nm_r (e' := nI (ch_sw g s v r)) (by
        have e2 : ch_sw g s v r = r ||| (g v &&& s) := by unfold ch_sw; rw [e]; rfl
        rw [e2, xw_clamp (by omega), A v hv, nx_and, cd_or]) (nm_r (nI_1 v) hW)⟩)
      (fun e => nm_r (nI_1 v) (by
        have e2 : ch_sw g s v r = r := by unfold ch_sw; rw [e]; rfl
        rw [e2] at hW
        exact hW))))
    7 0 r rfl hr h 8 (by omega)⟩
theorem yw_hole_2 {post : Int32 → Prop} {g : Nat → Nat} {s r : Nat} {ok : Bool} (A : xw_AG f g) (hs : s < 128) (hr : r < 128)
    (h : post (cd_bI (ok && decide (cd_it (ch_pass g s) 7 r = s)))) : ∃ n, wY_hole_101 post (nI s) (cd_bI ok) f t n (nI r) 0 := by
  cases ok with
  | false => exact ⟨1, br_f (by decide) (br_t rfl (br_t rfl h))⟩
  | true =>
    have h' : post (cd_bI (decide (cd_fo (fun _ r => ch_pass g s r) 7 0 r = s))) := by rw [cd_fo_eq_it]; exact h
    refine ⟨8, cd_loop (fun n i r => wY_hole_101 post (nI s) (cd_bI true) f t n (nI r) (nI i)) (fun _ r => ch_pass g s r) (fun _ r => r < 128) 7
      (fun r => post (cd_bI (decide (r = s)))) (fun _ _ _ hh => ch_pass_lt hs hh) ?_
      (fun n i r hi hr hW => br_f (xw_n7 hi) (br_f (by decide) (yw_pass A hs hr hW))) 7 0 r rfl hr h' 8 (by omega)⟩
    intro n r hr hh
    refine br_t xw_7 (br_f (by decide) (pk_eq r s (fun e => ?_) (fun e => ?_) rfl rfl (Nat.lt_of_lt_of_le hr (by decide)) (by omega)))
    · rw [decide_eq_true e] at hh
      exact hh
    · rw [decide_eq_false e] at hh
      exact hh
theorem yw_hole_1 {post : Int32 → Prop} {g : Nat → Nat} {s : Nat} (G : ch_Good g) (A : xw_AG f g) (hs : s < 128) : ∀ k ok fi, k ≤ 7 → fi < 7 →
    post (cd_bI ((ch_down g s k ok fi).1 && decide (cd_it (ch_pass g s) 7 (2 ^ (ch_down g s k ok fi).2) = s))) → ∀ n, k < n →
    wY_hole_21 post (nI s) f t n (cd_bI ok) (nI fi) (nI k + (-1)) := by
  intro k
  induction k with
  | zero =>
    intro ok fi _ hfi h n hn
    obtain ⟨m, rfl⟩ : ∃ m, n = m + 1 := ⟨n - 1, by omega⟩
    exact br_t (by decide) (nm_r (cd_one_shl hfi) (yw_hole_2 A hs (cd_pow_lt hfi) h))
  | succ k ih =>
    intro ok fi hk hfi h n hn
    obtain ⟨m, rfl⟩ : ∃ m, n = m + 1 := ⟨n - 1, by omega⟩
    have hk7 : k < 7 := by omega
    rw [pk_m1]
    -- the join at the end of a round
    have go : ∀ ok', ok' = (ok && (!s.testBit k || decide (cd_ones (g k &&& s) = 2))) →
        wY_hole_74 post (wY_hole_21 post (nI s) f t m) (nI s) (nI fi) (nI k) (cd_bI (s.testBit k)) (cd_bI ok') f t := by
      intro ok' e
      subst e
      have h' := ih (ok && (!s.testBit k || decide (cd_ones (g k &&& s) = 2))) (if s.testBit k then k else fi) (by omega) (by split <;> omega) h m (by omega)
      refine cd_bb _ (fun e2 => nm_e ?_) (fun e2 => nm_e ?_)
      · rw [e2, if_neg (by decide)] at h'
        rw [e2]
        exact h'
      · rw [e2, if_pos rfl] at h'
        rw [e2]
        exact h'
    have main : wY_hole_41 post (wY_hole_21 post (nI s) f t m) (nI s) (cd_bI ok) (nI fi) (nI k) (cd_bI (s.testBit k)) f t := by
      refine cd_bb ok (fun e1 => go false (by rw [e1]; rfl)) (fun e1 => cd_bb _ (fun e2 => go true (by rw [e1, e2]; rfl)) (fun e2 => ?_))
      refine ⟨vp_in_nI hk7 (by decide), ?_⟩
      rw [xw_clamp (v := k) (by omega), A k hk7, nx_and]
      have hle := cd_ones_le (g k &&& s)
      refine yw_count (cd_and_lt' hs) (pk_eq (cd_ones (g k &&& s)) 2 (fun e3 => go true ?_) (fun e3 => go false ?_) rfl rfl (by omega) (by decide))
      · rw [e1, decide_eq_true e3, Bool.or_true]; rfl
      · rw [e1, e2, decide_eq_false e3]; rfl
    refine br_f (nI_pos (by omega)) (cd_b1 hs hk7 (fun e => ?_) (fun e => ?_))
    · rw [e] at main
      exact main
    · rw [e] at main
      exact main
theorem yw_hole {post : Int32 → Prop} {g : Nat → Nat} {s : Nat} (G : ch_Good g) (A : xw_AG f g) (hs : s < 128) (h : post (cd_bI (ch_ho g s))) : wpY_hole post (f, t) (nI s) := by
  have hle := cd_ones_le s
  unfold ch_ho at h
  unfold wpY_hole
  refine yw_count hs (pk_lt (cd_ones s) 4 (fun e => ⟨8, ?_⟩) (fun e => ⟨8, ?_⟩) rfl rfl (by omega) (by decide))
  · rw [decide_eq_false (p := 4 ≤ cd_ones s) (by omega)] at h
    exact yw_hole_1 G A hs 7 false 0 (by omega) (by omega) h 8 (by omega)
  · rw [decide_eq_true e] at h
    exact yw_hole_1 G A hs 7 true 0 (by omega) (by omega) h 8 (by omega)
theorem yw_neat_l {post : Int32 → Prop} {g : Nat → Nat} (G : ch_Good g) (A : xw_AG f g) : ∀ d i b, i + d = 128 →
    post (cd_bI (!b && cd_al (fun s => !ch_ho g s) d i)) → ∀ n, d < n → wY_neat_4 post f t n (cd_bI b) (nI i) := by
  intro d
  induction d with
  | zero =>
    intro i b hi h n hn
    obtain ⟨m, rfl⟩ : ∃ m, n = m + 1 := ⟨n - 1, by omega⟩
    have e : i = 128 := by omega
    subst e
    refine br_t (by decide) (cd_bb b (fun e => ?_) (fun e => ?_))
    · rw [e] at h; exact h
    · rw [e] at h; exact h
  | succ d ih =>
    intro i b hi h n hn
    obtain ⟨m, rfl⟩ : ∃ m, n = m + 1 := ⟨n - 1, by omega⟩
    refine br_f (nI_ge (b := 128) (by omega) (by decide)) (cd_bb b (fun e => ?_) (fun e => ?_))
    · refine yw_hole G A (by omega) (nm_r (nI_1 i) (ih (i + 1) (ch_ho g i) (by omega) ?_ m (by omega)))
      rw [e] at h
      exact h
    · rw [e] at h ⊢
      exact br_f (by decide) h
theorem yw_nt {g : Nat → Nat} (G : ch_Good g) : ch_nt g = cd_al (fun s => !ch_ho g s) 128 0 := by
  rw [Bool.eq_iff_iff, cd_al0]
  unfold ch_nt
  rw [decide_eq_true_iff, ch_neat_iff G]
  constructor
  · intro h s hs
    show (!ch_ho g s) = true
    rw [h s hs]; rfl
  · intro h s hs
    have h1 : (!ch_ho g s) = true := h s hs
    rw [Bool.not_eq_true'] at h1
    exact h1
theorem yw_neat {post : Int32 → Prop} {g : Nat → Nat} (G : ch_Good g) (A : xw_AG f g) (h : post (cd_bI (ch_nt g))) : wpY_neat post (f, t) := by
  refine ⟨129, yw_neat_l G A 128 0 false rfl ?_ 129 (by omega)⟩
  rw [Bool.not_false, Bool.true_and, ← yw_nt G]
  exact h
end
end
section
/-! Y: the counts over all sets, colours, orders, the smallest hole, joining more -/
theorem yw_cnt (q : Nat → Bool) (N : Nat) : cd_fo (fun s n => n + (q s).toNat) N 0 0 = cd_cnt q N :=
  cd_foI (fun s n => n + (q s).toNat) (fun i n => n = cd_cnt q i) N (fun i n _ h => by rw [h]; rfl) N 0 0 (by omega) rfl
section
variable {f t : Nat → Int32}
theorem yw_mx {J : Int32 → Prop} {n m : Nat} (hn : n ≤ 7) (hm : m ≤ 7) (h : J (nI (ch_mx m n))) : (nI n ≤ nI m → J (nI m)) ∧ (¬ nI n ≤ nI m → J (nI n)) := by
  refine pk_le n m (fun e => ?_) (fun e => ?_) rfl rfl (by omega) (by omega)
  · unfold ch_mx at h; rw [if_pos e] at h; exact h
  · unfold ch_mx at h; rw [if_neg (by omega)] at h; exact h
theorem yw_lg_le {q : Nat → Bool} {s m : Nat} (h : m ≤ 7) : ch_lg q s m ≤ 7 := by
  have := cd_ones_le s
  unfold ch_lg ch_mx
  split
  · split <;> omega
  · exact h
theorem yw_largestClique {post : Int32 → Prop} {g : Nat → Nat} (A : xw_AG f g) (h : post (nI (ch_large (ch_cq g)))) : wpY_largestClique post (f, t) := by
  refine ⟨129, cd_loop (fun n s m => wY_largestClique_4 post f t n (nI m) (nI s)) (ch_lg (ch_cq g)) (fun _ m => m ≤ 7) 128 (fun m => post (nI m))
    (fun _ _ _ hh => yw_lg_le hh) (fun n m _ hh => br_t (by decide) hh) ?_ 128 0 0 rfl (by omega) h 129 (by omega)⟩
  intro n s m hs hm hW
  refine br_f (nI_ge (b := 128) (by omega) (by decide)) (yw_count hs (yw_clique A hs (cd_bb _ (fun e => ?_) (fun e => ?_))))
  · unfold ch_lg at hW
    rw [e, if_neg (by decide)] at hW
    exact nm_r (nI_1 s) hW
  · unfold ch_lg at hW
    rw [e, if_pos rfl] at hW
    exact yw_mx (J := fun z => ∀ y, y = nI s + 1 → wY_largestClique_4 post f t n z y) (cd_ones_le s) hm (nm_r (nI_1 s) hW)
theorem yw_largestApart {post : Int32 → Prop} {g : Nat → Nat} (A : xw_AG f g) (h : post (nI (ch_large (ch_ap g)))) : wpY_largestApart post (f, t) := by
  refine ⟨129, cd_loop (fun n s m => wY_largestApart_4 post f t n (nI m) (nI s)) (ch_lg (ch_ap g)) (fun _ m => m ≤ 7) 128 (fun m => post (nI m))
    (fun _ _ _ hh => yw_lg_le hh) (fun n m _ hh => br_t (by decide) hh) ?_ 128 0 0 rfl (by omega) h 129 (by omega)⟩
  intro n s m hs hm hW
  refine br_f (nI_ge (b := 128) (by omega) (by decide)) (yw_count hs (yw_apart A hs (cd_bb _ (fun e => ?_) (fun e => ?_))))
  · unfold ch_lg at hW
    rw [e, if_neg (by decide)] at hW
    exact nm_r (nI_1 s) hW
  · unfold ch_lg at hW
    rw [e, if_pos rfl] at hW
    exact yw_mx (J := fun z => ∀ y, y = nI s + 1 → wY_largestApart_4 post f t n z y) (cd_ones_le s) hm (nm_r (nI_1 s) hW)
theorem yw_full_l {post : Int32 → Prop} {J4 : Int32 → Int32 → Prop} {g : Nat → Nat} {c s : Nat} (A : xw_AG f g) (hs : s < 128) : ∀ d v b, v + d = 7 →
    J4 (nI (c + (b && cd_al (ch_fv g s) d v).toNat)) (nI (s + 1)) → ∀ n, d < n → wY_fullCliques_20 post J4 (nI c) (nI s) f t n (cd_bI b) (nI v) := by
  intro d
  induction d with
  | zero =>
    intro v b hv h n hn
    obtain ⟨m, rfl⟩ : ∃ m, n = m + 1 := ⟨n - 1, by omega⟩
    have e : v = 7 := by omega
    subst e
    refine br_t xw_7 (cd_bb b (fun e => ?_) (fun e => ?_))
    · rw [e] at h
      exact nm_r (nI_1 s) h
    · rw [e] at h
      exact nm_r (nI_1 c) (nm_r (nI_1 s) h)
  | succ d ih =>
    intro v b hv h n hn
    obtain ⟨m, rfl⟩ : ∃ m, n = m + 1 := ⟨n - 1, by omega⟩
    have hv7 : v < 7 := by omega
    have h' : J4 (nI (c + (b && (ch_fv g s v && cd_al (ch_fv g s) d (v + 1))).toNat)) (nI (s + 1)) := h
    refine br_f (xw_n7 hv7) (cd_bb b (fun e => ?_) (fun e => ?_))
    · rw [e, Bool.false_and] at h'
      exact nm_r (nI_1 v) (ih (v + 1) false (by omega) (by rw [Bool.false_and]; exact h') m (by omega))
    · rw [e, Bool.true_and] at h'
      refine cd_b1 hs hv7 (fun e2 => ?_) (fun e2 => ?_)
      · have e3 : ch_fv g s v = true := by unfold ch_fv; rw [e2]; rfl
        rw [e3] at h'
        exact nm_r (nI_1 v) (ih (v + 1) true (by omega) h' m (by omega))
      · rw [cd_one_shl hv7, cd_or]
        refine yw_clique A (cd_or_lt hs (cd_pow_lt hv7)) (cd_bb _ (fun e4 => ?_) (fun e4 => ?_))
        · have e3 : ch_fv g s v = true := by unfold ch_fv; rw [e2, e4]; rfl
          rw [e3] at h'
          exact nm_r (nI_1 v) (ih (v + 1) true (by omega) h' m (by omega))
        · have e3 : ch_fv g s v = false := by unfold ch_fv; rw [e2, e4]; rfl
          rw [e3] at h'
          exact nm_r (nI_1 v) (ih (v + 1) false (by omega) h' m (by omega))
theorem yw_fullCliques {post : Int32 → Prop} {g : Nat → Nat} (A : xw_AG f g) (h : post (nI (cd_cnt (fun H => ch_cq g H && ch_full g H) 128))) : wpY_fullCliques post (f, t) := by
  rw [← yw_cnt] at h
  refine ⟨129, cd_loop (fun n s c => wY_fullCliques_4 post f t n (nI c) (nI s)) (fun s c => c + (ch_cq g s && ch_full g s).toNat) (fun _ _ => True) 128 (fun c => post (nI c))
    (fun _ _ _ _ => trivial) (fun n m _ hh => br_t (by decide) hh) ?_ 128 0 0 rfl trivial h 129 (by omega)⟩
  intro n s c hs _ hW
  exact br_f (nI_ge (b := 128) (by omega) (by decide)) (yw_clique A hs ⟨8, yw_full_l A hs 7 0 (ch_cq g s) rfl hW 8 (by omega)⟩)
theorem yw_ur {s : Nat} : upd t s (t s) = t := by
  funext j
  by_cases e : j = s
  · subst e; rw [pk_us]
  · rw [pk_un e]
/-! orders -/
theorem yw_orders_in {post : Int32 → SY → Prop} {J9 : Int32 → (Nat → Int32) → (Nat → Int32) → Prop} {g : Nat → Nat} {s : Nat} (G : ch_Good g) (A : xw_AG f g) (hs : s < 128)
    (h : J9 (nI (s + 1)) f (upd t s (cd_fo (ch_os g t s) 7 0 0))) : ∃ n, wY_orders_25 post J9 (nI s) n 0 f (upd t s 0) := by
  have is : vp_in (nI s) 128 := vp_in_nI hs (by decide)
  refine ⟨8, cd_loop (fun n v acc => wY_orders_25 post J9 (nI s) n (nI v) f (upd t s acc)) (ch_os g t s) (fun _ _ => True) 7
    (fun acc => J9 (nI (s + 1)) f (upd t s acc))
    (fun _ _ _ _ => trivial) (fun n acc _ hh => br_t xw_7 (nm_r (nI_1 s) hh)) ?_ 7 0 0 rfl trivial h 8 (by omega)⟩
  intro n v acc hv _ hW
  have h0 : ch_os g t s v acc = acc → wY_orders_53 post J9 (wY_orders_25 post J9 (nI s) n) (nI s) (nI v) f (upd t s acc) := by
    intro e2
    rw [e2] at hW
    refine br_t rfl ⟨is, is, nm_r (e' := upd t s acc) ?_ (nm_r (nI_1 v) hW)⟩
    rw [xw_clamp hs, yw_ur]
  refine br_f (xw_n7 hv) (cd_b1 hs hv (fun e => ?_) (fun e => ?_))
  · refine yw_easyIn G A hv (cd_bb _ (fun e3 => ?_) (fun e3 => ?_))
    · exact h0 (by unfold ch_os; rw [e3, Bool.and_false]; rfl)
    · have hd := ch_dif1_lt hs e
      have e2 : ch_os g t s v acc = acc + t (cd_dif s (2 ^ v)) := by unfold ch_os; rw [e, e3]; rfl
      have e4 : nI s &&& (((1 : Int32) <<< (nI v &&& 31)) ^^^ (-1)) = nI (cd_dif s (2 ^ v)) := by rw [cd_one_shl hv, cd_and_not]
      unfold wY_orders_54
      rw [e4]
      refine br_f (by decide) ⟨is, vp_in_nI (by omega) (by decide), is, nm_r (e' := upd t s (ch_os g t s v acc)) ?_ (nm_r (nI_1 v) hW)⟩
      rw [xw_clamp hs, xw_clamp (by omega), ch_uu, pk_us, pk_un (by omega), e2]
  · exact h0 (by unfold ch_os; rw [e]; rfl)
theorem yw_orders {post : Int32 → SY → Prop} {g : Nat → Nat} (G : ch_Good g) (A : xw_AG f g)
    (h : ∀ t, ch_Ord g t 128 → post (t 127) (f, t)) : wpY_orders post (f, t) := by
  refine nm_e ⟨128, ?_⟩
  exact loop_i (fun n i t => 1 ≤ i → wY_orders_9 post n (nI i) f t) (fun i t => 1 ≤ i → ch_Ord g t i) 128
    (fun n t hh h1 => br_t (by decide) (h t (hh h1)))
    (fun n i t hi hh hW h1 => br_f (nI_ge (b := 128) hi (by decide)) ⟨vp_in_nI hi (by decide), nm_r (e' := upd t i 0) (by rw [xw_clamp hi])
      (yw_orders_in G A hi (hW _ (fun _ => ch_Ord_s h1 hi (hh h1)) (by omega)))⟩)
    128 1 _ (by omega) (by omega) (fun _ => ⟨pk_us, fun s h1 h2 => absurd h1 (by omega)⟩) (by omega)
/-! colours -/
/-- the table holds the least numbers of colours below s -/
def yw_Tab (g : Nat → Nat) (t : Nat → Int32) (s : Nat) : Prop := ∀ j, j < s → ∃ u, t j = nI u ∧ u ≤ 7 ∧ co_Chi g j u
/-- and at s the least so far, over the parts below p -/
def yw_At (g : Nat → Nat) (t : Nat → Int32) (s p : Nat) : Prop := ∃ m, t s = nI m ∧ m ≤ 7 ∧ co_Able g s m ∧
  ∀ q, q < p → q ≠ 0 → q < 128 → (∀ v, v < 7 → q.testBit v = true → s.testBit v = true) → ch_ap g q = true → ∀ u, co_Chi g (cd_dif s q) u → m ≤ u + 1
theorem yw_sub0 {p s : Nat} (hp : p < 128) : cd_dif p s = 0 ↔ ∀ v, v < 7 → p.testBit v = true → s.testBit v = true := by
  rw [cd_zero (cd_dif_lt hp)]
  constructor
  · intro h v hv h1
    have h2 := h v hv
    rw [cd_tdif hp, h1, Bool.true_and, Bool.not_eq_false'] at h2
    exact h2
  · intro h v hv
    rw [cd_tdif hp]
    cases e : p.testBit v with
    | false => rfl
    | true => rw [h v hv e]; rfl
theorem yw_dif_lt {p s : Nat} (hs : s < 128) (hp : p < 128) (hp0 : p ≠ 0) (hsub : ∀ v, v < 7 → p.testBit v = true → s.testBit v = true) : cd_dif s p < s := by
  obtain ⟨v, hv, h⟩ := cd_nonzero hp hp0
  apply cd_sub_lt (w := v) (cd_dif_lt hs) _ _ (hsub v hv h)
  · intro w _ h1
    rw [cd_tdif hs, Bool.and_eq_true] at h1
    exact h1.1
  · rw [cd_tdif hs, h, Bool.not_true, Bool.and_false]
theorem yw_At_done {g : Nat → Nat} {s : Nat} (hs : s < 128) (h1 : 1 ≤ s) (hT : yw_Tab g t s) (hA : yw_At g t s (s + 1)) : yw_Tab g t (s + 1) := by
  intro j hj
  by_cases e : j = s
  · subst e
    obtain ⟨m, em, hm, hab, hmin⟩ := hA
    refine ⟨m, em, hm, fun k => ⟨fun hk => ?_, fun hk => co_mono hk hab⟩⟩
    have hTab : ∀ p, p < 128 → p ≠ 0 → (∀ v, v < 7 → p.testBit v = true → j.testBit v = true) → co_Chi g (cd_dif j p) ((t (cd_dif j p)).toNatClampNeg) := by
      intro p hp hp0 hsub
      obtain ⟨u, eu, hu, hc⟩ := hT _ (yw_dif_lt hs hp hp0 hsub)
      rw [eu, xw_clamp (by omega)]
      exact hc
    exact co_least hs (by omega) (fun p => (t (cd_dif j p)).toNatClampNeg) hTab (fun p hp hp0 hsub hap => by
      have hle := cd_sub_le hp hsub
      exact hmin p (by omega) hp0 hp hsub hap _ (hTab p hp hp0 hsub)) k hk
  · exact hT j (by omega)
theorem yw_colours_in {post : Int32 → SY → Prop} {J9 : Int32 → (Nat → Int32) → (Nat → Int32) → Prop} {g : Nat → Nat} {s : Nat} (G : ch_Good g) (A : xw_AG f g) (hs : s < 128) (hs1 : 1 ≤ s)
    (hT : yw_Tab g t s) (h : ∀ t', yw_Tab g t' (s + 1) → J9 (nI (s + 1)) f t') : ∃ n, wY_colours_26 post J9 (nI s) n 1 f (upd t s 7) := by
  have is : vp_in (nI s) 128 := vp_in_nI hs (by decide)
  refine ⟨s + 1, loop_i (fun n p t => 1 ≤ p → wY_colours_26 post J9 (nI s) n (nI p) f t) (fun p t => yw_Tab g t s ∧ yw_At g t s p) (s + 1)
    (fun n t hh _ => br_t (nI_lt (by omega) (by omega)) (nm_r (nI_1 s) (h t (yw_At_done hs hs1 hh.1 hh.2)))) ?_ (s + 1) 1 (upd t s 7) (by omega) (by omega) ?_ (by omega)⟩
  · intro n p t hp hh hW hp1
    obtain ⟨hT, m, em, hm, hab, hmin⟩ := hh
    have hp128 : p < 128 := by omega
    have hskip : (ch_ap g p = true → ¬ (∀ v, v < 7 → p.testBit v = true → s.testBit v = true)) → yw_At g t s (p + 1) := by
      intro hno
      refine ⟨m, em, hm, hab, fun q hq hq0 hq2 hsub hap u hu => ?_⟩
      by_cases e : q = p
      · subst e; exact absurd hsub (hno hap)
      · exact hmin q (by omega) hq0 hq2 hsub hap u hu
    have h0 : (ch_ap g p = true → ¬ (∀ v, v < 7 → p.testBit v = true → s.testBit v = true)) → wY_colours_51 post J9 (wY_colours_26 post J9 (nI s) n) (nI s) (nI p) f t := by
      intro hno
      refine br_t rfl ⟨is, is, nm_r (e' := t) (by rw [xw_clamp hs, yw_ur]) (nm_r (nI_1 p) (hW t ⟨hT, hskip hno⟩ (by omega)))⟩
    refine br_f (nI_nlt (b := p) (a := s) (by omega) (by omega)) ?_
    rw [cd_and_not]
    refine pk_eq (cd_dif p s) 0 (fun e => ?_) (fun e => ?_) rfl rfl (Nat.lt_of_lt_of_le (cd_dif_lt hp128) (by decide)) (by decide)
    · have hsub := (yw_sub0 hp128).1 e
      refine yw_apart A hp128 (cd_bb _ (fun e2 => h0 fun e3 => ?_) (fun e2 => ?_))
      · rw [e2] at e3; exact nomatch e3
      · have hd := yw_dif_lt hs hp128 (by omega) hsub
        obtain ⟨u, eu, hu, hc⟩ := hT _ hd
        unfold wY_colours_52
        rw [cd_and_not]
        have id : vp_in (nI (cd_dif s p)) 128 := vp_in_nI (by omega) (by decide)
        have eu1 : t (nI (cd_dif s p)).toNatClampNeg + 1 = nI (u + 1) := by rw [xw_clamp (by omega), eu, nI_1]
        refine br_f (by decide) ⟨id, is, ?_⟩
        refine pk_le m (u + 1) (fun e4 => ?_) (fun e4 => ?_) (by rw [xw_clamp hs, em]) eu1 (by omega) (by omega)
        · refine ⟨is, is, nm_r (e' := t) (by rw [xw_clamp hs, yw_ur]) (nm_r (nI_1 p) (hW t ⟨hT, m, em, hm, hab, fun q hq hq0 hq2 hqs hap u' hu' => ?_⟩ (by omega)))⟩
          by_cases eq : q = p
          · subst eq
            have := co_Chi_eq hc hu'
            omega
          · exact hmin q (by omega) hq0 hq2 hqs hap u' hu'
        · refine ⟨id, is, nm_r (e' := upd t s (nI (u + 1))) (by rw [xw_clamp hs, eu1]) (nm_r (nI_1 p) (hW _ ⟨fun j hj => ?_, u + 1, pk_us, by omega, ?_, fun q hq hq0 hq2 hqs hap u' hu' => ?_⟩ (by omega)))⟩
          · rw [pk_un (by omega)]; exact hT j hj
          · exact co_add hs hp128 e2 ((hc u).2 (Nat.le_refl u))
          · by_cases eq : q = p
            · subst eq
              have := co_Chi_eq hc hu'
              omega
            · have := hmin q (by omega) hq0 hq2 hqs hap u' hu'
              omega
    · exact h0 fun _ hsub => e ((yw_sub0 hp128).2 hsub)
  · refine ⟨fun j hj => ?_, 7, pk_us, by omega, co_7 G s, fun q hq hq0 => absurd hq (by omega)⟩
    rw [pk_un (by omega)]
    exact hT j hj
theorem yw_colours {post : Int32 → SY → Prop} {g : Nat → Nat} (G : ch_Good g) (A : xw_AG f g)
    (h : ∀ u t', co_Chi g 127 u → post (nI u) (f, t')) : wpY_colours post (f, t) := by
  refine nm_e ⟨128, ?_⟩
  refine loop_i (fun n i t => 1 ≤ i → wY_colours_9 post n (nI i) f t) (fun i t => yw_Tab g t i) 128
    (fun n t hh h1 => br_t (by decide) ?_)
    (fun n i t hi hh hW h1 => br_f (nI_ge (b := 128) hi (by decide)) ⟨vp_in_nI hi (by decide), nm_r (e' := upd t i 7) (by rw [xw_clamp hi])
      (yw_colours_in G A hi h1 hh (fun t' hT' => hW t' hT' (by omega)))⟩)
    128 1 _ (by omega) (by omega) ?_ (by omega)
  · obtain ⟨u, eu, _, hc⟩ := hh 127 (by omega)
    rw [eu]
    exact h u t hc
  · intro j hj
    have e : j = 0 := by omega
    subst e
    exact ⟨0, pk_us, by omega, fun k => ⟨fun _ => Nat.zero_le k, fun _ => co_0 g k⟩⟩
/-! the smallest hole -/
theorem yw_smallestHole {post : Int32 → Prop} {g : Nat → Nat} (G : ch_Good g) (A : xw_AG f g) (h : post (ch_hI (ch_mn (ch_cY g) 128))) : wpY_smallestHole post (f, t) := by
  refine ⟨129, cd_loop (fun n s m => wY_smallestHole_4 post f t n (ch_hI m) (nI s)) (ch_ms (ch_cY g)) (fun _ m => m ≤ 9) 128 (fun m => post (ch_hI m))
    (fun s m _ hm => ch_up_le hm (by
      have := cd_ones_le s
      unfold ch_cY
      split <;> omega)) (fun n m _ hh => br_t (by decide) hh) ?_ 128 0 0 rfl (by omega) h 129 (by omega)⟩
  intro n s m hs hm hW
  have hW' : wY_smallestHole_4 post f t n (ch_hI (ch_up m (ch_cY g s))) (nI (s + 1)) := hW
  have h7 := cd_ones_le s
  refine br_f (nI_ge (b := 128) (by omega) (by decide)) (yw_count hs (yw_hole G A hs (cd_bb _ (fun e => ?_) (fun e => ?_))))
  · have ec : ch_cY g s = 0 := by unfold ch_cY; rw [e, if_neg (by decide)]
    have eu : ch_up m (ch_cY g s) = m := by unfold ch_up; rw [ec, if_pos rfl]
    rw [eu] at hW'
    exact nm_r (nI_1 s) hW'
  · have ec : ch_cY g s = cd_ones s := by unfold ch_cY; rw [e, if_pos rfl]
    have h4 := ((ch_ho_iff G hs).1 e).1
    rw [ec] at hW'
    have hnew : ch_up m (cd_ones s) = cd_ones s → wY_smallestHole_4 post f t n (nI (cd_ones s)) (nI (s + 1)) := by
      intro e2
      rw [e2] at hW'
      unfold ch_hI at hW'
      rw [if_neg (by omega)] at hW'
      exact hW'
    have hold : ch_up m (cd_ones s) = m → wY_smallestHole_4 post f t n (ch_hI m) (nI (s + 1)) := by
      intro e2
      rw [e2] at hW'
      exact hW'
    by_cases hm0 : m = 0
    · have hlt : ch_hI m < 0 := by rw [hm0]; decide
      exact br_t hlt (nm_r (nI_1 s) (hnew (by unfold ch_up; rw [if_neg (by omega), if_pos (Or.inl hm0)])))
    · have e3 : ch_hI m = nI m := by unfold ch_hI; rw [if_neg hm0]
      have hlt : ¬ ch_hI m < 0 := by rw [e3]; exact nI_pos (by omega)
      refine br_f hlt (pk_le m (cd_ones s) (fun e4 => ?_) (fun e4 => ?_) e3 rfl (by omega) (by omega))
      · exact nm_r (nI_1 s) (hold (by unfold ch_up; rw [if_neg (by omega), if_neg (by omega)]))
      · exact nm_r (nI_1 s) (hnew (by unfold ch_up; rw [if_neg (by omega), if_pos (Or.inr e4)]))
/-! joining more -/
theorem yw_open {post : Int32 → Prop} {g : Nat → Nat} {c : Nat} (G : ch_Good g) (A : xw_AG f g) (hc : c < 49) (h : post (cd_bI (ch_op g c))) : wpY_open post (f, t) (nI c) := by
  have ha : c / 7 < 7 := by omega
  have hb : c % 7 < 7 := by omega
  have e0 : nI c / 7 = nI (c / 7) := pk_div (d := 7) (by omega) (by decide) (by decide)
  have e3 : nI c - nI c / 7 * 7 = nI (c % 7) := pk_rem (d := 7) (by omega) (by decide) (by decide)
  unfold wpY_open
  dsimp only
  rw [e3, e0]
  refine ⟨by decide, by decide, pk_le (c % 7) (c / 7) (fun e => ?_) (fun e => ?_) rfl rfl (by omega) (by omega)⟩
  · unfold ch_op at h
    rw [decide_eq_false (p := c / 7 < c % 7) (by omega), Bool.false_and] at h
    exact h
  · unfold ch_op at h
    rw [decide_eq_true e, Bool.true_and] at h
    refine ⟨by decide, by decide, yw_joined G A ha hb (cd_bb _ (fun f1 => ?_) (fun f1 => ?_))⟩
    · rw [f1] at h; exact h
    · rw [f1] at h; exact h
theorem yw_op_ne {g : Nat → Nat} {c : Nat} (h : ch_op g c = true) : c / 7 ≠ c % 7 := by
  unfold ch_op at h
  rw [Bool.and_eq_true, decide_eq_true_iff] at h
  omega
theorem yw_neatJoins {post : Int32 → SY → Prop} {g : Nat → Nat} (G : ch_Good g) (A : xw_AG f g) (h : post (nI (ch_nJ g)) (f, t)) : wpY_neatJoins post (f, t) := by
  refine ⟨50, cd_loop (fun n c m => wY_neatJoins_4 post n (nI m) (nI c) f t) (ch_ny g) (fun _ _ => True) 49 (fun m => post (nI m) (f, t))
    (fun _ _ _ _ => trivial) (fun n m _ hh => br_t (by decide) hh) ?_ 49 0 0 rfl trivial h 50 (by omega)⟩
  intro n c m hc _ hW
  have ha : c / 7 < 7 := by omega
  have hb : c % 7 < 7 := by omega
  have e0 : nI c / 7 = nI (c / 7) := pk_div (d := 7) (by omega) (by decide) (by decide)
  have e3 : nI c - nI c / 7 * 7 = nI (c % 7) := pk_rem (d := 7) (by omega) (by decide) (by decide)
  refine br_f (nI_ge (b := 49) (by omega) (by decide)) (yw_open G A hc (cd_bb _ (fun e => ?_) (fun e => ?_)))
  · unfold ch_ny at hW
    rw [e, if_neg (by decide)] at hW
    exact nm_r (nI_1 c) hW
  · have hab := yw_op_ne e
    unfold ch_ny at hW
    rw [e, if_pos rfl] at hW
    have back : ∀ z, z = nI (m + (ch_nt (ch_fl g (c / 7) (c % 7))).toNat) → wY_neatJoins_44 post (wY_neatJoins_4 post n) (nI c) z (ch_tn g f (c / 7) (c % 7)) t := by
      intro z ez
      subst ez
      unfold wY_neatJoins_44
      rw [e3, e0]
      refine ⟨by decide, by decide, ?_⟩
      refine yw_flip (ch_tn_AG A) ha hb hab ?_
      rw [ch_tn_tn ha hb hab A]
      exact nm_r (nI_1 c) hW
    rw [e3, e0]
    refine ⟨by decide, by decide, ?_⟩
    refine yw_flip A ha hb hab ?_
    refine yw_neat (ch_fl_good ha hb hab G) (ch_tn_AG A) (cd_bb _ (fun e2 => back _ ?_) (fun e2 => back _ ?_))
    · rw [e2]; rfl
    · rw [e2, nI_1]; rfl
theorem yw_fill_l {post : Int32 → SY → Prop} {g : Nat → Nat} (G : ch_Good g) (A : xw_AG f g) : ∀ d i b, i + d = 49 →
    post (ch_f23 (!b && cd_al (ch_fp g) d i)) (f, t) → ∀ n, d < n → wY_fill_22 post n (cd_bI b) (nI i) f t := by
  intro d
  induction d with
  | zero =>
    intro i b hi h n hn
    obtain ⟨m, rfl⟩ : ∃ m, n = m + 1 := ⟨n - 1, by omega⟩
    have e : i = 49 := by omega
    subst e
    refine br_t (by decide) (cd_bb b (fun e => ?_) (fun e => ?_))
    · rw [e] at h; exact h
    · rw [e] at h; exact h
  | succ d ih =>
    intro i b hi h n hn
    obtain ⟨m, rfl⟩ : ∃ m, n = m + 1 := ⟨n - 1, by omega⟩
    have ha : i / 7 < 7 := by omega
    have hb : i % 7 < 7 := by omega
    have e0 : nI i / 7 = nI (i / 7) := pk_div (d := 7) (by omega) (by decide) (by decide)
    have e3 : nI i - nI i / 7 * 7 = nI (i % 7) := pk_rem (d := 7) (by omega) (by decide) (by decide)
    have h' : post (ch_f23 (!b && (ch_fp g i && cd_al (ch_fp g) d (i + 1)))) (f, t) := h
    refine br_f (nI_ge (b := 49) (by omega) (by decide)) (cd_bb b (fun eb => ?_) (fun eb => ?_))
    · rw [eb, Bool.not_false, Bool.true_and] at h'
      refine yw_open G A (by omega) (cd_bb _ (fun e => ?_) (fun e => ?_))
      · have e5 : ch_fp g i = true := by unfold ch_fp; rw [e]; rfl
        rw [e5] at h'
        rw [eb]
        exact nm_r (nI_1 i) (ih (i + 1) false (by omega) h' m (by omega))
      · have hab := yw_op_ne e
        have hle := ch_nJ_le (ch_fl g (i / 7) (i % 7))
        have back : ∀ q z, z = cd_bI q → (!q) = ch_fp g i → wY_fill_64 post (wY_fill_22 post m) (nI i) z (ch_tn g f (i / 7) (i % 7)) t := by
          intro q z ez eq
          subst ez
          unfold wY_fill_64
          rw [e3, e0]
          refine ⟨by decide, by decide, ?_⟩
          refine yw_flip (ch_tn_AG A) ha hb hab ?_
          rw [ch_tn_tn ha hb hab A]
          rw [← eq] at h'
          exact nm_r (nI_1 i) (ih (i + 1) q (by omega) h' m (by omega))
        rw [e3, e0]
        refine ⟨by decide, by decide, ?_⟩
        refine yw_flip A ha hb hab ?_
        refine yw_neatJoins (ch_fl_good ha hb hab G) (ch_tn_AG A) ?_
        refine pk_le (ch_nJ (ch_fl g (i / 7) (i % 7))) 0 (fun e4 => back false _ rfl ?_) (fun e4 => back true _ rfl ?_) rfl rfl (by omega) (by decide)
        · unfold ch_fp
          rw [decide_eq_false (p := 0 < ch_nJ (ch_fl g (i / 7) (i % 7))) (by omega), Bool.and_false]
        · unfold ch_fp
          rw [e, decide_eq_true e4]; rfl
    · rw [eb] at h ⊢
      exact br_f (by decide) h
theorem yw_fill {post : Int32 → SY → Prop} {g : Nat → Nat} (G : ch_Good g) (A : xw_AG f g) (h : post (ch_fill g) (f, t)) : wpY_fill post (f, t) := by
  unfold wpY_fill
  unfold ch_fill at h
  refine yw_neat G A (cd_bb _ (fun e => ?_) (fun e => ?_))
  · rw [e, if_neg (by decide)] at h
    refine yw_neatJoins G A ?_
    have hle := ch_nJ_le g
    refine pk_le (ch_nJ g) 0 (fun e2 => ?_) (fun e2 => ?_) rfl rfl (by omega) (by decide)
    · rw [if_neg (by omega)] at h
      refine ⟨50, yw_fill_l G A 49 0 false rfl ?_ 50 (by omega)⟩
      rw [Bool.not_false, Bool.true_and]
      exact h
    · rw [if_pos e2] at h
      exact h
  · rw [e, if_pos rfl] at h
    exact h
end
end
section
/-! what is owed -/
/-- both keep the same joins: symmetric, none of a vertex with itself; all else is made anew by each call that reads it -/
def i_Rel (_ : Nat) (u : SX) (v : SY) : Prop := u.2.2.2.1 = v.1 ∧ ∃ g, ch_Good g ∧ xw_AG v.1 g
theorem i_up {k : Nat} {u : SX} {v : SY} (h : i_Rel k u v) : i_Rel (k + 4) u v := h
theorem i_vc0 : wpX_init (fun u => wpY_init (fun v => i_Rel 0 u v)) := by
  refine ⟨rfl, fun _ => 0, fun v _ => ⟨(by decide : (0 : Nat) < 128), Nat.zero_testBit v, fun w _ => (Nat.zero_testBit w).trans (Nat.zero_testBit v).symm⟩, fun v _ => rfl⟩
theorem zz_el {P : SX → SY → Prop} {k : Nat} {u : SX} {v : SY} (I : i_Rel k u v)
    (h : ∀ fb fl ff a an ac ao ap ak aw t g, ch_Good g → xw_AG a g → P (fb, fl, ff, a, an, ac, ao, ap, ak, aw) (a, t)) : P u v := by
  obtain ⟨fb, fl, ff, aj, an, ac, ao, ap, ak, aw⟩ := u
  obtain ⟨f, t⟩ := v
  obtain ⟨e, g, G, A⟩ := I
  have e' : aj = f := e
  subst e'
  exact h fb fl ff aj an ac ao ap ak aw t g G A
theorem zz_in {k : Nat} {fb fl ff : Int32} {a an ac ao ap ak aw t : Nat → Int32} {g : Nat → Nat} (G : ch_Good g) (A : xw_AG a g) : i_Rel k (fb, fl, ff, a, an, ac, ao, ap, ak, aw) (a, t) :=
  ⟨rfl, g, G, A⟩
theorem i_vc_join {k : Nat} {u : SX} {v : SY} (I : i_Rel k u v) (hk : k + 4 ≤ 2048) (v1 : Int32) (v2 : Int32) (v3 : Int32) : wpX_join (fun r u' => wpY_join (fun r' v' => r' = r ∧ i_Rel (k + 4) u' v') v v1 v2 (lw_bz v3)) u v1 v2 (lw_bz v3) := by
  refine zz_el (P := fun u v => wpX_join (fun r u' => wpY_join (fun r' v' => r' = r ∧ i_Rel (k + 4) u' v') v v1 v2 (lw_bz v3)) u v1 v2 (lw_bz v3)) I ?_
  intro fb fl ff a an ac ao ap ak aw t g G A
  unfold wpX_join wpY_join
  dsimp only
  rcases xw_vertex v1 with h1 | ⟨x, hx, e1⟩
  · exact xw_isVertex_out h1 (br_t rfl (yw_pair_out (Or.inr (Or.inl h1)) (br_t rfl ⟨rfl, zz_in G A⟩)))
  · subst e1
    refine xw_isVertex_in hx (br_f (by decide) ?_)
    rcases xw_vertex v2 with h2 | ⟨y, hy, e2⟩
    · exact xw_isVertex_out h2 (br_t rfl (yw_pair_out (Or.inr (Or.inr h2)) (br_t rfl ⟨rfl, zz_in G A⟩)))
    · subst e2
      refine xw_isVertex_in hy (br_f (by decide) ?_)
      refine pk_eq x y (fun e => ?_) (fun e => ?_) rfl rfl (by omega) (by omega)
      · exact yw_pair_out (Or.inl (by rw [e])) (br_t rfl ⟨rfl, zz_in G A⟩)
      · refine ⟨vp_in_nI hx (by decide), ?_⟩
        rw [xw_clamp (v := x) (by omega), A x hx]
        refine xw_in (G x hx).1 hy (br_c (fun e3 => ?_) (fun e3 => ?_))
        · exact yw_pair_in hx hy e (br_f (by decide) (yw_joined G A hx hy (br_t e3 ⟨rfl, zz_in G A⟩)))
        · refine xw_turn G A hx hy e ?_
          refine yw_pair_in hx hy e (br_f (by decide) (yw_joined G A hx hy (br_f e3 ?_)))
          exact yw_flip A hx hy e ⟨rfl, zz_in (ch_fl_good hx hy e G) (ch_tn_AG A)⟩
theorem i_vc_neighbours {k : Nat} {u : SX} {v : SY} (I : i_Rel k u v) (hk : k + 4 ≤ 2048) (v1 : Int32) : wpX_neighbours (fun r => wpY_neighbours (fun r' => r' = r ∧ i_Rel (k + 4) u v) v v1) u v1 := by
  refine zz_el (P := fun u v => wpX_neighbours (fun r => wpY_neighbours (fun r' => r' = r ∧ i_Rel (k + 4) u v) v v1) u v1) I ?_
  intro fb fl ff a an ac ao ap ak aw t g G A
  unfold wpX_neighbours wpY_neighbours
  dsimp only
  rcases xw_vertex v1 with h1 | ⟨x, hx, e1⟩
  · refine xw_isVertex_out h1 (br_t rfl ?_)
    refine br_c (fun _ => ⟨rfl, zz_in G A⟩) (fun n1 => br_c (fun _ => ⟨rfl, zz_in G A⟩) (fun n2 => ?_))
    rcases h1 with h1 | h1
    · exact absurd h1 n1
    · exact absurd (yw_gt6 h1) n2
  · subst e1
    refine xw_isVertex_in hx (br_f (by decide) ⟨vp_in_nI hx (by decide), ?_⟩)
    exact br_f (nI_pos (by omega)) (br_f (nI_nlt (b := x) (a := 6) (by omega) (by decide)) ⟨vp_in_nI hx (by decide), rfl, zz_in G A⟩)
theorem i_vc_joins {k : Nat} {u : SX} {v : SY} (I : i_Rel k u v) (hk : k + 4 ≤ 2048) : wpX_joins (fun r => wpY_joins (fun r' => r' = r ∧ i_Rel (k + 4) u v) v) u := by
  refine zz_el (P := fun u v => wpX_joins (fun r => wpY_joins (fun r' => r' = r ∧ i_Rel (k + 4) u v) v) u) I ?_
  intro fb fl ff a an ac ao ap ak aw t g G A
  exact xw_joins G A (yw_joins G A ⟨rfl, zz_in G A⟩)
theorem i_vc_clique {k : Nat} {u : SX} {v : SY} (I : i_Rel k u v) (hk : k + 4 ≤ 2048) (v1 : Int32) : wpX_clique (fun r => wpY_clique (fun r' => r' = r ∧ i_Rel (k + 4) u v) v v1) u v1 := by
  refine zz_el (P := fun u v => wpX_clique (fun r => wpY_clique (fun r' => r' = r ∧ i_Rel (k + 4) u v) v v1) u v1) I ?_
  intro fb fl ff a an ac ao ap ak aw t g G A
  by_cases h0 : v1 < 0
  · exact br_t h0 (yw_clique_out (Or.inl h0) ⟨rfl, zz_in G A⟩)
  · by_cases h1 : 127 < v1
    · exact br_f h0 (br_t h1 (yw_clique_out (Or.inr h1) ⟨rfl, zz_in G A⟩))
    · obtain ⟨s, hs, e⟩ := nI_of h0
      subst e
      have hs' : s < 128 := by
        apply Classical.byContradiction
        intro hn
        exact h1 (nI_lt (a := 127) (by omega) hs)
      refine br_f h0 (br_f h1 (xw_isClique A hs' (cd_bb _ (fun e => ?_) (fun e => ?_))))
      · exact yw_clique A hs' ⟨by rw [e]; rfl, zz_in G A⟩
      · exact yw_clique A hs' ⟨by rw [e]; rfl, zz_in G A⟩
theorem i_vc_neat {k : Nat} {u : SX} {v : SY} (I : i_Rel k u v) (hk : k + 4 ≤ 2048) : wpX_neat (fun r => wpY_neat (fun r' => r' = r ∧ i_Rel (k + 4) u v) v) u := by
  refine zz_el (P := fun u v => wpX_neat (fun r => wpY_neat (fun r' => r' = r ∧ i_Rel (k + 4) u v) v) u) I ?_
  intro fb fl ff a an ac ao ap ak aw t g G A
  exact xw_neat G A (yw_neat G A ⟨rfl, zz_in G A⟩)
theorem i_vc_easy {k : Nat} {u : SX} {v : SY} (I : i_Rel k u v) (hk : k + 4 ≤ 2048) : wpX_easy (fun r => wpY_easy (fun r' => r' = r ∧ i_Rel (k + 4) u v) v) u := by
  refine zz_el (P := fun u v => wpX_easy (fun r => wpY_easy (fun r' => r' = r ∧ i_Rel (k + 4) u v) v) u) I ?_
  intro fb fl ff a an ac ao ap ak aw t g G A
  exact xw_easy G A (yw_easy G A ⟨rfl, zz_in G A⟩)
theorem i_vc_core {k : Nat} {u : SX} {v : SY} (I : i_Rel k u v) (hk : k + 4 ≤ 2048) : wpX_core (fun r => wpY_core (fun r' => r' = r ∧ i_Rel (k + 4) u v) v) u := by
  refine zz_el (P := fun u v => wpX_core (fun r => wpY_core (fun r' => r' = r ∧ i_Rel (k + 4) u v) v) u) I ?_
  intro fb fl ff a an ac ao ap ak aw t g G A
  exact xw_core G A (yw_core G A ⟨rfl, zz_in G A⟩)
theorem i_vc_largestClique {k : Nat} {u : SX} {v : SY} (I : i_Rel k u v) (hk : k + 4 ≤ 2048) : wpX_largestClique (fun r u' => wpY_largestClique (fun r' => r' = r ∧ i_Rel (k + 4) u' v) v) u := by
  refine zz_el (P := fun u v => wpX_largestClique (fun r u' => wpY_largestClique (fun r' => r' = r ∧ i_Rel (k + 4) u' v) v) u) I ?_
  intro fb fl ff a an ac ao ap ak aw t g G A
  exact xw_largestClique G A fun _ _ _ _ _ => yw_largestClique A ⟨rfl, zz_in G A⟩
theorem i_vc_fullCliques {k : Nat} {u : SX} {v : SY} (I : i_Rel k u v) (hk : k + 4 ≤ 2048) : wpX_fullCliques (fun r u' => wpY_fullCliques (fun r' => r' = r ∧ i_Rel (k + 4) u' v) v) u := by
  refine zz_el (P := fun u v => wpX_fullCliques (fun r u' => wpY_fullCliques (fun r' => r' = r ∧ i_Rel (k + 4) u' v) v) u) I ?_
  intro fb fl ff a an ac ao ap ak aw t g G A
  exact xw_fullCliques G A fun _ _ _ _ _ _ => yw_fullCliques A ⟨rfl, zz_in G A⟩
theorem i_vc_largestApart {k : Nat} {u : SX} {v : SY} (I : i_Rel k u v) (hk : k + 4 ≤ 2048) : wpX_largestApart (fun r u' => wpY_largestApart (fun r' => r' = r ∧ i_Rel (k + 4) u' v) v) u := by
  refine zz_el (P := fun u v => wpX_largestApart (fun r u' => wpY_largestApart (fun r' => r' = r ∧ i_Rel (k + 4) u' v) v) u) I ?_
  intro fb fl ff a an ac ao ap ak aw t g G A
  exact xw_largestApart G A fun _ _ _ _ _ _ => yw_largestApart A ⟨rfl, zz_in G A⟩
theorem i_vc_colours {k : Nat} {u : SX} {v : SY} (I : i_Rel k u v) (hk : k + 4 ≤ 2048) : wpX_colours (fun r u' => wpY_colours (fun r' v' => r' = r ∧ i_Rel (k + 4) u' v') v) u := by
  refine zz_el (P := fun u v => wpX_colours (fun r u' => wpY_colours (fun r' v' => r' = r ∧ i_Rel (k + 4) u' v') v) u) I ?_
  intro fb fl ff a an ac ao ap ak aw t g G A
  refine xw_colours G A fun n _ _ _ _ _ _ _ _ hn => yw_colours G A fun m _ hm => ⟨?_, zz_in G A⟩
  rw [co_Chi_eq hn hm]
theorem i_vc_orders {k : Nat} {u : SX} {v : SY} (I : i_Rel k u v) (hk : k + 4 ≤ 2048) : wpX_orders (fun r u' => wpY_orders (fun r' v' => r' = r ∧ i_Rel (k + 4) u' v') v) u := by
  refine zz_el (P := fun u v => wpX_orders (fun r u' => wpY_orders (fun r' v' => r' = r ∧ i_Rel (k + 4) u' v') v) u) I ?_
  intro fb fl ff a an ac ao ap ak aw t g G A
  exact xw_orders G A fun t1 h1 => yw_orders G A fun t2 h2 => ⟨ch_Ord_eq h2 h1 127 (by omega), zz_in G A⟩
theorem i_vc_smallestHole {k : Nat} {u : SX} {v : SY} (I : i_Rel k u v) (hk : k + 4 ≤ 2048) : wpX_smallestHole (fun r => wpY_smallestHole (fun r' => r' = r ∧ i_Rel (k + 4) u v) v) u := by
  refine zz_el (P := fun u v => wpX_smallestHole (fun r => wpY_smallestHole (fun r' => r' = r ∧ i_Rel (k + 4) u v) v) u) I ?_
  intro fb fl ff a an ac ao ap ak aw t g G A
  exact xw_smallestHole G A (yw_smallestHole G A ⟨congrArg ch_hI (ch_smallest G).symm, zz_in G A⟩)
theorem i_vc_neatJoins {k : Nat} {u : SX} {v : SY} (I : i_Rel k u v) (hk : k + 4 ≤ 2048) : wpX_neatJoins (fun r u' => wpY_neatJoins (fun r' v' => r' = r ∧ i_Rel (k + 4) u' v') v) u := by
  refine zz_el (P := fun u v => wpX_neatJoins (fun r u' => wpY_neatJoins (fun r' v' => r' = r ∧ i_Rel (k + 4) u' v') v) u) I ?_
  intro fb fl ff a an ac ao ap ak aw t g G A
  exact xw_neatJoins G A (yw_neatJoins G A ⟨rfl, zz_in G A⟩)
theorem i_vc_fill {k : Nat} {u : SX} {v : SY} (I : i_Rel k u v) (hk : k + 4 ≤ 2048) : wpX_fill (fun r u' => wpY_fill (fun r' v' => r' = r ∧ i_Rel (k + 4) u' v') v) u := by
  refine zz_el (P := fun u v => wpX_fill (fun r u' => wpY_fill (fun r' v' => r' = r ∧ i_Rel (k + 4) u' v') v) u) I ?_
  intro fb fl ff a an ac ao ap ak aw t g G A
  exact xw_fill G A (yw_fill G A ⟨rfl, zz_in G A⟩)
end
