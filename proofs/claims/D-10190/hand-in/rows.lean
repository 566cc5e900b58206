section
/-! ===== numbers, bits, counts ===== -/
theorem tj_nt {x : Bool} (h : ¬ x = true) : x = false := by cases x <;> first | rfl | exact absurd rfl h
theorem tj_nf {x : Bool} (h : ¬ x = false) : x = true := by cases x <;> first | rfl | exact absurd rfl h
theorem tj_tf {x : Bool} (h : x = true) (h2 : x = false) : False := by rw [h] at h2; exact absurd h2 (by decide)
theorem tj_2p {i k : Nat} (h : i < k) : 2 ^ i < 2 ^ k := Nat.pow_lt_pow_right (by decide) h
/-- a whole number below b -/
def tj_N (x : Int32) (b : Nat) : Prop := ∃ n, n < b ∧ x = nI n
theorem tj_N_e {x : Int32} {b : Nat} (h : tj_N x b) (hb : b ≤ 2 ^ 31) : x = nI x.toNatClampNeg ∧ x.toNatClampNeg < b := by
  obtain ⟨n, hn, rfl⟩ := h
  rw [nI_clamp (show n < 2 ^ 31 by omega)]
  exact ⟨rfl, hn⟩
theorem tj_b8 : ∀ n, n < 128 → (nI n).toInt8.toInt32 = nI n := by decide +kernel
theorem tj_b8m : (-1 : Int32).toInt8.toInt32 = -1 := by decide
theorem tj_nar {n : Nat} (h : n < 128) : vp_nar .byte (nI n) = nI n := by rw [vp_nar_byte, tj_b8 n h]
theorem tj_narm : vp_nar .byte (-1) = -1 := by rw [vp_nar_byte, tj_b8m]
theorem tj_sl : ∀ n, n < 32 → ((nI n &&& 31).toBitVec.smod 32).toNat = n := by decide +kernel
theorem tj_shr {m i : Nat} (hm : m < 2 ^ 31) (hi : i < 32) : nI m >>> (nI i &&& 31) = nI (m / 2 ^ i) := pk_shrN hm _ i (tj_sl i hi)
theorem tj_and (a b : Nat) : nI a &&& nI b = nI (a &&& b) := by
  apply Int32.toBitVec_inj.1
  show BitVec.ofNat 32 a &&& BitVec.ofNat 32 b = BitVec.ofNat 32 (a &&& b)
  apply BitVec.eq_of_getLsbD_eq
  intro i hi
  simp [hi]
theorem tj_or (a b : Nat) : nI a ||| nI b = nI (a ||| b) := by
  apply Int32.toBitVec_inj.1
  show BitVec.ofNat 32 a ||| BitVec.ofNat 32 b = BitVec.ofNat 32 (a ||| b)
  apply BitVec.eq_of_getLsbD_eq
  intro i hi
  simp [hi]
theorem tj_bit {m i : Nat} (hm : m < 2 ^ 31) (hi : i < 32) : ((nI m >>> (nI i &&& 31)) &&& 1) = 0 ↔ m.testBit i = false := by
  have h1 : m / 2 ^ i ≤ m := Nat.div_le_self _ _
  rw [tj_shr hm hi]
  show nI (m / 2 ^ i) &&& nI 1 = nI 0 ↔ _
  rw [tj_and, Nat.and_one_is_mod, nI_eq (by omega) (by omega), Nat.testBit_eq_decide_div_mod_eq, decide_eq_false_iff_not]
  generalize m / 2 ^ i = z
  omega
theorem tj_br {A B : Prop} {x y : Int32} (m i : Nat) (f : m.testBit i = false → A) (g : m.testBit i = true → B) (hx : x = nI m := by rfl) (hy : y = nI i := by rfl) (hm : m < 2 ^ 31 := by omega) (hi : i < 32 := by omega) :
    (((x >>> (y &&& 31)) &&& 1) = 0 → A) ∧ (¬ ((x >>> (y &&& 31)) &&& 1) = 0 → B) := by
  subst hx hy
  rw [tj_bit hm hi]
  exact ⟨f, fun h => g (tj_nf h)⟩
theorem tj_ple {A B : Prop} {a b : Nat} (f : a ≤ b → A) (g : b < a → B) (ha : a < 2 ^ 31 := by omega) (hb : b < 2 ^ 31 := by omega) : (nI a ≤ nI b → A) ∧ (¬ nI a ≤ nI b → B) := pk_le a b f g rfl rfl ha hb
theorem tj_plt {A B : Prop} {a b : Nat} (f : a < b → A) (g : b ≤ a → B) (ha : a < 2 ^ 31 := by omega) (hb : b < 2 ^ 31 := by omega) : (nI a < nI b → A) ∧ (¬ nI a < nI b → B) := pk_lt a b f g rfl rfl ha hb
theorem tj_pz {A B : Prop} {a : Nat} (f : a = 0 → A) (g : a ≠ 0 → B) (ha : a < 2 ^ 31 := by omega) : (nI a = 0 → A) ∧ (¬ nI a = 0 → B) := pk_eq a 0 f g rfl rfl ha (by decide)
theorem tj_shl {i : Nat} (hi : i < 31) : (1 : Int32) <<< (nI i &&& 31) = nI (2 ^ i) := by
  have h := pk_shlN (n := 1) (nI i &&& 31) i (tj_sl i (by omega)) (by rw [Nat.one_mul]; exact tj_2p (by omega))
  rw [Nat.one_mul] at h
  exact h
/-- a without b, as sets of bits -/
def tj_sd (a b : Nat) : Nat := a ^^^ (a &&& b)
theorem tj_sd_bit (a b i : Nat) : (tj_sd a b).testBit i = (a.testBit i && !b.testBit i) := by
  unfold tj_sd
  rw [Nat.testBit_xor, Nat.testBit_and]
  cases a.testBit i <;> cases b.testBit i <;> rfl
theorem tj_sd_lt {a b k : Nat} (h : a < 2 ^ k) : tj_sd a b < 2 ^ k := Nat.xor_lt_two_pow h (Nat.lt_of_le_of_lt Nat.and_le_left h)
theorem tj_m1 : ∀ i, i < 32 → (-1 : Int32).toBitVec.getLsbD i = true := by decide +kernel
theorem tj_xm (a b : Nat) : nI a &&& (nI b ^^^ (-1)) = nI (tj_sd a b) := by
  apply Int32.toBitVec_inj.1
  apply BitVec.eq_of_getLsbD_eq
  intro i hi
  rw [Int32.toBitVec_and, Int32.toBitVec_xor, BitVec.getLsbD_and, BitVec.getLsbD_xor, tj_m1 i hi]
  show ((BitVec.ofNat 32 a).getLsbD i && ((BitVec.ofNat 32 b).getLsbD i ^^ true)) = (BitVec.ofNat 32 (tj_sd a b)).getLsbD i
  rw [BitVec.getLsbD_ofNat, BitVec.getLsbD_ofNat, BitVec.getLsbD_ofNat, tj_sd_bit, decide_eq_true hi]
  cases a.testBit i <;> cases b.testBit i <;> rfl
theorem tj_bit2p (v i : Nat) : (2 ^ v).testBit i = decide (v = i) := Nat.testBit_two_pow
theorem tj_and2p (m v : Nat) : m &&& 2 ^ v = 0 ↔ m.testBit v = false := by
  constructor
  · intro h
    have t := congrArg (fun z => z.testBit v) h
    simp only [Nat.testBit_and, tj_bit2p, Nat.zero_testBit] at t
    simpa using t
  · intro h
    apply Nat.eq_of_testBit_eq
    intro i
    rw [Nat.testBit_and, tj_bit2p, Nat.zero_testBit]
    by_cases e : v = i
    · subst e; rw [h]; rfl
    · simp [e]
theorem tj_sd0 (a b : Nat) : tj_sd a b = 0 ↔ ∀ i, a.testBit i = true → b.testBit i = true := by
  constructor
  · intro h i hi
    have t := tj_sd_bit a b i
    rw [h, Nat.zero_testBit, hi] at t
    cases hb : b.testBit i
    · rw [hb] at t; exact absurd t (by decide)
    · rfl
  · intro h
    apply Nat.eq_of_testBit_eq
    intro i
    rw [tj_sd_bit, Nat.zero_testBit]
    cases ha : a.testBit i
    · rfl
    · rw [h i ha]; rfl
theorem tj_ne0 {m : Nat} (h : m ≠ 0) : ∃ i, m.testBit i = true := by
  rcases Classical.em (∃ i, m.testBit i = true) with e | e
  · exact e
  · exact absurd (Nat.eq_of_testBit_eq (fun i => by rw [Nat.zero_testBit]; exact tj_nt (fun z => e ⟨i, z⟩))) h
theorem tj_bit_lt {m k i : Nat} (hm : m < 2 ^ k) (h : m.testBit i = true) : i < k := by
  rcases Nat.lt_or_ge i k with e | e
  · exact e
  · exact absurd h (by rw [Nat.testBit_lt_two_pow (Nat.lt_of_lt_of_le hm (Nat.pow_le_pow_right (by decide) e))]; decide)
theorem tj_pm1 (n i : Nat) : (2 ^ n - 1).testBit i = decide (i < n) := Nat.testBit_two_pow_sub_one n i
/-! longs as sets of bits -/
def tj_bl (w : Int64) (j : Nat) : Bool := w.toBitVec.getLsbD j
theorem tj_tsb {w : Int64} {s : UInt64} {j : Nat} (hj : j < 64) (hs : s.toNat = j) : ((w.toUInt64 >>> s).toInt64 &&& 1) = 0 ↔ tj_bl w j = false := by
  unfold tj_bl
  have e : (w.toUInt64 >>> s).toInt64.toBitVec = w.toBitVec >>> j := by
    apply BitVec.eq_of_toNat_eq
    show (w.toUInt64 >>> s).toNat = _
    rw [UInt64.toNat_shiftRight, hs, Nat.mod_eq_of_lt hj, BitVec.toNat_ushiftRight]
    rfl
  rw [← Int64.toBitVec_inj, Int64.toBitVec_and, e]
  show w.toBitVec >>> j &&& 1#64 = 0#64 ↔ _
  constructor
  · intro h
    have t := congrArg (fun x => x.getLsbD 0) h
    simpa using t
  · intro h
    apply BitVec.eq_of_getLsbD_eq
    intro i hi
    cases i with
    | zero => simp [h]
    | succ i => simp
theorem tj_cu : ∀ k, k < 64 → ((nI k).toInt64.toUInt64 &&& Int64.toUInt64 63).toNat = k := by decide +kernel
theorem tj_w6 {a : Nat} (h : a < 2 ^ 31) : nI a >>> ((6 : Int32) &&& 31) = nI (a / 64) := pk_shrN h _ 6 (by decide)
theorem tj_m63 {a : Nat} (h : a < 2 ^ 31) : nI a &&& 63 = nI (a % 64) := pk_andN (show a < 2 ^ 32 by omega) 6 (by decide)
theorem tj_lbr {A B : Prop} {w : Int64} {x : Int32} (a : Nat) (f : tj_bl w (a % 64) = false → A) (g : tj_bl w (a % 64) = true → B) (ha : a < 2 ^ 31 := by omega) (hx : x = nI a := by rfl) :
    ((((w.toUInt64 >>> ((x &&& 63).toInt64.toUInt64 &&& Int64.toUInt64 63)).toInt64) &&& 1) = 0 → A) ∧ (¬ (((w.toUInt64 >>> ((x &&& 63).toInt64.toUInt64 &&& Int64.toUInt64 63)).toInt64) &&& 1) = 0 → B) := by
  subst hx
  rw [tj_m63 ha, tj_tsb (show a % 64 < 64 by omega) (tj_cu (a % 64) (by omega))]
  exact ⟨f, fun h => g (tj_nf h)⟩
theorem tj_1l : ∀ k, k < 64 → ((1 : Int64) <<< ((nI k).toInt64 &&& 63)).toBitVec = BitVec.twoPow 64 k := by decide +kernel
theorem tj_bl_put {a : Nat} (ha : a < 2 ^ 31) (w : Int64) (j : Nat) : tj_bl (w ||| ((1 : Int64) <<< ((nI a &&& 63).toInt64 &&& 63))) j = (tj_bl w j || decide (a % 64 = j)) := by
  unfold tj_bl
  rw [tj_m63 ha, Int64.toBitVec_or, BitVec.getLsbD_or, tj_1l (a % 64) (by omega), BitVec.getLsbD_twoPow, decide_eq_true (show a % 64 < 64 by omega), Bool.true_and]
theorem tj_bl_clr {a : Nat} (ha : a < 2 ^ 31) (w : Int64) {j : Nat} (hj : j < 64) : tj_bl (w &&& (((1 : Int64) <<< ((nI a &&& 63).toInt64 &&& 63)) ^^^ (-1))) j = (tj_bl w j && !decide (a % 64 = j)) := by
  unfold tj_bl
  have hb : (-1 : Int64).toBitVec = BitVec.allOnes 64 := by decide
  rw [tj_m63 ha, Int64.toBitVec_and, BitVec.getLsbD_and, Int64.toBitVec_xor, BitVec.getLsbD_xor, tj_1l (a % 64) (by omega), BitVec.getLsbD_twoPow, decide_eq_true (show a % 64 < 64 by omega), Bool.true_and, hb, BitVec.getLsbD_allOnes, decide_eq_true hj]
  cases decide (a % 64 = j) <;> rfl
theorem tj_bl_0 (j : Nat) : tj_bl 0 j = false := by
  show (0#64).getLsbD j = false
  exact BitVec.getLsbD_zero
/-- a set of numbers kept as bits of longs -/
def tj_in (S : Nat → Int64) (a : Nat) : Prop := tj_bl (S (a / 64)) (a % 64) = true
theorem tj_in_put (S : Nat → Int64) {a : Nat} (ha : a < 2 ^ 31) (b : Nat) : tj_in (vp_updL S (a / 64) (S (a / 64) ||| ((1 : Int64) <<< ((nI a &&& 63).toInt64 &&& 63)))) b ↔ b = a ∨ tj_in S b := by
  unfold tj_in
  by_cases e : b / 64 = a / 64
  · rw [e, pk_uLs, tj_bl_put ha, Bool.or_eq_true, decide_eq_true_iff]
    constructor
    · rintro (h | h)
      · exact Or.inr h
      · exact Or.inl (by omega)
    · rintro (h | h)
      · exact Or.inr (by omega)
      · exact Or.inl h
  · rw [pk_uLn e]
    exact ⟨Or.inr, fun h => h.elim (fun z => absurd (by rw [z]) e) id⟩
theorem tj_in_0 {S : Nat → Int64} (h : ∀ w, w < 49 → S w = 0) {a : Nat} (ha : a < 3136) : ¬ tj_in S a := by
  unfold tj_in
  rw [h (a / 64) (by omega), tj_bl_0]
  exact Bool.false_ne_true
/-! counts -/
noncomputable def tj_ct (p : Nat → Prop) : Nat → Nat
  | 0 => 0
  | n + 1 => tj_ct p n + @ite Nat (p n) (Classical.propDecidable (p n)) 1 0
theorem tj_ct_t {p : Nat → Prop} {n : Nat} (h : p n) : tj_ct p (n + 1) = tj_ct p n + 1 := by
  show tj_ct p n + @ite Nat (p n) (Classical.propDecidable (p n)) 1 0 = _
  rw [if_pos h]
theorem tj_ct_f {p : Nat → Prop} {n : Nat} (h : ¬ p n) : tj_ct p (n + 1) = tj_ct p n := by
  show tj_ct p n + @ite Nat (p n) (Classical.propDecidable (p n)) 1 0 = _
  rw [if_neg h, Nat.add_zero]
theorem tj_ct_cases (p : Nat → Prop) (n : Nat) : (p n ∧ tj_ct p (n + 1) = tj_ct p n + 1) ∨ (¬ p n ∧ tj_ct p (n + 1) = tj_ct p n) := by
  rcases Classical.em (p n) with h | h
  · exact Or.inl ⟨h, tj_ct_t h⟩
  · exact Or.inr ⟨h, tj_ct_f h⟩
theorem tj_ct_le (p : Nat → Prop) (n : Nat) : tj_ct p n ≤ n := by
  induction n with
  | zero => exact Nat.le_refl 0
  | succ n ih => rcases tj_ct_cases p n with h | h <;> omega
theorem tj_ct_mono {p q : Nat → Prop} {n : Nat} (h : ∀ a, a < n → p a → q a) : tj_ct p n ≤ tj_ct q n := by
  induction n with
  | zero => exact Nat.le_refl 0
  | succ n ih =>
    have i := ih (fun a ha => h a (by omega))
    rcases tj_ct_cases p n with ⟨hp, e⟩ | ⟨hp, e⟩
    · rw [e, tj_ct_t (h n (by omega) hp)]; omega
    · rw [e]; rcases tj_ct_cases q n with h2 | h2 <;> omega
theorem tj_ct_congr {p q : Nat → Prop} {n : Nat} (h : ∀ a, a < n → (p a ↔ q a)) : tj_ct p n = tj_ct q n :=
  Nat.le_antisymm (tj_ct_mono (fun a ha => (h a ha).mp)) (tj_ct_mono (fun a ha => (h a ha).mpr))
theorem tj_ct_up {p : Nat → Prop} {m n : Nat} (h : m ≤ n) : tj_ct p m ≤ tj_ct p n := by
  induction n with
  | zero => rw [show m = 0 by omega]; exact Nat.le_refl _
  | succ n ih =>
    rcases Nat.lt_or_ge n m with z | z
    · rw [show m = n + 1 by omega]; exact Nat.le_refl _
    · have := ih z
      rcases tj_ct_cases p n with h2 | h2 <;> omega
theorem tj_ct_lt {p : Nat → Prop} {m n : Nat} (h : m < n) (hp : p m) : tj_ct p m < tj_ct p n := by
  have := tj_ct_up (p := p) (show m + 1 ≤ n from h)
  rw [tj_ct_t hp] at this
  omega
theorem tj_ct_at {p : Nat → Prop} {k n : Nat} (h : k < tj_ct p n) : ∃ a, a < n ∧ p a ∧ tj_ct p a = k := by
  induction n with
  | zero => exact absurd h (Nat.not_lt_zero k)
  | succ n ih =>
    rcases Nat.lt_or_ge k (tj_ct p n) with z | z
    · obtain ⟨a, h1, h2⟩ := ih z
      exact ⟨a, by omega, h2⟩
    · rcases tj_ct_cases p n with ⟨hp, e⟩ | ⟨hp, e⟩
      · exact ⟨n, by omega, hp, by omega⟩
      · omega
theorem tj_ct_eq {p : Nat → Prop} {a b : Nat} (ha : p a) (hb : p b) (h : tj_ct p a = tj_ct p b) : a = b := by
  rcases Nat.lt_trichotomy a b with z | z | z
  · have := tj_ct_lt z ha; omega
  · exact z
  · have := tj_ct_lt z hb; omega
theorem tj_ct_or {p q : Nat → Prop} (n : Nat) : tj_ct (fun a => p a ∨ q a) n ≤ tj_ct p n + tj_ct q n := by
  induction n with
  | zero => exact Nat.le_refl _
  | succ n ih =>
    rcases tj_ct_cases (fun a => p a ∨ q a) n with ⟨h, e⟩ | ⟨h, e⟩
    · rcases h with h | h
      · rw [e, tj_ct_t h]; rcases tj_ct_cases q n with h2 | h2 <;> omega
      · rw [e, tj_ct_t h]; rcases tj_ct_cases p n with h2 | h2 <;> omega
    · rw [e]; rcases tj_ct_cases q n with h2 | h2 <;> rcases tj_ct_cases p n with h3 | h3 <;> omega
theorem tj_ct_none {p : Nat → Prop} {n : Nat} (h : ∀ a, a < n → ¬ p a) : tj_ct p n = 0 := by
  induction n with
  | zero => rfl
  | succ n ih => rw [tj_ct_f (h n (by omega)), ih (fun a ha => h a (by omega))]
theorem tj_ct_one (v n : Nat) : tj_ct (fun a => a = v) n ≤ 1 := by
  induction n with
  | zero => exact Nat.zero_le _
  | succ n ih =>
    rcases tj_ct_cases (fun a => a = v) n with ⟨h, e⟩ | ⟨h, e⟩
    · have : tj_ct (fun a => a = v) n = 0 := tj_ct_none (fun a ha z => by have h' : n = v := h; omega)
      omega
    · omega
theorem tj_ct_add (p : Nat → Prop) (m n : Nat) : tj_ct p (m + n) = tj_ct p m + tj_ct (fun j => p (m + j)) n := by
  induction n with
  | zero => rfl
  | succ n ih =>
    rw [← Nat.add_assoc]
    rcases tj_ct_cases p (m + n) with ⟨h, e⟩ | ⟨h, e⟩
    · rw [e, ih, tj_ct_t (p := fun j => p (m + j)) h]; omega
    · rw [e, ih, tj_ct_f (p := fun j => p (m + j)) h]
/-- taking away the lowest bit -/
theorem tj_low : ∀ (n x : Nat), 0 < x → x < 2 ^ n → tj_ct (fun j => (x &&& (x - 1)).testBit j = true) n + 1 = tj_ct (fun j => x.testBit j = true) n := by
  intro n
  induction n with
  | zero => intro x h0 h; simp at h; omega
  | succ n ih =>
    intro x h0 h
    rw [Nat.add_comm n 1, tj_ct_add, tj_ct_add]
    have hy : x / 2 < 2 ^ n := by rw [Nat.pow_succ] at h; omega
    have e1 : ∀ j, x.testBit (1 + j) = (x / 2).testBit j := fun j => by rw [Nat.add_comm, Nat.testBit_succ]
    have e2 : ∀ j, (x - 1).testBit (1 + j) = ((x - 1) / 2).testBit j := fun j => by rw [Nat.add_comm, Nat.testBit_succ]
    have b0 : x.testBit 0 = decide (x % 2 = 1) := Nat.testBit_zero x
    have b1 : (x - 1).testBit 0 = decide ((x - 1) % 2 = 1) := Nat.testBit_zero (x - 1)
    have z0 : tj_ct (fun j => (x &&& (x - 1)).testBit j = true) 1 = 0 := by
      apply tj_ct_none
      intro a ha
      rw [show a = 0 by omega, Nat.testBit_and, b0, b1, Bool.and_eq_true, decide_eq_true_iff, decide_eq_true_iff]
      omega
    rw [z0]
    rcases Nat.mod_two_eq_zero_or_one x with hx | hx
    · have z1 : tj_ct (fun j => x.testBit j = true) 1 = 0 := by
        apply tj_ct_none
        intro a ha
        rw [show a = 0 by omega, b0, decide_eq_true_iff]
        omega
      have i := ih (x / 2) (by omega) hy
      have c1 : tj_ct (fun j => (x &&& (x - 1)).testBit (1 + j) = true) n = tj_ct (fun j => (x / 2 &&& (x / 2 - 1)).testBit j = true) n := by
        apply tj_ct_congr
        intro a _
        rw [Nat.testBit_and, Nat.testBit_and, e1, e2, show (x - 1) / 2 = x / 2 - 1 by omega]
      have c2 : tj_ct (fun j => x.testBit (1 + j) = true) n = tj_ct (fun j => (x / 2).testBit j = true) n := tj_ct_congr (fun a _ => by rw [e1])
      rw [z1, c1, c2]
      omega
    · have z1 : tj_ct (fun j => x.testBit j = true) 1 = 1 := by
        have : tj_ct (fun j => x.testBit j = true) (0 + 1) = tj_ct (fun j => x.testBit j = true) 0 + 1 := tj_ct_t (by rw [b0, decide_eq_true_iff]; exact hx)
        exact this
      have c1 : tj_ct (fun j => (x &&& (x - 1)).testBit (1 + j) = true) n = tj_ct (fun j => x.testBit (1 + j) = true) n := by
        apply tj_ct_congr
        intro a _
        rw [Nat.testBit_and, e1, e2, show (x - 1) / 2 = x / 2 by omega, Bool.and_self]
      rw [z1, c1]
      omega
theorem tj_lowL {x : Int64} (h : ¬ x = 0) : tj_ct (fun j => tj_bl (x &&& (x - 1)) j = true) 64 + 1 = tj_ct (fun j => tj_bl x j = true) 64 := by
  have hx : 0 < x.toBitVec.toNat := by
    rcases Nat.eq_zero_or_pos x.toBitVec.toNat with z | z
    · exact absurd (Int64.toBitVec_inj.mp (BitVec.eq_of_toNat_eq z)) h
    · exact z
  have hl := x.toBitVec.isLt
  have e : ∀ j, tj_bl (x &&& (x - 1)) j = (x.toBitVec.toNat &&& (x.toBitVec.toNat - 1)).testBit j := by
    intro j
    show (x &&& (x - 1)).toBitVec.getLsbD j = _
    rw [Int64.toBitVec_and, Int64.toBitVec_sub, BitVec.getLsbD_and, Nat.testBit_and]
    show (x.toBitVec.toNat.testBit j && (x.toBitVec - 1#64).toNat.testBit j) = _
    rw [BitVec.toNat_sub]
    congr 2
    show (2 ^ 64 - 1 + x.toBitVec.toNat) % 2 ^ 64 = _
    omega
  have t := tj_low 64 x.toBitVec.toNat hx hl
  have c : tj_ct (fun j => tj_bl (x &&& (x - 1)) j = true) 64 = tj_ct (fun j => (x.toBitVec.toNat &&& (x.toBitVec.toNat - 1)).testBit j = true) 64 := tj_ct_congr (fun a _ => by rw [e])
  rw [c]
  exact t
/-- the k-th of a set, as 'answer' gives it -/
noncomputable def tj_kth (S : Nat → Prop) (k : Nat) : Int32 := @dite _ (∃ a, a < 3125 ∧ S a ∧ tj_ct S a = k) (Classical.propDecidable _) (fun h => nI h.choose) (fun _ => -3)
theorem tj_kth_y {S : Nat → Prop} {k a : Nat} (h1 : a < 3125) (h2 : S a) (h3 : tj_ct S a = k) : tj_kth S k = nI a := by
  have h : ∃ a, a < 3125 ∧ S a ∧ tj_ct S a = k := ⟨a, h1, h2, h3⟩
  unfold tj_kth
  rw [dif_pos h]
  have c := h.choose_spec
  rw [tj_ct_eq c.2.1 h2 (by rw [c.2.2, h3])]
theorem tj_kth_n {S : Nat → Prop} {k : Nat} (h : tj_ct S 3125 ≤ k) : tj_kth S k = -3 := by
  unfold tj_kth
  rw [dif_neg]
  rintro ⟨a, h1, h2, h3⟩
  have := tj_ct_lt h1 h2
  omega
end
section
/-! ===== keys, digits, rows, atoms ===== -/
def tj_key (m : Nat) (s : Nat → Nat) : Nat → Nat
  | 0 => 0
  | n + 1 => if m.testBit n = true then 5 * tj_key m s n + s n else tj_key m s n
theorem tj_key_t {m n : Nat} {s : Nat → Nat} (h : m.testBit n = true) : tj_key m s (n + 1) = 5 * tj_key m s n + s n := if_pos h
theorem tj_key_f {m n : Nat} {s : Nat → Nat} (h : m.testBit n = false) : tj_key m s (n + 1) = tj_key m s n := if_neg (by rw [h]; decide)
theorem tj_key_lt {m : Nat} {s : Nat → Nat} : ∀ n, (∀ v, v < n → s v < 5) → tj_key m s n < 5 ^ tj_ct (fun v => m.testBit v = true) n := by
  intro n
  induction n with
  | zero => intro _; exact Nat.one_pos
  | succ n ih =>
    intro h
    have i := ih (fun v hv => h v (by omega))
    have hn := h n (by omega)
    cases hb : m.testBit n
    · rw [tj_key_f hb, tj_ct_f (by rw [hb]; decide)]; exact i
    · rw [tj_key_t hb, tj_ct_t (p := fun v => m.testBit v = true) hb, Nat.pow_succ]; omega
theorem tj_key_lt5 {m : Nat} {s : Nat → Nat} (h : ∀ v, v < 5 → s v < 5) {n : Nat} (hn : n ≤ 5) : tj_key m s n < 3125 := by
  have h1 := tj_key_lt (m := m) (s := s) n (fun v hv => h v (by omega))
  have h2 : 5 ^ tj_ct (fun v => m.testBit v = true) n ≤ 5 ^ 5 := Nat.pow_le_pow_right (by decide) (Nat.le_trans (tj_ct_le _ n) hn)
  omega
theorem tj_key_inj {m : Nat} {s t : Nat → Nat} : ∀ n, (∀ v, v < n → s v < 5) → (∀ v, v < n → t v < 5) → tj_key m s n = tj_key m t n → ∀ v, v < n → m.testBit v = true → s v = t v := by
  intro n
  induction n with
  | zero => intro _ _ _ v hv; omega
  | succ n ih =>
    intro hs ht e v hv hb
    have a := hs n (by omega)
    have b := ht n (by omega)
    have i := ih (fun v hv => hs v (by omega)) (fun v hv => ht v (by omega))
    cases hn : m.testBit n
    · rw [tj_key_f hn, tj_key_f hn] at e
      rcases Nat.lt_or_ge v n with z | z
      · exact i e v z hb
      · rw [show v = n by omega, hn] at hb; exact absurd hb (by decide)
    · rw [tj_key_t hn, tj_key_t hn] at e
      rcases Nat.lt_or_ge v n with z | z
      · exact i (by omega) v z hb
      · rw [show v = n by omega]; omega
theorem tj_key_congr {m : Nat} {s t : Nat → Nat} : ∀ n, (∀ v, v < n → m.testBit v = true → s v = t v) → tj_key m s n = tj_key m t n := by
  intro n
  induction n with
  | zero => intro _; rfl
  | succ n ih =>
    intro h
    have i := ih (fun v hv => h v (by omega))
    cases hn : m.testBit n
    · rw [tj_key_f hn, tj_key_f hn, i]
    · rw [tj_key_t hn, tj_key_t hn, i, h n (by omega) hn]
def tj_dg (c v : Nat) : Nat := c / 5 ^ (4 - v) % 5
theorem tj_dg_lt (c v : Nat) : tj_dg c v < 5 := Nat.mod_lt _ (by decide)
theorem tj_key31 (s : Nat → Nat) : tj_key 31 s 5 = 5 * (5 * (5 * (5 * (5 * 0 + s 0) + s 1) + s 2) + s 3) + s 4 := by
  rw [tj_key_t (by decide), tj_key_t (by decide), tj_key_t (by decide), tj_key_t (by decide), tj_key_t (by decide)]
  rfl
theorem tj_dg_key {s : Nat → Nat} (h : ∀ v, v < 5 → s v < 5) {v : Nat} (hv : v < 5) : tj_dg (tj_key 31 s 5) v = s v := by
  have h0 := h 0 (by decide)
  have h1 := h 1 (by decide)
  have h2 := h 2 (by decide)
  have h3 := h 3 (by decide)
  have h4 := h 4 (by decide)
  rw [tj_key31]
  unfold tj_dg
  match v, hv with
  | 0, _ => show _ / 625 % 5 = _; omega
  | 1, _ => show _ / 125 % 5 = _; omega
  | 2, _ => show _ / 25 % 5 = _; omega
  | 3, _ => show _ / 5 % 5 = _; omega
  | 4, _ => show _ / 1 % 5 = _; omega
theorem tj_key_dg {c : Nat} (h : c < 3125) : tj_key 31 (tj_dg c) 5 = c := by
  rw [tj_key31]
  show 5 * (5 * (5 * (5 * (5 * 0 + c / 625 % 5) + c / 125 % 5) + c / 25 % 5) + c / 5 % 5) + c / 1 % 5 = c
  omega
theorem tj_dg_eq {c d : Nat} (hc : c < 3125) (hd : d < 3125) (h : ∀ v, v < 5 → tj_dg c v = tj_dg d v) : c = d := by
  rw [← tj_key_dg hc, ← tj_key_dg hd]
  exact tj_key_congr 5 (fun v hv _ => h v hv)
/-! rows -/
def tj_cols (r : Nat) : Nat := if r = 2 then 3 else 2
def tj_rw (r : Nat) : Nat := if r = 2 then 125 else 25
theorem tj_cols_b (r : Nat) : 2 ≤ tj_cols r ∧ tj_cols r ≤ 3 := by unfold tj_cols; split <;> omega
theorem tj_rw_b (r : Nat) : 25 ≤ tj_rw r ∧ tj_rw r ≤ 125 := by unfold tj_rw; split <;> omega
def tj_col (r row c : Nat) : Nat := row / 5 ^ (tj_cols r - 1 - c) % 5
theorem tj_col_lt (r row c : Nat) : tj_col r row c < 5 := Nat.mod_lt _ (by decide)
/-! atoms -/
def tj_rel (RO : Nat → Int32) (t : Nat) : Nat := (RO t).toNatClampNeg
def tj_var (VO : Nat → Int32) (t c : Nat) : Nat := (VO (3 * t + c)).toNatClampNeg
def tj_aok (RO VO : Nat → Int32) (t : Nat) : Prop := tj_N (RO t) 3 ∧ (∀ c, c < tj_cols (tj_rel RO t) → tj_N (VO (3 * t + c)) 5) ∧ (∀ c, tj_cols (tj_rel RO t) ≤ c → c < 3 → VO (3 * t + c) = -1)
theorem tj_aok_r {RO VO : Nat → Int32} {t : Nat} (h : tj_aok RO VO t) : RO t = nI (tj_rel RO t) ∧ tj_rel RO t < 3 := tj_N_e h.1 (by decide)
theorem tj_aok_v {RO VO : Nat → Int32} {t c : Nat} (h : tj_aok RO VO t) (hc : c < tj_cols (tj_rel RO t)) : VO (3 * t + c) = nI (tj_var VO t c) ∧ tj_var VO t c < 5 := tj_N_e (h.2.1 c hc) (by decide)
def tj_vb (x : Int32) : Nat := if x < 0 then 0 else 2 ^ x.toNatClampNeg
theorem tj_vb_n {n : Nat} (h : n < 2 ^ 31) : tj_vb (nI n) = 2 ^ n := by unfold tj_vb; rw [if_neg (nI_pos h), nI_clamp h]
theorem tj_vb_m : tj_vb (-1) = 0 := by unfold tj_vb; exact if_pos (by decide)
def tj_vsn (VO : Nat → Int32) (t : Nat) : Nat → Nat
  | 0 => 0
  | c + 1 => tj_vsn VO t c ||| tj_vb (VO (3 * t + c))
def tj_vs (VO : Nat → Int32) (t : Nat) : Nat := tj_vsn VO t 3
theorem tj_vsn_bit {RO VO : Nat → Int32} {t : Nat} (h : tj_aok RO VO t) (v : Nat) : ∀ n, n ≤ 3 → ((tj_vsn VO t n).testBit v = true ↔ ∃ c, c < n ∧ c < tj_cols (tj_rel RO t) ∧ tj_var VO t c = v) := by
  intro n
  induction n with
  | zero => intro _; exact ⟨fun z => absurd z (by rw [show tj_vsn VO t 0 = 0 from rfl, Nat.zero_testBit]; decide), fun ⟨c, hc, _⟩ => absurd hc (by omega)⟩
  | succ n ih =>
    intro hn
    show (tj_vsn VO t n ||| tj_vb (VO (3 * t + n))).testBit v = true ↔ _
    rw [Nat.testBit_or, Bool.or_eq_true, ih (by omega)]
    by_cases hc : n < tj_cols (tj_rel RO t)
    · obtain ⟨e, he⟩ := tj_aok_v h hc
      rw [e, tj_vb_n (by omega), tj_bit2p, decide_eq_true_iff]
      constructor
      · rintro (⟨c, h1, h2⟩ | z)
        · exact ⟨c, by omega, h2⟩
        · exact ⟨n, by omega, hc, z⟩
      · rintro ⟨c, h1, h2, h3⟩
        rcases Nat.lt_or_ge c n with z | z
        · exact Or.inl ⟨c, z, h2, h3⟩
        · exact Or.inr (by rw [← h3, show c = n by omega])
    · rw [h.2.2 n (by omega) (by omega), tj_vb_m, Nat.zero_testBit]
      constructor
      · rintro (⟨c, h1, h2⟩ | z)
        · exact ⟨c, by omega, h2⟩
        · exact absurd z (by decide)
      · rintro ⟨c, h1, h2, h3⟩
        exact Or.inl ⟨c, by omega, h2, h3⟩
theorem tj_vs_bit {RO VO : Nat → Int32} {t : Nat} (h : tj_aok RO VO t) (v : Nat) : (tj_vs VO t).testBit v = true ↔ ∃ c, c < tj_cols (tj_rel RO t) ∧ tj_var VO t c = v := by
  unfold tj_vs
  rw [tj_vsn_bit h v 3 (by omega)]
  have := tj_cols_b (tj_rel RO t)
  exact ⟨fun ⟨c, _, h2⟩ => ⟨c, h2⟩, fun ⟨c, h1, h2⟩ => ⟨c, by omega, h1, h2⟩⟩
theorem tj_vb_lt {x : Int32} (h : x = -1 ∨ tj_N x 5) : tj_vb x < 32 := by
  rcases h with rfl | ⟨n, hn, rfl⟩
  · rw [tj_vb_m]; decide
  · rw [tj_vb_n (by omega)]; exact tj_2p (k := 5) hn
theorem tj_vsn_lt {RO VO : Nat → Int32} {t : Nat} (h : tj_aok RO VO t) : ∀ n, n ≤ 3 → tj_vsn VO t n < 32 := by
  intro n
  induction n with
  | zero => intro _; exact (by decide : 0 < 32)
  | succ n ih =>
    intro hn
    refine Nat.or_lt_two_pow (n := 5) (ih (by omega)) (tj_vb_lt ?_)
    by_cases hc : n < tj_cols (tj_rel RO t)
    · exact Or.inr (h.2.1 n hc)
    · exact Or.inl (h.2.2 n (by omega) (by omega))
theorem tj_vs_lt {RO VO : Nat → Int32} {t : Nat} (h : tj_aok RO VO t) : tj_vs VO t < 32 := tj_vsn_lt h 3 (by omega)
theorem tj_vs_ct {RO VO : Nat → Int32} {t : Nat} (h : tj_aok RO VO t) : tj_ct (fun v => (tj_vs VO t).testBit v = true) 5 ≤ 3 := by
  have h1 : tj_ct (fun v => (tj_vs VO t).testBit v = true) 5 ≤ tj_ct (fun v => v = tj_var VO t 0 ∨ (v = tj_var VO t 1 ∨ v = tj_var VO t 2)) 5 := by
    apply tj_ct_mono
    intro v _ hv
    obtain ⟨c, hc, e⟩ := (tj_vs_bit h v).mp hv
    have := tj_cols_b (tj_rel RO t)
    rcases (show c = 0 ∨ c = 1 ∨ c = 2 by omega) with rfl | rfl | rfl
    · exact Or.inl e.symm
    · exact Or.inr (Or.inl e.symm)
    · exact Or.inr (Or.inr e.symm)
  have h2 := tj_ct_or (p := fun v => v = tj_var VO t 0) (q := fun v => v = tj_var VO t 1 ∨ v = tj_var VO t 2) 5
  have h3 := tj_ct_or (p := fun v => v = tj_var VO t 1) (q := fun v => v = tj_var VO t 2) 5
  have a := tj_ct_one (tj_var VO t 0) 5
  have b := tj_ct_one (tj_var VO t 1) 5
  have c := tj_ct_one (tj_var VO t 2) 5
  omega
theorem tj_vs_ne {RO VO : Nat → Int32} {t : Nat} (h : tj_aok RO VO t) : ∃ v, v < 5 ∧ (tj_vs VO t).testBit v = true := by
  have hc := tj_cols_b (tj_rel RO t)
  exact ⟨tj_var VO t 0, (tj_aok_v h (c := 0) (by omega)).2, (tj_vs_bit h _).mpr ⟨0, by omega, rfl⟩⟩
def tj_va (VO : Nat → Int32) (q m : Nat) : Nat → Nat
  | 0 => 0
  | n + 1 => if m.testBit n = true then tj_va VO q m n ||| tj_vs VO (4 * q + n) else tj_va VO q m n
theorem tj_va_t {VO : Nat → Int32} {q m n : Nat} (h : m.testBit n = true) : tj_va VO q m (n + 1) = tj_va VO q m n ||| tj_vs VO (4 * q + n) := if_pos h
theorem tj_va_f {VO : Nat → Int32} {q m n : Nat} (h : m.testBit n = false) : tj_va VO q m (n + 1) = tj_va VO q m n := if_neg (by rw [h]; decide)
theorem tj_va_bit {VO : Nat → Int32} {q m : Nat} (v : Nat) : ∀ n, ((tj_va VO q m n).testBit v = true ↔ ∃ i, i < n ∧ m.testBit i = true ∧ (tj_vs VO (4 * q + i)).testBit v = true) := by
  intro n
  induction n with
  | zero => exact ⟨fun z => absurd z (by rw [show tj_va VO q m 0 = 0 from rfl, Nat.zero_testBit]; decide), fun ⟨c, hc, _⟩ => absurd hc (by omega)⟩
  | succ n ih =>
    cases hb : m.testBit n
    · rw [tj_va_f hb, ih]
      constructor
      · rintro ⟨i, h1, h2⟩; exact ⟨i, by omega, h2⟩
      · rintro ⟨i, h1, h2, h3⟩
        rcases Nat.lt_or_ge i n with z | z
        · exact ⟨i, z, h2, h3⟩
        · rw [show i = n by omega, hb] at h2; exact absurd h2 (by decide)
    · rw [tj_va_t hb, Nat.testBit_or, Bool.or_eq_true, ih]
      constructor
      · rintro (⟨i, h1, h2⟩ | z)
        · exact ⟨i, by omega, h2⟩
        · exact ⟨n, by omega, hb, z⟩
      · rintro ⟨i, h1, h2, h3⟩
        rcases Nat.lt_or_ge i n with z | z
        · exact Or.inl ⟨i, z, h2, h3⟩
        · rw [show i = n by omega] at h3; exact Or.inr h3
def tj_Q (RO VO : Nat → Int32) (q m : Nat) : Prop := ∀ i, i < 4 → m.testBit i = true → tj_aok RO VO (4 * q + i)
theorem tj_va_lt {RO VO : Nat → Int32} {q m : Nat} (h : tj_Q RO VO q m) : ∀ n, n ≤ 4 → tj_va VO q m n < 32 := by
  intro n
  induction n with
  | zero => intro _; exact (by decide : 0 < 32)
  | succ n ih =>
    intro hn
    cases hb : m.testBit n
    · rw [tj_va_f hb]; exact ih (by omega)
    · rw [tj_va_t hb]; exact Nat.or_lt_two_pow (n := 5) (ih (by omega)) (tj_vs_lt (h n (by omega) hb))
/-- the column in which a variable stands first -/
def tj_fc (VO : Nat → Int32) (t v : Nat) : Nat := if VO (3 * t) = nI v then 0 else if VO (3 * t + 1) = nI v then 1 else 2
theorem tj_fc_s {RO VO : Nat → Int32} {t v : Nat} (h : tj_aok RO VO t) (hv : (tj_vs VO t).testBit v = true) : tj_fc VO t v < tj_cols (tj_rel RO t) ∧ VO (3 * t + tj_fc VO t v) = nI v ∧ ∀ c, c < tj_fc VO t v → VO (3 * t + c) ≠ nI v := by
  obtain ⟨c, hc, e⟩ := (tj_vs_bit h v).mp hv
  have e2 : VO (3 * t + c) = nI v := by rw [(tj_aok_v h hc).1, e]
  have hb := tj_cols_b (tj_rel RO t)
  unfold tj_fc
  by_cases h0 : VO (3 * t) = nI v
  · rw [if_pos h0]; exact ⟨by omega, h0, fun c hc => absurd hc (by omega)⟩
  · rw [if_neg h0]
    by_cases h1 : VO (3 * t + 1) = nI v
    · rw [if_pos h1]; exact ⟨by omega, h1, fun c hc => by rw [show c = 0 by omega]; exact h0⟩
    · rw [if_neg h1]
      rcases (show c = 0 ∨ c = 1 ∨ c = 2 by omega) with rfl | rfl | rfl
      · exact absurd e2 h0
      · exact absurd e2 h1
      · refine ⟨hc, e2, fun d hd => ?_⟩
        rcases (show d = 0 ∨ d = 1 by omega) with rfl | rfl
        · exact h0
        · exact h1
/-- what a row gives a variable -/
def tj_ra (RO VO : Nat → Int32) (t row v : Nat) : Nat := tj_col (tj_rel RO t) row (tj_fc VO t v)
def tj_fit (RO VO : Nat → Int32) (t row : Nat) : Prop := ∀ c d, c < tj_cols (tj_rel RO t) → d < c → VO (3 * t + c) = VO (3 * t + d) → tj_col (tj_rel RO t) row c = tj_col (tj_rel RO t) row d
def tj_mt (RO VO : Nat → Int32) (t row : Nat) (s : Nat → Nat) : Prop := ∀ c, c < tj_cols (tj_rel RO t) → s (tj_var VO t c) = tj_col (tj_rel RO t) row c
theorem tj_mt_fit {RO VO : Nat → Int32} {t row : Nat} {s : Nat → Nat} (h : tj_mt RO VO t row s) : tj_fit RO VO t row := by
  intro c d hc hd e
  rw [← h c hc, ← h d (by omega)]
  unfold tj_var
  rw [e]
theorem tj_mt_ra {RO VO : Nat → Int32} {t row : Nat} {s : Nat → Nat} (h : tj_aok RO VO t) (hf : tj_fit RO VO t row) : tj_mt RO VO t row s ↔ ∀ v, (tj_vs VO t).testBit v = true → s v = tj_ra RO VO t row v := by
  constructor
  · intro hm v hv
    obtain ⟨h1, h2, _⟩ := tj_fc_s h hv
    have e : tj_var VO t (tj_fc VO t v) = v := by
      unfold tj_var
      obtain ⟨c, hc, e⟩ := (tj_vs_bit h v).mp hv
      have := (tj_aok_v h hc).2
      rw [h2, nI_clamp (by omega)]
    have := hm _ h1
    rw [e] at this
    exact this
  · intro hs c hc
    have hv : (tj_vs VO t).testBit (tj_var VO t c) = true := (tj_vs_bit h _).mpr ⟨c, hc, rfl⟩
    rw [hs _ hv]
    obtain ⟨h1, h2, h3⟩ := tj_fc_s h hv
    unfold tj_ra
    have e := (tj_aok_v h hc).1
    rcases Nat.lt_trichotomy (tj_fc VO t (tj_var VO t c)) c with z | z | z
    · exact (hf c _ hc z (by rw [h2, e])).symm
    · rw [z]
    · exact absurd e (h3 c z)
/-! V: the variables of each atom, n the number of its rows, R what each row gives a variable, a which rows are alive -/
def tj_P (V n : Nat → Nat) (R : Nat → Nat → Nat → Nat) (a : Nat → Nat → Prop) (i : Nat) (s : Nat → Nat) : Prop := ∃ k, k < n i ∧ a i k ∧ ∀ v, (V i).testBit v = true → s v = R i k v
def tj_Sat (V n : Nat → Nat) (R : Nat → Nat → Nat → Nat) (a : Nat → Nat → Prop) (m : Nat) (s : Nat → Nat) : Prop := ∀ i, i < 4 → m.testBit i = true → tj_P V n R a i s
def tj_Ans (V n : Nat → Nat) (R : Nat → Nat → Nat → Nat) (a : Nat → Nat → Prop) (m w x : Nat) : Prop := ∃ s : Nat → Nat, (∀ v, s v < 5) ∧ tj_Sat V n R a m s ∧ x = tj_key w s 5
theorem tj_P_congr {V n : Nat → Nat} {R : Nat → Nat → Nat → Nat} {a : Nat → Nat → Prop} {i : Nat} {s t : Nat → Nat} (h : ∀ v, (V i).testBit v = true → s v = t v) (hs : tj_P V n R a i s) : tj_P V n R a i t := by
  obtain ⟨k, h1, h2, h3⟩ := hs
  exact ⟨k, h1, h2, fun v hv => by rw [← h v hv, h3 v hv]⟩
theorem tj_P_mono {V n : Nat → Nat} {R : Nat → Nat → Nat → Nat} {a b : Nat → Nat → Prop} {i : Nat} {s : Nat → Nat} (h : ∀ k, k < n i → a i k → b i k) (hs : tj_P V n R a i s) : tj_P V n R b i s := by
  obtain ⟨k, h1, h2, h3⟩ := hs
  exact ⟨k, h1, h k h1 h2, h3⟩
def tj_V (VO : Nat → Int32) (q i : Nat) : Nat := tj_vs VO (4 * q + i)
def tj_n (LC : Nat → Int32) (i : Nat) : Nat := (LC i).toNatClampNeg
def tj_ro (LI : Nat → Int32) (i k : Nat) : Nat := (LI (16 * i + k)).toNatClampNeg
def tj_R (RO VO LI : Nat → Int32) (q i k v : Nat) : Nat := tj_ra RO VO (4 * q + i) (tj_ro LI i k) v
def tj_av (AL : Nat → Int32) (i k : Nat) : Prop := (AL i).toNatClampNeg.testBit k = true
theorem tj_R_lt (RO VO LI : Nat → Int32) (q i k v : Nat) : tj_R RO VO LI q i k v < 5 := tj_col_lt _ _ _
/-- the lists are in order -/
def tj_I (RO VO LC LI : Nat → Int32) (q m : Nat) : Prop := ∀ i, i < 4 → m.testBit i = true → tj_aok RO VO (4 * q + i) ∧ tj_N (LC i) 17 ∧ ∀ k, k < tj_n LC i → LI (16 * i + k) = nI (tj_ro LI i k) ∧ tj_ro LI i k < tj_rw (tj_rel RO (4 * q + i)) ∧ tj_fit RO VO (4 * q + i) (tj_ro LI i k)
/-- the sets of rows alive are in order -/
def tj_L (AL : Nat → Int32) (m : Nat) : Prop := ∀ i, i < 4 → m.testBit i = true → tj_N (AL i) 65536
theorem tj_I_n {RO VO LC LI : Nat → Int32} {q m i : Nat} (h : tj_I RO VO LC LI q m) (hi : i < 4) (hm : m.testBit i = true) : LC i = nI (tj_n LC i) ∧ tj_n LC i ≤ 16 := by
  obtain ⟨h1, h2⟩ := tj_N_e (h i hi hm).2.1 (by decide)
  exact ⟨h1, Nat.le_of_lt_succ h2⟩
theorem tj_L_e {AL : Nat → Int32} {m i : Nat} (h : tj_L AL m) (hi : i < 4) (hm : m.testBit i = true) : AL i = nI (AL i).toNatClampNeg ∧ (AL i).toNatClampNeg < 65536 := tj_N_e (h i hi hm) (by decide)
theorem tj_I_Q {RO VO LC LI : Nat → Int32} {q m : Nat} (h : tj_I RO VO LC LI q m) : tj_Q RO VO q m := fun i hi hm => (h i hi hm).1
end
section
/-! ===== joining one atom; full reduction along a tree ===== -/
/-- nothing where there is no value yet -/
def tj_Z (b c : Nat) : Prop := ∀ v, v < 5 → b.testBit v = false → tj_dg c v = 0
theorem tj_join {V n : Nat → Nat} {R : Nat → Nat → Nat → Nat} {a : Nat → Nat → Prop} {i b : Nat} {Q : (Nat → Nat) → Prop} (hR : ∀ k v, R i k v < 5) (hV : V i < 32)
    (hQ : ∀ s t : Nat → Nat, (∀ v, v < 5 → b.testBit v = true → s v = t v) → Q s → Q t) (x : Nat) :
    (∃ c k, c < 3125 ∧ tj_Z b c ∧ Q (tj_dg c) ∧ k < n i ∧ a i k ∧ tj_key (V i &&& b) (R i k) 5 = tj_key (V i &&& b) (tj_dg c) 5 ∧ x = tj_key 31 (fun v => if (V i).testBit v = true then R i k v else tj_dg c v) 5)
      ↔ x < 3125 ∧ tj_Z (b ||| V i) x ∧ Q (tj_dg x) ∧ tj_P V n R a i (tj_dg x) := by
  constructor
  · rintro ⟨c, k, hc, hz, hq, hk, ha, hkey, e⟩
    have hs : ∀ v, v < 5 → (fun v => if (V i).testBit v = true then R i k v else tj_dg c v) v < 5 := by
      intro v _
      show (if (V i).testBit v = true then R i k v else tj_dg c v) < 5
      split
      · exact hR k v
      · exact tj_dg_lt c v
    have hag := tj_key_inj 5 (fun v _ => hR k v) (fun v _ => tj_dg_lt c v) hkey
    have hx : ∀ v, v < 5 → tj_dg x v = if (V i).testBit v = true then R i k v else tj_dg c v := fun v hv => by rw [e]; exact tj_dg_key hs hv
    refine ⟨by rw [e]; exact tj_key_lt5 hs (by omega), ?_, ?_, ?_⟩
    · intro v hv hb
      rw [Nat.testBit_or, Bool.or_eq_false_iff] at hb
      rw [hx v hv, if_neg (by rw [hb.2]; decide)]
      exact hz v hv hb.1
    · refine hQ _ _ (fun v hv hb => ?_) hq
      rw [hx v hv]
      split
      · rename_i h
        exact (hag v hv (by rw [Nat.testBit_and, h, hb]; rfl)).symm
      · rfl
    · exact ⟨k, hk, ha, fun v hv => by rw [hx v (tj_bit_lt (k := 5) hV hv), if_pos hv]⟩
  · rintro ⟨hx, hz, hq, k, hk, ha, hm⟩
    have hs : ∀ v, v < 5 → (fun v => if b.testBit v = true then tj_dg x v else 0) v < 5 := by
      intro v _
      show (if b.testBit v = true then tj_dg x v else 0) < 5
      split
      · exact tj_dg_lt x v
      · decide
    have hc : ∀ v, v < 5 → tj_dg (tj_key 31 (fun v => if b.testBit v = true then tj_dg x v else 0) 5) v = if b.testBit v = true then tj_dg x v else 0 := fun v hv => tj_dg_key hs hv
    refine ⟨tj_key 31 (fun v => if b.testBit v = true then tj_dg x v else 0) 5, k, tj_key_lt5 hs (by omega), ?_, ?_, hk, ha, ?_, ?_⟩
    · intro v hv hb
      rw [hc v hv, if_neg (by rw [hb]; decide)]
    · refine hQ _ _ (fun v hv hb => ?_) hq
      rw [hc v hv, if_pos hb]
    · apply tj_key_congr
      intro v hv hb
      rw [Nat.testBit_and, Bool.and_eq_true] at hb
      rw [hc v hv, if_pos hb.2, hm v hb.1]
    · apply tj_dg_eq hx
      · refine tj_key_lt5 (fun v _ => ?_) (by omega)
        split
        · exact hR k v
        · exact tj_dg_lt _ v
      · intro v hv
        rw [tj_dg_key (fun v _ => ?_) hv]
        · split
          · rename_i h; exact hm v h
          · rename_i h
            rw [hc v hv]
            split
            · rfl
            · rename_i h2
              exact hz v hv (by rw [Nat.testBit_or, tj_nt h, tj_nt h2]; rfl)
        · split
          · exact hR k v
          · exact tj_dg_lt _ v
/-- two rows agree on what both have -/
def tj_ag (V : Nat → Nat) (R : Nat → Nat → Nat → Nat) (i k j l : Nat) : Prop := ∀ v, (V i).testBit v = true → (V j).testBit v = true → R i k v = R j l v
theorem tj_ag_s {V : Nat → Nat} {R : Nat → Nat → Nat → Nat} {i k j l : Nat} (h : tj_ag V R i k j l) : tj_ag V R j l i k := fun v h1 h2 => (h v h2 h1).symm
/-- b is a, but of i only the rows with a partner in j -/
def tj_flt (V n : Nat → Nat) (R : Nat → Nat → Nat → Nat) (a b : Nat → Nat → Prop) (i j : Nat) : Prop :=
  (∀ x k, x ≠ i → (b x k ↔ a x k)) ∧ (∀ k, k < n i → (b i k ↔ a i k ∧ ∃ l, l < n j ∧ a j l ∧ tj_ag V R i k j l))
theorem tj_flt_sub {V n : Nat → Nat} {R : Nat → Nat → Nat → Nat} {a b : Nat → Nat → Prop} {i j : Nat} (h : tj_flt V n R a b i j) {x k : Nat} (hk : k < n x) (hb : b x k) : a x k := by
  by_cases e : x = i
  · subst e; exact ((h.2 k hk).mp hb).1
  · exact (h.1 x k e).mp hb
theorem tj_flt_sat {V n : Nat → Nat} {R : Nat → Nat → Nat → Nat} {a b : Nat → Nat → Prop} {i j m : Nat} (h : tj_flt V n R a b i j) (hij : i ≠ j) (hj : j < 4) (mj : m.testBit j = true) (s : Nat → Nat) : tj_Sat V n R b m s ↔ tj_Sat V n R a m s := by
  constructor
  · intro hs x hx mx
    exact tj_P_mono (fun k hk => tj_flt_sub h hk) (hs x hx mx)
  · intro hs x hx mx
    obtain ⟨k, hk, ha, hv⟩ := hs x hx mx
    refine ⟨k, hk, ?_, hv⟩
    by_cases e : x = i
    · subst e
      obtain ⟨l, hl, hla, hlv⟩ := hs j hj mj
      exact (h.2 k hk).mpr ⟨ha, l, hl, hla, fun v h1 h2 => by rw [← hv v h1, hlv v h2]⟩
    · exact (h.1 x k e).mpr ha
/-- T atoms in the order o; each but the last hangs on that at the place p t -/
def tj_Tree (V : Nat → Nat) (m T : Nat) (o p : Nat → Nat) : Prop :=
  (∀ t, t < T → o t < 4 ∧ m.testBit (o t) = true) ∧ (∀ i, i < 4 → m.testBit i = true → ∃ t, t < T ∧ o t = i) ∧ (∀ s t, s < T → t < T → o s = o t → s = t) ∧
  (∀ t, t + 1 < T → t < p t ∧ p t < T ∧ ∀ v, (V (o t)).testBit v = true → ∀ s, t < s → s < T → (V (o s)).testBit v = true → (V (o (p t))).testBit v = true)
def tj_C (V n : Nat → Nat) (R : Nat → Nat → Nat → Nat) (a : Nat → Nat → Prop) (T : Nat) (o p : Nat → Nat) (t : Nat) : Prop :=
  ∀ s, s < t → s + 1 < T → ∀ l, l < n (o (p s)) → a (o (p s)) l → ∃ k, k < n (o s) ∧ a (o s) k ∧ tj_ag V R (o (p s)) l (o s) k
def tj_D (V n : Nat → Nat) (R : Nat → Nat → Nat → Nat) (a : Nat → Nat → Prop) (T : Nat) (o p : Nat → Nat) (t : Nat) : Prop :=
  ∀ s, t ≤ s → s + 1 < T → ∀ k, k < n (o s) → a (o s) k → ∃ l, l < n (o (p s)) ∧ a (o (p s)) l ∧ tj_ag V R (o s) k (o (p s)) l
theorem tj_C_step {V n : Nat → Nat} {R : Nat → Nat → Nat → Nat} {a b : Nat → Nat → Prop} {m T t : Nat} {o p : Nat → Nat} (hT : tj_Tree V m T o p) (ht : t + 1 < T) (hc : tj_C V n R a T o p t) (h : tj_flt V n R a b (o (p t)) (o t)) : tj_C V n R b T o p (t + 1) := by
  obtain ⟨_, _, hinj, hp⟩ := hT
  have pt := hp t ht
  intro s hs hs2 l hl hb
  have ps := hp s hs2
  have ne : o s ≠ o (p t) := fun e => absurd (hinj s (p t) (by omega) (by omega) e) (by omega)
  rcases Nat.lt_or_ge s t with z | z
  · obtain ⟨k, h1, h2, h3⟩ := hc s z hs2 l hl (tj_flt_sub h hl hb)
    exact ⟨k, h1, (h.1 _ k ne).mpr h2, h3⟩
  · have e : s = t := by omega
    subst e
    obtain ⟨_, k, h1, h2, h3⟩ := (h.2 l hl).mp hb
    exact ⟨k, h1, (h.1 _ k ne).mpr h2, h3⟩
theorem tj_CD_step {V n : Nat → Nat} {R : Nat → Nat → Nat → Nat} {a b : Nat → Nat → Prop} {m T t : Nat} {o p : Nat → Nat} (hT : tj_Tree V m T o p) (ht : t + 1 < T) (hc : tj_C V n R a T o p T) (hd : tj_D V n R a T o p (t + 1)) (h : tj_flt V n R a b (o t) (o (p t))) : tj_C V n R b T o p T ∧ tj_D V n R b T o p t := by
  obtain ⟨_, _, hinj, hp⟩ := hT
  have pt := hp t ht
  have net : o (p t) ≠ o t := fun e => absurd (hinj (p t) t (by omega) (by omega) e) (by omega)
  constructor
  · intro s hs hs2 l hl hb
    have ps := hp s hs2
    obtain ⟨k, h1, h2, h3⟩ := hc s hs hs2 l hl (tj_flt_sub h hl hb)
    by_cases e : s = t
    · subst e
      exact ⟨k, h1, (h.2 k h1).mpr ⟨h2, l, hl, tj_flt_sub h hl hb, tj_ag_s h3⟩, h3⟩
    · have ne : o s ≠ o t := fun z => absurd (hinj s t (by omega) (by omega) z) e
      exact ⟨k, h1, (h.1 _ k ne).mpr h2, h3⟩
  · intro s hs hs2 k hk hb
    have ps := hp s hs2
    by_cases e : s = t
    · subst e
      obtain ⟨_, l, h1, h2, h3⟩ := (h.2 k hk).mp hb
      exact ⟨l, h1, (h.1 _ l net).mpr h2, h3⟩
    · obtain ⟨l, h1, h2, h3⟩ := hd s (by omega) hs2 k hk (tj_flt_sub h hk hb)
      have ne : o (p s) ≠ o t := fun z => absurd (hinj (p s) t (by omega) (by omega) z) (by omega)
      exact ⟨l, h1, (h.1 _ l ne).mpr h2, h3⟩
/-- after both passes every row alive is in some choice -/
theorem tj_full {V n : Nat → Nat} {R : Nat → Nat → Nat → Nat} {a : Nat → Nat → Prop} {m T : Nat} {o p : Nat → Nat} (hR : ∀ i k v, R i k v < 5) (hT : tj_Tree V m T o p) (hc : tj_C V n R a T o p T) (hd : tj_D V n R a T o p 0) :
    ∀ d t, T = t + d → ∀ x, t ≤ x → x < T → ∀ k, k < n (o x) → a (o x) k → ∃ s : Nat → Nat, (∀ v, s v < 5) ∧ (∀ y, t ≤ y → y < T → tj_P V n R a (o y) s) ∧ ∀ v, (V (o x)).testBit v = true → s v = R (o x) k v := by
  intro d
  induction d with
  | zero => intro t e x h1 h2; omega
  | succ d ih =>
    intro t e x h1 h2 k hk ha
    by_cases hl : t + 1 < T
    · obtain ⟨_, _, hinj, hp⟩ := hT
      have pt := hp t hl
      -- a choice for those behind t, and a row of t that fits it
      have main : ∀ (s : Nat → Nat) (kt l : Nat), (∀ v, s v < 5) → (∀ y, t + 1 ≤ y → y < T → tj_P V n R a (o y) s) → kt < n (o t) → a (o t) kt → (∀ v, (V (o (p t))).testBit v = true → s v = R (o (p t)) l v) → tj_ag V R (o (p t)) l (o t) kt →
          ∃ s' : Nat → Nat, (∀ v, s' v < 5) ∧ (∀ y, t ≤ y → y < T → tj_P V n R a (o y) s') ∧ (∀ v, (V (o t)).testBit v = true → s' v = R (o t) kt v) ∧ ∀ y, t + 1 ≤ y → y < T → ∀ v, (V (o y)).testBit v = true → s' v = s v := by
        intro s kt l hs5 hs hkt hat hsl hag
        have agree : ∀ y, t + 1 ≤ y → y < T → ∀ v, (V (o y)).testBit v = true → (if (V (o t)).testBit v = true then R (o t) kt v else s v) = s v := by
          intro y hy1 hy2 v hv
          split
          · rename_i hvt
            have hvp := pt.2.2 v hvt y (by omega) hy2 hv
            rw [hsl v hvp]
            exact (hag v hvp hvt).symm
          · rfl
        refine ⟨fun v => if (V (o t)).testBit v = true then R (o t) kt v else s v, ?_, ?_, ?_, agree⟩
        · intro v
          show (if (V (o t)).testBit v = true then R (o t) kt v else s v) < 5
          split
          · exact hR _ _ _
          · exact hs5 v
        · intro y hy1 hy2
          rcases Nat.eq_or_lt_of_le hy1 with z | z
          · subst z
            exact ⟨kt, hkt, hat, fun v hv => if_pos hv⟩
          · exact tj_P_congr (fun v hv => (agree y (by omega) hy2 v hv).symm) (hs y (by omega) hy2)
        · intro v hv
          exact if_pos hv
      rcases Nat.eq_or_lt_of_le h1 with z | z
      · subst z
        obtain ⟨l, hl1, hl2, hl3⟩ := hd t (by omega) hl k hk ha
        obtain ⟨s, s1, s2, s3⟩ := ih (t + 1) (by omega) (p t) (by omega) (by omega) l hl1 hl2
        obtain ⟨s', a1, a2, a3, _⟩ := main s k l s1 s2 hk ha s3 (tj_ag_s hl3)
        exact ⟨s', a1, a2, a3⟩
      · obtain ⟨s, s1, s2, s3⟩ := ih (t + 1) (by omega) x (by omega) h2 k hk ha
        obtain ⟨l, hl1, hl2, hl3⟩ := s2 (p t) (by omega) (by omega)
        obtain ⟨kt, k1, k2, k3⟩ := hc t (by omega) hl l hl1 hl2
        obtain ⟨s', a1, a2, _, a4⟩ := main s kt l s1 s2 k1 k2 hl3 k3
        exact ⟨s', a1, a2, fun v hv => by rw [a4 x (by omega) h2 v hv, s3 v hv]⟩
    · have ex : x = t := by omega
      subst ex
      refine ⟨fun v => R (o x) k v, fun v => hR _ _ _, fun y hy1 hy2 => ?_, fun v _ => rfl⟩
      have ey : y = x := by omega
      subst ey
      exact ⟨k, hk, ha, fun v _ => rfl⟩
theorem tj_full' {V n : Nat → Nat} {R : Nat → Nat → Nat → Nat} {a : Nat → Nat → Prop} {m T : Nat} {o p : Nat → Nat} (hR : ∀ i k v, R i k v < 5) (hT : tj_Tree V m T o p) (hc : tj_C V n R a T o p T) (hd : tj_D V n R a T o p 0)
    {i k : Nat} (hi : i < 4) (mi : m.testBit i = true) (hk : k < n i) (ha : a i k) : ∃ s : Nat → Nat, (∀ v, s v < 5) ∧ tj_Sat V n R a m s ∧ ∀ v, (V i).testBit v = true → s v = R i k v := by
  obtain ⟨x, hx, rfl⟩ := hT.2.1 i hi mi
  obtain ⟨s, s1, s2, s3⟩ := tj_full hR hT hc hd T 0 (by omega) x (by omega) hx k hk ha
  refine ⟨s, s1, fun j hj mj => ?_, s3⟩
  obtain ⟨y, hy, rfl⟩ := hT.2.1 j hj mj
  exact s2 y (by omega) hy
end
section
/-! ===== methods that only read ===== -/
section
variable {lv qu ai st fo af bd tc oc ac : Int32} {B AN PA EX : Nat → Int64} {RC AC RO VO AS LC LI AL BF BN DI TO HO OR TD TV TW PF PT DN VA : Nat → Int32}
theorem tj_i3 (t c : Nat) : 3 * nI t + nI c = nI (3 * t + c) := by rw [show (3 : Int32) = nI 3 from rfl, pk_mul, nI_add]
theorem tj_i4 (t c : Nat) : 4 * nI t + nI c = nI (4 * t + c) := by rw [show (4 : Int32) = nI 4 from rfl, pk_mul, nI_add]
theorem tj_i16 (t c : Nat) : 16 * nI t + nI c = nI (16 * t + c) := by rw [show (16 : Int32) = nI 16 from rfl, pk_mul, nI_add]
theorem tj_i5 (t c : Nat) : 5 * nI t + nI c = nI (5 * t + c) := by rw [show (5 : Int32) = nI 5 from rfl, pk_mul, nI_add]
theorem tj_r5 {a : Nat} (h : a < 2 ^ 31) : nI a - nI a / 5 * 5 = nI (a % 5) := pk_rem h (by decide) (by decide)
theorem tj_d5 {a : Nat} (h : a < 2 ^ 31) : nI a / 5 = nI (a / 5) := pk_div h (by decide) (by decide)
def tj_dv (row : Nat) : Nat → Nat
  | 0 => row
  | i + 1 => tj_dv row i / 5
theorem tj_dv_e (row i : Nat) : tj_dv row i = row / 5 ^ i := by
  induction i with
  | zero => exact (Nat.div_one row).symm
  | succ i ih => show tj_dv row i / 5 = _; rw [ih, Nat.div_div_eq_div_mul, Nat.pow_succ]
theorem tj_dv_le (row i : Nat) : tj_dv row i ≤ row := by rw [tj_dv_e]; exact Nat.div_le_self _ _
theorem tj_isQuestion {post : Int32 → Prop} {q : Nat} (hq : q < 2) (H : post 1) : wpX_isQuestion post (lv, qu, ai, st, fo, af, bd, tc, oc, ac, B, RC, AC, RO, VO, AS, LC, LI, AL, AN, PA, EX, BF, BN, DI, TO, HO, OR, TD, TV, TW, PF, PT, DN, VA) (nI q) :=
  pk_eq q 0 (fun _ => H) (fun _ => pk_eq q 1 (fun _ => H) (fun z => absurd z (by omega)))
theorem tj_allAtoms {post : Int32 → Prop} {q n : Nat} (hq : q < 2) (hn : n ≤ 4) (hA : AC q = nI n) (H : post (nI (2 ^ n - 1))) : wpX_allAtoms post (lv, qu, ai, st, fo, af, bd, tc, oc, ac, B, RC, AC, RO, VO, AS, LC, LI, AL, AN, PA, EX, BF, BN, DI, TO, HO, OR, TD, TV, TW, PF, PT, DN, VA) (nI q) := by
  unfold wpX_allAtoms
  refine And.intro (pk_in q 2 hq) ?_
  rw [nI_clamp (by omega), hA, tj_shl (by omega)]
  show post (nI (2 ^ n) - nI 1)
  rw [pk_sub Nat.one_le_two_pow]
  exact H
theorem tj_variablesOfAtom {post : Int32 → Prop} {t : Nat} (ht : t < 8) (h : tj_aok RO VO t) (H : post (nI (tj_vs VO t))) : wpX_variablesOfAtom post (lv, qu, ai, st, fo, af, bd, tc, oc, ac, B, RC, AC, RO, VO, AS, LC, LI, AL, AN, PA, EX, BF, BN, DI, TO, HO, OR, TD, TV, TW, PF, PT, DN, VA) (nI t) :=
  pk_loop (σ := Unit) (fun n c _ => wX_variablesOfAtom_4 post (nI t) lv qu ai st fo af bd tc oc ac B RC AC RO VO AS LC LI AL AN PA EX BF BN DI TO HO OR TD TV TW PF PT DN VA n (nI (tj_vsn VO t c)) (nI c)) (fun _ _ => True) 3 0 () (by omega) trivial
    (fun n _ _ => pk_le 3 3 (fun _ => H) (fun z => absurd z (by omega)))
    (fun n c _ hc _ hw => by
      have e : ((3 : Int32) * nI t + nI c).toNatClampNeg = 3 * t + c := by rw [tj_i3, nI_clamp (by omega)]
      refine pk_le 3 c (fun z => absurd z (by omega)) (fun _ => And.intro (pk_in _ 24 (by omega) (tj_i3 t c)) ?_)
      rw [e]
      by_cases hc' : c < tj_cols (tj_rel RO t)
      · obtain ⟨e2, h5⟩ := tj_aok_v h hc'
        rw [e2]
        refine br_f (nI_pos (by omega)) (And.intro (pk_in _ 24 (by omega) (tj_i3 t c)) (nm_r ?_ (nm_r (nI_1 c) (hw () trivial))))
        rw [tj_shl (by omega), tj_or]
        show nI _ = nI (tj_vsn VO t c ||| tj_vb (VO (3 * t + c)))
        rw [e2, tj_vb_n (by omega)]
      · have e2 := h.2.2 c (by omega) (by omega)
        have e3 : tj_vsn VO t (c + 1) = tj_vsn VO t c := by
          show _ ||| tj_vb (VO (3 * t + c)) = _
          rw [e2, tj_vb_m, Nat.or_zero]
        rw [e2]
        refine br_t (by decide) (nm_r (nI_1 c) ?_)
        rw [← e3]
        exact hw () trivial)
theorem tj_variablesOf {post : Int32 → Prop} {q m : Nat} (hq : q < 2) (hm : m < 16) (h : tj_Q RO VO q m) (H : post (nI (tj_va VO q m 4))) : wpX_variablesOf post (lv, qu, ai, st, fo, af, bd, tc, oc, ac, B, RC, AC, RO, VO, AS, LC, LI, AL, AN, PA, EX, BF, BN, DI, TO, HO, OR, TD, TV, TW, PF, PT, DN, VA) (nI q) (nI m) :=
  pk_loop (σ := Unit) (fun n i _ => wX_variablesOf_5 post (nI q) (nI m) lv qu ai st fo af bd tc oc ac B RC AC RO VO AS LC LI AL AN PA EX BF BN DI TO HO OR TD TV TW PF PT DN VA n (nI (tj_va VO q m i)) (nI i)) (fun _ _ => True) 4 0 () (by omega) trivial
    (fun n _ _ => pk_le 4 4 (fun _ => H) (fun z => absurd z (by omega)))
    (fun n i _ hi _ hw => by
      refine pk_le 4 i (fun z => absurd z (by omega)) (fun _ => tj_br m i (fun z => nm_r (nI_1 i) ?_) (fun z => ?_))
      · rw [← tj_va_f (VO := VO) (q := q) z]
        exact hw () trivial
      · rw [tj_i4]
        refine tj_variablesOfAtom (by omega) (h i hi z) (nm_r ?_ (nm_r (nI_1 i) (hw () trivial)))
        rw [tj_or, tj_va_t z])
/-- all asked variables are there -/
def tj_wh (VO : Nat → Int32) (q m w : Nat) : Prop := m ≠ 0 ∧ ∀ v, w.testBit v = true → (tj_va VO q m 4).testBit v = true
theorem tj_isWhole {post : Int32 → Prop} {q m w : Nat} (hq : q < 2) (hm : m < 16) (h : tj_Q RO VO q m) (hA : AS q = nI w) (hw : w < 32) (h1 : tj_wh VO q m w → post 1) (h0 : ¬ tj_wh VO q m w → post 0) : wpX_isWhole post (lv, qu, ai, st, fo, af, bd, tc, oc, ac, B, RC, AC, RO, VO, AS, LC, LI, AL, AN, PA, EX, BF, BN, DI, TO, HO, OR, TD, TV, TW, PF, PT, DN, VA) (nI q) (nI m) := by
  unfold wpX_isWhole
  refine tj_variablesOf hq hm h (pk_eq m 0 (fun z => h0 (fun y => y.1 z)) (fun z => And.intro (pk_in q 2 hq) ?_))
  rw [nI_clamp (by omega), hA, tj_xm]
  have hl : tj_sd w (tj_va VO q m 4) < 2 ^ 5 := tj_sd_lt hw
  exact pk_eq (tj_sd w (tj_va VO q m 4)) 0 (fun y => h1 ⟨z, (tj_sd0 _ _).mp y⟩) (fun y => h0 (fun x => y ((tj_sd0 _ _).mpr x.2)))
theorem tj_whole {post : Int32 → Prop} {q n w : Nat} (hq : q < 2) (hn : n ≤ 4) (hA : AC q = nI n) (h : tj_Q RO VO q (2 ^ n - 1)) (hS : AS q = nI w) (hw : w < 32) (h1 : tj_wh VO q (2 ^ n - 1) w → post 1) (h0 : ¬ tj_wh VO q (2 ^ n - 1) w → post 0) : wpX_whole post (lv, qu, ai, st, fo, af, bd, tc, oc, ac, B, RC, AC, RO, VO, AS, LC, LI, AL, AN, PA, EX, BF, BN, DI, TO, HO, OR, TD, TV, TW, PF, PT, DN, VA) (nI q) := by
  unfold wpX_whole
  have hp : 2 ^ n ≤ 2 ^ 4 := Nat.pow_le_pow_right (by decide) hn
  refine tj_isQuestion hq (br_f (by decide) (tj_allAtoms hq hn hA (tj_isWhole hq (by omega) h hS hw (fun z => And.intro (by decide) (h1 z)) (fun z => And.intro (by decide) (h0 z)))))
/-- a relation has a row -/
def tj_has (B : Nat → Int64) (f r row : Nat) : Prop := r < 3 ∧ row < tj_rw r ∧ tj_bl (B (f + 2 * r + row / 64)) (row % 64) = true
theorem tj_rix {f r row : Nat} (h : row < 2 ^ 31) : (nI f + (2 * nI r)) + (nI row >>> ((6 : Int32) &&& 31)) = nI (f + 2 * r + row / 64) := by
  rw [tj_w6 h, show (2 : Int32) = nI 2 from rfl, pk_mul, nI_add, nI_add]
theorem tj_hasRow {post : Int32 → Prop} {f r row : Nat} (hf : f ≤ 6) (hr : r < 3) (hrow : row < tj_rw r) (h1 : tj_has B f r row → post 1) (h0 : ¬ tj_has B f r row → post 0) : wpX_hasRow post (lv, qu, ai, st, fo, af, bd, tc, oc, ac, B, RC, AC, RO, VO, AS, LC, LI, AL, AN, PA, EX, BF, BN, DI, TO, HO, OR, TD, TV, TW, PF, PT, DN, VA) (nI f) (nI r) (nI row) := by
  have hb := tj_rw_b r
  unfold wpX_hasRow
  dsimp only
  rw [tj_rix (by omega), nI_clamp (by omega)]
  exact ⟨vp_in_nI (by omega) (by omega), tj_lbr row (fun z => h0 (fun y => tj_tf y.2.2 z)) (fun z => h1 ⟨hr, hrow, z⟩)⟩
theorem tj_columnsOf {post : Int32 → Prop} {r : Nat} (hr : r < 3) (H : post (nI (tj_cols r))) : wpX_columnsOf post (lv, qu, ai, st, fo, af, bd, tc, oc, ac, B, RC, AC, RO, VO, AS, LC, LI, AL, AN, PA, EX, BF, BN, DI, TO, HO, OR, TD, TV, TW, PF, PT, DN, VA) (nI r) :=
  pk_eq r 2 (fun z => by rw [show tj_cols r = 3 from if_pos z] at H; exact H) (fun z => by rw [show tj_cols r = 2 from if_neg z] at H; exact H)
theorem tj_columnOf {post : Int32 → Prop} {r row c : Nat} (hr : r < 3) (hrow : row < 2 ^ 31) (hc : c < tj_cols r) (H : post (nI (tj_col r row c))) : wpX_columnOf post (lv, qu, ai, st, fo, af, bd, tc, oc, ac, B, RC, AC, RO, VO, AS, LC, LI, AL, AN, PA, EX, BF, BN, DI, TO, HO, OR, TD, TV, TW, PF, PT, DN, VA) (nI r) (nI row) (nI c) := by
  have hb := tj_cols_b r
  unfold wpX_columnOf
  refine tj_columnsOf hr (nm_r (e' := nI (tj_cols r - 1 - c)) ?_ ?_)
  · show nI (tj_cols r) - nI 1 - nI c = _
    rw [pk_sub (by omega), pk_sub (by omega)]
  · refine pk_loop (σ := Unit) (fun n i _ => wX_columnOf_17 post (nI (tj_cols r - 1 - c)) lv qu ai st fo af bd tc oc ac B RC AC RO VO AS LC LI AL AN PA EX BF BN DI TO HO OR TD TV TW PF PT DN VA n (nI (tj_dv row i)) (nI i)) (fun _ _ => True) (tj_cols r - 1 - c) 0 () (by omega) trivial ?_ ?_
    · intro n _ _
      have hl := tj_dv_le row (tj_cols r - 1 - c)
      refine tj_ple (fun _ => And.intro (by decide) ?_) (fun z => absurd z (by omega))
      rw [tj_r5 (by omega), tj_dv_e]
      exact H
    · intro n i _ hi _ hw
      have hl := tj_dv_le row i
      exact tj_ple (fun z => absurd z (by omega)) (fun _ => And.intro (by decide) (nm_r (tj_d5 (by omega)) (nm_r (nI_1 i) (hw () trivial))))
theorem tj_fitsAtom {post : Int32 → Prop} {t row : Nat} (ht : t < 8) (h : tj_aok RO VO t) (hrow : row < 2 ^ 31) (h1 : tj_fit RO VO t row → post 1) (h0 : ¬ tj_fit RO VO t row → post 0) : wpX_fitsAtom post (lv, qu, ai, st, fo, af, bd, tc, oc, ac, B, RC, AC, RO, VO, AS, LC, LI, AL, AN, PA, EX, BF, BN, DI, TO, HO, OR, TD, TV, TW, PF, PT, DN, VA) (nI t) (nI (tj_rel RO t)) (nI row) := by
  have hb := tj_cols_b (tj_rel RO t)
  have hr := (tj_aok_r h).2
  refine pk_loop (σ := Unit) (fun n c _ => wX_fitsAtom_3 post (nI t) (nI (tj_rel RO t)) (nI row) lv qu ai st fo af bd tc oc ac B RC AC RO VO AS LC LI AL AN PA EX BF BN DI TO HO OR TD TV TW PF PT DN VA n (nI c)) (fun c _ => ∀ c' d, c' < c → d < c' → VO (3 * t + c') = VO (3 * t + d) → tj_col (tj_rel RO t) row c' = tj_col (tj_rel RO t) row d) (tj_cols (tj_rel RO t)) 1 () (by omega) (fun c' d a b => absurd b (by omega)) ?_ ?_
  · intro n _ hI
    rw [wX_fitsAtom_3]
    refine tj_columnsOf hr ?_
    exact tj_ple (fun _ => h1 (fun c d hc hd => hI c d hc hd)) (fun z => absurd z (by omega))
  · intro n c _ hc hI hw
    rw [wX_fitsAtom_3]
    refine tj_columnsOf hr ?_
    refine tj_ple (fun z => absurd z (by omega)) (fun _ => ?_)
    refine pk_loop (σ := Unit) (fun n' d _ => wX_fitsAtom_16 post (wX_fitsAtom_3 post (nI t) (nI (tj_rel RO t)) (nI row) lv qu ai st fo af bd tc oc ac B RC AC RO VO AS LC LI AL AN PA EX BF BN DI TO HO OR TD TV TW PF PT DN VA n) (nI t) (nI (tj_rel RO t)) (nI row) (nI c) lv qu ai st fo af bd tc oc ac B RC AC RO VO AS LC LI AL AN PA EX BF BN DI TO HO OR TD TV TW PF PT DN VA n' (nI d)) (fun d _ => ∀ d', d' < d → VO (3 * t + c) = VO (3 * t + d') → tj_col (tj_rel RO t) row c = tj_col (tj_rel RO t) row d') c 0 () (by omega) (fun d' a => absurd a (by omega)) ?_ ?_
    · intro n' _ hJ
      refine tj_ple (fun _ => nm_r (nI_1 c) (hw () ?_)) (fun z => absurd z (by omega))
      intro c' d hc' hd e
      rcases Nat.lt_or_ge c' c with z | z
      · exact hI c' d z hd e
      · have ec : c' = c := by omega
        subst ec
        exact hJ d hd e
    · intro n' d _ hd hJ hw'
      have e1 : ((3 : Int32) * nI t + nI c).toNatClampNeg = 3 * t + c := by rw [tj_i3, nI_clamp (by omega)]
      have e2 : ((3 : Int32) * nI t + nI d).toNatClampNeg = 3 * t + d := by rw [tj_i3, nI_clamp (by omega)]
      refine tj_ple (fun z => absurd z (by omega)) (fun _ => And.intro (pk_in _ 24 (by omega) (tj_i3 t c)) (And.intro (pk_in _ 24 (by omega) (tj_i3 t d)) ?_))
      rw [e1, e2]
      have l1 := tj_col_lt (tj_rel RO t) row c
      have l2 := tj_col_lt (tj_rel RO t) row d
      refine br_c (fun e => tj_columnOf hr hrow hc (tj_columnOf hr hrow (by omega) (pk_eq (tj_col (tj_rel RO t) row c) (tj_col (tj_rel RO t) row d) (fun z => nm_r (nI_1 d) (hw' () ?_)) (fun z => h0 (fun hf => z (hf c d hc hd e)))))) (fun e => nm_r (nI_1 d) (hw' () ?_))
      · intro d' hd' e'
        rcases Nat.lt_or_ge d' d with y | y
        · exact hJ d' y e'
        · have ed : d' = d := by omega
          subst ed
          exact z
      · intro d' hd' e'
        rcases Nat.lt_or_ge d' d with y | y
        · exact hJ d' y e'
        · have ed : d' = d := by omega
          subst ed
          exact absurd e' e
theorem tj_onesInSmall {post : Int32 → Prop} {m : Nat} (hm : m < 32) (H : ∀ k, k ≤ 5 → post (nI k)) : wpX_onesInSmall post (lv, qu, ai, st, fo, af, bd, tc, oc, ac, B, RC, AC, RO, VO, AS, LC, LI, AL, AN, PA, EX, BF, BN, DI, TO, HO, OR, TD, TV, TW, PF, PT, DN, VA) (nI m) :=
  pk_loop (fun n v k => wX_onesInSmall_4 post (nI m) lv qu ai st fo af bd tc oc ac B RC AC RO VO AS LC LI AL AN PA EX BF BN DI TO HO OR TD TV TW PF PT DN VA n (nI k) (nI v)) (fun v k => k ≤ v) 5 0 0 (by omega) (by omega)
    (fun n k hk => pk_le 5 5 (fun _ => H k hk) (fun z => absurd z (by omega)))
    (fun n v k hv hk hw => by
      refine pk_le 5 v (fun z => absurd z (by omega)) (fun _ => ?_)
      have h1 : m / 2 ^ v ≤ m := Nat.div_le_self _ _
      refine nm_r (e' := nI (k + m / 2 ^ v % 2)) ?_ (nm_r (nI_1 v) (hw _ ?_))
      · rw [tj_shr (by omega) (by omega)]
        show nI k + (nI (m / 2 ^ v) &&& nI 1) = _
        rw [tj_and, Nat.and_one_is_mod, nI_add]
      · have := Nat.mod_lt (m / 2 ^ v) (show 2 > 0 by decide)
        omega)
end
end
section
/-! ===== start: the lists ===== -/
section
variable {lv qu ai st fo af bd tc oc ac : Int32} {B AN PA EX : Nat → Int64} {RC AC RO VO AS LC LI AL BF BN DI TO HO OR TD TV TW PF PT DN VA : Nat → Int32}
/-- the list of atom i is that of the rows that the relation has and that fit -/
def tj_Gd (RO VO : Nat → Int32) (B : Nat → Int64) (f q i : Nat) (lc al : Int32) (li : Nat → Int32) : Prop :=
  ∃ c, c ≤ 16 ∧ lc = nI c ∧ al = nI (2 ^ c - 1) ∧ (∀ k, k < c → ∃ x, li k = nI x ∧ tj_has B f (tj_rel RO (4 * q + i)) x ∧ tj_fit RO VO (4 * q + i) x) ∧ (∀ x, tj_has B f (tj_rel RO (4 * q + i)) x → tj_fit RO VO (4 * q + i) x → ∃ k, k < c ∧ li k = nI x)
theorem tj_Gd_c {RO VO : Nat → Int32} {B : Nat → Int64} {f q i : Nat} {lc al lc' al' : Int32} {li li' : Nat → Int32} (h : tj_Gd RO VO B f q i lc al li) (h1 : lc' = lc) (h2 : al' = al) (h3 : ∀ k, k < 16 → li' k = li k) : tj_Gd RO VO B f q i lc' al' li' := by
  obtain ⟨c, c1, c2, c3, c4, c5⟩ := h
  refine ⟨c, c1, by rw [h1, c2], by rw [h2, c3], fun k hk => ?_, fun x hx hf => ?_⟩
  · obtain ⟨x, x1, x2⟩ := c4 k hk
    exact ⟨x, by rw [h3 k (by omega), x1], x2⟩
  · obtain ⟨k, k1, k2⟩ := c5 x hx hf
    exact ⟨k, k1, by rw [h3 k (by omega), k2]⟩
theorem tj_2c (c : Nat) : (2 ^ c - 1) ||| 2 ^ c = 2 ^ (c + 1) - 1 := by
  apply Nat.eq_of_testBit_eq
  intro i
  rw [Nat.testBit_or, tj_pm1, tj_pm1, tj_bit2p, Bool.eq_iff_iff, Bool.or_eq_true, decide_eq_true_iff, decide_eq_true_iff, decide_eq_true_iff]
  omega
theorem tj_2m {c : Nat} (h : c ≤ 16) : 2 ^ c - 1 < 65536 := by
  have h1 : 2 ^ c ≤ 2 ^ 16 := Nat.pow_le_pow_right (by decide) h
  have h2 : 0 < 2 ^ c := Nat.pow_pos (by decide)
  omega
theorem tj_s83 {post : St1 → Prop} {J18 J68 : Int32 → (Nat → Int64) → (Nat → Int32) → (Nat → Int32) → (Nat → Int32) → (Nat → Int32) → (Nat → Int32) → (Nat → Int32) → (Nat → Int32) → (Nat → Int32) → (Nat → Int64) → (Nat → Int64) → (Nat → Int64) → (Nat → Int32) → (Nat → Int32) → (Nat → Int32) → (Nat → Int32) → (Nat → Int32) → (Nat → Int32) → (Nat → Int32) → (Nat → Int32) → (Nat → Int32) → (Nat → Int32) → (Nat → Int32) → (Nat → Int32) → (Nat → Int32) → Prop} {x2 : Int32} {q f i row c : Nat}
    (hq : q < 2) (hi : i < 4) (hf : f ≤ 6) (h : tj_aok RO VO (4 * q + i)) (hrow : row ≤ tj_rw (tj_rel RO (4 * q + i))) (hc : LC i = nI c) (ha : AL i = nI (2 ^ c - 1))
    (h16 : row < tj_rw (tj_rel RO (4 * q + i)) → tj_has B f (tj_rel RO (4 * q + i)) row → tj_fit RO VO (4 * q + i) row → c < 16)
    (Hd : row = tj_rw (tj_rel RO (4 * q + i)) → J18 (nI (i + 1)) B RC AC RO VO AS LC LI AL AN PA EX BF BN DI TO HO OR TD TV TW PF PT DN VA)
    (Hn : row < tj_rw (tj_rel RO (4 * q + i)) → ¬ (tj_has B f (tj_rel RO (4 * q + i)) row ∧ tj_fit RO VO (4 * q + i) row) → J68 (nI (row + 1)) B RC AC RO VO AS LC LI AL AN PA EX BF BN DI TO HO OR TD TV TW PF PT DN VA)
    (Hy : row < tj_rw (tj_rel RO (4 * q + i)) → tj_has B f (tj_rel RO (4 * q + i)) row → tj_fit RO VO (4 * q + i) row → J68 (nI (row + 1)) B RC AC RO VO AS (upd LC i (nI (c + 1))) (upd LI (16 * i + c) (nI row)) (upd AL i (nI (2 ^ (c + 1) - 1))) AN PA EX BF BN DI TO HO OR TD TV TW PF PT DN VA) :
    wX_start_83 post J18 J68 (nI q) x2 (nI f) (nI i) (nI (tj_rel RO (4 * q + i))) (nI row) (nI (tj_rw (tj_rel RO (4 * q + i)))) (nI row) lv qu ai st fo af bd tc oc ac B RC AC RO VO AS LC LI AL AN PA EX BF BN DI TO HO OR TD TV TW PF PT DN VA := by
  have hb := tj_rw_b (tj_rel RO (4 * q + i))
  have hr := (tj_aok_r h).2
  unfold wX_start_83
  refine tj_ple (fun z => nm_r (nI_1 i) (Hd (by omega))) (fun z => tj_hasRow hf hr z (fun y => br_f (by decide) ?_) (fun y => br_t rfl (nm_r (nI_1 row) (Hn z (fun x => y x.1)))))
  rw [tj_i4]
  refine tj_fitsAtom (by omega) h (by omega) (fun x => br_f (by decide) ?_) (fun x => br_t rfl (nm_r (nI_1 row) (Hn z (fun w => x w.2))))
  have c16 := h16 z y x
  have e1 : (nI (16 * i + c)).toNatClampNeg = 16 * i + c := nI_clamp (by omega)
  rw [nI_clamp (show i < 2 ^ 31 by omega), hc, ha, tj_i16, e1, tj_shl (show c < 31 by omega), tj_or, tj_2c, nI_1, tj_b8 row (by omega), tj_b8 (c + 1) (by omega)]
  have p := pk_in (x := nI i) i 4 hi
  exact ⟨p, vp_in_nI (by omega) (by omega), nm_e ⟨p, p, p, nm_e ⟨p, p, nm_e (nm_r (nI_1 row) (Hy z y x))⟩⟩⟩
theorem tj_s68 {post : St1 → Prop} {J18 : Int32 → (Nat → Int64) → (Nat → Int32) → (Nat → Int32) → (Nat → Int32) → (Nat → Int32) → (Nat → Int32) → (Nat → Int32) → (Nat → Int32) → (Nat → Int32) → (Nat → Int64) → (Nat → Int64) → (Nat → Int64) → (Nat → Int32) → (Nat → Int32) → (Nat → Int32) → (Nat → Int32) → (Nat → Int32) → (Nat → Int32) → (Nat → Int32) → (Nat → Int32) → (Nat → Int32) → (Nat → Int32) → (Nat → Int32) → (Nat → Int32) → (Nat → Int32) → Prop} {x1 x2 x3 x4 x6 : Int32} {r n : Nat} (hr : r < 3)
    (h : wX_start_83 post J18 (wX_start_68 post J18 x1 x2 x3 x4 (nI r) lv qu ai st fo af bd tc oc ac n) x1 x2 x3 x4 (nI r) x6 (nI (tj_rw r)) x6 lv qu ai st fo af bd tc oc ac B RC AC RO VO AS LC LI AL AN PA EX BF BN DI TO HO OR TD TV TW PF PT DN VA) : wX_start_68 post J18 x1 x2 x3 x4 (nI r) lv qu ai st fo af bd tc oc ac (n + 1) x6 B RC AC RO VO AS LC LI AL AN PA EX BF BN DI TO HO OR TD TV TW PF PT DN VA :=
  pk_eq r 2 (fun z => by rw [show tj_rw r = 125 from if_pos z] at h; exact h) (fun z => by rw [show tj_rw r = 25 from if_neg z] at h; exact h)
theorem tj_start {post : St1 → Prop} {q m f : Nat} (hq : q < 2) (hm : m < 16) (hf : f ≤ 6) (h : tj_Q RO VO q m) (h16 : ∀ i, i < 4 → m.testBit i = true → tj_ct (tj_has B f (tj_rel RO (4 * q + i))) 125 ≤ 16)
    (H : ∀ LC' LI' AL' : Nat → Int32, (∀ i, i < 4 → m.testBit i = true → tj_Gd RO VO B f q i (LC' i) (AL' i) (fun k => LI' (16 * i + k))) → post (lv, nI q, nI m, nI f, fo, af, bd, tc, oc, ac, B, RC, AC, RO, VO, AS, LC', LI', AL', AN, PA, EX, BF, BN, DI, TO, HO, OR, TD, TV, TW, PF, PT, DN, VA)) : wpX_start post (lv, qu, ai, st, fo, af, bd, tc, oc, ac, B, RC, AC, RO, VO, AS, LC, LI, AL, AN, PA, EX, BF, BN, DI, TO, HO, OR, TD, TV, TW, PF, PT, DN, VA) (nI q) (nI m) (nI f) := by
  refine pk_loop (fun n i (s : (Nat → Int32) × (Nat → Int32) × (Nat → Int32)) => wX_start_18 post (nI q) (nI m) (nI f) lv (nI q) (nI m) (nI f) fo af bd tc oc ac n (nI i) B RC AC RO VO AS s.1 s.2.1 s.2.2 AN PA EX BF BN DI TO HO OR TD TV TW PF PT DN VA)
    (fun i s => ∀ j, j < i → m.testBit j = true → tj_Gd RO VO B f q j (s.1 j) (s.2.2 j) (fun k => s.2.1 (16 * j + k))) 4 0 (LC, LI, AL) (by omega) (fun j hj => absurd hj (by omega)) ?_ ?_
  · intro n s hI
    exact pk_le 4 4 (fun _ => H s.1 s.2.1 s.2.2 hI) (fun z => absurd z (by omega))
  · intro n i s hi hI hw
    have ci : (nI i).toNatClampNeg = i := nI_clamp (by omega)
    have p := pk_in (x := nI i) i 4 hi
    have keep : ∀ s' : (Nat → Int32) × (Nat → Int32) × (Nat → Int32), (∀ j, j ≠ i → s'.1 j = s.1 j ∧ s'.2.2 j = s.2.2 j) → (∀ j k, j ≠ i → k < 16 → s'.2.1 (16 * j + k) = s.2.1 (16 * j + k)) → (m.testBit i = true → tj_Gd RO VO B f q i (s'.1 i) (s'.2.2 i) (fun k => s'.2.1 (16 * i + k))) →
        ∀ j, j < i + 1 → m.testBit j = true → tj_Gd RO VO B f q j (s'.1 j) (s'.2.2 j) (fun k => s'.2.1 (16 * j + k)) := by
      intro s' a1 a2 a3 j hj mj
      by_cases e : j = i
      · subst e; exact a3 mj
      · exact tj_Gd_c (hI j (by omega) mj) (a1 j e).1 (a1 j e).2 (fun k hk => a2 j k e hk)
    refine pk_le 4 i (fun z => absurd z (by omega)) (fun _ => And.intro p (nm_r (e' := upd s.1 i 0) (by rw [ci]) (And.intro p (nm_r (e' := upd s.2.2 i 0) (by rw [ci]) (tj_br m i (fun z => nm_r (nI_1 i) (hw (upd s.1 i 0, s.2.1, upd s.2.2 i 0) (keep _ (fun j hj => ⟨pk_un hj, pk_un hj⟩) (fun _ _ _ _ => rfl) (fun y => (tj_tf y z).elim)))) (fun z => ?_))))))
    have ok := h i hi z
    have hb := tj_rw_b (tj_rel RO (4 * q + i))
    refine And.intro (pk_in _ 8 (by omega) (tj_i4 q i)) (nm_r (e' := nI (tj_rel RO (4 * q + i))) (by rw [tj_i4, nI_clamp (by omega)]; exact (tj_aok_r ok).1) ?_)
    have p16 := h16 i hi z
    refine pk_loop (fun n' row (s' : (Nat → Int32) × (Nat → Int32) × (Nat → Int32)) => wX_start_68 post (wX_start_18 post (nI q) (nI m) (nI f) lv (nI q) (nI m) (nI f) fo af bd tc oc ac n) (nI q) (nI m) (nI f) (nI i) (nI (tj_rel RO (4 * q + i))) lv (nI q) (nI m) (nI f) fo af bd tc oc ac n' (nI row) B RC AC RO VO AS s'.1 s'.2.1 s'.2.2 AN PA EX BF BN DI TO HO OR TD TV TW PF PT DN VA)
      (fun row s' => (∀ j, j ≠ i → s'.1 j = s.1 j ∧ s'.2.2 j = s.2.2 j) ∧ (∀ j k, j ≠ i → k < 16 → s'.2.1 (16 * j + k) = s.2.1 (16 * j + k)) ∧
        s'.1 i = nI (tj_ct (fun x => tj_has B f (tj_rel RO (4 * q + i)) x ∧ tj_fit RO VO (4 * q + i) x) row) ∧ s'.2.2 i = nI (2 ^ tj_ct (fun x => tj_has B f (tj_rel RO (4 * q + i)) x ∧ tj_fit RO VO (4 * q + i) x) row - 1) ∧
        (∀ k, k < tj_ct (fun x => tj_has B f (tj_rel RO (4 * q + i)) x ∧ tj_fit RO VO (4 * q + i) x) row → ∃ x, s'.2.1 (16 * i + k) = nI x ∧ tj_has B f (tj_rel RO (4 * q + i)) x ∧ tj_fit RO VO (4 * q + i) x) ∧
        (∀ x, x < row → tj_has B f (tj_rel RO (4 * q + i)) x → tj_fit RO VO (4 * q + i) x → ∃ k, k < tj_ct (fun x => tj_has B f (tj_rel RO (4 * q + i)) x ∧ tj_fit RO VO (4 * q + i) x) row ∧ s'.2.1 (16 * i + k) = nI x))
      (tj_rw (tj_rel RO (4 * q + i))) 0 (upd s.1 i 0, s.2.1, upd s.2.2 i 0) (by omega)
      ⟨fun j hj => ⟨pk_un hj, pk_un hj⟩, fun _ _ _ _ => rfl, pk_us, pk_us, fun k hk => absurd hk (Nat.not_lt_zero k), fun x hx => absurd hx (by omega)⟩ ?_ ?_
    · rintro n' s' ⟨a1, a2, a3, a4, a5, a6⟩
      have le : tj_ct (fun x => tj_has B f (tj_rel RO (4 * q + i)) x ∧ tj_fit RO VO (4 * q + i) x) (tj_rw (tj_rel RO (4 * q + i))) ≤ 16 :=
        Nat.le_trans (Nat.le_trans (tj_ct_up hb.2) (tj_ct_mono (fun _ _ x => x.1))) p16
      refine tj_s68 (tj_aok_r ok).2 (tj_s83 hq hi hf ok (Nat.le_refl _) a3 a4 (fun y => absurd y (by omega)) (fun _ => hw s' (keep s' a1 a2 (fun _ => ⟨_, le, a3, a4, a5, fun x hx hfx => a6 x hx.2.1 hx hfx⟩))) (fun y => absurd y (by omega)) (fun y => absurd y (by omega)))
    · rintro n' row s' hrow ⟨a1, a2, a3, a4, a5, a6⟩ hw'
      have le : tj_ct (fun x => tj_has B f (tj_rel RO (4 * q + i)) x ∧ tj_fit RO VO (4 * q + i) x) (row + 1) ≤ 16 :=
        Nat.le_trans (Nat.le_trans (tj_ct_up (show row + 1 ≤ 125 by omega)) (tj_ct_mono (fun _ _ x => x.1))) p16
      refine tj_s68 (tj_aok_r ok).2 (tj_s83 hq hi hf ok (by omega) a3 a4 (fun _ y x => ?_) (fun y => absurd y (by omega)) (fun _ y => hw' s' ?_) (fun _ y x => hw' (_, _, _) ?_))
      · rw [tj_ct_t (p := fun x => tj_has B f (tj_rel RO (4 * q + i)) x ∧ tj_fit RO VO (4 * q + i) x) ⟨y, x⟩] at le
        omega
      · rw [tj_ct_f (p := fun x => tj_has B f (tj_rel RO (4 * q + i)) x ∧ tj_fit RO VO (4 * q + i) x) y]
        refine ⟨a1, a2, a3, a4, a5, fun x hx hh hfx => a6 x ?_ hh hfx⟩
        rcases Nat.lt_or_ge x row with w | w
        · exact w
        · exact absurd (show tj_has B f (tj_rel RO (4 * q + i)) row ∧ tj_fit RO VO (4 * q + i) row by rw [show row = x by omega]; exact ⟨hh, hfx⟩) y
      · rw [tj_ct_t (p := fun x => tj_has B f (tj_rel RO (4 * q + i)) x ∧ tj_fit RO VO (4 * q + i) x) ⟨y, x⟩] at le ⊢
        refine ⟨fun j hj => ⟨(pk_un hj).trans (a1 j hj).1, (pk_un hj).trans (a1 j hj).2⟩, fun j k hj hk => (pk_un (by omega)).trans (a2 j k hj hk), pk_us, pk_us, fun k hk => ?_, fun w hw1 hw2 hw3 => ?_⟩
        · by_cases e : k = tj_ct (fun x => tj_has B f (tj_rel RO (4 * q + i)) x ∧ tj_fit RO VO (4 * q + i) x) row
          · subst e; exact ⟨row, pk_us, y, x⟩
          · obtain ⟨w, w1, w2⟩ := a5 k (by omega)
            exact ⟨w, (pk_un (by omega)).trans w1, w2⟩
        · rcases Nat.lt_or_ge w row with z1 | z1
          · obtain ⟨k, k1, k2⟩ := a6 w z1 hw2 hw3
            exact ⟨k, by omega, (pk_un (by omega)).trans k2⟩
          · exact ⟨_, Nat.lt_succ_self _, by rw [show w = row by omega]; exact pk_us⟩
end
end
section
/-! ===== sets of choices, digits, keys, buckets ===== -/
section
variable {lv qu ai st fo af bd tc oc ac : Int32} {B AN PA EX : Nat → Int64} {RC AC RO VO AS LC LI AL BF BN DI TO HO OR TD TV TW PF PT DN VA : Nat → Int32}
theorem tj_empty {post : St1 → Prop} (H : ∀ AN' : Nat → Int64, (∀ w, w < 49 → AN' w = 0) → post (lv, qu, ai, st, fo, af, bd, tc, oc, ac, B, RC, AC, RO, VO, AS, LC, LI, AL, AN', PA, EX, BF, BN, DI, TO, HO, OR, TD, TV, TW, PF, PT, DN, VA)) : wpX_empty post (lv, qu, ai, st, fo, af, bd, tc, oc, ac, B, RC, AC, RO, VO, AS, LC, LI, AL, AN, PA, EX, BF, BN, DI, TO, HO, OR, TD, TV, TW, PF, PT, DN, VA) :=
  pk_loop (fun n w s => wX_empty_2 post lv qu ai st fo af bd tc oc ac n (nI w) B RC AC RO VO AS LC LI AL s PA EX BF BN DI TO HO OR TD TV TW PF PT DN VA) (fun w s => ∀ j, j < w → s j = 0) 49 0 AN (by omega) (fun j hj => absurd hj (by omega))
    (fun n s h => pk_le 49 49 (fun _ => H s h) (fun z => absurd z (by omega)))
    (fun n w s hw h hn => pk_le 49 w (fun z => absurd z (by omega)) (fun _ => And.intro (pk_in w 49 hw) (nm_r (e' := vp_updL s w 0) (by rw [nI_clamp (by omega)]) (nm_r (nI_1 w) (hn _ (lt_s (fun a ha => (pk_uLn (by omega)).trans (h a ha)) pk_uLs))))))
theorem tj_empty_2 {post : St1 → Prop} (H : ∀ PA' : Nat → Int64, (∀ w, w < 49 → PA' w = 0) → post (lv, qu, ai, st, fo, af, bd, tc, oc, ac, B, RC, AC, RO, VO, AS, LC, LI, AL, AN, PA', EX, BF, BN, DI, TO, HO, OR, TD, TV, TW, PF, PT, DN, VA)) : wpX_empty_2 post (lv, qu, ai, st, fo, af, bd, tc, oc, ac, B, RC, AC, RO, VO, AS, LC, LI, AL, AN, PA, EX, BF, BN, DI, TO, HO, OR, TD, TV, TW, PF, PT, DN, VA) :=
  pk_loop (fun n w s => wX_empty_2_2 post lv qu ai st fo af bd tc oc ac n (nI w) B RC AC RO VO AS LC LI AL AN s EX BF BN DI TO HO OR TD TV TW PF PT DN VA) (fun w s => ∀ j, j < w → s j = 0) 49 0 PA (by omega) (fun j hj => absurd hj (by omega))
    (fun n s h => pk_le 49 49 (fun _ => H s h) (fun z => absurd z (by omega)))
    (fun n w s hw h hn => pk_le 49 w (fun z => absurd z (by omega)) (fun _ => And.intro (pk_in w 49 hw) (nm_r (e' := vp_updL s w 0) (by rw [nI_clamp (by omega)]) (nm_r (nI_1 w) (hn _ (lt_s (fun a ha => (pk_uLn (by omega)).trans (h a ha)) pk_uLs))))))
theorem tj_empty_3 {post : St1 → Prop} (H : ∀ EX' : Nat → Int64, (∀ w, w < 49 → EX' w = 0) → post (lv, qu, ai, st, fo, af, bd, tc, oc, ac, B, RC, AC, RO, VO, AS, LC, LI, AL, AN, PA, EX', BF, BN, DI, TO, HO, OR, TD, TV, TW, PF, PT, DN, VA)) : wpX_empty_3 post (lv, qu, ai, st, fo, af, bd, tc, oc, ac, B, RC, AC, RO, VO, AS, LC, LI, AL, AN, PA, EX, BF, BN, DI, TO, HO, OR, TD, TV, TW, PF, PT, DN, VA) :=
  pk_loop (fun n w s => wX_empty_3_2 post lv qu ai st fo af bd tc oc ac n (nI w) B RC AC RO VO AS LC LI AL AN PA s BF BN DI TO HO OR TD TV TW PF PT DN VA) (fun w s => ∀ j, j < w → s j = 0) 49 0 EX (by omega) (fun j hj => absurd hj (by omega))
    (fun n s h => pk_le 49 49 (fun _ => H s h) (fun z => absurd z (by omega)))
    (fun n w s hw h hn => pk_le 49 w (fun z => absurd z (by omega)) (fun _ => And.intro (pk_in w 49 hw) (nm_r (e' := vp_updL s w 0) (by rw [nI_clamp (by omega)]) (nm_r (nI_1 w) (hn _ (lt_s (fun a ha => (pk_uLn (by omega)).trans (h a ha)) pk_uLs))))))
theorem tj_putIn {post : St1 → Prop} {a : Nat} (ha : a < 3136) (H : ∀ PA' : Nat → Int64, (∀ b, tj_in PA' b ↔ b = a ∨ tj_in PA b) → post (lv, qu, ai, st, fo, af, bd, tc, oc, ac, B, RC, AC, RO, VO, AS, LC, LI, AL, AN, PA', EX, BF, BN, DI, TO, HO, OR, TD, TV, TW, PF, PT, DN, VA)) : wpX_putIn post (lv, qu, ai, st, fo, af, bd, tc, oc, ac, B, RC, AC, RO, VO, AS, LC, LI, AL, AN, PA, EX, BF, BN, DI, TO, HO, OR, TD, TV, TW, PF, PT, DN, VA) (nI a) := by
  unfold wpX_putIn
  dsimp only
  rw [tj_w6 (by omega), nI_clamp (by omega)]
  exact ⟨vp_in_nI (by omega) (by omega), vp_in_nI (by omega) (by omega), nm_e (H _ (tj_in_put PA (by omega)))⟩
theorem tj_putIn_2 {post : St1 → Prop} {a : Nat} (ha : a < 3136) (H : ∀ AN' : Nat → Int64, (∀ b, tj_in AN' b ↔ b = a ∨ tj_in AN b) → post (lv, qu, ai, st, fo, af, bd, tc, oc, ac, B, RC, AC, RO, VO, AS, LC, LI, AL, AN', PA, EX, BF, BN, DI, TO, HO, OR, TD, TV, TW, PF, PT, DN, VA)) : wpX_putIn_2 post (lv, qu, ai, st, fo, af, bd, tc, oc, ac, B, RC, AC, RO, VO, AS, LC, LI, AL, AN, PA, EX, BF, BN, DI, TO, HO, OR, TD, TV, TW, PF, PT, DN, VA) (nI a) := by
  unfold wpX_putIn_2
  dsimp only
  rw [tj_w6 (by omega), nI_clamp (by omega)]
  exact ⟨vp_in_nI (by omega) (by omega), vp_in_nI (by omega) (by omega), nm_e (H _ (tj_in_put AN (by omega)))⟩
theorem tj_putIn_3 {post : St1 → Prop} {a : Nat} (ha : a < 3136) (H : ∀ EX' : Nat → Int64, (∀ b, tj_in EX' b ↔ b = a ∨ tj_in EX b) → post (lv, qu, ai, st, fo, af, bd, tc, oc, ac, B, RC, AC, RO, VO, AS, LC, LI, AL, AN, PA, EX', BF, BN, DI, TO, HO, OR, TD, TV, TW, PF, PT, DN, VA)) : wpX_putIn_3 post (lv, qu, ai, st, fo, af, bd, tc, oc, ac, B, RC, AC, RO, VO, AS, LC, LI, AL, AN, PA, EX, BF, BN, DI, TO, HO, OR, TD, TV, TW, PF, PT, DN, VA) (nI a) := by
  unfold wpX_putIn_3
  dsimp only
  rw [tj_w6 (by omega), nI_clamp (by omega)]
  exact ⟨vp_in_nI (by omega) (by omega), vp_in_nI (by omega) (by omega), nm_e (H _ (tj_in_put EX (by omega)))⟩
theorem tj_isIn {post : Int32 → Prop} {a : Nat} (ha : a < 3136) (h1 : tj_in PA a → post 1) (h0 : ¬ tj_in PA a → post 0) : wpX_isIn post (lv, qu, ai, st, fo, af, bd, tc, oc, ac, B, RC, AC, RO, VO, AS, LC, LI, AL, AN, PA, EX, BF, BN, DI, TO, HO, OR, TD, TV, TW, PF, PT, DN, VA) (nI a) := by
  unfold wpX_isIn
  dsimp only
  rw [tj_w6 (by omega), nI_clamp (by omega)]
  exact ⟨vp_in_nI (by omega) (by omega), tj_lbr a (fun z => h0 (fun y => tj_tf y z)) (fun z => h1 z)⟩
theorem tj_isIn_2 {post : Int32 → Prop} {a : Nat} (ha : a < 3136) (h1 : tj_in AN a → post 1) (h0 : ¬ tj_in AN a → post 0) : wpX_isIn_2 post (lv, qu, ai, st, fo, af, bd, tc, oc, ac, B, RC, AC, RO, VO, AS, LC, LI, AL, AN, PA, EX, BF, BN, DI, TO, HO, OR, TD, TV, TW, PF, PT, DN, VA) (nI a) := by
  unfold wpX_isIn_2
  dsimp only
  rw [tj_w6 (by omega), nI_clamp (by omega)]
  exact ⟨vp_in_nI (by omega) (by omega), tj_lbr a (fun z => h0 (fun y => tj_tf y z)) (fun z => h1 z)⟩
theorem tj_unpack {post : St1 → Prop} {c : Nat} (hc : c < 2 ^ 31) (H : ∀ DI' : Nat → Int32, (∀ v, v < 5 → DI' v = nI (tj_dg c v)) → post (lv, qu, ai, st, fo, af, bd, tc, oc, ac, B, RC, AC, RO, VO, AS, LC, LI, AL, AN, PA, EX, BF, BN, DI', TO, HO, OR, TD, TV, TW, PF, PT, DN, VA)) : wpX_unpack post (lv, qu, ai, st, fo, af, bd, tc, oc, ac, B, RC, AC, RO, VO, AS, LC, LI, AL, AN, PA, EX, BF, BN, DI, TO, HO, OR, TD, TV, TW, PF, PT, DN, VA) (nI c) := by
  have main : ∀ j, j ≤ 5 → ∀ d : Nat → Int32, (∀ v, j ≤ v → v < 5 → d v = nI (tj_dg c v)) → wX_unpack_4 post lv qu ai st fo af bd tc oc ac (j + 1) (nI (c / 5 ^ (5 - j))) (nI j + (-1)) B RC AC RO VO AS LC LI AL AN PA EX BF BN d TO HO OR TD TV TW PF PT DN VA := by
    intro j
    induction j with
    | zero => intro _ d hd; exact br_t (by decide) (H d (fun v hv => hd v (by omega) hv))
    | succ j ih =>
      intro hj d hd
      have hl : c / 5 ^ (5 - (j + 1)) ≤ c := Nat.div_le_self _ _
      have e5 : c / 5 ^ (5 - (j + 1)) / 5 = c / 5 ^ (5 - j) := by rw [Nat.div_div_eq_div_mul, ← Nat.pow_succ, show (5 - (j + 1)).succ = 5 - j by omega]
      have ed : c / 5 ^ (5 - (j + 1)) % 5 = tj_dg c j := by unfold tj_dg; rw [show 5 - (j + 1) = 4 - j by omega]
      have l5 := tj_dg_lt c j
      rw [pk_m1]
      refine br_f (nI_pos (by omega)) (And.intro (by decide) (And.intro (pk_in j 5 (by omega)) (nm_r (e' := upd d j (nI (tj_dg c j))) ?_ (And.intro (by decide) (nm_r (e' := nI (c / 5 ^ (5 - j))) ?_ (nm_e (ih (by omega) _ ?_)))))))
      · rw [nI_clamp (by omega), tj_r5 (by omega), ed, tj_b8 _ (by omega)]
      · rw [tj_d5 (by omega), e5]
      · intro v h1 h2
        by_cases e : v = j
        · subst e; exact pk_us
        · exact (pk_un e).trans (hd v (by omega) h2)
  have t := main 5 (by omega) DI (fun v a b => absurd a (by omega))
  rw [show c / 5 ^ (5 - 5) = c from Nat.div_one c, show nI 5 + (-1) = 4 by decide] at t
  exact ⟨6, t⟩
theorem tj_31 : ∀ v, v < 5 → (31 : Nat).testBit v = true := by decide
theorem tj_packed {post : Int32 → Prop} {s : Nat → Nat} (hd : ∀ v, v < 5 → DI v = nI (s v)) (H : post (nI (tj_key 31 s 5))) : wpX_packed post (lv, qu, ai, st, fo, af, bd, tc, oc, ac, B, RC, AC, RO, VO, AS, LC, LI, AL, AN, PA, EX, BF, BN, DI, TO, HO, OR, TD, TV, TW, PF, PT, DN, VA) :=
  pk_loop (σ := Unit) (fun n v _ => wX_packed_4 post lv qu ai st fo af bd tc oc ac B RC AC RO VO AS LC LI AL AN PA EX BF BN DI TO HO OR TD TV TW PF PT DN VA n (nI (tj_key 31 s v)) (nI v)) (fun _ _ => True) 5 0 () (by omega) trivial
    (fun n _ _ => pk_le 5 5 (fun _ => H) (fun z => absurd z (by omega)))
    (fun n v _ hv _ hw => pk_le 5 v (fun z => absurd z (by omega)) (fun _ => And.intro (pk_in v 5 hv) (nm_r (by rw [nI_clamp (by omega), hd v hv, tj_i5, ← tj_key_t (tj_31 v hv)]) (nm_r (nI_1 v) (hw () trivial)))))
theorem tj_keyOfDigits {post : Int32 → Prop} {s : Nat → Nat} {m : Nat} (hm : m < 32) (hd : ∀ v, v < 5 → DI v = nI (s v)) (H : post (nI (tj_key m s 5))) : wpX_keyOfDigits post (lv, qu, ai, st, fo, af, bd, tc, oc, ac, B, RC, AC, RO, VO, AS, LC, LI, AL, AN, PA, EX, BF, BN, DI, TO, HO, OR, TD, TV, TW, PF, PT, DN, VA) (nI m) :=
  pk_loop (σ := Unit) (fun n v _ => wX_keyOfDigits_4 post (nI m) lv qu ai st fo af bd tc oc ac B RC AC RO VO AS LC LI AL AN PA EX BF BN DI TO HO OR TD TV TW PF PT DN VA n (nI (tj_key m s v)) (nI v)) (fun _ _ => True) 5 0 () (by omega) trivial
    (fun n _ _ => pk_le 5 5 (fun _ => H) (fun z => absurd z (by omega)))
    (fun n v _ hv _ hw => by
      refine pk_le 5 v (fun z => absurd z (by omega)) (fun _ => tj_br m v (fun z => nm_r (nI_1 v) ?_) (fun z => And.intro (pk_in v 5 hv) (nm_r (by rw [nI_clamp (by omega), hd v hv, tj_i5, ← tj_key_t z]) (nm_r (nI_1 v) (hw () trivial)))))
      rw [← tj_key_f (s := s) z]
      exact hw () trivial)
theorem tj_offerAnswer {post : St1 → Prop} {s : Nat → Nat} {q w : Nat} (hq : q < 2) (hqu : qu = nI q) (hA : AS q = nI w) (hw : w < 32) (hs : ∀ v, v < 5 → s v < 5) (hd : ∀ v, v < 5 → DI v = nI (s v))
    (H : ∀ AN' : Nat → Int64, (∀ b, tj_in AN' b ↔ b = tj_key w s 5 ∨ tj_in AN b) → post (lv, qu, ai, st, fo, 1, bd, tc, oc, ac, B, RC, AC, RO, VO, AS, LC, LI, AL, AN', PA, EX, BF, BN, DI, TO, HO, OR, TD, TV, TW, PF, PT, DN, VA)) : wpX_offerAnswer post (lv, qu, ai, st, fo, af, bd, tc, oc, ac, B, RC, AC, RO, VO, AS, LC, LI, AL, AN, PA, EX, BF, BN, DI, TO, HO, OR, TD, TV, TW, PF, PT, DN, VA) := by
  subst hqu
  refine pk_loop (σ := Unit) (fun n v _ => wX_offerAnswer_4 post lv (nI q) ai st fo af bd tc oc ac B RC AC RO VO AS LC LI AL AN PA EX BF BN DI TO HO OR TD TV TW PF PT DN VA n (nI (tj_key w s v)) (nI v)) (fun _ _ => True) 5 0 () (by omega) trivial ?_ ?_
  · intro n _ _
    have hl := tj_key_lt5 (m := w) hs (Nat.le_refl 5)
    exact pk_le 5 5 (fun _ => tj_putIn_2 (by omega) (fun AN' h => H AN' h)) (fun z => absurd z (by omega))
  · intro n v _ hv _ hn
    refine pk_le 5 v (fun z => absurd z (by omega)) (fun _ => And.intro (pk_in q 2 hq) ?_)
    rw [nI_clamp (by omega), hA]
    refine tj_br w v (fun z => nm_r (nI_1 v) ?_) (fun z => And.intro (pk_in v 5 hv) (nm_r (by rw [nI_clamp (by omega), hd v hv, tj_i5, ← tj_key_t z]) (nm_r (nI_1 v) (hn () trivial))))
    rw [← tj_key_f (s := s) z]
    exact hn () trivial
theorem tj_keyOfRow {post : Int32 → Prop} {t row m : Nat} (ht : t < 8) (h : tj_aok RO VO t) (hrow : row < 2 ^ 31) (hm : m < 32) (hs : ∀ v, m.testBit v = true → (tj_vs VO t).testBit v = true) (H : post (nI (tj_key m (tj_ra RO VO t row) 5))) : wpX_keyOfRow post (lv, qu, ai, st, fo, af, bd, tc, oc, ac, B, RC, AC, RO, VO, AS, LC, LI, AL, AN, PA, EX, BF, BN, DI, TO, HO, OR, TD, TV, TW, PF, PT, DN, VA) (nI t) (nI row) (nI m) := by
  have hb := tj_cols_b (tj_rel RO t)
  have hr := tj_aok_r h
  refine pk_loop (σ := Unit) (fun n v _ => wX_keyOfRow_6 post (nI t) (nI row) (nI m) lv qu ai st fo af bd tc oc ac B RC AC RO VO AS LC LI AL AN PA EX BF BN DI TO HO OR TD TV TW PF PT DN VA n (nI (tj_key m (tj_ra RO VO t row) v)) (nI v)) (fun _ _ => True) 5 0 () (by omega) trivial ?_ ?_
  · intro n _ _
    exact pk_le 5 5 (fun _ => H) (fun z => absurd z (by omega))
  · intro n v _ hv _ hw
    refine pk_le 5 v (fun z => absurd z (by omega)) (fun _ => tj_br m v (fun z => nm_r (nI_1 v) ?_) (fun z => ?_))
    · rw [← tj_key_f (s := tj_ra RO VO t row) z]
      exact hw () trivial
    · obtain ⟨f1, f2, f3⟩ := tj_fc_s h (hs v z)
      refine pk_loop (σ := Unit) (fun n' c _ => wX_keyOfRow_27 post (wX_keyOfRow_6 post (nI t) (nI row) (nI m) lv qu ai st fo af bd tc oc ac B RC AC RO VO AS LC LI AL AN PA EX BF BN DI TO HO OR TD TV TW PF PT DN VA n) (nI t) (nI row) (nI m) (nI (tj_key m (tj_ra RO VO t row) v)) (nI v) lv qu ai st fo af bd tc oc ac B RC AC RO VO AS LC LI AL AN PA EX BF BN DI TO HO OR TD TV TW PF PT DN VA n' (nI c)) (fun _ _ => True) (tj_fc VO t v) 0 () (by omega) trivial ?_ ?_
      · intro n' _ _
        refine And.intro (pk_in _ 24 (by omega) (tj_i3 t _)) ?_
        rw [tj_i3, nI_clamp (show 3 * t + tj_fc VO t v < 2 ^ 31 by omega)]
        refine br_t f2 (And.intro (pk_in t 8 ht) ?_)
        rw [nI_clamp (show t < 2 ^ 31 by omega), hr.1]
        refine tj_columnOf hr.2 hrow f1 (nm_r ?_ (nm_r (nI_1 v) (hw () trivial)))
        rw [tj_i5, tj_key_t z]
        rfl
      · intro n' c _ hc _ hw'
        refine And.intro (pk_in _ 24 (by omega) (tj_i3 t c)) ?_
        rw [tj_i3, nI_clamp (show 3 * t + c < 2 ^ 31 by omega)]
        exact br_f (f3 c hc) (nm_r (nI_1 c) (hw' () trivial))
/-- the last place below n with p, or -1 -/
noncomputable def tj_pv (p : Nat → Prop) : Nat → Int32
  | 0 => -1
  | n + 1 => @ite _ (p n) (Classical.propDecidable (p n)) (nI n) (tj_pv p n)
theorem tj_pv_t {p : Nat → Prop} {n : Nat} (h : p n) : tj_pv p (n + 1) = nI n := by
  show @ite _ (p n) (Classical.propDecidable (p n)) (nI n) (tj_pv p n) = _
  rw [if_pos h]
theorem tj_pv_f {p : Nat → Prop} {n : Nat} (h : ¬ p n) : tj_pv p (n + 1) = tj_pv p n := by
  show @ite _ (p n) (Classical.propDecidable (p n)) (nI n) (tj_pv p n) = _
  rw [if_neg h]
theorem tj_pv_c (p : Nat → Prop) (n : Nat) : (tj_pv p n = -1 ∧ ∀ k, k < n → ¬ p k) ∨ ∃ k, k < n ∧ p k ∧ tj_pv p n = nI k ∧ ∀ j, k < j → j < n → ¬ p j := by
  induction n with
  | zero => exact Or.inl ⟨rfl, fun k hk => absurd hk (by omega)⟩
  | succ n ih =>
    rcases Classical.em (p n) with h | h
    · exact Or.inr ⟨n, by omega, h, tj_pv_t h, fun j h1 h2 => absurd h1 (by omega)⟩
    · rw [tj_pv_f h]
      rcases ih with ⟨e, a⟩ | ⟨k, k1, k2, k3, k4⟩
      · refine Or.inl ⟨e, fun k hk => ?_⟩
        rcases Nat.lt_or_ge k n with z | z
        · exact a k z
        · rw [show k = n by omega]; exact h
      · refine Or.inr ⟨k, by omega, k2, k3, fun j h1 h2 => ?_⟩
        rcases Nat.lt_or_ge j n with z | z
        · exact k4 j h1 z
        · rw [show j = n by omega]; exact h
theorem tj_pv_congr {p q : Nat → Prop} {n : Nat} (h : ∀ k, k < n → (p k ↔ q k)) : tj_pv p n = tj_pv q n := by
  induction n with
  | zero => rfl
  | succ n ih =>
    have i := ih (fun k hk => h k (by omega))
    rcases Classical.em (p n) with z | z
    · rw [tj_pv_t z, tj_pv_t ((h n (by omega)).mp z)]
    · rw [tj_pv_f z, tj_pv_f (fun y => z ((h n (by omega)).mpr y)), i]
theorem tj_pv_nar (p : Nat → Prop) {n : Nat} (hn : n ≤ 128) : vp_nar .byte (tj_pv p n) = tj_pv p n := by
  rcases tj_pv_c p n with ⟨e, _⟩ | ⟨k, k1, _, k3, _⟩
  · rw [e]; exact tj_narm
  · rw [k3]; exact tj_nar (by omega)
theorem tj_key_125 {VO RO : Nat → Int32} {t m : Nat} {s : Nat → Nat} (h : tj_aok RO VO t) (hs : ∀ v, m.testBit v = true → (tj_vs VO t).testBit v = true) (h5 : ∀ v, s v < 5) : tj_key m s 5 < 125 := by
  have h1 := tj_key_lt (m := m) (s := s) 5 (fun v _ => h5 v)
  have h2 : tj_ct (fun v => m.testBit v = true) 5 ≤ 3 := Nat.le_trans (tj_ct_mono (fun v _ z => hs v z)) (tj_vs_ct h)
  have h3 : 5 ^ tj_ct (fun v => m.testBit v = true) 5 ≤ 5 ^ 3 := Nat.pow_le_pow_right (by decide) h2
  omega
/-- the rows of atom i that are alive, by their key -/
def tj_bk (RO VO LI AL : Nat → Int32) (q i m x k : Nat) : Prop := tj_av AL i k ∧ tj_key m (tj_R RO VO LI q i k) 5 = x
theorem tj_fillBuckets {post : St1 → Prop} {q i m s : Nat} (hq : q < 2) (hqu : qu = nI q) (hI : tj_I RO VO LC LI q m) (hL : tj_L AL m) (hi : i < 4) (mi : m.testBit i = true) (hs : ∀ v, s.testBit v = true → (tj_V VO q i).testBit v = true)
    (H : ∀ BF' BN' : Nat → Int32, (∀ x, x < 125 → BF' x = tj_pv (tj_bk RO VO LI AL q i s x) (tj_n LC i)) → (∀ k, k < tj_n LC i → tj_av AL i k → BN' k = tj_pv (tj_bk RO VO LI AL q i s (tj_key s (tj_R RO VO LI q i k) 5)) k) → post (lv, qu, ai, st, fo, af, bd, tc, oc, ac, B, RC, AC, RO, VO, AS, LC, LI, AL, AN, PA, EX, BF', BN', DI, TO, HO, OR, TD, TV, TW, PF, PT, DN, VA)) : wpX_fillBuckets post (lv, qu, ai, st, fo, af, bd, tc, oc, ac, B, RC, AC, RO, VO, AS, LC, LI, AL, AN, PA, EX, BF, BN, DI, TO, HO, OR, TD, TV, TW, PF, PT, DN, VA) (nI i) (nI s) := by
  subst hqu
  obtain ⟨ok, _, rows⟩ := hI i hi mi
  obtain ⟨en, n16⟩ := tj_I_n hI hi mi
  obtain ⟨ea, a16⟩ := tj_L_e hL hi mi
  have s32 : s < 32 := by
    rcases Nat.lt_or_ge s 32 with z | z
    · exact z
    · obtain ⟨j, hj, hb⟩ := Nat.exists_ge_and_testBit_of_ge_two_pow (n := 5) z
      have := tj_bit_lt (k := 5) (tj_vs_lt ok) (hs j hb)
      omega
  have ci : (nI i).toNatClampNeg = i := nI_clamp (by omega)
  have p := pk_in (x := nI i) i 4 hi
  unfold wpX_fillBuckets
  refine nm_r (tj_i4 q i) ?_
  refine pk_loop (fun n x s' => wX_fillBuckets_12 post (nI i) (nI s) (nI (4 * q + i)) lv (nI q) ai st fo af bd tc oc ac n (nI x) B RC AC RO VO AS LC LI AL AN PA EX s' BN DI TO HO OR TD TV TW PF PT DN VA) (fun x s' => ∀ j, j < x → s' j = -1) 125 0 BF (by omega) (fun j hj => absurd hj (by omega)) ?_ ?_
  · intro n bf hbf
    refine pk_le 125 125 (fun _ => ?_) (fun z => absurd z (by omega))
    refine pk_loop (fun n k (s' : (Nat → Int32) × (Nat → Int32)) => wX_fillBuckets_36 post (nI i) (nI s) (nI (4 * q + i)) lv (nI q) ai st fo af bd tc oc ac n (nI k) B RC AC RO VO AS LC LI AL AN PA EX s'.1 s'.2 DI TO HO OR TD TV TW PF PT DN VA)
      (fun k s' => (∀ x, x < 125 → s'.1 x = tj_pv (tj_bk RO VO LI AL q i s x) k) ∧ (∀ j, j < k → tj_av AL i j → s'.2 j = tj_pv (tj_bk RO VO LI AL q i s (tj_key s (tj_R RO VO LI q i j) 5)) j)) (tj_n LC i) 0 (bf, BN) (by omega) ⟨fun x hx => hbf x hx, fun j hj => absurd hj (by omega)⟩ ?_ ?_
    · intro n s' hs'
      refine And.intro p ?_
      rw [ci, en]
      exact tj_ple (fun _ => H s'.1 s'.2 hs'.1 hs'.2) (fun z => absurd z (by omega))
    · intro n k s' hk hs' hw
      refine And.intro p ?_
      rw [ci, en]
      refine tj_ple (fun z => absurd z (by omega)) (fun _ => And.intro p ?_)
      rw [ea]
      refine tj_br (AL i).toNatClampNeg k (fun z => nm_r (nI_1 k) (hw s' ?_)) (fun z => And.intro (pk_in _ 64 (by omega) (tj_i16 i k)) ?_)
      · refine ⟨fun x hx => ?_, fun j hj ha => ?_⟩
        · rw [tj_pv_f (fun y => tj_tf y.1 z)]; exact hs'.1 x hx
        · rcases Nat.lt_or_ge j k with y | y
          · exact hs'.2 j y ha
          · rw [show j = k by omega] at ha; exact (tj_tf ha z).elim
      · obtain ⟨r1, r2, r3⟩ := rows k hk
        have rb := tj_rw_b (tj_rel RO (4 * q + i))
        rw [tj_i16, nI_clamp (show 16 * i + k < 2 ^ 31 by omega), r1]
        have k125 : tj_key s (tj_R RO VO LI q i k) 5 < 125 := tj_key_125 ok hs (fun v => tj_R_lt _ _ _ _ _ _ _)
        have ck : (nI k).toNatClampNeg = k := nI_clamp (by omega)
        have cx : (nI (tj_key s (tj_ra RO VO (4 * q + i) (tj_ro LI i k)) 5)).toNatClampNeg = tj_key s (tj_R RO VO LI q i k) 5 := nI_clamp (show tj_key s (tj_R RO VO LI q i k) 5 < 2 ^ 31 by omega)
        refine tj_keyOfRow (by omega) ok (by omega) s32 hs (And.intro (pk_in _ 125 k125) (And.intro (pk_in k 16 (by omega)) (nm_r (e' := upd s'.2 k (tj_pv (tj_bk RO VO LI AL q i s (tj_key s (tj_R RO VO LI q i k) 5)) k)) ?_ (And.intro (pk_in _ 125 k125) (nm_r (e' := upd s'.1 (tj_key s (tj_R RO VO LI q i k) 5) (nI k)) ?_ (nm_r (nI_1 k) (hw (_, _) ?_)))))))
        · rw [ck, cx, hs'.1 _ k125, tj_pv_nar _ (by omega)]
        · rw [cx, tj_b8 k (by omega)]
        · refine ⟨fun x hx => ?_, fun j hj ha => ?_⟩
          · show upd s'.1 _ _ x = _
            by_cases e : x = tj_key s (tj_R RO VO LI q i k) 5
            · rw [e, pk_us, tj_pv_t ⟨z, rfl⟩]
            · rw [pk_un e, tj_pv_f (fun y => e y.2.symm)]
              exact hs'.1 x hx
          · show upd s'.2 _ _ j = _
            by_cases e : j = k
            · rw [e, pk_us]
            · rw [pk_un e]
              exact hs'.2 j (by omega) ha
  · intro n x bf hx hbf hw
    exact pk_le 125 x (fun z => absurd z (by omega)) (fun _ => And.intro (pk_in x 125 hx) (nm_r (e' := upd bf x (-1)) (by rw [nI_clamp (by omega)]) (nm_r (nI_1 x) (hw _ (lt_s (fun a ha => (pk_un (by omega)).trans (hbf a ha)) pk_us)))))
end
end
section
/-! ===== joining atom by atom ===== -/
section
variable {lv qu ai st fo af bd tc oc ac : Int32} {B AN PA EX : Nat → Int64} {RC AC RO VO AS LC LI AL BF BN DI TO HO OR TD TV TW PF PT DN VA : Nat → Int32}
theorem tj_ra_var {t row c : Nat} (h : tj_aok RO VO t) (hf : tj_fit RO VO t row) (hc : c < tj_cols (tj_rel RO t)) : tj_ra RO VO t row (tj_var VO t c) = tj_col (tj_rel RO t) row c :=
  (tj_mt_ra h hf (s := tj_ra RO VO t row)).mpr (fun _ _ => rfl) c hc
/-- a choice with a row's values put in -/
def tj_ov (V : Nat) (r d : Nat → Nat) (v : Nat) : Nat := if V.testBit v = true then r v else d v
theorem tj_ov_lt {V : Nat} {r d : Nat → Nat} (h1 : ∀ v, r v < 5) (h2 : ∀ v, d v < 5) (v : Nat) : tj_ov V r d v < 5 := by
  unfold tj_ov
  split
  · exact h1 v
  · exact h2 v
theorem tj_extend {post : St1 → Prop} {t row c : Nat} (ht : t < 8) (h : tj_aok RO VO t) (hrow : row < 2 ^ 31) (hf : tj_fit RO VO t row) (hc : c < 3125)
    (H : ∀ (DI' : Nat → Int32) (EX' : Nat → Int64), (∀ v, v < 5 → tj_N (DI' v) 5) → (∀ b, tj_in EX' b ↔ b = tj_key 31 (tj_ov (tj_vs VO t) (tj_ra RO VO t row) (tj_dg c)) 5 ∨ tj_in EX b) → post (lv, qu, ai, st, fo, af, bd, tc, oc, ac, B, RC, AC, RO, VO, AS, LC, LI, AL, AN, PA, EX', BF, BN, DI', TO, HO, OR, TD, TV, TW, PF, PT, DN, VA)) : wpX_extend post (lv, qu, ai, st, fo, af, bd, tc, oc, ac, B, RC, AC, RO, VO, AS, LC, LI, AL, AN, PA, EX, BF, BN, DI, TO, HO, OR, TD, TV, TW, PF, PT, DN, VA) (nI c) (nI t) (nI row) := by
  have hb := tj_cols_b (tj_rel RO t)
  have hr := tj_aok_r h
  have p := pk_in (x := nI t) t 8 ht
  have ct : (nI t).toNatClampNeg = t := nI_clamp (by omega)
  unfold wpX_extend
  refine tj_unpack (by omega) (fun DI0 hd0 => ?_)
  refine pk_loop (fun n cc s => wX_extend_8 post (nI t) (nI row) lv qu ai st fo af bd tc oc ac n (nI cc) B RC AC RO VO AS LC LI AL AN PA EX BF BN s TO HO OR TD TV TW PF PT DN VA) (fun cc s => ∀ v, v < 5 → ((∃ c', c' < cc ∧ tj_var VO t c' = v) → s v = nI (tj_ra RO VO t row v)) ∧ (¬ (∃ c', c' < cc ∧ tj_var VO t c' = v) → s v = nI (tj_dg c v))) (tj_cols (tj_rel RO t)) 0 DI0 (by omega) (fun v hv => ⟨fun ⟨c', h1, _⟩ => absurd h1 (by omega), fun _ => hd0 v hv⟩) ?_ ?_
  · intro n s hs
    refine And.intro p ?_
    rw [ct, hr.1]
    refine tj_columnsOf hr.2 ?_
    refine tj_ple (fun _ => ?_) (fun z => absurd z (by omega))
    have hd : ∀ v, v < 5 → s v = nI (tj_ov (tj_vs VO t) (tj_ra RO VO t row) (tj_dg c) v) := by
      intro v hv
      unfold tj_ov
      split
      · rename_i hb; exact (hs v hv).1 ((tj_vs_bit h v).mp hb)
      · rename_i hb; exact (hs v hv).2 (fun z => hb ((tj_vs_bit h v).mpr z))
    have h5 : ∀ v, tj_ov (tj_vs VO t) (tj_ra RO VO t row) (tj_dg c) v < 5 := tj_ov_lt (fun v => tj_col_lt _ _ _) (fun v => tj_dg_lt _ _)
    have hl := tj_key_lt5 (m := 31) (s := tj_ov (tj_vs VO t) (tj_ra RO VO t row) (tj_dg c)) (fun v _ => h5 v) (Nat.le_refl 5)
    exact tj_packed hd (tj_putIn_3 (by omega) (fun EX' hE => H s EX' (fun v hv => ⟨_, h5 v, hd v hv⟩) hE))
  · intro n cc s hcc hs hw
    obtain ⟨v1, v2⟩ := tj_aok_v h hcc
    refine And.intro p ?_
    rw [ct, hr.1]
    refine tj_columnsOf hr.2 ?_
    refine tj_ple (fun z => absurd z (by omega)) (fun _ => And.intro p (tj_columnOf hr.2 hrow hcc ?_))
    have l5 := tj_col_lt (tj_rel RO t) row cc
    rw [tj_i3, nI_clamp (show 3 * t + cc < 2 ^ 31 by omega), v1, nI_clamp (show tj_var VO t cc < 2 ^ 31 by omega), tj_b8 _ (show tj_col (tj_rel RO t) row cc < 128 by omega)]
    refine And.intro (vp_in_nI (by omega) (by omega)) (And.intro (vp_in_nI v2 (by omega)) (nm_e (nm_r (nI_1 cc) (hw _ ?_))))
    intro v hv
    by_cases e : v = tj_var VO t cc
    · subst e
      exact ⟨fun _ => by rw [pk_us, tj_ra_var h hf hcc], fun z => absurd ⟨cc, by omega, rfl⟩ z⟩
    · rw [pk_un e]
      refine ⟨fun ⟨c', h1, h2⟩ => (hs v hv).1 ⟨c', ?_, h2⟩, fun z => (hs v hv).2 (fun ⟨c', h1, h2⟩ => z ⟨c', by omega, h2⟩)⟩
      rcases Nat.lt_or_ge c' cc with y | y
      · exact y
      · rw [show c' = cc by omega] at h2; exact absurd h2.symm e
/-- what joining atom i makes of the choices X -/
def tj_Jn (RO VO LC LI AL : Nat → Int32) (q i b : Nat) (X : Nat → Prop) (e x : Nat) : Prop :=
  ∃ c k, c < e ∧ X c ∧ k < tj_n LC i ∧ tj_av AL i k ∧ tj_key (tj_V VO q i &&& b) (tj_R RO VO LI q i k) 5 = tj_key (tj_V VO q i &&& b) (tj_dg c) 5 ∧ x = tj_key 31 (tj_ov (tj_V VO q i) (tj_R RO VO LI q i k) (tj_dg c)) 5
theorem tj_joinAtom {post : St1 → Prop} {q m i b : Nat} {X : Nat → Prop} (hq : q < 2) (hqu : qu = nI q) (hbd : bd = nI b) (hI : tj_I RO VO LC LI q m) (hL : tj_L AL m) (hi : i < 4) (mi : m.testBit i = true) (hX : ∀ c, c < 3125 → (tj_in PA c ↔ X c)) (hD : ∀ v, v < 5 → tj_N (DI v) 5)
    (H : ∀ (PA' : Nat → Int64) (EX' : Nat → Int64) (BF' : Nat → Int32) (BN' : Nat → Int32) (DI' : Nat → Int32), (∀ v, v < 5 → tj_N (DI' v) 5) → (∀ x, x < 3125 → (tj_in PA' x ↔ tj_Jn RO VO LC LI AL q i b X 3125 x)) → post (lv, qu, ai, st, fo, af, nI (b ||| tj_V VO q i), tc, oc, ac, B, RC, AC, RO, VO, AS, LC, LI, AL, AN, PA', EX', BF', BN', DI', TO, HO, OR, TD, TV, TW, PF, PT, DN, VA)) : wpX_joinAtom post (lv, qu, ai, st, fo, af, bd, tc, oc, ac, B, RC, AC, RO, VO, AS, LC, LI, AL, AN, PA, EX, BF, BN, DI, TO, HO, OR, TD, TV, TW, PF, PT, DN, VA) (nI i) := by
  subst hqu hbd
  obtain ⟨ok, _, rows⟩ := hI i hi mi
  obtain ⟨en, n16⟩ := tj_I_n hI hi mi
  unfold wpX_joinAtom
  refine nm_r (tj_i4 q i) (tj_variablesOfAtom (by omega) ok (nm_r (e' := nI (tj_V VO q i &&& b)) (tj_and _ _) ?_))
  have hsub : ∀ v, (tj_V VO q i &&& b).testBit v = true → (tj_V VO q i).testBit v = true := fun v hv => by rw [Nat.testBit_and, Bool.and_eq_true] at hv; exact hv.1
  have s32 : tj_V VO q i &&& b < 32 := Nat.lt_of_le_of_lt Nat.and_le_left (tj_vs_lt ok)
  refine tj_fillBuckets hq rfl hI hL hi mi hsub (fun BF' BN' hBF hBN => ?_)
  refine tj_empty_3 (fun EX0 hE0 => ?_)
  refine pk_loop (fun n c (s : (Nat → Int64) × (Nat → Int32)) => wX_joinAtom_37 post (nI i) (nI (4 * q + i)) (nI (tj_V VO q i &&& b)) n (nI c) lv (nI q) ai st fo af (nI b) tc oc ac B RC AC RO VO AS LC LI AL AN PA s.1 BF' BN' s.2 TO HO OR TD TV TW PF PT DN VA)
    (fun c s => (∀ v, v < 5 → tj_N (s.2 v) 5) ∧ ∀ x, x < 3125 → (tj_in s.1 x ↔ tj_Jn RO VO LC LI AL q i b X c x)) 3125 0 (EX0, DI) (by omega) ⟨hD, fun x hx => ⟨fun z => absurd z (tj_in_0 hE0 (by omega)), fun ⟨c, k, h1, _⟩ => absurd h1 (by omega)⟩⟩ ?_ ?_
  · rintro n ⟨ex, di⟩ ⟨hd, hx⟩
    refine pk_le 3125 3125 (fun _ => ?_) (fun z => absurd z (by omega))
    refine pk_loop (fun n w s => wX_joinAtom_128 post (nI (4 * q + i)) lv (nI q) ai st fo af (nI b) tc oc ac n (nI w) B RC AC RO VO AS LC LI AL AN s ex BF' BN' di TO HO OR TD TV TW PF PT DN VA) (fun w s => ∀ j, j < w → s j = ex j) 49 0 PA (by omega) (fun j hj => absurd hj (by omega)) ?_ ?_
    · intro n pa hpa
      refine pk_le 49 49 (fun _ => tj_variablesOfAtom (by omega) ok (nm_r (tj_or _ _) (H pa ex BF' BN' di hd ?_))) (fun z => absurd z (by omega))
      intro x hx3
      rw [← hx x hx3]
      show tj_bl (pa (x / 64)) (x % 64) = true ↔ _
      rw [hpa (x / 64) (by omega)]
      exact Iff.rfl
    · intro n w pa hw hpa hn
      exact pk_le 49 w (fun z => absurd z (by omega)) (fun _ => And.intro (pk_in w 49 hw) (And.intro (pk_in w 49 hw) (nm_r (e' := vp_updL pa w (ex w)) (by rw [nI_clamp (by omega)]) (nm_r (nI_1 w) (hn _ (lt_s (fun a ha => (pk_uLn (by omega)).trans (hpa a ha)) pk_uLs))))))
  · rintro n c ⟨ex, di⟩ hc ⟨hd, hx⟩ hw
    refine pk_le 3125 c (fun z => absurd z (by omega)) (fun _ => tj_isIn (by omega) (fun z => br_f (by decide) ?_) (fun z => br_t rfl (nm_r (nI_1 c) (hw (ex, di) ⟨hd, fun x hx3 => ?_⟩))))
    · have xc : X c := (hX c hc).mp z
      refine tj_unpack (by omega) (fun DI1 hd1 => tj_keyOfDigits s32 hd1 ?_)
      have k125 : tj_key (tj_V VO q i &&& b) (tj_dg c) 5 < 125 := tj_key_125 ok hsub (fun v => tj_dg_lt _ _)
      refine And.intro (vp_in_nI k125 (by omega)) (nm_r (e' := tj_pv (tj_bk RO VO LI AL q i (tj_V VO q i &&& b) (tj_key (tj_V VO q i &&& b) (tj_dg c) 5)) (tj_n LC i)) (by rw [nI_clamp (by omega)]; exact hBF _ k125) ?_)
      refine loop_m (fun n' (s : Nat × (Nat → Int64) × (Nat → Int32)) => wX_joinAtom_83 post (wX_joinAtom_37 post (nI i) (nI (4 * q + i)) (nI (tj_V VO q i &&& b)) n) (nI i) (nI (4 * q + i)) (nI (tj_V VO q i &&& b)) (nI c) n' (tj_pv (tj_bk RO VO LI AL q i (tj_V VO q i &&& b) (tj_key (tj_V VO q i &&& b) (tj_dg c) 5)) s.1) lv (nI q) ai st fo af (nI b) tc oc ac B RC AC RO VO AS LC LI AL AN PA s.2.1 BF' BN' s.2.2 TO HO OR TD TV TW PF PT DN VA)
        (fun s => s.1 ≤ tj_n LC i ∧ (∀ v, v < 5 → tj_N (s.2.2 v) 5) ∧ ∀ x, x < 3125 → (tj_in s.2.1 x ↔ tj_Jn RO VO LC LI AL q i b X c x ∨ ∃ k, s.1 ≤ k ∧ k < tj_n LC i ∧ tj_bk RO VO LI AL q i (tj_V VO q i &&& b) (tj_key (tj_V VO q i &&& b) (tj_dg c) 5) k ∧ x = tj_key 31 (tj_ov (tj_V VO q i) (tj_R RO VO LI q i k) (tj_dg c)) 5))
        (fun s => s.1) ?_ (tj_n LC i, ex, DI1) ⟨Nat.le_refl _, fun v hv => ⟨_, tj_dg_lt _ _, hd1 v hv⟩, fun x hx3 => ⟨fun y => Or.inl ((hx x hx3).mp y), fun y => y.elim (fun y => (hx x hx3).mpr y) (fun ⟨k, h1, h2, _⟩ => absurd h1 (by omega))⟩⟩
      rintro n' ⟨K, ex', di'⟩ ⟨hK, hd', hx'⟩ hw'
      dsimp only at hK hd' hx' hw' ⊢
      rcases tj_pv_c (tj_bk RO VO LI AL q i (tj_V VO q i &&& b) (tj_key (tj_V VO q i &&& b) (tj_dg c) 5)) K with ⟨e, none⟩ | ⟨k, k1, k2, k3, k4⟩
      · rw [e]
        refine br_t (by decide) (nm_r (nI_1 c) (hw (ex', di') ⟨hd', fun x hx3 => ?_⟩))
        show tj_in ex' x ↔ _
        rw [hx' x hx3]
        constructor
        · rintro (⟨c', k, h1, h2⟩ | ⟨k, h1, h2, h3, h4⟩)
          · exact ⟨c', k, by omega, h2⟩
          · exact ⟨c, k, by omega, xc, h2, h3.1, h3.2, h4⟩
        · rintro ⟨c', k, h1, h2, h3, h4, h5, h6⟩
          rcases Nat.lt_or_ge c' c with y | y
          · exact Or.inl ⟨c', k, y, h2, h3, h4, h5, h6⟩
          · have ec : c' = c := by omega
            subst ec
            rcases Nat.lt_or_ge k K with y2 | y2
            · exact absurd ⟨h4, h5⟩ (none k y2)
            · exact Or.inr ⟨k, y2, h3, ⟨h4, h5⟩, h6⟩
      · rw [k3]
        obtain ⟨r1, r2, r3⟩ := rows k (by omega)
        have rb := tj_rw_b (tj_rel RO (4 * q + i))
        refine br_f (nI_pos (by omega)) (And.intro (pk_in _ 64 (by omega) (tj_i16 i k)) ?_)
        rw [tj_i16, nI_clamp (show 16 * i + k < 2 ^ 31 by omega), r1]
        refine tj_extend (by omega) ok (by omega) r3 hc (fun DI2 EX2 hd2 hE2 => And.intro (pk_in k 16 (by omega)) (nm_r (e' := tj_pv (tj_bk RO VO LI AL q i (tj_V VO q i &&& b) (tj_key (tj_V VO q i &&& b) (tj_dg c) 5)) k) ?_ (hw' (k, EX2, DI2) ⟨by show k ≤ _; omega, hd2, fun x hx3 => ?_⟩ k1)))
        · rw [nI_clamp (by omega), hBN k (by omega) k2.1, k2.2]
        · show tj_in EX2 x ↔ _
          rw [hE2 x, hx' x hx3]
          constructor
          · rintro (y | y | ⟨j, h1, h2, h3, h4⟩)
            · exact Or.inr ⟨k, Nat.le_refl _, by omega, k2, y⟩
            · exact Or.inl y
            · exact Or.inr ⟨j, by show k ≤ j; omega, h2, h3, h4⟩
          · rintro (y | ⟨j, h1, h2, h3, h4⟩)
            · exact Or.inr (Or.inl y)
            · have h1' : k ≤ j := h1
              rcases Nat.lt_or_ge j K with y2 | y2
              · have ej : j = k := by
                  rcases Nat.eq_or_lt_of_le h1' with y3 | y3
                  · exact y3.symm
                  · exact absurd h3 (k4 j y3 y2)
                subst ej
                exact Or.inl h4
              · exact Or.inr (Or.inr ⟨j, y2, h2, h3, h4⟩)
    · show tj_in ex x ↔ _
      rw [hx x hx3]
      constructor
      · rintro ⟨c', k, h1, h2⟩
        exact ⟨c', k, by omega, h2⟩
      · rintro ⟨c', k, h1, h2, h3⟩
        refine ⟨c', k, ?_, h2, h3⟩
        rcases Nat.lt_or_ge c' c with y | y
        · exact y
        · rw [show c' = c by omega] at h2; exact absurd ((hX c hc).mpr h2) z
theorem tj_sm1 (t : Nat) : nI t - 1 = nI t + (-1) := Int32.sub_eq_add_neg _ _
theorem tj_joinAll {post : St1 → Prop} {q m w T : Nat} {o : Nat → Nat} (hq : q < 2) (hqu : qu = nI q) (hI : tj_I RO VO LC LI q m) (hL : tj_L AL m) (hA : AS q = nI w) (hw : w < 32) (htc : tc = nI T) (hT : T ≤ 4) (ho : ∀ t, t < T → TO t = nI (o t) ∧ o t < 4 ∧ m.testBit (o t) = true) (hc : ∀ i, i < 4 → m.testBit i = true → ∃ t, t < T ∧ o t = i)
    (hAN : ∀ x, x < 3136 → ¬ tj_in AN x) (haf : af = 0) (hD : ∀ v, v < 5 → tj_N (DI v) 5)
    (H : ∀ (af' : Int32) (bd' : Int32) (AN' : Nat → Int64) (PA' : Nat → Int64) (EX' : Nat → Int64) (BF' : Nat → Int32) (BN' : Nat → Int32) (DI' : Nat → Int32), (∀ v, v < 5 → tj_N (DI' v) 5) →
      ((af' = 1 ∧ ∃ s : Nat → Nat, (∀ v, s v < 5) ∧ tj_Sat (tj_V VO q) (tj_n LC) (tj_R RO VO LI q) (tj_av AL) m s) ∨ (af' = 0 ∧ ∀ s : Nat → Nat, (∀ v, s v < 5) → ¬ tj_Sat (tj_V VO q) (tj_n LC) (tj_R RO VO LI q) (tj_av AL) m s)) →
      (fo = 0 → (∀ v, w.testBit v = true → (tj_va VO q m 4).testBit v = true) → ∀ x, x < 3136 → (tj_in AN' x ↔ tj_Ans (tj_V VO q) (tj_n LC) (tj_R RO VO LI q) (tj_av AL) m w x)) → post (lv, qu, ai, st, fo, af', bd', tc, oc, ac, B, RC, AC, RO, VO, AS, LC, LI, AL, AN', PA', EX', BF', BN', DI', TO, HO, OR, TD, TV, TW, PF, PT, DN, VA)) : wpX_joinAll post (lv, qu, ai, st, fo, af, bd, tc, oc, ac, B, RC, AC, RO, VO, AS, LC, LI, AL, AN, PA, EX, BF, BN, DI, TO, HO, OR, TD, TV, TW, PF, PT, DN, VA) := by
  subst hqu htc haf
  unfold wpX_joinAll
  refine tj_empty_2 (fun PA0 hP0 => tj_putIn (a := 0) (by omega) (fun PA1 hP1 => nm_r (tj_sm1 T) ?_))
  refine loop_m (fun n (s : Nat × Int32 × (Nat → Int64) × (Nat → Int64) × (Nat → Int32) × (Nat → Int32) × (Nat → Int32)) => wX_joinAll_29 post n (nI s.1 + (-1)) lv (nI q) ai st fo 0 s.2.1 (nI T) oc ac B RC AC RO VO AS LC LI AL AN s.2.2.1 s.2.2.2.1 s.2.2.2.2.1 s.2.2.2.2.2.1 s.2.2.2.2.2.2 TO HO OR TD TV TW PF PT DN VA)
    (fun s => s.1 ≤ T ∧ (∀ v, v < 5 → tj_N (s.2.2.2.2.2.2 v) 5) ∧ ∃ b, s.2.1 = nI b ∧ (∀ v, b.testBit v = true ↔ ∃ t, s.1 ≤ t ∧ t < T ∧ (tj_V VO q (o t)).testBit v = true) ∧ ∀ c, c < 3125 → (tj_in s.2.2.1 c ↔ tj_Z b c ∧ ∀ t, s.1 ≤ t → t < T → tj_P (tj_V VO q) (tj_n LC) (tj_R RO VO LI q) (tj_av AL) (o t) (tj_dg c)))
    (fun s => s.1) ?_ (T, 0, PA1, EX, BF, BN, DI) ⟨Nat.le_refl _, hD, 0, rfl, fun v => ⟨fun z => absurd z (by rw [Nat.zero_testBit]; decide), fun ⟨t, h1, h2, _⟩ => absurd h1 (Nat.not_le_of_lt h2)⟩, fun c hc3 => ?_⟩
  · rintro n ⟨t, bd', pa, ex, bf, bn, di⟩ ⟨ht, hd, b, hb, hbv, hpa⟩ hn
    dsimp only at ht hd hb hbv hpa hn ⊢
    subst hb
    cases t with
    | zero =>
      refine br_t (by decide) ?_
      -- what is there at the end
      have all : ∀ c, c < 3125 → (tj_in pa c ↔ tj_Z b c ∧ tj_Sat (tj_V VO q) (tj_n LC) (tj_R RO VO LI q) (tj_av AL) m (tj_dg c)) := by
        intro c hc3
        rw [hpa c hc3]
        refine and_congr_right (fun _ => ⟨fun hP i hi mi => ?_, fun hS t _ h2 => hS _ (ho t h2).2.1 (ho t h2).2.2⟩)
        obtain ⟨t, h1, h2⟩ := hc i hi mi
        rw [← h2]
        exact hP t (by omega) h1
      have sat : ∀ s : Nat → Nat, (∀ v, s v < 5) → tj_Sat (tj_V VO q) (tj_n LC) (tj_R RO VO LI q) (tj_av AL) m s → ∃ c, c < 3125 ∧ tj_in pa c ∧ ∀ v, v < 5 → b.testBit v = true → tj_dg c v = s v := by
        intro s hs hS
        have h5 : ∀ v, v < 5 → (fun v => if b.testBit v = true then s v else 0) v < 5 := by
          intro v _
          show (if b.testBit v = true then s v else 0) < 5
          split
          · exact hs v
          · decide
        have hk := fun v hv => tj_dg_key h5 (v := v) hv
        have hkb : ∀ v, v < 5 → b.testBit v = true → tj_dg (tj_key 31 (fun v => if b.testBit v = true then s v else 0) 5) v = s v := fun v hv hbv => by rw [hk v hv]; exact if_pos hbv
        refine ⟨_, tj_key_lt5 h5 (Nat.le_refl 5), (all _ (tj_key_lt5 h5 (Nat.le_refl 5))).mpr ⟨fun v hv hbf => ?_, fun i hi mi => ?_⟩, hkb⟩
        · rw [hk v hv]
          exact if_neg (by rw [hbf]; decide)
        · refine tj_P_congr (fun v hv => ?_) (hS i hi mi)
          obtain ⟨t, h1, h2⟩ := hc i hi mi
          have v5 : v < 5 := tj_bit_lt (k := 5) (tj_vs_lt (tj_I_Q hI i hi mi)) hv
          exact (hkb v v5 ((hbv v).mpr ⟨t, by omega, h1, by rw [h2]; exact hv⟩)).symm
      refine pk_loop (fun n c (s : Int32 × (Nat → Int64) × (Nat → Int32)) => wX_joinAll_51 post n (nI c) lv (nI q) ai st fo s.1 (nI b) (nI T) oc ac B RC AC RO VO AS LC LI AL s.2.1 pa ex bf bn s.2.2 TO HO OR TD TV TW PF PT DN VA)
        (fun c s => (∀ v, v < 5 → tj_N (s.2.2 v) 5) ∧ ((s.1 = 1 ∧ ∃ x, x < c ∧ tj_in pa x) ∨ (s.1 = 0 ∧ ∀ x, x < c → ¬ tj_in pa x)) ∧ (∀ x, x < 3136 → (tj_in s.2.1 x ↔ ∃ y, y < c ∧ tj_in pa y ∧ x = tj_key w (tj_dg y) 5))) 3125 0 (0, AN, di) (by omega)
        ⟨hd, Or.inr ⟨rfl, fun x hx => absurd hx (by omega)⟩, fun x hx => ⟨fun z => absurd z (hAN x hx), fun ⟨y, h1, _⟩ => absurd h1 (by omega)⟩⟩ ?_ ?_
      · rintro n ⟨af', an, di'⟩ ⟨hd', hf', ha'⟩
        refine pk_le 3125 3125 (fun _ => H af' (nI b) an pa ex bf bn di' hd' ?_ ?_) (fun z => absurd z (by omega))
        · rcases hf' with ⟨e, x, hx, hxp⟩ | ⟨e, none⟩
          · exact Or.inl ⟨e, tj_dg x, fun v => tj_dg_lt _ _, ((all x hx).mp hxp).2⟩
          · refine Or.inr ⟨e, fun s hs hS => ?_⟩
            obtain ⟨c, c1, c2, _⟩ := sat s hs hS
            exact none c c1 c2
        · intro _ hwh x hx
          rw [ha' x hx]
          constructor
          · rintro ⟨y, y1, y2, y3⟩
            exact ⟨tj_dg y, fun v => tj_dg_lt _ _, ((all y y1).mp y2).2, y3⟩
          · rintro ⟨s, s1, s2, s3⟩
            obtain ⟨c, c1, c2, c3⟩ := sat s s1 s2
            refine ⟨c, c1, c2, ?_⟩
            rw [s3]
            refine tj_key_congr 5 (fun v hv hwv => (c3 v hv ?_).symm)
            obtain ⟨i, hi, mi, hiv⟩ := (tj_va_bit v 4).mp (hwh v hwv)
            obtain ⟨t, h1, h2⟩ := hc i hi mi
            exact (hbv v).mpr ⟨t, by omega, h1, by rw [h2]; exact hiv⟩
      · rintro n c ⟨af', an, di'⟩ hc3 ⟨hd', hf', ha'⟩ hw'
        refine pk_le 3125 c (fun z => absurd z (by omega)) (fun _ => tj_isIn (by omega) (fun z => br_f (by decide) ?_) (fun z => br_t rfl (nm_r (nI_1 c) (hw' (af', an, di') ⟨hd', ?_, fun x hx => ?_⟩))))
        · refine tj_unpack (by omega) (fun DI1 hd1 => tj_offerAnswer hq rfl hA hw (fun v _ => tj_dg_lt c v) hd1 (fun AN1 hA1 => ?_))
          have dok : ∀ v, v < 5 → tj_N (DI1 v) 5 := fun v hv => ⟨_, tj_dg_lt _ _, hd1 v hv⟩
          refine br_c (fun e => nm_r (nI_1 c) (hw' (1, AN1, DI1) ⟨dok, Or.inl ⟨rfl, c, by omega, z⟩, fun x hx => ?_⟩)) (fun e => H 1 (nI b) AN1 pa ex bf bn DI1 dok (Or.inl ⟨rfl, tj_dg c, fun v => tj_dg_lt _ _, ((all c hc3).mp z).2⟩) (fun y => absurd y e))
          show tj_in AN1 x ↔ _
          rw [hA1 x, ha' x hx]
          constructor
          · rintro (y | ⟨y, y1, y2, y3⟩)
            · exact ⟨c, by omega, z, y⟩
            · exact ⟨y, by omega, y2, y3⟩
          · rintro ⟨y, y1, y2, y3⟩
            rcases Nat.lt_or_ge y c with y4 | y4
            · exact Or.inr ⟨y, y4, y2, y3⟩
            · exact Or.inl (by rw [y3, show y = c by omega])
        · rcases hf' with ⟨e, x, hx, hxp⟩ | ⟨e, none⟩
          · exact Or.inl ⟨e, x, by omega, hxp⟩
          · refine Or.inr ⟨e, fun x hx => ?_⟩
            rcases Nat.lt_or_ge x c with y4 | y4
            · exact none x y4
            · rw [show x = c by omega]; exact z
        · show tj_in an x ↔ _
          rw [ha' x hx]
          constructor
          · rintro ⟨y, y1, y2, y3⟩
            exact ⟨y, by omega, y2, y3⟩
          · rintro ⟨y, y1, y2, y3⟩
            rcases Nat.lt_or_ge y c with y4 | y4
            · exact ⟨y, y4, y2, y3⟩
            · rw [show y = c by omega] at y2; exact absurd y2 z
    | succ t =>
      obtain ⟨o1, o2, o3⟩ := ho t (by omega)
      rw [pk_m1]
      refine br_f (nI_pos (by omega)) (And.intro (pk_in t 4 (by omega)) ?_)
      rw [nI_clamp (show t < 2 ^ 31 by omega), o1]
      refine tj_joinAtom hq rfl rfl hI hL o2 o3 hpa hd (fun PA2 EX2 BF2 BN2 DI2 hd2 hp2 => nm_e (hn (t, nI (b ||| tj_V VO q (o t)), PA2, EX2, BF2, BN2, DI2) ⟨by show t ≤ T; omega, hd2, b ||| tj_V VO q (o t), rfl, fun v => ?_, fun c hc3 => ?_⟩ (by show t < t + 1; omega)))
      · rw [Nat.testBit_or, Bool.or_eq_true, hbv v]
        constructor
        · rintro (⟨s, h1, h2⟩ | z)
          · exact ⟨s, by show t ≤ s; omega, h2⟩
          · exact ⟨t, Nat.le_refl _, by omega, z⟩
        · rintro ⟨s, h1, h2, h3⟩
          have h1' : t ≤ s := h1
          rcases Nat.eq_or_lt_of_le h1' with y | y
          · rw [← y] at h3; exact Or.inr h3
          · exact Or.inl ⟨s, y, h2, h3⟩
      · show tj_in PA2 c ↔ _
        rw [hp2 c hc3]
        have j := tj_join (V := tj_V VO q) (n := tj_n LC) (R := tj_R RO VO LI q) (a := tj_av AL) (i := o t) (b := b) (Q := fun s => ∀ t', t + 1 ≤ t' → t' < T → tj_P (tj_V VO q) (tj_n LC) (tj_R RO VO LI q) (tj_av AL) (o t') s) (fun k v => tj_R_lt _ _ _ _ _ _ _) (tj_vs_lt (tj_I_Q hI _ o2 o3))
          (fun s s' hss hQ t' h1 h2 => tj_P_congr (fun v hv => hss v (tj_bit_lt (k := 5) (tj_vs_lt (tj_I_Q hI _ (ho t' h2).2.1 (ho t' h2).2.2)) hv) ((hbv v).mpr ⟨t', h1, h2, hv⟩)) (hQ t' h1 h2)) c
        have j2 : tj_Jn RO VO LC LI AL q (o t) b (fun c => tj_Z b c ∧ ∀ t', t + 1 ≤ t' → t' < T → tj_P (tj_V VO q) (tj_n LC) (tj_R RO VO LI q) (tj_av AL) (o t') (tj_dg c)) 3125 c ↔ _ :=
          Iff.trans ⟨fun ⟨c', k, a1, a2, a3⟩ => ⟨c', k, a1, a2.1, a2.2, a3⟩, fun ⟨c', k, a1, a2, a3, a4⟩ => ⟨c', k, a1, ⟨a2, a3⟩, a4⟩⟩ j
        rw [j2]
        constructor
        · rintro ⟨_, a2, a3, a4⟩
          refine ⟨a2, fun s h1 h2 => ?_⟩
          have h1' : t ≤ s := h1
          rcases Nat.eq_or_lt_of_le h1' with y | y
          · rw [← y]; exact a4
          · exact a3 s y h2
        · rintro ⟨a2, a3⟩
          exact ⟨hc3, a2, fun s h1 h2 => a3 s (by show t ≤ s; omega) h2, a3 t (Nat.le_refl _) (by omega)⟩
  · show tj_in PA1 c ↔ tj_Z 0 c ∧ _
    rw [hP1 c]
    constructor
    · rintro (e | e)
      · subst e
        exact ⟨fun v hv _ => by unfold tj_dg; rw [Nat.zero_div], fun t h1 h2 => absurd h1 (Nat.not_le_of_lt h2)⟩
      · exact absurd e (tj_in_0 hP0 (by omega))
    · rintro ⟨hz, _⟩
      refine Or.inl (tj_dg_eq hc3 (by decide) (fun v hv => ?_))
      rw [hz v hv (Nat.zero_testBit v)]
      unfold tj_dg
      rw [Nat.zero_div]
end
end
section
/-! ===== orders of atoms, trees, reduction ===== -/
section
variable {lv qu ai st fo af bd tc oc ac : Int32} {B AN PA EX : Nat → Int64} {RC AC RO VO AS LC LI AL BF BN DI TO HO OR TD TV TW PF PT DN VA : Nat → Int32}
theorem tj_ct_rm {p : Nat → Prop} {i n : Nat} (hi : i < n) (h : p i) : tj_ct (fun x => p x ∧ x ≠ i) n + 1 = tj_ct p n := by
  induction n with
  | zero => omega
  | succ n ih =>
    rcases Nat.lt_or_ge i n with z | z
    · have := ih z
      rcases tj_ct_cases p n with ⟨a, b⟩ | ⟨a, b⟩
      · rw [b, tj_ct_t (p := fun x => p x ∧ x ≠ i) ⟨a, by omega⟩]; omega
      · rw [b, tj_ct_f (p := fun x => p x ∧ x ≠ i) (fun y => a y.1)]; omega
    · have e : i = n := by omega
      subst e
      rw [tj_ct_t h, tj_ct_f (p := fun x => p x ∧ x ≠ i) (fun y => y.2 rfl)]
      congr 1
      exact tj_ct_congr (fun a ha => ⟨fun y => y.1, fun y => ⟨y, by omega⟩⟩)
noncomputable def tj_cb (m : Nat) : Nat := tj_ct (fun i => m.testBit i = true) 4
theorem tj_cb_le (m : Nat) : tj_cb m ≤ 4 := tj_ct_le _ 4
theorem tj_cb_rm {m i : Nat} (hi : i < 4) (h : m.testBit i = true) : tj_cb (tj_sd m (2 ^ i)) + 1 = tj_cb m := by
  unfold tj_cb
  rw [← tj_ct_rm (p := fun i => m.testBit i = true) hi h]
  congr 1
  refine tj_ct_congr (fun a _ => ?_)
  rw [tj_sd_bit, tj_bit2p, Bool.and_eq_true, Bool.not_eq_true', decide_eq_false_iff_not]
  exact ⟨fun ⟨x, y⟩ => ⟨x, fun e => y e.symm⟩, fun ⟨x, y⟩ => ⟨x, fun e => y e.symm⟩⟩
theorem tj_cb_pos {m : Nat} (hm : m < 16) (h : m ≠ 0) : 0 < tj_cb m := by
  obtain ⟨i, hi⟩ := tj_ne0 h
  have i4 : i < 4 := tj_bit_lt (k := 4) hm hi
  have := tj_cb_rm i4 hi
  omega
theorem tj_sd2 {m i x : Nat} : (tj_sd m (2 ^ i)).testBit x = true ↔ m.testBit x = true ∧ x ≠ i := by
  rw [tj_sd_bit, tj_bit2p, Bool.and_eq_true, Bool.not_eq_true', decide_eq_false_iff_not]
  exact ⟨fun ⟨x, y⟩ => ⟨x, fun e => y e.symm⟩, fun ⟨x, y⟩ => ⟨x, fun e => y e.symm⟩⟩
/-- the order of atoms holds just those of m -/
def tj_To (tc : Int32) (TO : Nat → Int32) (m : Nat) : Prop :=
  ∃ (T : Nat) (o : Nat → Nat), tc = nI T ∧ T ≤ 4 ∧ (∀ t, t < T → TO t = nI (o t) ∧ o t < 4 ∧ m.testBit (o t) = true) ∧ (∀ i, i < 4 → m.testBit i = true → ∃ t, t < T ∧ o t = i)
theorem tj_m1lt {r : Nat} (h : r < 2 ^ 31) : (-1 : Int32) < nI r := by
  rw [Int32.lt_iff_toInt_lt, nI_toInt h]
  have : (-1 : Int32).toInt = -1 := by decide
  omega
theorem tj_chooseOrder {post : St1 → Prop} {q m : Nat} (hq : q < 2) (hm : m < 16) (hqu : qu = nI q) (hai : ai = nI m) (hI : tj_I RO VO LC LI q m)
    (H : ∀ (tc' : Int32) (TO' : Nat → Int32), tj_To tc' TO' m → post (lv, qu, ai, st, fo, af, bd, tc', oc, ac, B, RC, AC, RO, VO, AS, LC, LI, AL, AN, PA, EX, BF, BN, DI, TO', HO, OR, TD, TV, TW, PF, PT, DN, VA)) : wpX_chooseOrder post (lv, qu, ai, st, fo, af, bd, tc, oc, ac, B, RC, AC, RO, VO, AS, LC, LI, AL, AN, PA, EX, BF, BN, DI, TO, HO, OR, TD, TV, TW, PF, PT, DN, VA) := by
  subst hqu hai
  unfold wpX_chooseOrder
  refine loop_m (fun n (s : Nat × Nat × Nat × (Nat → Int32)) => wX_chooseOrder_12 post lv (nI q) (nI m) st fo af bd oc ac n (nI s.1) (nI s.2.1) (nI s.2.2.1) B RC AC RO VO AS LC LI AL AN PA EX BF BN DI s.2.2.2 HO OR TD TV TW PF PT DN VA)
    (fun s => s.1 < 16 ∧ s.2.1 < 32 ∧ s.2.2.1 + tj_cb s.1 ≤ 4 ∧ (∀ i, s.1.testBit i = true → m.testBit i = true) ∧ (∀ t, t < s.2.2.1 → ∃ i, s.2.2.2 (3 - t) = nI i ∧ i < 4 ∧ m.testBit i = true) ∧ (∀ i, i < 4 → m.testBit i = true → s.1.testBit i = true ∨ ∃ t, t < s.2.2.1 ∧ s.2.2.2 (3 - t) = nI i))
    (fun s => tj_cb s.1) ?_ (m, 0, 0, TO) ⟨hm, (by decide : (0 : Nat) < 32), by have := tj_cb_le m; show 0 + tj_cb m ≤ 4; omega, fun i h => h, fun t ht => absurd ht (Nat.not_lt_zero t), fun i _ h => Or.inl h⟩
  rintro n ⟨L, seen, T, to⟩ ⟨hL, hs, hT, hsub, hto, hcov⟩ hn
  dsimp only at hL hs hT hsub hto hcov hn ⊢
  refine pk_eq L 0 (fun e => ?_) (fun e => ?_)
  · subst e
    have T4 : T ≤ 4 := by omega
    refine pk_loop (fun n k s => wX_chooseOrder_155 post lv (nI q) (nI m) st fo af bd (nI T) oc ac n (nI k) B RC AC RO VO AS LC LI AL AN PA EX BF BN DI s HO OR TD TV TW PF PT DN VA) (fun k s => (∀ j, j < k → s j = to (4 - T + j)) ∧ (∀ j, k ≤ j → s j = to j)) T 0 to (by omega) ⟨fun j hj => absurd hj (by omega), fun _ _ => rfl⟩ ?_ ?_
    · intro n s hs'
      refine pk_le T T (fun _ => H (nI T) s ⟨T, fun t => (s t).toNatClampNeg, rfl, T4, fun t ht => ?_, fun i hi mi => ?_⟩) (fun z => absurd z (by omega))
      · obtain ⟨i, i1, i2, i3⟩ := hto (T - 1 - t) (by omega)
        have e1 : s t = nI i := by rw [hs'.1 t ht, ← i1]; congr 1; omega
        show s t = nI (s t).toNatClampNeg ∧ (s t).toNatClampNeg < 4 ∧ m.testBit (s t).toNatClampNeg = true
        rw [e1, nI_clamp (by omega)]
        exact ⟨rfl, i2, i3⟩
      · rcases hcov i hi mi with z | ⟨t, t1, t2⟩
        · rw [Nat.zero_testBit] at z; exact absurd z (by decide)
        · refine ⟨T - 1 - t, by omega, ?_⟩
          show (s (T - 1 - t)).toNatClampNeg = i
          rw [hs'.1 _ (by omega), show 4 - T + (T - 1 - t) = 3 - t by omega, t2, nI_clamp (by omega)]
    · intro n k s hk hs' hw
      obtain ⟨i, i1, i2, i3⟩ := hto (T - 1 - k) (by omega)
      have e4 : (4 : Int32) - nI T + nI k = nI (4 - T + k) := by
        show nI 4 - nI T + nI k = _
        rw [pk_sub T4, nI_add]
      have e1 : s (4 - T + k) = nI i := by rw [hs'.2 _ (by omega), ← i1]; congr 1; omega
      refine pk_le T k (fun z => absurd z (by omega)) (fun _ => And.intro (pk_in (4 - T + k) 4 (by omega) e4) (And.intro (pk_in k 4 (by omega)) (nm_r (e' := upd s k (nI i)) ?_ (nm_r (nI_1 k) (hw _ ⟨?_, ?_⟩)))))
      · rw [e4, nI_clamp (show 4 - T + k < 2 ^ 31 by omega), nI_clamp (show k < 2 ^ 31 by omega), e1, tj_nar (by omega)]
      · intro j hj
        by_cases ej : j = k
        · rw [ej, pk_us, ← e1, hs'.2 _ (by omega)]
        · rw [pk_un ej]; exact hs'.1 j (by omega)
      · intro j hj
        rw [pk_un (by omega)]
        exact hs'.2 j (by omega)
  · have cpos := tj_cb_pos hL e
    refine pk_loop (fun n' i (s : Int32 × Int32) => wX_chooseOrder_24 post (wX_chooseOrder_12 post lv (nI q) (nI m) st fo af bd oc ac n) (nI L) (nI seen) lv (nI q) (nI m) st fo af bd (nI T) oc ac B RC AC RO VO AS LC LI AL AN PA EX BF BN DI to HO OR TD TV TW PF PT DN VA n' s.1 s.2 (nI i))
      (fun i s => (s.1 = -1 ∧ s.2 = -1 ∧ ∀ j, j < i → L.testBit j = false) ∨ ∃ b r, b < 4 ∧ L.testBit b = true ∧ r < 1000 ∧ s.1 = nI b ∧ s.2 = nI r) 4 0 (-1, -1) (by omega) (Or.inl ⟨rfl, rfl, fun j hj => absurd hj (by omega)⟩) ?_ ?_
    · rintro n' ⟨x3, x4⟩ hs'
      refine pk_le 4 4 (fun _ => ?_) (fun z => absurd z (by omega))
      rcases hs' with ⟨_, _, none⟩ | ⟨b, r, b1, b2, _, b3, _⟩
      · obtain ⟨i, hi⟩ := tj_ne0 e
        exact (tj_tf hi (none i (tj_bit_lt (k := 4) hL hi))).elim
      · dsimp only at b3 ⊢
        rw [b3]
        have e3 : (3 : Int32) - nI T = nI (3 - T) := by
          show nI 3 - nI T = _
          rw [pk_sub (by omega)]
        refine And.intro (pk_in (3 - T) 4 (by omega) e3) (nm_r (e' := upd to (3 - T) (nI b)) (by rw [e3, nI_clamp (by omega), tj_b8 b (by omega)]) (nm_r (nI_1 T) (nm_r (e' := nI (tj_sd L (2 ^ b))) (by rw [tj_shl (by omega), tj_xm]) ?_)))
        rw [tj_i4]
        have ok := tj_I_Q hI b b1 (hsub b b2)
        have crm := tj_cb_rm b1 b2
        refine tj_variablesOfAtom (by omega) ok (nm_r (tj_or _ _) (hn (tj_sd L (2 ^ b), seen ||| tj_vs VO (4 * q + b), T + 1, upd to (3 - T) (nI b)) ⟨tj_sd_lt (k := 4) hL, Nat.or_lt_two_pow (n := 5) hs (tj_vs_lt ok), ?_, ?_, ?_, ?_⟩ ?_))
        · show T + 1 + tj_cb (tj_sd L (2 ^ b)) ≤ 4
          omega
        · intro i hi
          exact hsub i (tj_sd2.mp hi).1
        · intro t ht
          have ht' : t < T + 1 := ht
          show ∃ i, upd to (3 - T) (nI b) (3 - t) = nI i ∧ i < 4 ∧ m.testBit i = true
          by_cases et : t = T
          · rw [et, pk_us]; exact ⟨b, rfl, b1, hsub b b2⟩
          · rw [pk_un (by omega)]; exact hto t (by omega)
        · intro i hi mi
          show (tj_sd L (2 ^ b)).testBit i = true ∨ ∃ t, t < T + 1 ∧ upd to (3 - T) (nI b) (3 - t) = nI i
          by_cases ei : i = b
          · exact Or.inr ⟨T, by omega, by rw [pk_us, ei]⟩
          · rcases hcov i hi mi with z | ⟨t, t1, t2⟩
            · exact Or.inl (tj_sd2.mpr ⟨z, ei⟩)
            · exact Or.inr ⟨t, by omega, by rw [pk_un (by omega), t2]⟩
        · show tj_cb (tj_sd L (2 ^ b)) < tj_cb L
          omega
    · rintro n' i ⟨x3, x4⟩ hi hs' hw'
      dsimp only at hs' hw' ⊢
      refine pk_le 4 i (fun z => absurd z (by omega)) (fun _ => tj_br L i (fun z => nm_r (nI_1 i) (hw' (x3, x4) ?_)) (fun z => ?_))
      · rcases hs' with ⟨a1, a2, none⟩ | b
        · exact Or.inl ⟨a1, a2, lt_s none z⟩
        · exact Or.inr b
      · rw [tj_i4]
        have mi := hsub i z
        have ok := tj_I_Q hI i hi mi
        obtain ⟨en, n16⟩ := tj_I_n hI hi mi
        refine tj_variablesOfAtom (by omega) ok (nm_r (tj_and _ _) (tj_onesInSmall (Nat.lt_of_le_of_lt Nat.and_le_left (tj_vs_lt ok)) (fun k hk => And.intro (pk_in i 4 hi) (nm_r (e' := nI (32 * k + 16 - tj_n LC i)) ?_ ?_))))
        · rw [nI_clamp (by omega), en]
          show nI 32 * nI k + nI 16 - nI (tj_n LC i) = _
          rw [pk_mul, nI_add, pk_sub (by omega)]
        · have good : ∀ r, r < 1000 → (((nI i : Int32), nI r).1 = -1 ∧ ((nI i : Int32), nI r).2 = -1 ∧ ∀ j, j < i + 1 → L.testBit j = false) ∨ ∃ b r', b < 4 ∧ L.testBit b = true ∧ r' < 1000 ∧ ((nI i : Int32), nI r).1 = nI b ∧ ((nI i : Int32), nI r).2 = nI r' :=
            fun r hr => Or.inr ⟨i, r, hi, z, hr, rfl, rfl⟩
          rcases hs' with ⟨a1, a2, none⟩ | ⟨b, r, b1, b2, b3, b4, b5⟩
          · rw [a2]
            exact br_t (tj_m1lt (by omega)) (nm_r (nI_1 i) (hw' (nI i, nI (32 * k + 16 - tj_n LC i)) (good _ (by omega))))
          · rw [b5]
            exact tj_plt (fun _ => nm_r (nI_1 i) (hw' (nI i, nI (32 * k + 16 - tj_n LC i)) (good _ (by omega)))) (fun _ => nm_r (nI_1 i) (hw' (x3, nI r) (Or.inr ⟨b, r, b1, b2, b3, b4, rfl⟩)))
/-- atom i can be taken out of L -/
def tj_can (V : Nat → Nat) (L i : Nat) : Prop := tj_sd L (2 ^ i) = 0 ∨ ∃ j, j < 4 ∧ (tj_sd L (2 ^ i)).testBit j = true ∧ ∀ v, (V i).testBit v = true → ∀ x, x < 4 → (tj_sd L (2 ^ i)).testBit x = true → (V x).testBit v = true → (V j).testBit v = true
/-- all atoms of L can be taken out, always the first that can -/
def tj_gy (V : Nat → Nat) : Nat → Nat → Prop
  | 0 => fun L => L = 0
  | n + 1 => fun L => L = 0 ∨ ∃ i, i < 4 ∧ L.testBit i = true ∧ tj_can V L i ∧ (∀ j, j < i → L.testBit j = true → ¬ tj_can V L j) ∧ tj_gy V n (tj_sd L (2 ^ i))
theorem tj_gy_0 (V : Nat → Nat) (n : Nat) : tj_gy V n 0 := by
  cases n with
  | zero => exact rfl
  | succ n => exact Or.inl rfl
theorem tj_gy_f {V : Nat → Nat} {L i n : Nat} (hi : i < 4) (li : L.testBit i = true) (hc : tj_can V L i) (hf : ∀ j, j < i → L.testBit j = true → ¬ tj_can V L j) : tj_gy V (n + 1) L ↔ tj_gy V n (tj_sd L (2 ^ i)) := by
  constructor
  · rintro (e | ⟨k, k1, k2, k3, k4, k5⟩)
    · rw [e, Nat.zero_testBit] at li; exact absurd li (by decide)
    · have e : k = i := by
        rcases Nat.lt_trichotomy k i with z | z | z
        · exact absurd k3 (hf k z k2)
        · exact z
        · exact absurd hc (k4 i z li)
      subst e
      exact k5
  · exact fun h => Or.inr ⟨i, hi, li, hc, hf, h⟩
theorem tj_gy_n {V : Nat → Nat} {L n : Nat} (hn : L ≠ 0) (hL : L < 16) (hf : ∀ j, j < 4 → L.testBit j = true → ¬ tj_can V L j) : ¬ tj_gy V n L := by
  cases n with
  | zero => exact hn
  | succ n =>
    rintro (e | ⟨k, k1, k2, k3, _⟩)
    · exact hn e
    · exact hf k k1 k2 k3
theorem tj_whereToHang {post : Int32 → Prop} {q L i : Nat} (hq : q < 2) (hL : L < 16) (h : tj_Q RO VO q L) (hi : i < 4) (li : L.testBit i = true)
    (H1 : tj_sd L (2 ^ i) = 0 → post (-1)) (H2 : ¬ tj_can (tj_V VO q) L i → post (-2))
    (Hj : ∀ j, j < 4 → (tj_sd L (2 ^ i)).testBit j = true → (∀ v, (tj_V VO q i).testBit v = true → ∀ x, x < 4 → (tj_sd L (2 ^ i)).testBit x = true → (tj_V VO q x).testBit v = true → (tj_V VO q j).testBit v = true) → post (nI j)) : wpX_whereToHang post (lv, qu, ai, st, fo, af, bd, tc, oc, ac, B, RC, AC, RO, VO, AS, LC, LI, AL, AN, PA, EX, BF, BN, DI, TO, HO, OR, TD, TV, TW, PF, PT, DN, VA) (nI q) (nI L) (nI i) := by
  have hO : tj_sd L (2 ^ i) < 16 := tj_sd_lt (k := 4) hL
  have hQ : tj_Q RO VO q (tj_sd L (2 ^ i)) := fun x hx mx => h x hx (tj_sd2.mp mx).1
  have ok := h i hi li
  unfold wpX_whereToHang
  refine nm_r (e' := nI (tj_sd L (2 ^ i))) (by rw [tj_shl (by omega), tj_xm]) (pk_eq (tj_sd L (2 ^ i)) 0 H1 (fun ne => ?_))
  rw [tj_i4]
  refine tj_variablesOfAtom (by omega) ok (tj_variablesOf hq hO hQ (nm_r (tj_and _ _) ?_))
  have lV := tj_vs_lt ok
  refine pk_loop (σ := Unit) (fun n j _ => wX_whereToHang_38 post (nI q) (nI (tj_sd L (2 ^ i))) (nI (tj_vs VO (4 * q + i) &&& tj_va VO q (tj_sd L (2 ^ i)) 4)) lv qu ai st fo af bd tc oc ac B RC AC RO VO AS LC LI AL AN PA EX BF BN DI TO HO OR TD TV TW PF PT DN VA n (nI j)) (fun j _ => ∀ k, k < j → (tj_sd L (2 ^ i)).testBit k = true → ¬ ∀ v, (tj_V VO q i).testBit v = true → ∀ x, x < 4 → (tj_sd L (2 ^ i)).testBit x = true → (tj_V VO q x).testBit v = true → (tj_V VO q k).testBit v = true) 4 0 () (by omega) (fun k hk => absurd hk (by omega)) ?_ ?_
  · intro n _ hI
    refine pk_le 4 4 (fun _ => H2 ?_) (fun z => absurd z (by omega))
    rintro (z | ⟨j, j1, j2, j3⟩)
    · exact ne z
    · exact hI j j1 j2 j3
  · intro n j _ hj hI hw
    refine pk_le 4 j (fun z => absurd z (by omega)) (fun _ => tj_br (tj_sd L (2 ^ i)) j (fun z => nm_r (nI_1 j) (hw () (lt_s hI (fun y => (tj_tf y z).elim)))) (fun z => ?_))
    rw [tj_i4]
    refine tj_variablesOfAtom (by omega) (hQ j hj z) ?_
    rw [tj_xm]
    have la : tj_vs VO (4 * q + i) &&& tj_va VO q (tj_sd L (2 ^ i)) 4 < 2 ^ 5 := Nat.lt_of_le_of_lt Nat.and_le_left lV
    have l5 := tj_sd_lt (b := tj_vs VO (4 * q + j)) la
    refine tj_pz (fun y => Hj j hj z (fun v hv x hx ox hxv => ?_)) (fun y => nm_r (nI_1 j) (hw () (lt_s hI (fun _ hall => y ((tj_sd0 _ _).mpr (fun v hv => ?_))))))
    · refine (tj_sd0 _ _).mp y v ?_
      rw [Nat.testBit_and, Bool.and_eq_true]
      exact ⟨hv, (tj_va_bit v 4).mpr ⟨x, hx, ox, hxv⟩⟩
    · rw [Nat.testBit_and, Bool.and_eq_true] at hv
      obtain ⟨x, hx, ox, hxv⟩ := (tj_va_bit v 4).mp hv.2
      exact hall v hv.1 x hx ox hxv
/-- findTree's work so far: L is left -/
def tj_K (VO : Nat → Int32) (q m L T : Nat) (TO HO : Nat → Int32) (o : Nat → Nat) : Prop :=
  L < 16 ∧ (∀ i, L.testBit i = true → m.testBit i = true) ∧ T + tj_cb L ≤ 4 ∧ (∀ t, t < T → TO t = nI (o t) ∧ o t < 4 ∧ m.testBit (o t) = true ∧ L.testBit (o t) = false) ∧ (∀ s t, s < T → t < T → o s = o t → s = t) ∧
  (∀ i, i < 4 → m.testBit i = true → L.testBit i = true ∨ ∃ t, t < T ∧ o t = i) ∧
  (∀ t, t < T → (HO (o t) = -1 ∧ ∀ x, x < 4 → ¬ (L.testBit x = true ∨ ∃ s, t < s ∧ s < T ∧ o s = x)) ∨
    ∃ j, j < 4 ∧ HO (o t) = nI j ∧ (L.testBit j = true ∨ ∃ s, t < s ∧ s < T ∧ o s = j) ∧ ∀ v, (tj_V VO q (o t)).testBit v = true → ∀ x, x < 4 → (L.testBit x = true ∨ ∃ s, t < s ∧ s < T ∧ o s = x) → (tj_V VO q x).testBit v = true → (tj_V VO q j).testBit v = true)
/-- what a found tree is -/
def tj_FT (VO : Nat → Int32) (q m : Nat) (tc : Int32) (TO HO : Nat → Int32) : Prop :=
  ∃ (T : Nat) (o p : Nat → Nat), tc = nI T ∧ T ≤ 4 ∧ tj_Tree (tj_V VO q) m T o p ∧ (∀ t, t < T → TO t = nI (o t)) ∧ (∀ t, t + 1 < T → HO (o t) = nI (o (p t))) ∧ (∀ t, t + 1 = T → HO (o t) = -1)
theorem tj_K_end {q m T : Nat} {o : Nat → Nat} (h : tj_K VO q m 0 T TO HO o) : tj_FT VO q m (nI T) TO HO := by
  obtain ⟨_, _, k3, k4, k5, k6, k7⟩ := h
  have ex : ∀ t, ∃ s, t + 1 < T → t < s ∧ s < T ∧ HO (o t) = nI (o s) ∧ ∀ v, (tj_V VO q (o t)).testBit v = true → ∀ x, t < x → x < T → (tj_V VO q (o x)).testBit v = true → (tj_V VO q (o s)).testBit v = true := by
    intro t
    by_cases ht : t + 1 < T
    · rcases k7 t (by omega) with ⟨_, none⟩ | ⟨j, _, j2, j3, j4⟩
      · exact absurd (Or.inr ⟨t + 1, by omega, ht, rfl⟩) (none (o (t + 1)) (k4 (t + 1) ht).2.1)
      · rcases j3 with z | ⟨s, s1, s2, s3⟩
        · rw [Nat.zero_testBit] at z; exact absurd z (by decide)
        · subst s3
          exact ⟨s, fun _ => ⟨s1, s2, j2, fun v hv x x1 x2 hx => j4 v hv (o x) (k4 x x2).2.1 (Or.inr ⟨x, x1, x2, rfl⟩) hx⟩⟩
    · exact ⟨0, fun z => absurd z ht⟩
  obtain ⟨p, hp⟩ := Classical.axiomOfChoice ex
  refine ⟨T, o, p, rfl, by omega, ⟨fun t ht => ⟨(k4 t ht).2.1, (k4 t ht).2.2.1⟩, fun i hi mi => ?_, k5, fun t ht => ⟨(hp t ht).1, (hp t ht).2.1, (hp t ht).2.2.2⟩⟩, fun t ht => (k4 t ht).1, fun t ht => (hp t ht).2.2.1, fun t ht => ?_⟩
  · rcases k6 i hi mi with z | z
    · rw [Nat.zero_testBit] at z; exact absurd z (by decide)
    · exact z
  · rcases k7 t (by omega) with ⟨z, _⟩ | ⟨j, _, _, j3, _⟩
    · exact z
    · rcases j3 with z | ⟨s, s1, s2, _⟩
      · rw [Nat.zero_testBit] at z; exact absurd z (by decide)
      · omega
/-- one more atom is taken out -/
theorem tj_K_add {q m L T i : Nat} {o : Nat → Nat} {y : Int32} (h : tj_K VO q m L T TO HO o) (hi : i < 4) (li : L.testBit i = true)
    (hy : (y = -1 ∧ tj_sd L (2 ^ i) = 0) ∨ ∃ j, j < 4 ∧ y = nI j ∧ (tj_sd L (2 ^ i)).testBit j = true ∧ ∀ v, (tj_V VO q i).testBit v = true → ∀ x, x < 4 → (tj_sd L (2 ^ i)).testBit x = true → (tj_V VO q x).testBit v = true → (tj_V VO q j).testBit v = true) :
    tj_K VO q m (tj_sd L (2 ^ i)) (T + 1) (upd TO T (nI i)) (upd HO i y) (fun t => if t = T then i else o t) := by
  obtain ⟨k1, k2, k3, k4, k5, k6, k7⟩ := h
  have crm := tj_cb_rm hi li
  have oT : ∀ t, t < T → (if t = T then i else o t) = o t := fun t ht => if_neg (by omega)
  have ne : ∀ t, t < T → o t ≠ i := fun t ht e => tj_tf (by rw [e]; exact li) (k4 t ht).2.2.2
  -- the rest behind t is the same set
  have rest : ∀ t, t < T → ∀ x, ((tj_sd L (2 ^ i)).testBit x = true ∨ ∃ s, t < s ∧ s < T + 1 ∧ (if s = T then i else o s) = x) ↔ (L.testBit x = true ∨ ∃ s, t < s ∧ s < T ∧ o s = x) := by
    intro t ht x
    constructor
    · rintro (z | ⟨s, s1, s2, s3⟩)
      · exact Or.inl (tj_sd2.mp z).1
      · by_cases es : s = T
        · rw [if_pos es] at s3; rw [← s3]; exact Or.inl li
        · rw [if_neg es] at s3; exact Or.inr ⟨s, s1, by omega, s3⟩
    · rintro (z | ⟨s, s1, s2, s3⟩)
      · by_cases e : x = i
        · exact Or.inr ⟨T, ht, by omega, by rw [if_pos rfl, e]⟩
        · exact Or.inl (tj_sd2.mpr ⟨z, e⟩)
      · exact Or.inr ⟨s, s1, by omega, by rw [if_neg (by omega)]; exact s3⟩
  have restT : ∀ x, ((tj_sd L (2 ^ i)).testBit x = true ∨ ∃ s, T < s ∧ s < T + 1 ∧ (if s = T then i else o s) = x) ↔ (tj_sd L (2 ^ i)).testBit x = true :=
    fun x => ⟨fun z => z.elim id (fun ⟨s, s1, s2, _⟩ => absurd s1 (by omega)), Or.inl⟩
  refine ⟨tj_sd_lt (k := 4) k1, fun x hx => k2 x (tj_sd2.mp hx).1, by omega, ?_, ?_, ?_, ?_⟩
  · intro t ht
    show upd TO T (nI i) t = nI (if t = T then i else o t) ∧ (if t = T then i else o t) < 4 ∧ m.testBit (if t = T then i else o t) = true ∧ (tj_sd L (2 ^ i)).testBit (if t = T then i else o t) = false
    by_cases et : t = T
    · rw [if_pos et, et, pk_us]
      exact ⟨rfl, hi, k2 i li, tj_nt (fun z => (tj_sd2.mp z).2 rfl)⟩
    · rw [if_neg et, pk_un et]
      obtain ⟨a, b, c, d⟩ := k4 t (by omega)
      exact ⟨a, b, c, tj_nt (fun z => tj_tf (tj_sd2.mp z).1 d)⟩
  · intro s t hs ht e
    have e' : (if s = T then i else o s) = (if t = T then i else o t) := e
    by_cases es : s = T
    · by_cases et : t = T
      · omega
      · rw [if_pos es, if_neg et] at e'; exact absurd e'.symm (ne t (by omega))
    · by_cases et : t = T
      · rw [if_neg es, if_pos et] at e'; exact absurd e' (ne s (by omega))
      · rw [if_neg es, if_neg et] at e'; exact k5 s t (by omega) (by omega) e'
  · intro x hx mx
    show (tj_sd L (2 ^ i)).testBit x = true ∨ ∃ t, t < T + 1 ∧ (if t = T then i else o t) = x
    by_cases e : x = i
    · exact Or.inr ⟨T, by omega, by rw [if_pos rfl, e]⟩
    · rcases k6 x hx mx with z | ⟨t, t1, t2⟩
      · exact Or.inl (tj_sd2.mpr ⟨z, e⟩)
      · exact Or.inr ⟨t, by omega, by rw [oT t t1]; exact t2⟩
  · intro t ht
    show (upd HO i y (if t = T then i else o t) = -1 ∧ ∀ x, x < 4 → ¬ ((tj_sd L (2 ^ i)).testBit x = true ∨ ∃ s, t < s ∧ s < T + 1 ∧ (if s = T then i else o s) = x)) ∨
      ∃ j, j < 4 ∧ upd HO i y (if t = T then i else o t) = nI j ∧ ((tj_sd L (2 ^ i)).testBit j = true ∨ ∃ s, t < s ∧ s < T + 1 ∧ (if s = T then i else o s) = j) ∧ ∀ v, (tj_V VO q (if t = T then i else o t)).testBit v = true → ∀ x, x < 4 → ((tj_sd L (2 ^ i)).testBit x = true ∨ ∃ s, t < s ∧ s < T + 1 ∧ (if s = T then i else o s) = x) → (tj_V VO q x).testBit v = true → (tj_V VO q j).testBit v = true
    by_cases et : t = T
    · subst et
      rw [if_pos rfl, pk_us]
      rcases hy with ⟨y1, y2⟩ | ⟨j, j1, j2, j3, j4⟩
      · refine Or.inl ⟨y1, fun x _ z => ?_⟩
        rw [restT x, y2, Nat.zero_testBit] at z
        exact absurd z (by decide)
      · refine Or.inr ⟨j, j1, j2, (restT j).mpr j3, fun v hv x hx hr hxv => j4 v hv x hx ((restT x).mp hr) hxv⟩
    · have ht' : t < T := by omega
      rw [if_neg et, pk_un (ne t ht')]
      rcases k7 t ht' with ⟨a, b⟩ | ⟨j, j1, j2, j3, j4⟩
      · exact Or.inl ⟨a, fun x hx z => b x hx ((rest t ht' x).mp z)⟩
      · exact Or.inr ⟨j, j1, j2, (rest t ht' j).mpr j3, fun v hv x hx hr hxv => j4 v hv x hx ((rest t ht' x).mp hr) hxv⟩
theorem tj_findTree {post : Int32 → St1 → Prop} {q m : Nat} (hq : q < 2) (hm : m < 16) (h : tj_Q RO VO q m)
    (H1 : tj_gy (tj_V VO q) 4 m → ∀ (tc' : Int32) (TO' : Nat → Int32) (HO' : Nat → Int32), tj_FT VO q m tc' TO' HO' → post 1 (lv, qu, ai, st, fo, af, bd, tc', oc, ac, B, RC, AC, RO, VO, AS, LC, LI, AL, AN, PA, EX, BF, BN, DI, TO', HO', OR, TD, TV, TW, PF, PT, DN, VA)) (H0 : ¬ tj_gy (tj_V VO q) 4 m → ∀ (tc' : Int32) (TO' : Nat → Int32) (HO' : Nat → Int32), post 0 (lv, qu, ai, st, fo, af, bd, tc', oc, ac, B, RC, AC, RO, VO, AS, LC, LI, AL, AN, PA, EX, BF, BN, DI, TO', HO', OR, TD, TV, TW, PF, PT, DN, VA)) : wpX_findTree post (lv, qu, ai, st, fo, af, bd, tc, oc, ac, B, RC, AC, RO, VO, AS, LC, LI, AL, AN, PA, EX, BF, BN, DI, TO, HO, OR, TD, TV, TW, PF, PT, DN, VA) (nI q) (nI m) := by
  unfold wpX_findTree
  refine loop_m (fun n (s : Nat × Nat × Nat × (Nat → Int32) × (Nat → Int32)) => wX_findTree_10 post (nI q) lv qu ai st fo af bd oc ac n (nI s.1) (nI s.2.1) (nI s.2.2.1) B RC AC RO VO AS LC LI AL AN PA EX BF BN DI s.2.2.2.1 s.2.2.2.2 OR TD TV TW PF PT DN VA)
    (fun s => s.2.1 ≤ 1 ∧ (∃ o, tj_K VO q m s.1 s.2.2.1 s.2.2.2.1 s.2.2.2.2 o) ∧ (tj_gy (tj_V VO q) 4 m ↔ tj_gy (tj_V VO q) (4 - s.2.2.1) s.1) ∧ (s.2.1 = 0 → ∀ j, j < 4 → s.1.testBit j = true → ¬ tj_can (tj_V VO q) s.1 j)) (fun s => 2 * tj_cb s.1 + s.2.1) ?_ (m, 1, 0, TO, HO)
    ⟨Nat.le_refl 1, ⟨fun _ => 0, hm, fun _ z => z, by have := tj_cb_le m; show 0 + tj_cb m ≤ 4; omega, fun t ht => absurd ht (Nat.not_lt_zero t), fun s t hs => absurd hs (Nat.not_lt_zero s), fun i _ mi => Or.inl mi, fun t ht => absurd ht (Nat.not_lt_zero t)⟩, Iff.rfl, fun z => absurd (show (1 : Nat) = 0 from z) (by decide)⟩
  rintro n ⟨L, g, T, to, ho⟩ ⟨hg, ⟨o, hK⟩, hgy, hg0⟩ hn
  dsimp only at hg hK hgy hg0 hn ⊢
  have hL : L < 16 := hK.1
  refine pk_eq L 0 (fun e => ?_) (fun ne => pk_eq g 0 (fun e => ?_) (fun e => ?_))
  · subst e
    exact br_t rfl (H1 (hgy.mpr (tj_gy_0 _ _)) (nI T) to ho (tj_K_end hK))
  · exact br_f (nI_ne0 (by omega) (by omega)) (H0 (fun z => tj_gy_n ne hL (hg0 e) (hgy.mp z)) (nI T) to ho)
  · have g1 : g = 1 := by omega
    subst g1
    refine pk_loop (fun n' i (s : Nat × Nat × Nat × (Nat → Int32) × (Nat → Int32)) => wX_findTree_25 post (wX_findTree_10 post (nI q) lv qu ai st fo af bd oc ac n) (nI q) lv qu ai st fo af bd oc ac n' (nI s.1) (nI s.2.1) (nI i) (nI s.2.2.1) B RC AC RO VO AS LC LI AL AN PA EX BF BN DI s.2.2.2.1 s.2.2.2.2 OR TD TV TW PF PT DN VA)
      (fun i s => ((∃ o, tj_K VO q m s.1 s.2.2.1 s.2.2.2.1 s.2.2.2.2 o) ∧ (tj_gy (tj_V VO q) 4 m ↔ tj_gy (tj_V VO q) (4 - s.2.2.1) s.1)) ∧ s.2.1 ≤ 1 ∧ 2 * tj_cb s.1 + s.2.1 < 2 * tj_cb L + 1 ∧ (s.2.1 = 0 → ∀ j, j < i → s.1.testBit j = true → ¬ tj_can (tj_V VO q) s.1 j)) 4 0 (L, 0, T, to, ho) (by omega) ⟨⟨⟨o, hK⟩, hgy⟩, Nat.zero_le 1, by show 2 * tj_cb L + 0 < 2 * tj_cb L + 1; omega, fun _ j hj => absurd hj (by omega)⟩ ?_ ?_
    · rintro n' ⟨L', g', T', to', ho'⟩ ⟨⟨k1, k1'⟩, k2, k3, k4⟩
      exact pk_le 4 4 (fun _ => hn (L', g', T', to', ho') ⟨k2, k1, k1', k4⟩ k3) (fun z => absurd z (by omega))
    · rintro n' i ⟨L', g', T', to', ho'⟩ hi ⟨⟨k1, k1'⟩, k2, k3, k4⟩ hw'
      dsimp only at k1 k1' k2 k3 k4 hw' ⊢
      refine pk_le 4 i (fun z => absurd z (by omega)) (fun _ => pk_eq g' 0 (fun e => ?_) (fun e => hn (L', g', T', to', ho') ⟨k2, k1, k1', fun z => absurd z e⟩ k3))
      subst e
      obtain ⟨o', hK'⟩ := k1
      have hL' := hK'.1
      have none := k4 rfl
      refine tj_br L' i (fun z => nm_r (nI_1 i) (hw' (L', 0, T', to', ho') ⟨⟨⟨o', hK'⟩, k1'⟩, Nat.zero_le 1, k3, fun _ => lt_s none (fun y => (tj_tf y z).elim)⟩)) (fun z => ?_)
      have T4 : T' < 4 := by
        have := tj_cb_rm hi z
        have := hK'.2.2.1
        omega
      have hQ : tj_Q RO VO q L' := fun x hx lx => h x hx (hK'.2.1 x lx)
      have fin : ∀ y : Int32, y.toInt8.toInt32 = y → ((y = -1 ∧ tj_sd L' (2 ^ i) = 0) ∨ ∃ j, j < 4 ∧ y = nI j ∧ (tj_sd L' (2 ^ i)).testBit j = true ∧ ∀ v, (tj_V VO q i).testBit v = true → ∀ x, x < 4 → (tj_sd L' (2 ^ i)).testBit x = true → (tj_V VO q x).testBit v = true → (tj_V VO q j).testBit v = true) →
          vp_in (nI T') 4 ∧ ∀ a16, a16 = upd to' (nI T').toNatClampNeg (nI i).toInt8.toInt32 → (vp_in (nI i) 4 ∧ ∀ a17, a17 = upd ho' (nI i).toNatClampNeg y.toInt8.toInt32 → ∀ f, f = nI T' + 1 → ∀ x3, x3 = nI L' &&& (((1 : Int32) <<< (nI i &&& 31)) ^^^ (-1)) → ∀ x5, x5 = nI i + 1 → wX_findTree_25 post (wX_findTree_10 post (nI q) lv qu ai st fo af bd oc ac n) (nI q) lv qu ai st fo af bd oc ac n' x3 1 x5 f B RC AC RO VO AS LC LI AL AN PA EX BF BN DI a16 a17 OR TD TV TW PF PT DN VA) := by
        intro y ey hy
        have can : tj_can (tj_V VO q) L' i := by
          rcases hy with ⟨_, y2⟩ | ⟨j, j1, _, j3, j4⟩
          · exact Or.inl y2
          · exact Or.inr ⟨j, j1, j3, j4⟩
        refine And.intro (pk_in T' 4 T4) (nm_r (e' := upd to' T' (nI i)) (by rw [nI_clamp (by omega), tj_b8 i (by omega)]) (And.intro (pk_in i 4 hi) (nm_r (e' := upd ho' i y) (by rw [nI_clamp (by omega), ey]) (nm_r (nI_1 T') (nm_r (e' := nI (tj_sd L' (2 ^ i))) (by rw [tj_shl (by omega), tj_xm]) (nm_r (nI_1 i) (hw' (tj_sd L' (2 ^ i), 1, T' + 1, upd to' T' (nI i), upd ho' i y) ⟨⟨⟨_, tj_K_add hK' hi z hy⟩, ?_⟩, Nat.le_refl 1, ?_, fun y => absurd (show (1 : Nat) = 0 from y) (by decide)⟩)))))))
        · show tj_gy (tj_V VO q) 4 m ↔ tj_gy (tj_V VO q) (4 - (T' + 1)) (tj_sd L' (2 ^ i))
          rw [k1', show 4 - T' = (4 - (T' + 1)) + 1 by omega]
          exact tj_gy_f hi z can none
        · show 2 * tj_cb (tj_sd L' (2 ^ i)) + 1 < 2 * tj_cb L + 1
          have := tj_cb_rm hi z
          omega
      refine tj_whereToHang hq hL' hQ hi z (fun e => br_f (by decide) (fin (-1) (by decide) (Or.inl ⟨rfl, e⟩))) (fun nc => br_t rfl (nm_r (nI_1 i) (hw' (L', 0, T', to', ho') ⟨⟨⟨o', hK'⟩, k1'⟩, Nat.zero_le 1, k3, fun _ => lt_s none (fun _ => nc)⟩))) (fun j hj oj hv => br_f ?_ (fin (nI j) (tj_b8 j (by omega)) (Or.inr ⟨j, hj, rfl, oj, hv⟩)))
      intro e
      have := nI_pos (n := j) (by omega)
      rw [e] at this
      exact this (by decide)
end
end
section
/-! ===== reduction along a tree ===== -/
section
variable {lv qu ai st fo af bd tc oc ac : Int32} {B AN PA EX : Nat → Int64} {RC AC RO VO AS LC LI AL BF BN DI TO HO OR TD TV TW PF PT DN VA : Nat → Int32}
theorem tj_keyag {q i k j l : Nat} {c : Nat} (hV : tj_V VO q i < 32) (hc : ∀ v, c.testBit v = true ↔ (tj_V VO q i).testBit v = true ∧ (tj_V VO q j).testBit v = true) :
    tj_key c (tj_R RO VO LI q j l) 5 = tj_key c (tj_R RO VO LI q i k) 5 ↔ tj_ag (tj_V VO q) (tj_R RO VO LI q) i k j l := by
  constructor
  · intro e v h1 h2
    exact (tj_key_inj 5 (fun v _ => tj_R_lt _ _ _ _ _ _ _) (fun v _ => tj_R_lt _ _ _ _ _ _ _) e v (tj_bit_lt (k := 5) hV h1) ((hc v).mpr ⟨h1, h2⟩)).symm
  · intro e
    exact tj_key_congr 5 (fun v _ hv => (e v ((hc v).mp hv).1 ((hc v).mp hv).2).symm)
theorem tj_keepPartners {post : St1 → Prop} {q m i j : Nat} (hq : q < 2) (hqu : qu = nI q) (hI : tj_I RO VO LC LI q m) (hL : tj_L AL m) (hi : i < 4) (mi : m.testBit i = true) (hj : j < 4) (mj : m.testBit j = true) (hij : i ≠ j)
    (H : ∀ (AL' : Nat → Int32) (BF' : Nat → Int32) (BN' : Nat → Int32), tj_L AL' m → tj_flt (tj_V VO q) (tj_n LC) (tj_R RO VO LI q) (tj_av AL) (tj_av AL') i j → post (lv, qu, ai, st, fo, af, bd, tc, oc, ac, B, RC, AC, RO, VO, AS, LC, LI, AL', AN, PA, EX, BF', BN', DI, TO, HO, OR, TD, TV, TW, PF, PT, DN, VA)) : wpX_keepPartners post (lv, qu, ai, st, fo, af, bd, tc, oc, ac, B, RC, AC, RO, VO, AS, LC, LI, AL, AN, PA, EX, BF, BN, DI, TO, HO, OR, TD, TV, TW, PF, PT, DN, VA) (nI i) (nI j) := by
  subst hqu
  obtain ⟨ok, _, rows⟩ := hI i hi mi
  obtain ⟨en, n16⟩ := tj_I_n hI hi mi
  obtain ⟨ea, a16⟩ := tj_L_e hL hi mi
  have okj := tj_I_Q hI j hj mj
  have ci : (nI i).toNatClampNeg = i := nI_clamp (by omega)
  have p := pk_in (x := nI i) i 4 hi
  have hc : ∀ v, (tj_V VO q i &&& tj_V VO q j).testBit v = true ↔ (tj_V VO q i).testBit v = true ∧ (tj_V VO q j).testBit v = true := fun v => by rw [Nat.testBit_and, Bool.and_eq_true]
  have s32 : tj_V VO q i &&& tj_V VO q j < 32 := Nat.lt_of_le_of_lt Nat.and_le_left (tj_vs_lt ok)
  unfold wpX_keepPartners
  refine nm_r (tj_i4 q i) (tj_variablesOfAtom (by omega) ok ?_)
  rw [tj_i4]
  refine tj_variablesOfAtom (by omega) okj (nm_r (e' := nI (tj_V VO q i &&& tj_V VO q j)) (tj_and _ _) ?_)
  refine tj_fillBuckets hq rfl hI hL hj mj (fun v hv => ((hc v).mp hv).2) (fun BF' BN' hBF _ => ?_)
  refine pk_loop (fun n k s => wX_keepPartners_39 post (nI i) (nI (4 * q + i)) (nI (tj_V VO q i &&& tj_V VO q j)) lv (nI q) ai st fo af bd tc oc ac n (nI k) B RC AC RO VO AS LC LI s AN PA EX BF' BN' DI TO HO OR TD TV TW PF PT DN VA)
    (fun k s => (∀ x, x ≠ i → s x = AL x) ∧ ∃ a, a < 65536 ∧ s i = nI a ∧ ∀ k', a.testBit k' = true ↔ tj_av AL i k' ∧ (k' < k → ∃ l, l < tj_n LC j ∧ tj_av AL j l ∧ tj_ag (tj_V VO q) (tj_R RO VO LI q) i k' j l)) (tj_n LC i) 0 AL (by omega)
    ⟨fun _ _ => rfl, _, a16, ea, fun k' => ⟨fun z => ⟨z, fun y => absurd y (by omega)⟩, fun z => z.1⟩⟩ ?_ ?_
  · rintro n s ⟨h1, a, h2, h3, h4⟩
    refine And.intro p ?_
    rw [ci, en]
    refine tj_ple (fun _ => H s BF' BN' (fun x hx mx => ?_) ⟨fun x k hx => ?_, fun k hk => ?_⟩) (fun z => absurd z (by omega))
    · by_cases e : x = i
      · rw [e]; exact ⟨a, h2, h3⟩
      · rw [h1 x e]; exact hL x hx mx
    · unfold tj_av
      rw [h1 x hx]
    · show (s i).toNatClampNeg.testBit k = true ↔ _
      rw [h3, nI_clamp (by omega), h4 k]
      exact and_congr_right (fun _ => ⟨fun z => z hk, fun z _ => z⟩)
  · rintro n k s hk ⟨h1, a, h2, h3, h4⟩ hw
    refine And.intro p ?_
    rw [ci, en]
    refine tj_ple (fun z => absurd z (by omega)) (fun _ => And.intro (pk_in _ 64 (by omega) (tj_i16 i k)) ?_)
    obtain ⟨r1, r2, r3⟩ := rows k hk
    have rb := tj_rw_b (tj_rel RO (4 * q + i))
    rw [tj_i16, nI_clamp (show 16 * i + k < 2 ^ 31 by omega), r1]
    have k125 : tj_key (tj_V VO q i &&& tj_V VO q j) (tj_R RO VO LI q i k) 5 < 125 := tj_key_125 ok (fun v hv => ((hc v).mp hv).1) (fun v => tj_R_lt _ _ _ _ _ _ _)
    refine tj_keyOfRow (by omega) ok (by omega) s32 (fun v hv => ((hc v).mp hv).1) (And.intro (pk_in _ 125 k125) ?_)
    have cx : (nI (tj_key (tj_V VO q i &&& tj_V VO q j) (tj_ra RO VO (4 * q + i) (tj_ro LI i k)) 5)).toNatClampNeg = tj_key (tj_V VO q i &&& tj_V VO q j) (tj_R RO VO LI q i k) 5 := nI_clamp (show tj_key (tj_V VO q i &&& tj_V VO q j) (tj_R RO VO LI q i k) 5 < 2 ^ 31 by omega)
    rw [cx, hBF _ k125]
    have part : (∃ l, l < tj_n LC j ∧ tj_av AL j l ∧ tj_ag (tj_V VO q) (tj_R RO VO LI q) i k j l) ↔ ∃ l, l < tj_n LC j ∧ tj_bk RO VO LI AL q j (tj_V VO q i &&& tj_V VO q j) (tj_key (tj_V VO q i &&& tj_V VO q j) (tj_R RO VO LI q i k) 5) l :=
      ⟨fun ⟨l, l1, l2, l3⟩ => ⟨l, l1, l2, (tj_keyag (tj_vs_lt ok) hc).mpr l3⟩, fun ⟨l, l1, l2⟩ => ⟨l, l1, l2.1, (tj_keyag (tj_vs_lt ok) hc).mp l2.2⟩⟩
    obtain ⟨_, nj16⟩ := tj_I_n hI hj mj
    rcases tj_pv_c (tj_bk RO VO LI AL q j (tj_V VO q i &&& tj_V VO q j) (tj_key (tj_V VO q i &&& tj_V VO q j) (tj_R RO VO LI q i k) 5)) (tj_n LC j) with ⟨e, none⟩ | ⟨l, l1, l2, l3, _⟩
    · rw [e]
      refine br_f (by decide) (And.intro p (And.intro p (nm_r (e' := upd s i (nI (tj_sd a (2 ^ k)))) (by rw [h3, tj_shl (by omega), tj_xm]) (nm_r (nI_1 k) (hw _ ⟨fun x hx => (pk_un hx).trans (h1 x hx), tj_sd a (2 ^ k), tj_sd_lt (k := 16) h2, pk_us, fun k' => ?_⟩)))))
      rw [tj_sd2, h4 k']
      constructor
      · rintro ⟨⟨b1, b2⟩, b3⟩
        exact ⟨b1, fun b4 => b2 (by omega)⟩
      · rintro ⟨b1, b2⟩
        refine ⟨⟨b1, fun b4 => b2 (by omega)⟩, fun e' => ?_⟩
        subst e'
        obtain ⟨l, l1, l2⟩ := part.mp (b2 (by omega))
        exact none l l1 l2
    · rw [l3]
      refine br_t (nI_pos' (by omega)) (nm_r (nI_1 k) (hw s ⟨h1, a, h2, h3, fun k' => ?_⟩))
      rw [h4 k']
      refine and_congr_right (fun _ => ⟨fun b b4 => ?_, fun b b4 => b (by omega)⟩)
      by_cases e' : k' = k
      · subst e'; exact part.mpr ⟨l, l1, l2⟩
      · exact b (by omega)
/-- what reduction keeps: a is what was alive before -/
def tj_Kp (V n : Nat → Nat) (R : Nat → Nat → Nat → Nat) (a b : Nat → Nat → Prop) (m : Nat) : Prop :=
  (∀ i k, k < n i → b i k → a i k) ∧ ∀ s : Nat → Nat, tj_Sat V n R a m s → ∀ i, i < 4 → m.testBit i = true → ∀ k, k < n i → a i k → (∀ v, (V i).testBit v = true → s v = R i k v) → b i k
theorem tj_Kp_sat {V n : Nat → Nat} {R : Nat → Nat → Nat → Nat} {a b : Nat → Nat → Prop} {m : Nat} (h : tj_Kp V n R a b m) (s : Nat → Nat) : tj_Sat V n R b m s ↔ tj_Sat V n R a m s := by
  constructor
  · exact fun hs i hi mi => tj_P_mono (fun k hk => h.1 i k hk) (hs i hi mi)
  · intro hs i hi mi
    obtain ⟨k, k1, k2, k3⟩ := hs i hi mi
    exact ⟨k, k1, h.2 s hs i hi mi k k1 k2 k3, k3⟩
theorem tj_Kp_step {V n : Nat → Nat} {R : Nat → Nat → Nat → Nat} {a b c : Nat → Nat → Prop} {m i j : Nat} (h : tj_Kp V n R a b m) (hf : tj_flt V n R b c i j) (hj : j < 4) (mj : m.testBit j = true) : tj_Kp V n R a c m := by
  refine ⟨fun x k hk hc => h.1 x k hk (tj_flt_sub hf hk hc), fun s hs x hx mx k hk ha hv => ?_⟩
  have hb := h.2 s hs x hx mx k hk ha hv
  by_cases e : x = i
  · subst e
    obtain ⟨l, l1, l2, l3⟩ := (tj_Kp_sat h s).mpr hs j hj mj
    exact (hf.2 k hk).mpr ⟨hb, l, l1, l2, fun v h1 h2 => by rw [← hv v h1, l3 v h2]⟩
  · exact (hf.1 x k e).mpr hb
/-- what is alive at the end: just the rows of some choice -/
def tj_Us (V n : Nat → Nat) (R : Nat → Nat → Nat → Nat) (a b : Nat → Nat → Prop) (m : Nat) : Prop :=
  ∀ i, i < 4 → m.testBit i = true → ∀ k, k < n i → (b i k ↔ a i k ∧ ∃ s : Nat → Nat, (∀ v, s v < 5) ∧ tj_Sat V n R a m s ∧ ∀ v, (V i).testBit v = true → s v = R i k v)
theorem tj_reduceTree {post : St1 → Prop} {q m : Nat} (hq : q < 2) (hqu : qu = nI q) (hI : tj_I RO VO LC LI q m) (hL : tj_L AL m) (hF : tj_FT VO q m tc TO HO)
    (H : ∀ (AL' : Nat → Int32) (BF' : Nat → Int32) (BN' : Nat → Int32), tj_L AL' m → (∀ s, tj_Sat (tj_V VO q) (tj_n LC) (tj_R RO VO LI q) (tj_av AL') m s ↔ tj_Sat (tj_V VO q) (tj_n LC) (tj_R RO VO LI q) (tj_av AL) m s) → tj_Us (tj_V VO q) (tj_n LC) (tj_R RO VO LI q) (tj_av AL) (tj_av AL') m → post (lv, qu, ai, st, fo, af, bd, tc, oc, ac, B, RC, AC, RO, VO, AS, LC, LI, AL', AN, PA, EX, BF', BN', DI, TO, HO, OR, TD, TV, TW, PF, PT, DN, VA)) : wpX_reduceTree post (lv, qu, ai, st, fo, af, bd, tc, oc, ac, B, RC, AC, RO, VO, AS, LC, LI, AL, AN, PA, EX, BF, BN, DI, TO, HO, OR, TD, TV, TW, PF, PT, DN, VA) := by
  obtain ⟨T, o, p, rfl, T4, hT, hTO, hH, hH1⟩ := hF
  subst hqu
  have oo := hT.1
  have hinj := hT.2.2.1
  have hp := hT.2.2.2
  unfold wpX_reduceTree
  refine pk_loop (fun n t (s : (Nat → Int32) × (Nat → Int32) × (Nat → Int32)) => wX_reduceTree_2 post n (nI t) lv (nI q) ai st fo af bd (nI T) oc ac B RC AC RO VO AS LC LI s.1 AN PA EX s.2.1 s.2.2 DI TO HO OR TD TV TW PF PT DN VA)
    (fun t s => tj_L s.1 m ∧ tj_Kp (tj_V VO q) (tj_n LC) (tj_R RO VO LI q) (tj_av AL) (tj_av s.1) m ∧ tj_C (tj_V VO q) (tj_n LC) (tj_R RO VO LI q) (tj_av s.1) T o p t) T 0 (AL, BF, BN) (by omega) ⟨hL, ⟨fun _ _ _ h => h, fun _ _ _ _ _ _ _ h _ => h⟩, fun s hs => absurd hs (Nat.not_lt_zero s)⟩ ?_ ?_
  · rintro n ⟨al, bf, bn⟩ ⟨hl, hk, hc⟩
    dsimp only at hl hk hc ⊢
    refine pk_le T T (fun _ => nm_r (tj_sm1 T) ?_) (fun z => absurd z (by omega))
    refine loop_m (fun n (s : Nat × (Nat → Int32) × (Nat → Int32) × (Nat → Int32)) => wX_reduceTree_50 post n (nI s.1 + (-1)) lv (nI q) ai st fo af bd (nI T) oc ac B RC AC RO VO AS LC LI s.2.1 AN PA EX s.2.2.1 s.2.2.2 DI TO HO OR TD TV TW PF PT DN VA)
      (fun s => s.1 ≤ T ∧ tj_L s.2.1 m ∧ tj_Kp (tj_V VO q) (tj_n LC) (tj_R RO VO LI q) (tj_av AL) (tj_av s.2.1) m ∧ tj_C (tj_V VO q) (tj_n LC) (tj_R RO VO LI q) (tj_av s.2.1) T o p T ∧ tj_D (tj_V VO q) (tj_n LC) (tj_R RO VO LI q) (tj_av s.2.1) T o p s.1) (fun s => s.1) ?_ (T, al, bf, bn) ⟨Nat.le_refl _, hl, hk, hc, fun s h1 h2 => absurd (show T ≤ s from h1) (by omega)⟩
    rintro n ⟨t, al', bf', bn'⟩ ⟨ht, hl', hk', hc', hd'⟩ hn
    dsimp only at ht hl' hk' hc' hd' hn ⊢
    cases t with
    | zero =>
      refine br_t (by decide) (H al' bf' bn' hl' (tj_Kp_sat hk') (fun i hi mi k hk2 => ⟨fun z => ⟨hk'.1 i k hk2 z, ?_⟩, fun ⟨z, s, s1, s2, s3⟩ => hk'.2 s s2 i hi mi k hk2 z s3⟩))
      obtain ⟨s, s1, s2, s3⟩ := tj_full' (fun i k v => tj_R_lt _ _ _ _ _ _ _) hT hc' hd' hi mi hk2 z
      exact ⟨s, s1, (tj_Kp_sat hk' s).mp s2, s3⟩
    | succ t =>
      obtain ⟨o1, o2⟩ := oo t (by omega)
      rw [pk_m1]
      refine br_f (nI_pos (by omega)) (And.intro (pk_in t 4 (by omega)) (nm_r (e' := nI (o t)) (by rw [nI_clamp (by omega)]; exact hTO t (by omega)) (And.intro (pk_in (o t) 4 o1) ?_)))
      rw [nI_clamp (show o t < 2 ^ 31 by omega)]
      by_cases hlast : t + 1 < T
      · obtain ⟨p1, p2, _⟩ := hp t hlast
        obtain ⟨q1, q2⟩ := oo (p t) p2
        rw [hH t hlast]
        refine br_f (nI_pos (by omega)) (And.intro (pk_in (o t) 4 o1) (tj_keepPartners hq rfl hI hl' o1 o2 q1 q2 (fun e => absurd (hinj t (p t) (by omega) p2 e) (by omega)) (fun AL2 BF2 BN2 hl2 hf => nm_e (hn (t, AL2, BF2, BN2) ?_ (by show t < t + 1; omega)))))
        have cd := tj_CD_step hT hlast hc' hd' hf
        exact ⟨by show t ≤ T; omega, hl2, tj_Kp_step hk' hf q1 q2, cd.1, cd.2⟩
      · rw [hH1 t (by omega)]
        refine br_t (by decide) (nm_e (hn (t, al', bf', bn') ⟨by show t ≤ T; omega, hl', hk', hc', fun s h1 h2 => hd' s ?_ h2⟩ (by show t < t + 1; omega)))
        have h1' : t ≤ s := h1
        omega
  · rintro n t ⟨al, bf, bn⟩ ht ⟨hl, hk, hc⟩ hw
    dsimp only at hl hk hc hw ⊢
    obtain ⟨o1, o2⟩ := oo t ht
    refine pk_le T t (fun z => absurd z (by omega)) (fun _ => And.intro (pk_in t 4 (by omega)) (nm_r (e' := nI (o t)) (by rw [nI_clamp (by omega)]; exact hTO t ht) (And.intro (pk_in (o t) 4 o1) ?_)))
    rw [nI_clamp (show o t < 2 ^ 31 by omega)]
    by_cases hlast : t + 1 < T
    · obtain ⟨p1, p2, _⟩ := hp t hlast
      obtain ⟨q1, q2⟩ := oo (p t) p2
      rw [hH t hlast]
      exact br_f (nI_pos (by omega)) (And.intro (pk_in (o t) 4 o1) (tj_keepPartners hq rfl hI hl q1 q2 o1 o2 (fun e => absurd (hinj (p t) t p2 (by omega) e) (by omega)) (fun AL2 BF2 BN2 hl2 hf => nm_r (nI_1 t) (hw (AL2, BF2, BN2) ⟨hl2, tj_Kp_step hk hf o1 o2, tj_C_step hT hlast hc hf⟩))))
    · rw [hH1 t (by omega)]
      refine br_t (by decide) (nm_r (nI_1 t) (hw (al, bf, bn) ⟨hl, hk, fun s h1 h2 => hc s ?_ h2⟩))
      omega
end
end
section
/-! ===== tries: what they are, and what is read of them ===== -/
section
variable {lv qu ai st fo af bd tc oc ac : Int32} {B AN PA EX : Nat → Int64} {RC AC RO VO AS LC LI AL BF BN DI TO HO OR TD TV TW PF PT DN VA : Nat → Int32}
theorem tj_ct_inj {N : Nat} {o : Nat → Nat} : ∀ (p : Nat → Prop), (∀ j, j < N → o j < 5) → (∀ s t, s < N → t < N → o s = o t → s = t) → tj_ct (fun j => p (o j)) N ≤ tj_ct p 5 := by
  induction N with
  | zero => intro p _ _; exact Nat.zero_le _
  | succ N ih =>
    intro p h5 hinj
    rcases tj_ct_cases (fun j => p (o j)) N with ⟨a, b⟩ | ⟨a, b⟩
    · have i := ih (fun x => p x ∧ x ≠ o N) (fun j hj => h5 j (by omega)) (fun s t hs ht e => hinj s t (by omega) (by omega) e)
      have c : tj_ct (fun j => p (o j)) N = tj_ct (fun j => p (o j) ∧ o j ≠ o N) N := tj_ct_congr (fun j hj => ⟨fun z => ⟨z, fun e => absurd (hinj j N (by omega) (by omega) e) (by omega)⟩, fun z => z.1⟩)
      have r := tj_ct_rm (p := p) (h5 N (by omega)) a
      rw [b, c]
      omega
    · rw [b]
      exact ih p (fun j hj => h5 j (by omega)) (fun s t hs ht e => hinj s t (by omega) (by omega) e)
/-- the order of the variables: N of them, the first C asked -/
def tj_Or (OR : Nat → Int32) (oc ac : Int32) (w va N C : Nat) (o : Nat → Nat) : Prop :=
  oc = nI N ∧ ac = nI C ∧ N ≤ 5 ∧ C ≤ N ∧ (∀ j, j < N → OR j = nI (o j) ∧ o j < 5) ∧ (∀ s t, s < N → t < N → o s = o t → s = t) ∧ (∀ v, va.testBit v = true ↔ ∃ j, j < N ∧ o j = v) ∧ (∀ j, j < N → (w.testBit (o j) = true ↔ j < C))
/-- how many of the first p variables of the order an atom has -/
noncomputable def tj_e (V : Nat) (o : Nat → Nat) (p : Nat) : Nat := tj_ct (fun j => V.testBit (o j) = true) p
theorem tj_e_t {V p : Nat} {o : Nat → Nat} (h : V.testBit (o p) = true) : tj_e V o (p + 1) = tj_e V o p + 1 := tj_ct_t (p := fun j => V.testBit (o j) = true) h
theorem tj_e_f {V p : Nat} {o : Nat → Nat} (h : V.testBit (o p) = false) : tj_e V o (p + 1) = tj_e V o p := tj_ct_f (p := fun j => V.testBit (o j) = true) (by rw [h]; decide)
theorem tj_e_up {V p p' : Nat} {o : Nat → Nat} (h : p ≤ p') : tj_e V o p ≤ tj_e V o p' := tj_ct_up h
theorem tj_e_at {V k p : Nat} {o : Nat → Nat} (h : k < tj_e V o p) : ∃ j, j < p ∧ V.testBit (o j) = true ∧ tj_e V o j = k := tj_ct_at h
theorem tj_e_3 {t N : Nat} {o : Nat → Nat} (h : tj_aok RO VO t) (h5 : ∀ j, j < N → o j < 5) (hinj : ∀ s t, s < N → t < N → o s = o t → s = t) : tj_e (tj_vs VO t) o N ≤ 3 :=
  Nat.le_trans (tj_ct_inj (fun x => (tj_vs VO t).testBit x = true) h5 hinj) (tj_vs_ct h)
/-- the order of rows of D columns -/
def tj_le (D : Nat) (a b : Nat → Nat) : Prop := ∀ d, d < D → (∀ c, c < d → a c = b c) → a d ≤ b d
/-- a sorted table tw of rows (places 16 d + r) whose columns are the variables tv, D of them; its rows are those of P -/
def tj_TS (V N : Nat) (o : Nat → Nat) (P : (Nat → Nat) → Prop) (D : Int32) (tv tw : Nat → Int32) (rws : Nat) : Prop :=
  D = nI (tj_e V o N) ∧ (∀ j, j < N → V.testBit (o j) = true → tv (tj_e V o j) = nI (o j)) ∧ rws ≤ 16 ∧ (∀ d r, d < tj_e V o N → r < rws → tj_N (tw (16 * d + r)) 5) ∧
  (∀ r r', r < r' → r' < rws → tj_le (tj_e V o N) (fun d => (tw (16 * d + r)).toNatClampNeg) (fun d => (tw (16 * d + r')).toNatClampNeg)) ∧
  (∀ s : Nat → Nat, (∀ v, s v < 5) → (P s ↔ ∃ r, r < rws ∧ ∀ j, j < N → V.testBit (o j) = true → tw (16 * tj_e V o j + r) = nI (s (o j))))
theorem tj_TS_c {V N : Nat} {o : Nat → Nat} {P : (Nat → Nat) → Prop} {D D' : Int32} {tv tw tv' tw' : Nat → Int32} {rws : Nat} (h : tj_TS V N o P D tv tw rws) (he : tj_e V o N ≤ 3) (h1 : D' = D) (h2 : ∀ d, d < 3 → tv' d = tv d) (h3 : ∀ z, z < 48 → tw' z = tw z) : tj_TS V N o P D' tv' tw' rws := by
  obtain ⟨a1, a2, a3, a4, a5, a6⟩ := h
  have el : ∀ j, j < N → V.testBit (o j) = true → tj_e V o j < tj_e V o N := fun j hj hv => tj_ct_lt (p := fun j => V.testBit (o j) = true) hj hv
  have w : ∀ d r, d < tj_e V o N → r < rws → tw' (16 * d + r) = tw (16 * d + r) := fun d r hd hr => h3 _ (by omega)
  refine ⟨by rw [h1, a1], fun j hj hv => ?_, a3, fun d r hd hr => ?_, fun r r' hr hr' d hd hc => ?_, fun s hs => ?_⟩
  · have := el j hj hv
    rw [h2 _ (by omega)]; exact a2 j hj hv
  · rw [w d r hd hr]; exact a4 d r hd hr
  · show (tw' (16 * d + r)).toNatClampNeg ≤ (tw' (16 * d + r')).toNatClampNeg
    rw [w d r hd (by omega), w d r' hd hr']
    refine a5 r r' hr hr' d hd (fun c hc' => ?_)
    have := hc c hc'
    dsimp only at this ⊢
    rw [w c r (by omega) (by omega), w c r' (by omega) hr'] at this
    exact this
  · rw [a6 s hs]
    constructor
    · rintro ⟨r, hr, h⟩
      exact ⟨r, hr, fun j hj hv => by rw [w _ _ (el j hj hv) hr]; exact h j hj hv⟩
    · rintro ⟨r, hr, h⟩
      exact ⟨r, hr, fun j hj hv => by rw [← w _ _ (el j hj hv) hr]; exact h j hj hv⟩
/-- row r of a table has the values of s in those of its columns that are among the first p variables -/
def tj_mr (V : Nat) (o : Nat → Nat) (tw : Nat → Int32) (s : Nat → Nat) (p r : Nat) : Prop := ∀ j, j < p → V.testBit (o j) = true → tw (16 * tj_e V o j + r) = nI (s (o j))
theorem tj_mr_c {V p r : Nat} {o : Nat → Nat} {tw : Nat → Int32} {s s' : Nat → Nat} (h : ∀ j, j < p → s (o j) = s' (o j)) : tj_mr V o tw s p r ↔ tj_mr V o tw s' p r :=
  ⟨fun z j hj hv => by rw [z j hj hv, h j hj], fun z j hj hv => by rw [z j hj hv, h j hj]⟩
theorem tj_mr_t {V p r : Nat} {o : Nat → Nat} {tw : Nat → Int32} {s : Nat → Nat} (hv : V.testBit (o p) = true) : tj_mr V o tw s (p + 1) r ↔ tj_mr V o tw s p r ∧ tw (16 * tj_e V o p + r) = nI (s (o p)) := by
  constructor
  · exact fun h => ⟨fun j hj => h j (by omega), h p (by omega) hv⟩
  · rintro ⟨h1, h2⟩ j hj hvj
    rcases Nat.lt_or_ge j p with z | z
    · exact h1 j z hvj
    · rw [show j = p by omega]; exact h2
theorem tj_mr_f {V p r : Nat} {o : Nat → Nat} {tw : Nat → Int32} {s : Nat → Nat} (hv : V.testBit (o p) = false) : tj_mr V o tw s (p + 1) r ↔ tj_mr V o tw s p r := by
  constructor
  · exact fun h j hj => h j (by omega)
  · intro h1 j hj hvj
    rcases Nat.lt_or_ge j p with z | z
    · exact h1 j z hvj
    · rw [show j = p by omega] at hvj; exact (tj_tf hvj hv).elim
/-- the part of the rows that fits the first p variables -/
def tj_Pt (V : Nat) (o : Nat → Nat) (tw : Nat → Int32) (rws : Nat) (s : Nat → Nat) (p : Nat) (pf pt : Int32) : Prop :=
  ∃ a b, pf = nI a ∧ pt = nI b ∧ a ≤ b ∧ b ≤ rws ∧ ∀ r, r < rws → ((a ≤ r ∧ r < b) ↔ tj_mr V o tw s p r)
/-- where an atom's trie stands after p variables: pf, pt by the depth -/
def tj_DY (V : Nat) (o : Nat → Nat) (tw : Nat → Int32) (rws : Nat) (s : Nat → Nat) (p : Nat) (dn : Int32) (pf pt : Nat → Int32) : Prop :=
  dn = nI (tj_e V o p) ∧ ∀ p', p' ≤ p → tj_Pt V o tw rws s p' (pf (tj_e V o p')) (pt (tj_e V o p'))
theorem tj_DY_c {V p rws : Nat} {o : Nat → Nat} {tw : Nat → Int32} {s : Nat → Nat} {dn dn' : Int32} {pf pt pf' pt' : Nat → Int32} (h : tj_DY V o tw rws s p dn pf pt) (h1 : dn' = dn) (h2 : ∀ d, d ≤ tj_e V o p → pf' d = pf d ∧ pt' d = pt d) : tj_DY V o tw rws s p dn' pf' pt' := by
  refine ⟨by rw [h1]; exact h.1, fun p' hp' => ?_⟩
  have := tj_e_up (V := V) (o := o) hp'
  rw [(h2 _ this).1, (h2 _ this).2]
  exact h.2 p' hp'
/-- all tries, standing after p variables -/
def tj_St (VO : Nat → Int32) (q m N : Nat) (o : Nat → Nat) (P : Nat → (Nat → Nat) → Prop) (TD TV TW : Nat → Int32) (rws : Nat → Nat) : Prop :=
  ∀ i, i < 4 → m.testBit i = true → tj_TS (tj_V VO q i) N o (P i) (TD i) (fun d => TV (3 * i + d)) (fun z => TW (48 * i + z)) (rws i)
def tj_Dy (VO : Nat → Int32) (q m : Nat) (o : Nat → Nat) (TW : Nat → Int32) (rws : Nat → Nat) (s : Nat → Nat) (p : Nat) (PF PT DN : Nat → Int32) : Prop :=
  ∀ i, i < 4 → m.testBit i = true → tj_DY (tj_V VO q i) o (fun z => TW (48 * i + z)) (rws i) s p (DN i) (fun d => PF (4 * i + d)) (fun d => PT (4 * i + d))
theorem tj_waitsFor {post : Int32 → Prop} {q m N C i p w va : Nat} {o : Nat → Nat} {P : Nat → (Nat → Nat) → Prop} {rws : Nat → Nat} (hm : m < 16) (hai : ai = nI m) (hQ : tj_Q RO VO q m) (hO : tj_Or OR oc ac w va N C o) (hS : tj_St VO q m N o P TD TV TW rws) (hp : p < N) (hi : i < 4)
    (hd : m.testBit i = true → DN i = nI (tj_e (tj_V VO q i) o p))
    (h1 : m.testBit i = true → (tj_V VO q i).testBit (o p) = true → post 1) (h0 : ¬ (m.testBit i = true ∧ (tj_V VO q i).testBit (o p) = true) → post 0) : wpX_waitsFor post (lv, qu, ai, st, fo, af, bd, tc, oc, ac, B, RC, AC, RO, VO, AS, LC, LI, AL, AN, PA, EX, BF, BN, DI, TO, HO, OR, TD, TV, TW, PF, PT, DN, VA) (nI i) (nI (o p)) := by
  obtain ⟨_, _, n5, _, oo, oinj, _, _⟩ := hO
  subst hai
  unfold wpX_waitsFor
  refine tj_br m i (fun z => h0 (fun y => tj_tf y.1 z)) (fun z => ?_)
  have pi := pk_in (x := nI i) i 4 hi
  refine And.intro pi (And.intro pi ?_)
  obtain ⟨t1, t2, _⟩ := hS i hi z
  have e3 : tj_e (tj_V VO q i) o N ≤ 3 := tj_e_3 (hQ i hi z) (fun j hj => (oo j hj).2) oinj
  have ep := tj_e_up (V := tj_V VO q i) (o := o) (Nat.le_of_lt hp)
  rw [nI_clamp (show i < 2 ^ 31 by omega), hd z, t1]
  refine tj_plt (fun y => And.intro pi ?_) (fun y => h0 (fun x => ?_))
  · rw [tj_i3, nI_clamp (show 3 * i + tj_e (tj_V VO q i) o p < 2 ^ 31 by omega)]
    refine And.intro (vp_in_nI (by omega) (by omega)) ?_
    cases hv : (tj_V VO q i).testBit (o p)
    · -- the next variable of the trie comes later
      refine br_f (fun e => ?_) (h0 (fun x => tj_tf x.2 hv))
      obtain ⟨j, j1, j2, j3⟩ := tj_e_at y
      have ej := t2 j j1 j2
      rw [j3] at ej
      have ej' : TV (3 * i + tj_e (tj_V VO q i) o p) = nI (o j) := ej
      rw [ej'] at e
      have l1 := (oo j j1).2
      have l2 := (oo p hp).2
      have := oinj j p j1 hp ((nI_eq (by omega) (by omega)).mp e)
      rw [this] at j2
      exact tj_tf j2 hv
    · have e := t2 p hp hv
      exact br_t e (h1 z hv)
  · have := tj_ct_lt (p := fun j => (tj_V VO q i).testBit (o j) = true) hp x.2
    have h : tj_e (tj_V VO q i) o p < tj_e (tj_V VO q i) o N := this
    omega
theorem tj_i48 (i d r : Nat) : ((48 * nI i) + (16 * nI d)) + nI r = nI (48 * i + (16 * d + r)) := by
  rw [show (48 : Int32) = nI 48 from rfl, show (16 : Int32) = nI 16 from rfl, pk_mul, pk_mul, nI_add, nI_add, Nat.add_assoc]
theorem tj_trieAt {post : Int32 → Prop} {i d r : Nat} (hi : i < 4) (hd : d < 3) (hr : r < 16) (H : post (TW (48 * i + (16 * d + r)))) : wpX_trieAt post (lv, qu, ai, st, fo, af, bd, tc, oc, ac, B, RC, AC, RO, VO, AS, LC, LI, AL, AN, PA, EX, BF, BN, DI, TO, HO, OR, TD, TV, TW, PF, PT, DN, VA) (nI i) (nI d) (nI r) := by
  unfold wpX_trieAt
  dsimp only
  rw [tj_i48, nI_clamp (show 48 * i + (16 * d + r) < 2 ^ 31 by omega)]
  exact ⟨vp_in_nI (by omega) (by omega), H⟩
/-- in the present part of the rows the next column is in order -/
theorem tj_part_mono {V N p rws : Nat} {o : Nat → Nat} {P : (Nat → Nat) → Prop} {D : Int32} {tv tw : Nat → Int32} {s : Nat → Nat} (h : tj_TS V N o P D tv tw rws) (hp : p < N) (hv : V.testBit (o p) = true) {r r' : Nat} (hr : r < r') (hr' : r' < rws) (m1 : tj_mr V o tw s p r) (m2 : tj_mr V o tw s p r') :
    (tw (16 * tj_e V o p + r)).toNatClampNeg ≤ (tw (16 * tj_e V o p + r')).toNatClampNeg := by
  refine h.2.2.2.2.1 r r' hr hr' _ (tj_ct_lt (p := fun j => V.testBit (o j) = true) hp hv) (fun c hc => ?_)
  obtain ⟨j, j1, j2, j3⟩ := tj_e_at hc
  dsimp only
  rw [← j3, m1 j j1 j2, m2 j j1 j2]
theorem tj_seek {post : Int32 → Prop} {q m N C i p x w va : Nat} {o : Nat → Nat} {s : Nat → Nat} {P : Nat → (Nat → Nat) → Prop} {rws : Nat → Nat} (hQ : tj_Q RO VO q m) (hO : tj_Or OR oc ac w va N C o) (hS : tj_St VO q m N o P TD TV TW rws) (hp : p < N) (hi : i < 4) (mi : m.testBit i = true) (hv : (tj_V VO q i).testBit (o p) = true) (hx : x < 100)
    (hY : tj_DY (tj_V VO q i) o (fun z => TW (48 * i + z)) (rws i) s p (DN i) (fun d => PF (4 * i + d)) (fun d => PT (4 * i + d)))
    (H : ∀ a b c, a ≤ c → c ≤ b → b ≤ rws i → PF (4 * i + tj_e (tj_V VO q i) o p) = nI a → PT (4 * i + tj_e (tj_V VO q i) o p) = nI b → (∀ r, r < rws i → ((a ≤ r ∧ r < b) ↔ tj_mr (tj_V VO q i) o (fun z => TW (48 * i + z)) s p r)) →
      (∀ r, a ≤ r → r < c → (TW (48 * i + (16 * tj_e (tj_V VO q i) o p + r))).toNatClampNeg < x) → (∀ r, c ≤ r → r < b → x ≤ (TW (48 * i + (16 * tj_e (tj_V VO q i) o p + r))).toNatClampNeg) → post (nI c)) : wpX_seek post (lv, qu, ai, st, fo, af, bd, tc, oc, ac, B, RC, AC, RO, VO, AS, LC, LI, AL, AN, PA, EX, BF, BN, DI, TO, HO, OR, TD, TV, TW, PF, PT, DN, VA) (nI i) (nI x) := by
  obtain ⟨_, _, n5, _, oo, oinj, _, _⟩ := hO
  have ts := hS i hi mi
  obtain ⟨hdn, hpt⟩ := hY
  obtain ⟨a, b, ea, eb, ab, br, hr⟩ := hpt p (Nat.le_refl p)
  have e3 : tj_e (tj_V VO q i) o N ≤ 3 := tj_e_3 (hQ i hi mi) (fun j hj => (oo j hj).2) oinj
  have ep : tj_e (tj_V VO q i) o p < tj_e (tj_V VO q i) o N := tj_ct_lt (p := fun j => (tj_V VO q i).testBit (o j) = true) hp hv
  have r16 := ts.2.2.1
  have ci : (nI i).toNatClampNeg = i := nI_clamp (by omega)
  have c4 : ((4 : Int32) * nI i + nI (tj_e (tj_V VO q i) o p)).toNatClampNeg = 4 * i + tj_e (tj_V VO q i) o p := by rw [tj_i4, nI_clamp (by omega)]
  have p4 := pk_in (x := (4 : Int32) * nI i + nI (tj_e (tj_V VO q i) o p)) _ 16 (show 4 * i + tj_e (tj_V VO q i) o p < 16 by omega) (tj_i4 _ _)
  unfold wpX_seek
  refine And.intro (pk_in i 4 hi) (nm_r (e' := nI (tj_e (tj_V VO q i) o p)) (by rw [ci, hdn]) (And.intro p4 (nm_r (e' := nI a) (by rw [c4]; exact ea) (And.intro p4 (nm_r (e' := nI b) (by rw [c4]; exact eb) ?_)))))
  refine loop_m (fun n (t : Nat × Nat) => wX_seek_31 post (nI i) (nI x) (nI (tj_e (tj_V VO q i) o p)) lv qu ai st fo af bd tc oc ac B RC AC RO VO AS LC LI AL AN PA EX BF BN DI TO HO OR TD TV TW PF PT DN VA n (nI t.1) (nI t.2))
    (fun t => a ≤ t.1 ∧ t.1 ≤ t.2 ∧ t.2 ≤ b ∧ (∀ r, a ≤ r → r < t.1 → (TW (48 * i + (16 * tj_e (tj_V VO q i) o p + r))).toNatClampNeg < x) ∧ (∀ r, t.2 ≤ r → r < b → x ≤ (TW (48 * i + (16 * tj_e (tj_V VO q i) o p + r))).toNatClampNeg)) (fun t => t.2 - t.1) ?_ (a, b)
    ⟨Nat.le_refl _, ab, Nat.le_refl _, fun r h1 h2 => absurd (show r < a from h2) (by omega), fun r h1 h2 => absurd (show b ≤ r from h1) (by omega)⟩
  rintro n ⟨f, t⟩ ⟨k1, k2, k3, k4, k5⟩ hn
  dsimp only at k1 k2 k3 k4 k5 hn ⊢
  refine pk_le t f (fun z => ?_) (fun z => And.intro (by decide) (nm_r (e' := nI ((f + t) / 2)) ?_ ?_))
  · have e : t = f := by omega
    subst e
    exact H a b t k1 k3 br ea eb hr k4 k5
  · show (nI f + nI t) / nI 2 = _
    rw [nI_add, pk_div (by omega) (by decide) (by decide)]
  · have m1 : f ≤ (f + t) / 2 := by omega
    have m2 : (f + t) / 2 < t := by omega
    refine tj_trieAt hi (by omega) (by omega) ?_
    obtain ⟨y, y5, ey⟩ := ts.2.2.2.1 _ ((f + t) / 2) ep (by omega)
    have ey' : TW (48 * i + (16 * tj_e (tj_V VO q i) o p + (f + t) / 2)) = nI y := ey
    have cy : (TW (48 * i + (16 * tj_e (tj_V VO q i) o p + (f + t) / 2))).toNatClampNeg = y := by rw [ey', nI_clamp (by omega)]
    have mm := (hr ((f + t) / 2) (by omega)).mp ⟨by omega, by omega⟩
    rw [ey']
    refine pk_le x y (fun z2 => hn (f, (f + t) / 2) ⟨k1, m1, by show (f + t) / 2 ≤ b; omega, k4, fun r h1 h2 => ?_⟩ (by show (f + t) / 2 - f < t - f; omega)) (fun z2 => nm_r (nI_1 _) (hn ((f + t) / 2 + 1, t) ⟨by show a ≤ (f + t) / 2 + 1; omega, by show (f + t) / 2 + 1 ≤ t; omega, k3, fun r h1 h2 => ?_, k5⟩ (by show t - ((f + t) / 2 + 1) < t - f; omega)))
    · have h1' : (f + t) / 2 ≤ r := h1
      rcases Nat.eq_or_lt_of_le h1' with y1 | y1
      · rw [← y1, cy]; exact z2
      · have := tj_part_mono ts hp hv y1 (show r < rws i by omega) mm ((hr r (by omega)).mp ⟨by omega, h2⟩)
        rw [cy] at this
        omega
    · have h2' : r < (f + t) / 2 + 1 := h2
      rcases Nat.eq_or_lt_of_le (Nat.le_of_lt_succ h2') with y1 | y1
      · rw [y1, cy]; exact z2
      · have := tj_part_mono ts hp hv y1 (show (f + t) / 2 < rws i by omega) ((hr r (by omega)).mp ⟨h1, by omega⟩) mm
        rw [cy] at this
        omega
/-- atom i has, in its present part, a row with y in the next column -/
def tj_hs (V : Nat) (o : Nat → Nat) (tw : Nat → Int32) (rws : Nat) (s : Nat → Nat) (p y : Nat) : Prop := ∃ r, r < rws ∧ tj_mr V o tw s p r ∧ tw (16 * tj_e V o p + r) = nI y
def tj_Cm (VO : Nat → Int32) (q m : Nat) (o : Nat → Nat) (TW : Nat → Int32) (rws : Nat → Nat) (s : Nat → Nat) (p y : Nat) : Prop :=
  y < 5 ∧ ∀ i, i < 4 → m.testBit i = true → (tj_V VO q i).testBit (o p) = true → tj_hs (tj_V VO q i) o (fun z => TW (48 * i + z)) (rws i) s p y
theorem tj_commonValue {post : Int32 → Prop} {q m N C p f w va : Nat} {o : Nat → Nat} {s : Nat → Nat} {P : Nat → (Nat → Nat) → Prop} {rws : Nat → Nat} (hm : m < 16) (hai : ai = nI m) (hQ : tj_Q RO VO q m) (hO : tj_Or OR oc ac w va N C o) (hva : va = tj_va VO q m 4) (hS : tj_St VO q m N o P TD TV TW rws) (hp : p < N) (hf : f ≤ 5)
    (hY : tj_Dy VO q m o TW rws s p PF PT DN) (Hn : (∀ y, f ≤ y → ¬ tj_Cm VO q m o TW rws s p y) → post (-1)) (Hy : ∀ x, f ≤ x → x < 5 → tj_Cm VO q m o TW rws s p x → (∀ y, f ≤ y → y < x → ¬ tj_Cm VO q m o TW rws s p y) → post (nI x)) : wpX_commonValue post (lv, qu, ai, st, fo, af, bd, tc, oc, ac, B, RC, AC, RO, VO, AS, LC, LI, AL, AN, PA, EX, BF, BN, DI, TO, HO, OR, TD, TV, TW, PF, PT, DN, VA) (nI (o p)) (nI f) := by
  have hO' := hO
  obtain ⟨_, _, n5, _, oo, oinj, ova, _⟩ := hO'
  subst hva
  -- some atom waits
  obtain ⟨i0, i01, i02, i03⟩ := (tj_va_bit (o p) 4).mp ((ova (o p)).mpr ⟨p, hp, rfl⟩)
  have v5 : ∀ y, y ≤ 5 → tj_hs (tj_V VO q i0) o (fun z => TW (48 * i0 + z)) (rws i0) s p y → y < 5 := by
    rintro y hy ⟨r, r1, _, r3⟩
    obtain ⟨z, z5, ez⟩ := (hS i0 i01 i02).2.2.2.1 _ r (tj_ct_lt (p := fun j => (tj_V VO q i0).testBit (o j) = true) hp i03) r1
    have ez' : TW (48 * i0 + (16 * tj_e (tj_V VO q i0) o p + r)) = nI z := ez
    have r3' : TW (48 * i0 + (16 * tj_e (tj_V VO q i0) o p + r)) = nI y := r3
    rw [ez', nI_eq (by omega) (by omega)] at r3'
    omega
  unfold wpX_commonValue
  refine loop_m (fun n (t : Nat × Nat) => wX_commonValue_5 post (nI (o p)) lv qu ai st fo af bd tc oc ac B RC AC RO VO AS LC LI AL AN PA EX BF BN DI TO HO OR TD TV TW PF PT DN VA n (nI t.1) (nI t.2))
    (fun t => f ≤ t.1 ∧ t.1 ≤ 5 ∧ t.2 ≤ 1 ∧ (∀ y, f ≤ y → y < t.1 → ¬ tj_Cm VO q m o TW rws s p y) ∧ (t.2 = 1 → tj_Cm VO q m o TW rws s p t.1)) (fun t => 2 * (5 - t.1) + (1 - t.2)) ?_ (f, 0) ⟨Nat.le_refl _, hf, Nat.zero_le 1, fun y h1 h2 => absurd (show y < f from h2) (by omega), fun z => absurd (show (0 : Nat) = 1 from z) (by decide)⟩
  rintro n ⟨x, g⟩ ⟨k1, k2, k3, k4, k5⟩ hn
  dsimp only at k1 k2 k3 k4 k5 hn ⊢
  refine pk_eq g 0 (fun e => ?_) (fun e => ?_)
  · subst e
    refine pk_loop (fun n' i (t : Nat × Nat) => wX_commonValue_16 post (wX_commonValue_5 post (nI (o p)) lv qu ai st fo af bd tc oc ac B RC AC RO VO AS LC LI AL AN PA EX BF BN DI TO HO OR TD TV TW PF PT DN VA n) (nI (o p)) lv qu ai st fo af bd tc oc ac B RC AC RO VO AS LC LI AL AN PA EX BF BN DI TO HO OR TD TV TW PF PT DN VA n' (nI t.1) (nI t.2) (nI i))
      (fun i t => x ≤ t.1 ∧ t.1 ≤ 5 ∧ t.2 ≤ 1 ∧ (∀ y, f ≤ y → y < t.1 → ¬ tj_Cm VO q m o TW rws s p y) ∧ (t.2 = 0 → x < t.1) ∧ (t.2 = 1 → t.1 = x ∧ ∀ j, j < i → m.testBit j = true → (tj_V VO q j).testBit (o p) = true → tj_hs (tj_V VO q j) o (fun z => TW (48 * j + z)) (rws j) s p x)) 4 0 (x, 1) (by omega)
      ⟨Nat.le_refl _, k2, Nat.le_refl _, k4, fun z => absurd (show (1 : Nat) = 0 from z) (by decide), fun _ => ⟨rfl, fun j hj => absurd hj (by omega)⟩⟩ ?_ ?_
    · rintro n' ⟨y, g⟩ ⟨l1, l2, l3, l4, l5, l6⟩
      dsimp only at l1 l2 l3 l4 l5 l6 ⊢
      refine pk_le 4 4 (fun _ => hn (y, g) ⟨by show f ≤ y; omega, l2, l3, l4, fun z => ?_⟩ ?_) (fun z => absurd z (by omega))
      · have z' : g = 1 := z
        obtain ⟨e1, e2⟩ := l6 z'
        show tj_Cm VO q m o TW rws s p y
        rw [e1]
        exact ⟨v5 x k2 (e2 i0 i01 i02 i03), fun i hi mi vi => e2 i hi mi vi⟩
      · show 2 * (5 - y) + (1 - g) < 2 * (5 - x) + (1 - 0)
        rcases (show g = 0 ∨ g = 1 by omega) with z | z
        · have := l5 z; omega
        · obtain ⟨e1, _⟩ := l6 z; omega
    · rintro n' i ⟨y, g⟩ hi ⟨l1, l2, l3, l4, l5, l6⟩ hw'
      dsimp only at l1 l2 l3 l4 l5 l6 hw' ⊢
      refine pk_le 4 i (fun z => absurd z (by omega)) (fun _ => tj_waitsFor hm hai hQ hO hS hp hi (fun mi => (hY i hi mi).1) (fun mi vi => br_f (by decide) ?_) (fun z => br_t rfl (nm_r (nI_1 i) (hw' (y, g) ⟨l1, l2, l3, l4, l5, fun z1 => ⟨(l6 z1).1, fun j hj mj vj => ?_⟩⟩))))
      · have yi := hY i hi mi
        have ts := hS i hi mi
        have e3 : tj_e (tj_V VO q i) o N ≤ 3 := tj_e_3 (hQ i hi mi) (fun j hj => (oo j hj).2) oinj
        have ep : tj_e (tj_V VO q i) o p < tj_e (tj_V VO q i) o N := tj_ct_lt (p := fun j => (tj_V VO q i).testBit (o j) = true) hp vi
        have r16 := ts.2.2.1
        refine tj_seek hQ hO hS hp hi mi vi (by omega) yi (fun a b c ac cb br ea eb hr hlo hhi => And.intro (pk_in i 4 hi) ?_)
        rw [nI_clamp (show i < 2 ^ 31 by omega), yi.1, tj_i4, nI_clamp (show 4 * i + tj_e (tj_V VO q i) o p < 2 ^ 31 by omega), eb]
        refine And.intro (vp_in_nI (by omega) (by omega)) (pk_lt c b (fun z => And.intro (pk_in i 4 hi) ?_) (fun z => Hn (fun y' hy' hC => ?_)))
        · refine tj_trieAt hi (by omega) (by omega) ?_
          obtain ⟨u, u5, eu⟩ := ts.2.2.2.1 _ c ep (by omega)
          have eu' : TW (48 * i + (16 * tj_e (tj_V VO q i) o p + c)) = nI u := eu
          have cu : (TW (48 * i + (16 * tj_e (tj_V VO q i) o p + c))).toNatClampNeg = u := by rw [eu', nI_clamp (by omega)]
          have hu : y ≤ u := by have := hhi c (Nat.le_refl c) z; rw [cu] at this; exact this
          have mc := (hr c (by omega)).mp ⟨ac, z⟩
          -- nothing common below u
          have low : ∀ y', f ≤ y' → y' < u → ¬ tj_Cm VO q m o TW rws s p y' := by
            intro y' h1 h2 hC
            rcases Nat.lt_or_ge y' y with h3 | h3
            · exact l4 y' h1 h3 hC
            · obtain ⟨r, r1, r2, r3⟩ := hC.2 i hi mi vi
              have y5 := hC.1
              have r3' : TW (48 * i + (16 * tj_e (tj_V VO q i) o p + r)) = nI y' := r3
              have cr : (TW (48 * i + (16 * tj_e (tj_V VO q i) o p + r))).toNatClampNeg = y' := by rw [r3', nI_clamp (by omega)]
              obtain ⟨ra, rb⟩ := (hr r r1).mpr r2
              rcases Nat.lt_or_ge r c with h4 | h4
              · have := hlo r ra h4; rw [cr] at this; omega
              · rcases Nat.eq_or_lt_of_le h4 with h5 | h5
                · rw [← h5, cu] at cr; omega
                · have := tj_part_mono ts hp vi h5 r1 mc r2
                  rw [cu, cr] at this
                  omega
          rw [eu']
          refine pk_le u y (fun h => nm_r (nI_1 i) (hw' (u, g) ⟨by show x ≤ u; omega, by show u ≤ 5; omega, l3, low, fun z1 => by have := l5 z1; show x < u; omega, fun z1 => ⟨by have := (l6 z1).1; show u = x; omega, fun j hj mj vj => ?_⟩⟩)) (fun h => nm_r (nI_1 i) (hw' (u, 0) ⟨by show x ≤ u; omega, by show u ≤ 5; omega, Nat.zero_le 1, low, fun _ => by show x < u; omega, fun z1 => absurd (show (0 : Nat) = 1 from z1) (by decide)⟩))
          rcases Nat.lt_or_ge j i with h1 | h1
          · exact (l6 z1).2 j h1 mj vj
          · have ej : j = i := by omega
            subst ej
            have ex := (l6 z1).1
            exact ⟨c, by omega, mc, by show TW _ = _; rw [eu']; congr 1; omega⟩
        · -- all that is left is too small
          rcases Nat.lt_or_ge y' y with h3 | h3
          · exact l4 y' hy' h3 hC
          · obtain ⟨r, r1, r2, r3⟩ := hC.2 i hi mi vi
            obtain ⟨ra, rb⟩ := (hr r r1).mpr r2
            have := hlo r ra (by omega)
            have r3' : TW (48 * i + (16 * tj_e (tj_V VO q i) o p + r)) = nI y' := r3
            have y5 := hC.1
            rw [r3', nI_clamp (by omega)] at this
            omega
      · rcases Nat.lt_or_ge j i with h1 | h1
        · exact (l6 z1).2 j h1 mj vj
        · have ej : j = i := by omega
          subst ej
          exact absurd ⟨mj, vj⟩ z
  · have g1 : g = 1 := by omega
    subst g1
    have c := k5 rfl
    exact Hy x k1 c.1 c k4
end
end
section
/-! ===== building tries, going down and up ===== -/
section
variable {lv qu ai st fo af bd tc oc ac : Int32} {B AN PA EX : Nat → Int64} {RC AC RO VO AS LC LI AL BF BN DI TO HO OR TD TV TW PF PT DN VA : Nat → Int32}
theorem tj_DY_f {V p rws : Nat} {o : Nat → Nat} {tw : Nat → Int32} {s s' : Nat → Nat} {dn : Int32} {pf pt : Nat → Int32} (h : tj_DY V o tw rws s p dn pf pt) (hv : V.testBit (o p) = false) (hs : ∀ j, j < p → s' (o j) = s (o j)) : tj_DY V o tw rws s' (p + 1) dn pf pt := by
  refine ⟨by rw [tj_e_f hv]; exact h.1, fun p' hp' => ?_⟩
  rcases Nat.lt_or_ge p p' with z | z
  · have e : p' = p + 1 := by omega
    subst e
    obtain ⟨a, b, h1, h2, h3, h4, h5⟩ := h.2 p (Nat.le_refl p)
    rw [tj_e_f hv]
    exact ⟨a, b, h1, h2, h3, h4, fun r hr => by rw [h5 r hr, tj_mr_f hv, tj_mr_c hs]⟩
  · obtain ⟨a, b, h1, h2, h3, h4, h5⟩ := h.2 p' z
    exact ⟨a, b, h1, h2, h3, h4, fun r hr => by rw [h5 r hr, tj_mr_c (fun j hj => hs j (by omega))]⟩
theorem tj_DY_t {V p rws a b c1 c2 x : Nat} {o : Nat → Nat} {tw : Nat → Int32} {s s' : Nat → Nat} {dn : Int32} {pf pt pf' pt' : Nat → Int32} (h : tj_DY V o tw rws s p dn pf pt) (hv : V.testBit (o p) = true) (hs : ∀ j, j < p → s' (o j) = s (o j)) (hx : s' (o p) = x) (hx5 : x < 5)
    (hN : ∀ r, r < rws → tj_N (tw (16 * tj_e V o p + r)) 5) (hb : b ≤ rws) (hr : ∀ r, r < rws → ((a ≤ r ∧ r < b) ↔ tj_mr V o tw s p r)) (a1 : a ≤ c1) (b1 : c1 ≤ b) (a2 : a ≤ c2) (b2 : c2 ≤ b)
    (l1 : ∀ r, a ≤ r → r < c1 → (tw (16 * tj_e V o p + r)).toNatClampNeg < x) (g1 : ∀ r, c1 ≤ r → r < b → x ≤ (tw (16 * tj_e V o p + r)).toNatClampNeg) (l2 : ∀ r, a ≤ r → r < c2 → (tw (16 * tj_e V o p + r)).toNatClampNeg < x + 1) (g2 : ∀ r, c2 ≤ r → r < b → x + 1 ≤ (tw (16 * tj_e V o p + r)).toNatClampNeg)
    (k : ∀ d, d ≤ tj_e V o p → pf' d = pf d ∧ pt' d = pt d) (kf : pf' (tj_e V o p + 1) = nI c1) (kt : pt' (tj_e V o p + 1) = nI c2) : tj_DY V o tw rws s' (p + 1) (nI (tj_e V o p + 1)) pf' pt' := by
  refine ⟨by rw [tj_e_t hv], fun p' hp' => ?_⟩
  rcases Nat.lt_or_ge p p' with z | z
  · have e : p' = p + 1 := by omega
    subst e
    rw [tj_e_t hv, kf, kt]
    refine ⟨c1, c2, rfl, rfl, ?_, by omega, fun r hrr => ?_⟩
    · rcases Nat.lt_or_ge c2 c1 with y | y
      · have y1 := g2 c2 (Nat.le_refl _) (by omega)
        have y2 := l1 c2 a2 y
        omega
      · exact y
    · rw [tj_mr_t hv, tj_mr_c hs, ← hr r hrr, hx]
      obtain ⟨u, u5, eu⟩ := hN r hrr
      constructor
      · rintro ⟨z1, z2⟩
        have y1 := g1 r z1 (by omega)
        have y2 := l2 r (by omega) z2
        rw [eu, nI_clamp (by omega)] at y1 y2
        exact ⟨⟨by omega, by omega⟩, by rw [eu, show u = x by omega]⟩
      · rintro ⟨⟨z1, z2⟩, z3⟩
        rw [eu, nI_eq (by omega) (by omega)] at z3
        constructor
        · rcases Nat.lt_or_ge r c1 with y | y
          · have := l1 r z1 y
            rw [eu, nI_clamp (by omega)] at this
            omega
          · exact y
        · rcases Nat.lt_or_ge r c2 with y | y
          · exact y
          · have := g2 r y z2
            rw [eu, nI_clamp (by omega)] at this
            omega
  · obtain ⟨a', b', h1, h2, h3, h4, h5⟩ := h.2 p' z
    have el := tj_e_up (V := V) (o := o) z
    rw [(k _ el).1, (k _ el).2]
    exact ⟨a', b', h1, h2, h3, h4, fun r hr => by rw [h5 r hr, tj_mr_c (fun j hj => hs j (by omega))]⟩
/-- s, but y at place z -/
def tj_up (s : Nat → Nat) (z y v : Nat) : Nat := if v = z then y else s v
theorem tj_up_s {s : Nat → Nat} {z y : Nat} : tj_up s z y z = y := if_pos rfl
theorem tj_up_n {s : Nat → Nat} {z y v : Nat} (h : v ≠ z) : tj_up s z y v = s v := if_neg h
theorem tj_goDown {post : Int32 → St1 → Prop} {q m N C p x w va : Nat} {o : Nat → Nat} {s : Nat → Nat} {P : Nat → (Nat → Nat) → Prop} {rws : Nat → Nat} (hm : m < 16) (hai : ai = nI m) (hQ : tj_Q RO VO q m) (hO : tj_Or OR oc ac w va N C o) (hS : tj_St VO q m N o P TD TV TW rws) (hp : p < N) (hx : x < 5)
    (hY : tj_Dy VO q m o TW rws s p PF PT DN) (H : ∀ (r : Int32) (PF' : Nat → Int32) (PT' : Nat → Int32) (DN' : Nat → Int32), tj_Dy VO q m o TW rws (tj_up s (o p) x) (p + 1) PF' PT' DN' → post r (lv, qu, ai, st, fo, af, bd, tc, oc, ac, B, RC, AC, RO, VO, AS, LC, LI, AL, AN, PA, EX, BF, BN, DI, TO, HO, OR, TD, TV, TW, PF', PT', DN', VA)) : wpX_goDown post (lv, qu, ai, st, fo, af, bd, tc, oc, ac, B, RC, AC, RO, VO, AS, LC, LI, AL, AN, PA, EX, BF, BN, DI, TO, HO, OR, TD, TV, TW, PF, PT, DN, VA) (nI (o p)) (nI x) := by
  have hO' := hO
  obtain ⟨_, _, n5, _, oo, oinj, _, _⟩ := hO'
  have hss : ∀ j, j < p → tj_up s (o p) x (o j) = s (o j) := fun j hj => tj_up_n (fun e => absurd (oinj j p (by omega) hp e) (by omega))
  unfold wpX_goDown
  refine pk_loop (fun n i (t : Int32 × (Nat → Int32) × (Nat → Int32) × (Nat → Int32)) => wX_goDown_5 post (nI (o p)) (nI x) lv qu ai st fo af bd tc oc ac n t.1 (nI i) B RC AC RO VO AS LC LI AL AN PA EX BF BN DI TO HO OR TD TV TW t.2.1 t.2.2.1 t.2.2.2 VA)
    (fun i t => ∀ j, j < 4 → m.testBit j = true → (j < i → tj_DY (tj_V VO q j) o (fun z => TW (48 * j + z)) (rws j) (tj_up s (o p) x) (p + 1) (t.2.2.2 j) (fun d => t.2.1 (4 * j + d)) (fun d => t.2.2.1 (4 * j + d))) ∧
      (i ≤ j → tj_DY (tj_V VO q j) o (fun z => TW (48 * j + z)) (rws j) s p (t.2.2.2 j) (fun d => t.2.1 (4 * j + d)) (fun d => t.2.2.1 (4 * j + d)))) 4 0 (0, PF, PT, DN) (by omega) (fun j hj mj => ⟨fun z => absurd z (by omega), fun _ => hY j hj mj⟩) ?_ ?_
  · rintro n ⟨x3, pf, pt, dn⟩ hI
    exact pk_le 4 4 (fun _ => H x3 pf pt dn (fun j hj mj => (hI j hj mj).1 hj)) (fun z => absurd z (by omega))
  · rintro n i ⟨x3, pf, pt, dn⟩ hi hI hw
    dsimp only at hI hw ⊢
    refine pk_le 4 i (fun z => absurd z (by omega)) (fun _ => tj_waitsFor hm hai hQ hO hS hp hi (fun mi => ((hI i hi mi).2 (Nat.le_refl i)).1) (fun mi vi => br_f (by decide) ?_) (fun z => br_t rfl (nm_r (nI_1 i) (hw (x3, pf, pt, dn) (fun j hj mj => ⟨fun hji => ?_, fun hij => (hI j hj mj).2 (by omega)⟩)))))
    · have yi := (hI i hi mi).2 (Nat.le_refl i)
      have ts := hS i hi mi
      have e3 : tj_e (tj_V VO q i) o N ≤ 3 := tj_e_3 (hQ i hi mi) (fun j hj => (oo j hj).2) oinj
      have ep : tj_e (tj_V VO q i) o p < tj_e (tj_V VO q i) o N := tj_ct_lt (p := fun j => (tj_V VO q i).testBit (o j) = true) hp vi
      have r16 := ts.2.2.1
      have pi := pk_in (x := nI i) i 4 hi
      refine tj_seek hQ hO hS hp hi mi vi (by omega) yi (fun a b c1 a1 b1 br1 ea eb hr lo1 hi1 => ?_)
      rw [nI_1 x]
      refine tj_seek hQ hO hS hp hi mi vi (by omega) yi (fun a' b' c2 a2 b2 br2 ea' eb' hr' lo2 hi2 => ?_)
      have e1 : a' = a := by rw [ea] at ea'; exact ((nI_eq (by omega) (by omega)).mp ea').symm
      have e2 : b' = b := by rw [eb] at eb'; exact ((nI_eq (by omega) (by omega)).mp eb').symm
      subst e1 e2
      rw [nI_clamp (show i < 2 ^ 31 by omega), yi.1, nI_1 (tj_e (tj_V VO q i) o p), tj_b8 _ (show tj_e (tj_V VO q i) o p + 1 < 128 by omega), tj_b8 c1 (by omega), tj_b8 c2 (by omega)]
      refine And.intro pi (And.intro pi (nm_e ?_))
      rw [pk_us, tj_i4, nI_clamp (show 4 * i + (tj_e (tj_V VO q i) o p + 1) < 2 ^ 31 by omega)]
      have p16 := vp_in_nI (show 4 * i + (tj_e (tj_V VO q i) o p + 1) < 16 by omega) (by omega)
      refine And.intro pi (And.intro p16 (nm_e (And.intro pi (And.intro p16 (nm_e (nm_e (nm_r (nI_1 i) (hw (_, upd pf (4 * i + (tj_e (tj_V VO q i) o p + 1)) (nI c1), upd pt (4 * i + (tj_e (tj_V VO q i) o p + 1)) (nI c2), upd dn i (nI (tj_e (tj_V VO q i) o p + 1))) (fun j hj mj => ?_)))))))))
      dsimp only
      by_cases ej : j = i
      · subst ej
        refine ⟨fun _ => ?_, fun z => absurd z (by omega)⟩
        rw [pk_us]
        exact tj_DY_t yi vi hss tj_up_s hx (fun r hrr => ts.2.2.2.1 _ r ep hrr) br1 hr a1 b1 a2 b2 lo1 hi1 lo2 hi2 (fun d hd => ⟨pk_un (by omega), pk_un (by omega)⟩) pk_us pk_us
      · have e3j : tj_e (tj_V VO q j) o (p + 1) ≤ 3 := Nat.le_trans (tj_e_up (show p + 1 ≤ N by omega)) (tj_e_3 (hQ j hj mj) (fun j hj => (oo j hj).2) oinj)
        have e3j' : tj_e (tj_V VO q j) o p ≤ 3 := Nat.le_trans (tj_e_up (Nat.le_succ p)) e3j
        exact ⟨fun z => tj_DY_c ((hI j hj mj).1 (by omega)) (pk_un ej) (fun d hd => ⟨pk_un (by omega), pk_un (by omega)⟩), fun z => tj_DY_c ((hI j hj mj).2 (by omega)) (pk_un ej) (fun d hd => ⟨pk_un (by omega), pk_un (by omega)⟩)⟩
    · dsimp only
      by_cases ej : j = i
      · subst ej
        exact tj_DY_f ((hI j hj mj).2 (Nat.le_refl j)) (tj_nt (fun y => z ⟨mj, y⟩)) hss
      · exact (hI j hj mj).1 (by omega)
theorem tj_goUp {post : St1 → Prop} {q m N C p w va : Nat} {o : Nat → Nat} {s : Nat → Nat} {P : Nat → (Nat → Nat) → Prop} {rws : Nat → Nat} (hm : m < 16) (hai : ai = nI m) (hQ : tj_Q RO VO q m) (hO : tj_Or OR oc ac w va N C o) (hS : tj_St VO q m N o P TD TV TW rws) (hp : p < N)
    (hY : tj_Dy VO q m o TW rws s (p + 1) PF PT DN) (H : ∀ DN' : Nat → Int32, tj_Dy VO q m o TW rws s p PF PT DN' → post (lv, qu, ai, st, fo, af, bd, tc, oc, ac, B, RC, AC, RO, VO, AS, LC, LI, AL, AN, PA, EX, BF, BN, DI, TO, HO, OR, TD, TV, TW, PF, PT, DN', VA)) : wpX_goUp post (lv, qu, ai, st, fo, af, bd, tc, oc, ac, B, RC, AC, RO, VO, AS, LC, LI, AL, AN, PA, EX, BF, BN, DI, TO, HO, OR, TD, TV, TW, PF, PT, DN, VA) (nI (o p)) := by
  obtain ⟨_, _, n5, _, oo, oinj, _, _⟩ := hO
  subst hai
  unfold wpX_goUp
  refine pk_loop (fun n i t => wX_goUp_2 post (nI (o p)) lv qu (nI m) st fo af bd tc oc ac n (nI i) B RC AC RO VO AS LC LI AL AN PA EX BF BN DI TO HO OR TD TV TW PF PT t VA)
    (fun i t => ∀ j, j < 4 → m.testBit j = true → (j < i → t j = nI (tj_e (tj_V VO q j) o p)) ∧ (i ≤ j → t j = nI (tj_e (tj_V VO q j) o (p + 1)))) 4 0 DN (by omega) (fun j hj mj => ⟨fun z => absurd z (by omega), fun _ => (hY j hj mj).1⟩) ?_ ?_
  · intro n t hI
    exact pk_le 4 4 (fun _ => H t (fun j hj mj => ⟨(hI j hj mj).1 hj, fun p' hp' => (hY j hj mj).2 p' (by omega)⟩)) (fun z => absurd z (by omega))
  · intro n i t hi hI hw
    have pi := pk_in (x := nI i) i 4 hi
    have ci : (nI i).toNatClampNeg = i := nI_clamp (by omega)
    -- leaving t as it is
    have stay : (m.testBit i = true → tj_e (tj_V VO q i) o (p + 1) = tj_e (tj_V VO q i) o p) → ∀ j, j < 4 → m.testBit j = true → (j < i + 1 → t j = nI (tj_e (tj_V VO q j) o p)) ∧ (i + 1 ≤ j → t j = nI (tj_e (tj_V VO q j) o (p + 1))) := by
      intro he j hj mj
      refine ⟨fun z => ?_, fun z => (hI j hj mj).2 (by omega)⟩
      by_cases ej : j = i
      · subst ej
        rw [← he mj]
        exact (hI j hj mj).2 (Nat.le_refl j)
      · exact (hI j hj mj).1 (by omega)
    refine pk_le 4 i (fun z => absurd z (by omega)) (fun _ => tj_br m i (fun z => nm_r (nI_1 i) (hw t (stay (fun y => (tj_tf y z).elim)))) (fun mi => And.intro pi ?_))
    have ti := (hI i hi mi).2 (Nat.le_refl i)
    have e3 : tj_e (tj_V VO q i) o N ≤ 3 := tj_e_3 (hQ i hi mi) (fun j hj => (oo j hj).2) oinj
    have ep := tj_e_up (V := tj_V VO q i) (o := o) (show p + 1 ≤ N by omega)
    obtain ⟨_, t2, _⟩ := hS i hi mi
    rw [ci, ti]
    cases hv : (tj_V VO q i).testBit (o p)
    · have ef := tj_e_f hv
      refine tj_pz (fun z => nm_r (nI_1 i) (hw t (stay (fun _ => ef)))) (fun z => And.intro pi ?_)
      have e1 : ((3 : Int32) * nI i + nI (tj_e (tj_V VO q i) o (p + 1))) - 1 = nI (3 * i + (tj_e (tj_V VO q i) o (p + 1) - 1)) := by
        rw [tj_i3]
        show nI (3 * i + tj_e (tj_V VO q i) o (p + 1)) - nI 1 = _
        rw [pk_sub (by omega)]
        congr 1
        omega
      rw [e1, nI_clamp (show 3 * i + (tj_e (tj_V VO q i) o (p + 1) - 1) < 2 ^ 31 by omega)]
      refine And.intro (vp_in_nI (by omega) (by omega)) (br_f (fun e => ?_) (nm_r (nI_1 i) (hw t (stay (fun _ => ef)))))
      obtain ⟨j, j1, j2, j3⟩ := tj_e_at (V := tj_V VO q i) (o := o) (k := tj_e (tj_V VO q i) o (p + 1) - 1) (p := p) (by rw [ef] at z ⊢; omega)
      have ej := t2 j (by omega) j2
      dsimp only at ej
      rw [j3, e] at ej
      have l1 := (oo j (by omega)).2
      have l2 := (oo p hp).2
      have := oinj p j hp (by omega) ((nI_eq (by omega) (by omega)).mp ej)
      omega
    · have et := tj_e_t hv
      refine tj_pz (fun z => absurd z (by omega)) (fun z => And.intro pi ?_)
      have e1 : ((3 : Int32) * nI i + nI (tj_e (tj_V VO q i) o (p + 1))) - 1 = nI (3 * i + tj_e (tj_V VO q i) o p) := by
        rw [tj_i3, et]
        exact nI_pred (3 * i + tj_e (tj_V VO q i) o p)
      rw [e1, nI_clamp (show 3 * i + tj_e (tj_V VO q i) o p < 2 ^ 31 by omega)]
      refine And.intro (vp_in_nI (by omega) (by omega)) (br_t (t2 p hp hv) (And.intro pi (And.intro pi (nm_r (e' := upd t i (nI (tj_e (tj_V VO q i) o p))) ?_ (nm_r (nI_1 i) (hw _ (fun j hj mj => ?_)))))))
      · rw [et, nI_pred, tj_b8 _ (by omega)]
      · by_cases ej : j = i
        · subst ej
          exact ⟨fun _ => pk_us, fun z => absurd z (by omega)⟩
        · rw [pk_un ej]
          exact ⟨fun z => (hI j hj mj).1 (by omega), fun z => (hI j hj mj).2 (by omega)⟩
theorem tj_takeAnswer {post : St1 → Prop} {q N C w va : Nat} {o : Nat → Nat} {s : Nat → Nat} (hq : q < 2) (hqu : qu = nI q) (hA : AS q = nI w) (hw : w < 32) (hO : tj_Or OR oc ac w va N C o) (hV : ∀ j, j < N → VA j = nI (s (o j)) ∧ s (o j) < 5) (hD : ∀ v, v < 5 → tj_N (DI v) 5)
    (H : ∀ (u : Nat → Nat) (DI' : Nat → Int32) (AN' : Nat → Int64), (∀ v, v < 5 → tj_N (DI' v) 5) → (∀ v, v < 5 → u v < 5) → (∀ j, j < N → u (o j) = s (o j)) → (∀ b, tj_in AN' b ↔ b = tj_key w u 5 ∨ tj_in AN b) → post (lv, qu, ai, st, fo, 1, bd, tc, oc, ac, B, RC, AC, RO, VO, AS, LC, LI, AL, AN', PA, EX, BF, BN, DI', TO, HO, OR, TD, TV, TW, PF, PT, DN, VA)) : wpX_takeAnswer post (lv, qu, ai, st, fo, af, bd, tc, oc, ac, B, RC, AC, RO, VO, AS, LC, LI, AL, AN, PA, EX, BF, BN, DI, TO, HO, OR, TD, TV, TW, PF, PT, DN, VA) := by
  obtain ⟨eo, _, n5, _, oo, oinj, _, _⟩ := hO
  subst eo
  unfold wpX_takeAnswer
  refine pk_loop (fun n k t => wX_takeAnswer_2 post lv qu ai st fo af bd tc (nI N) ac n (nI k) B RC AC RO VO AS LC LI AL AN PA EX BF BN t TO HO OR TD TV TW PF PT DN VA) (fun k t => (∀ v, v < 5 → tj_N (t v) 5) ∧ ∀ j, j < k → t (o j) = nI (s (o j))) N 0 DI (by omega) ⟨hD, fun j hj => absurd hj (by omega)⟩ ?_ ?_
  · rintro n t ⟨h1, h2⟩
    refine pk_le N N (fun _ => tj_offerAnswer (s := fun v => (t v).toNatClampNeg) hq hqu hA hw (fun v hv => (tj_N_e (h1 v hv) (by decide)).2) (fun v hv => (tj_N_e (h1 v hv) (by decide)).1) (fun AN' h => H (fun v => (t v).toNatClampNeg) t AN' h1 (fun v hv => (tj_N_e (h1 v hv) (by decide)).2) (fun j hj => ?_) h)) (fun z => absurd z (by omega))
    have := (hV j hj).2
    show (t (o j)).toNatClampNeg = _
    rw [h2 j hj, nI_clamp (by omega)]
  · rintro n k t hk ⟨h1, h2⟩ hn
    obtain ⟨o1, o2⟩ := oo k hk
    obtain ⟨v1, v2⟩ := hV k hk
    refine pk_le N k (fun z => absurd z (by omega)) (fun _ => And.intro (pk_in k 5 (by omega)) (And.intro (pk_in k 6 (by omega)) ?_))
    rw [nI_clamp (show k < 2 ^ 31 by omega), o1, v1, nI_clamp (show o k < 2 ^ 31 by omega), tj_nar (by omega)]
    refine And.intro (vp_in_nI o2 (by omega)) (nm_e (nm_r (nI_1 k) (hn _ ⟨fun v hv => ?_, fun j hj => ?_⟩)))
    · by_cases e : v = o k
      · rw [e, pk_us]; exact ⟨_, v2, rfl⟩
      · rw [pk_un e]; exact h1 v hv
    · by_cases e : j = k
      · rw [e, pk_us]
      · rw [pk_un (fun z => e (oinj j k (by omega) hk z))]; exact h2 j (by omega)
theorem tj_comesBehind {post : Int32 → Prop} {i D r : Nat} {x : Nat → Nat} (hi : i < 4) (hTD : TD i = nI D) (hD : D ≤ 3) (hr : r < 16) (hx : ∀ d, d < D → DI d = nI (x d) ∧ x d < 5) (hT : ∀ d, d < D → tj_N (TW (48 * i + (16 * d + r))) 5)
    (h1 : tj_le D x (fun d => (TW (48 * i + (16 * d + r))).toNatClampNeg) → post 1) (h0 : tj_le D (fun d => (TW (48 * i + (16 * d + r))).toNatClampNeg) x → post 0) : wpX_comesBehind post (lv, qu, ai, st, fo, af, bd, tc, oc, ac, B, RC, AC, RO, VO, AS, LC, LI, AL, AN, PA, EX, BF, BN, DI, TO, HO, OR, TD, TV, TW, PF, PT, DN, VA) (nI i) (nI r) := by
  have pi := pk_in (x := nI i) i 4 hi
  unfold wpX_comesBehind
  refine pk_loop (σ := Unit) (fun n d _ => wX_comesBehind_2 post (nI i) (nI r) lv qu ai st fo af bd tc oc ac B RC AC RO VO AS LC LI AL AN PA EX BF BN DI TO HO OR TD TV TW PF PT DN VA n (nI d)) (fun d _ => ∀ c, c < d → (TW (48 * i + (16 * c + r))).toNatClampNeg = x c) D 0 () (by omega) (fun c hc => absurd hc (by omega)) ?_ ?_
  · intro n _ hI
    refine And.intro pi ?_
    rw [nI_clamp (by omega), hTD]
    exact pk_le D D (fun _ => h0 (fun d hd _ => Nat.le_of_eq (hI d hd))) (fun z => absurd z (by omega))
  · intro n d _ hd hI hw
    refine And.intro pi ?_
    rw [nI_clamp (show i < 2 ^ 31 by omega), hTD]
    obtain ⟨x1, x2⟩ := hx d hd
    obtain ⟨u, u5, eu⟩ := hT d hd
    have cu : (TW (48 * i + (16 * d + r))).toNatClampNeg = u := by rw [eu, nI_clamp (by omega)]
    refine pk_le D d (fun z => absurd z (by omega)) (fun _ => tj_trieAt hi (by omega) hr (And.intro (pk_in d 5 (by omega)) ?_))
    rw [nI_clamp (show d < 2 ^ 31 by omega), x1, eu]
    refine pk_eq u (x d) (fun z => nm_r (nI_1 d) (hw () (lt_s hI (by rw [cu, z])))) (fun z => And.intro (pk_in d 5 (by omega)) (pk_le u (x d) (fun y => h0 (fun d' hd' hc => ?_)) (fun y => h1 (fun d' hd' hc => ?_))))
    · dsimp only at hc ⊢
      rcases Nat.lt_trichotomy d' d with w | w | w
      · rw [hI d' w]; exact Nat.le_refl _
      · subst w; rw [cu]; exact y
      · have := hc d w
        rw [cu] at this
        exact absurd this z
    · dsimp only at hc ⊢
      rcases Nat.lt_trichotomy d' d with w | w | w
      · rw [hI d' w]; exact Nat.le_refl _
      · subst w; rw [cu]; omega
      · have := hc d w
        rw [cu] at this
        exact absurd this.symm z
end
end
section
/-! ===== sorting rows in; a trie; the order of variables ===== -/
section
variable {lv qu ai st fo af bd tc oc ac : Int32} {B AN PA EX : Nat → Int64} {RC AC RO VO AS LC LI AL BF BN DI TO HO OR TD TV TW PF PT DN VA : Nat → Int32}
theorem tj_le_trans {D : Nat} {a b c : Nat → Nat} (h1 : tj_le D a b) (h2 : tj_le D b c) : tj_le D a c := by
  intro d hd hac
  have hab : ∀ e, e ≤ d → (∀ f, f < e → a f = b f) := by
    intro e
    induction e with
    | zero => intro _ f hf; omega
    | succ e ih =>
      intro he f hf
      have i := ih (by omega)
      rcases Nat.lt_or_ge f e with z | z
      · exact i f z
      · have ef : f = e := by omega
        subst ef
        have l1 := h1 f (by omega) i
        have l2 := h2 f (by omega) (fun g hg => by rw [← i g hg, hac g (by omega)])
        have l3 := hac f (by omega)
        omega
  have l1 := h1 d hd (hab d (Nat.le_refl d))
  have l2 := h2 d hd (fun g hg => by rw [← hab d (Nat.le_refl d) g hg, hac g hg])
  omega
theorem tj_le_c {D : Nat} {a a' b b' : Nat → Nat} (ha : ∀ d, d < D → a' d = a d) (hb : ∀ d, d < D → b' d = b d) (h : tj_le D a b) : tj_le D a' b' := by
  intro d hd hc
  rw [ha d hd, hb d hd]
  exact h d hd (fun c hcd => by rw [← ha c (by omega), ← hb c (by omega)]; exact hc c hcd)
/-- a row x is put into a sorted table at the place pl -/
theorem tj_ins {D n pl : Nat} {T T' : Nat → Nat → Nat} {x : Nat → Nat} (hpl : pl ≤ n) (hs : ∀ r r', r < r' → r' < n → tj_le D (fun d => T d r) (fun d => T d r'))
    (hA : ∀ d r, d < D → r < pl → T' d r = T d r) (hB : ∀ d, d < D → T' d pl = x d) (hC : ∀ d r, d < D → pl ≤ r → r < n → T' d (r + 1) = T d r)
    (hlo : ∀ r, r + 1 = pl → tj_le D (fun d => T d r) x) (hhi : ∀ r, pl ≤ r → r < n → tj_le D x (fun d => T d r)) : ∀ r r', r < r' → r' < n + 1 → tj_le D (fun d => T' d r) (fun d => T' d r') := by
  intro r r' h1 h2
  have lo : ∀ r, r < pl → tj_le D (fun d => T d r) x := by
    intro r hr
    rcases Nat.lt_or_ge (r + 1) pl with z | z
    · exact tj_le_trans (hs r (pl - 1) (by omega) (by omega)) (hlo (pl - 1) (by omega))
    · exact hlo r (by omega)
  rcases Nat.lt_trichotomy r' pl with z | z | z
  · exact tj_le_c (fun d hd => hA d r hd (by omega)) (fun d hd => hA d r' hd z) (hs r r' h1 (by omega))
  · subst z
    exact tj_le_c (fun d hd => hA d r hd h1) (fun d hd => hB d hd) (lo r h1)
  · obtain ⟨k, rfl⟩ : ∃ k, r' = k + 1 := ⟨r' - 1, by omega⟩
    have eb : ∀ d, d < D → T' d (k + 1) = T d k := fun d hd => hC d k hd (by omega) (by omega)
    rcases Nat.lt_trichotomy r pl with y | y | y
    · exact tj_le_c (fun d hd => hA d r hd y) eb (hs r k (by omega) (by omega))
    · subst y
      exact tj_le_c (fun d hd => hB d hd) eb (hhi k (by omega) (by omega))
    · obtain ⟨l, rfl⟩ : ∃ l, r = l + 1 := ⟨r - 1, by omega⟩
      exact tj_le_c (fun d hd => hC d l hd (by omega) (by omega)) eb (hs l k (by omega) (by omega))
theorem tj_key_one {s : Nat → Nat} {v : Nat} : ∀ n, (n ≤ v → tj_key (2 ^ v) s n = 0) ∧ (v < n → tj_key (2 ^ v) s n = s v) := by
  intro n
  induction n with
  | zero => exact ⟨fun _ => rfl, fun h => absurd h (by omega)⟩
  | succ n ih =>
    by_cases e : v = n
    · have b : (2 ^ v).testBit n = true := by rw [tj_bit2p, decide_eq_true_iff]; exact e
      rw [tj_key_t b, ih.1 (by omega)]
      exact ⟨fun h => absurd h (by omega), fun _ => by rw [e]; omega⟩
    · have b : (2 ^ v).testBit n = false := by rw [tj_bit2p, decide_eq_false_iff_not]; exact e
      rw [tj_key_f b]
      exact ⟨fun h => ih.1 (by omega), fun h => ih.2 (by omega)⟩
theorem tj_sortIn {post : St1 → Prop} {i t D n row : Nat} {tv : Nat → Nat} (hi : i < 4) (ht : t < 8) (ok : tj_aok RO VO t) (hrow : row < 2 ^ 31) (hTD : TD i = nI D) (hD : D ≤ 3) (hTV : ∀ d, d < D → TV (3 * i + d) = nI (tv d) ∧ tv d < 5 ∧ (tj_vs VO t).testBit (tv d) = true) (hn : n < 16)
    (hT : ∀ d r, d < D → r < n → tj_N (TW (48 * i + (16 * d + r))) 5) (hDI : ∀ v, v < 5 → tj_N (DI v) 5) (hs : ∀ r r', r < r' → r' < n → tj_le D (fun d => (TW (48 * i + (16 * d + r))).toNatClampNeg) (fun d => (TW (48 * i + (16 * d + r'))).toNatClampNeg))
    (H : ∀ DI' TW' : Nat → Int32, (∀ v, v < 5 → tj_N (DI' v) 5) → (∀ z, z < 48 * i ∨ 48 * i + 48 ≤ z → TW' z = TW z) → (∀ d r, d < D → r < n + 1 → tj_N (TW' (48 * i + (16 * d + r))) 5) →
      (∀ r r', r < r' → r' < n + 1 → tj_le D (fun d => (TW' (48 * i + (16 * d + r))).toNatClampNeg) (fun d => (TW' (48 * i + (16 * d + r'))).toNatClampNeg)) →
      (∀ y : Nat → Nat, (∀ d, y d < 5) → ((∃ r, r < n + 1 ∧ ∀ d, d < D → TW' (48 * i + (16 * d + r)) = nI (y d)) ↔ (∀ d, d < D → tj_ra RO VO t row (tv d) = y d) ∨ ∃ r, r < n ∧ ∀ d, d < D → TW (48 * i + (16 * d + r)) = nI (y d))) → post (lv, qu, ai, st, fo, af, bd, tc, oc, ac, B, RC, AC, RO, VO, AS, LC, LI, AL, AN, PA, EX, BF, BN, DI', TO, HO, OR, TD, TV, TW', PF, PT, DN, VA)) : wpX_sortIn post (lv, qu, ai, st, fo, af, bd, tc, oc, ac, B, RC, AC, RO, VO, AS, LC, LI, AL, AN, PA, EX, BF, BN, DI, TO, HO, OR, TD, TV, TW, PF, PT, DN, VA) (nI i) (nI t) (nI row) (nI n) := by
  have pi := pk_in (x := nI i) i 4 hi
  have ci : (nI i).toNatClampNeg = i := nI_clamp (by omega)
  have x5 : ∀ d, tj_ra RO VO t row (tv d) < 5 := fun d => tj_col_lt _ _ _
  unfold wpX_sortIn
  refine pk_loop (fun n' d s => wX_sortIn_3 post (nI i) (nI t) (nI row) (nI n) lv qu ai st fo af bd tc oc ac n' (nI d) B RC AC RO VO AS LC LI AL AN PA EX BF BN s TO HO OR TD TV TW PF PT DN VA) (fun d s => (∀ v, v < 5 → tj_N (s v) 5) ∧ ∀ c, c < d → s c = nI (tj_ra RO VO t row (tv c))) D 0 DI (by omega) ⟨hDI, fun c hc => absurd hc (by omega)⟩ ?_ ?_
  · rintro n' di ⟨hd1, hd2⟩
    refine And.intro pi ?_
    rw [ci, hTD]
    refine pk_le D D (fun _ => ?_) (fun z => absurd z (by omega))
    -- the place is found: the row is written
    have fin : ∀ (pl : Nat) (tw : Nat → Int32), pl ≤ n → (∀ d r, d < D → r < pl → tw (48 * i + (16 * d + r)) = TW (48 * i + (16 * d + r))) → (∀ d r, d < D → pl ≤ r → r < n → tw (48 * i + (16 * d + (r + 1))) = TW (48 * i + (16 * d + r))) → (∀ z, z < 48 * i ∨ 48 * i + 48 ≤ z → tw z = TW z) →
        (∀ r, pl ≤ r → r < n → tj_le D (fun d => tj_ra RO VO t row (tv d)) (fun d => (TW (48 * i + (16 * d + r))).toNatClampNeg)) → (∀ r, r + 1 = pl → tj_le D (fun d => (TW (48 * i + (16 * d + r))).toNatClampNeg) (fun d => tj_ra RO VO t row (tv d))) → ∃ fu, wX_sortIn_139 post (nI i) (nI pl) lv qu ai st fo af bd tc oc ac fu 0 B RC AC RO VO AS LC LI AL AN PA EX BF BN di TO HO OR TD TV tw PF PT DN VA := by
      intro pl tw hpl f1 f2 f3 f4 f5
      refine pk_loop (fun n' d s => wX_sortIn_139 post (nI i) (nI pl) lv qu ai st fo af bd tc oc ac n' (nI d) B RC AC RO VO AS LC LI AL AN PA EX BF BN di TO HO OR TD TV s PF PT DN VA) (fun d s => (∀ c, c < d → s (48 * i + (16 * c + pl)) = nI (tj_ra RO VO t row (tv c))) ∧ ∀ z, (∀ c, c < d → z ≠ 48 * i + (16 * c + pl)) → s z = tw z) D 0 tw (by omega) ⟨fun c hc => absurd hc (by omega), fun _ _ => rfl⟩ ?_ ?_
      · rintro n' s ⟨s1, s2⟩
        refine And.intro pi ?_
        rw [ci, hTD]
        have gA : ∀ d r, d < D → r < pl → s (48 * i + (16 * d + r)) = TW (48 * i + (16 * d + r)) := fun d r hd hr => (s2 _ (fun c hc => by omega)).trans (f1 d r hd hr)
        have gC : ∀ d r, d < D → pl ≤ r → r < n → s (48 * i + (16 * d + (r + 1))) = TW (48 * i + (16 * d + r)) := fun d r hd hr hr2 => (s2 _ (fun c hc => by omega)).trans (f2 d r hd hr hr2)
        refine pk_le D D (fun _ => H di s hd1 (fun z hz => (s2 z (fun c hc => by omega)).trans (f3 z hz)) ?_ ?_ ?_) (fun z => absurd z (by omega))
        · intro d r hd hr
          rcases Nat.lt_trichotomy r pl with z | z | z
          · rw [gA d r hd z]; exact hT d r hd (by omega)
          · rw [z, s1 d hd]; exact ⟨_, x5 d, rfl⟩
          · obtain ⟨k, rfl⟩ : ∃ k, r = k + 1 := ⟨r - 1, by omega⟩
            rw [gC d k hd (by omega) (by omega)]; exact hT d k hd (by omega)
        · exact tj_ins (T := fun d r => (TW (48 * i + (16 * d + r))).toNatClampNeg) (T' := fun d r => (s (48 * i + (16 * d + r))).toNatClampNeg) (x := fun d => tj_ra RO VO t row (tv d)) hpl hs (fun d r hd hr => by rw [gA d r hd hr]) (fun d hd => by rw [s1 d hd, nI_clamp (by have := x5 d; omega)]) (fun d r hd hr hr2 => by rw [gC d r hd hr hr2]) f5 f4
        · intro y hy
          constructor
          · rintro ⟨r, hr, h⟩
            rcases Nat.lt_trichotomy r pl with z | z | z
            · exact Or.inr ⟨r, by omega, fun d hd => by rw [← gA d r hd z]; exact h d hd⟩
            · refine Or.inl (fun d hd => ?_)
              have e := h d hd
              rw [z, s1 d hd] at e
              have := x5 d
              have := hy d
              exact (nI_eq (by omega) (by omega)).mp e
            · obtain ⟨k, rfl⟩ : ∃ k, r = k + 1 := ⟨r - 1, by omega⟩
              exact Or.inr ⟨k, by omega, fun d hd => by rw [← gC d k hd (by omega) (by omega)]; exact h d hd⟩
          · rintro (h | ⟨r, hr, h⟩)
            · exact ⟨pl, by omega, fun d hd => by rw [s1 d hd, h d hd]⟩
            · rcases Nat.lt_or_ge r pl with z | z
              · exact ⟨r, by omega, fun d hd => by rw [gA d r hd z]; exact h d hd⟩
              · exact ⟨r + 1, by omega, fun d hd => by rw [gC d r hd z hr]; exact h d hd⟩
      · rintro n' d s hd ⟨s1, s2⟩ hw
        refine And.intro pi ?_
        rw [ci, hTD]
        refine pk_le D d (fun z => absurd z (by omega)) (fun _ => And.intro (pk_in d 5 (by omega)) ?_)
        have xd := x5 d
        rw [tj_i48, nI_clamp (show 48 * i + (16 * d + pl) < 2 ^ 31 by omega), nI_clamp (show d < 2 ^ 31 by omega), hd2 d hd, tj_nar (by omega)]
        refine And.intro (vp_in_nI (by omega) (by omega)) (nm_e (nm_r (nI_1 d) (hw _ ⟨fun c hc => ?_, fun z hz => ?_⟩)))
        · by_cases e : c = d
          · rw [e, pk_us]
          · rw [pk_un (by omega)]; exact s1 c (by omega)
        · rw [pk_un (hz d (by omega))]
          exact s2 z (fun c hc => hz c (by omega))
    refine loop_m (fun n' (s : Nat × (Nat → Int32)) => wX_sortIn_55 post (nI i) lv qu ai st fo af bd tc oc ac n' (nI s.1) B RC AC RO VO AS LC LI AL AN PA EX BF BN di TO HO OR TD TV s.2 PF PT DN VA)
      (fun s => s.1 ≤ n ∧ (∀ d r, d < D → r < s.1 → s.2 (48 * i + (16 * d + r)) = TW (48 * i + (16 * d + r))) ∧ (∀ d r, d < D → s.1 ≤ r → r < n → s.2 (48 * i + (16 * d + (r + 1))) = TW (48 * i + (16 * d + r))) ∧ (∀ z, z < 48 * i ∨ 48 * i + 48 ≤ z → s.2 z = TW z) ∧
        (∀ r, s.1 ≤ r → r < n → tj_le D (fun d => tj_ra RO VO t row (tv d)) (fun d => (TW (48 * i + (16 * d + r))).toNatClampNeg))) (fun s => s.1) ?_ (n, TW) ⟨Nat.le_refl _, fun _ _ _ _ => rfl, fun d r _ h1 h2 => absurd (show n ≤ r from h1) (by omega), fun _ _ => rfl, fun r h1 h2 => absurd (show n ≤ r from h1) (by omega)⟩
    rintro n' ⟨pl, tw⟩ ⟨f0, f1, f2, f3, f4⟩ hn'
    dsimp only at f0 f1 f2 f3 f4 hn' ⊢
    cases pl with
    | zero => exact pk_le 0 0 (fun _ => fin 0 tw f0 f1 f2 f3 f4 (fun r hr => absurd hr (by omega))) (fun z => absurd z (by omega))
    | succ pl =>
      refine pk_le (pl + 1) 0 (fun z => absurd z (by omega)) (fun _ => ?_)
      rw [nI_pred]
      have er : ∀ d, d < D → tw (48 * i + (16 * d + pl)) = TW (48 * i + (16 * d + pl)) := fun d hd => f1 d pl hd (by omega)
      refine tj_comesBehind (x := fun d => tj_ra RO VO t row (tv d)) hi hTD hD (by omega) (fun d hd => ⟨hd2 d hd, x5 d⟩) (fun d hd => by rw [er d hd]; exact hT d pl hd (by omega)) (fun hle => br_f (by decide) ?_) (fun hle => br_t rfl (fin (pl + 1) tw f0 f1 f2 f3 f4 (fun r hr => ?_)))
      · -- row pl moves up
        refine pk_loop (fun n'' d s => wX_sortIn_75 post (wX_sortIn_55 post (nI i) lv qu ai st fo af bd tc oc ac n') (nI i) (nI (pl + 1)) lv qu ai st fo af bd tc oc ac n'' (nI d) B RC AC RO VO AS LC LI AL AN PA EX BF BN di TO HO OR TD TV s PF PT DN VA) (fun d s => (∀ c, c < d → s (48 * i + (16 * c + (pl + 1))) = TW (48 * i + (16 * c + pl))) ∧ ∀ z, (∀ c, c < d → z ≠ 48 * i + (16 * c + (pl + 1))) → s z = tw z) D 0 tw (by omega) ⟨fun c hc => absurd hc (by omega), fun _ _ => rfl⟩ ?_ ?_
        · rintro n'' s ⟨s1, s2⟩
          refine And.intro pi ?_
          rw [ci, hTD]
          refine pk_le D D (fun _ => nm_r (pk_m1 pl) (hn' (pl, s) ⟨by show pl ≤ n; omega, fun d r hd hr => ?_, fun d r hd hr hr2 => ?_, fun z hz => ?_, fun r hr hr2 => ?_⟩ (by show pl < pl + 1; omega))) (fun z => absurd z (by omega))
          · have hr' : r < pl := hr
            exact (s2 _ (fun c hc => by omega)).trans (f1 d r hd (by omega))
          · have hr' : pl ≤ r := hr
            show s _ = _
            rcases Nat.eq_or_lt_of_le hr' with z | z
            · rw [← z]; exact s1 d hd
            · exact (s2 _ (fun c hc => by omega)).trans (f2 d r hd (by omega) hr2)
          · exact (s2 z (fun c hc => by omega)).trans (f3 z hz)
          · have hr' : pl ≤ r := hr
            rcases Nat.eq_or_lt_of_le hr' with z | z
            · subst z
              exact tj_le_c (fun _ _ => rfl) (fun d hd => by rw [er d hd]) hle
            · exact f4 r (by omega) hr2
        · rintro n'' d s hd ⟨s1, s2⟩ hw
          refine And.intro pi ?_
          rw [ci, hTD]
          refine pk_le D d (fun z => absurd z (by omega)) (fun _ => ?_)
          have e1 : (nI (48 * i + (16 * d + (pl + 1)))) - 1 = nI (48 * i + (16 * d + pl)) := nI_pred (48 * i + (16 * d + pl))
          obtain ⟨u, u5, eu⟩ := hT d pl hd (by omega)
          have e2 : s (48 * i + (16 * d + pl)) = nI u := by rw [s2 _ (fun c hc => by omega), er d hd, eu]
          rw [tj_i48, e1, nI_clamp (show 48 * i + (16 * d + pl) < 2 ^ 31 by omega), nI_clamp (show 48 * i + (16 * d + (pl + 1)) < 2 ^ 31 by omega), e2, tj_nar (by omega)]
          refine And.intro (vp_in_nI (by omega) (by omega)) (And.intro (vp_in_nI (by omega) (by omega)) (nm_e (nm_r (nI_1 d) (hw _ ⟨fun c hc => ?_, fun z hz => ?_⟩))))
          · by_cases e : c = d
            · rw [e, pk_us, eu]
            · rw [pk_un (by omega)]; exact s1 c (by omega)
          · rw [pk_un (hz d (by omega))]
            exact s2 z (fun c hc => hz c (by omega))
      · have e : r = pl := by omega
        subst e
        exact tj_le_c (fun d hd => by rw [er d hd]) (fun _ _ => rfl) hle
  · rintro n' d s hd ⟨s1, s2⟩ hw
    refine And.intro pi ?_
    rw [ci, hTD]
    refine pk_le D d (fun z => absurd z (by omega)) (fun _ => ?_)
    obtain ⟨v1, v2, v3⟩ := hTV d hd
    rw [tj_i3, nI_clamp (show 3 * i + d < 2 ^ 31 by omega), v1, tj_shl (show tv d < 31 by omega)]
    have p32 : 2 ^ tv d < 32 := tj_2p (k := 5) v2
    have xd := x5 d
    have ek : tj_key (2 ^ tv d) (tj_ra RO VO t row) 5 = tj_ra RO VO t row (tv d) := (tj_key_one 5).2 v2
    refine And.intro (vp_in_nI (by omega) (by omega)) (tj_keyOfRow ht ok hrow p32 (fun v hv => ?_) ?_)
    · rw [tj_bit2p, decide_eq_true_iff] at hv
      rw [← hv]; exact v3
    · rw [ek, nI_clamp (show d < 2 ^ 31 by omega), tj_b8 _ (show tj_ra RO VO t row (tv d) < 128 by omega)]
      refine And.intro (vp_in_nI (by omega) (by omega)) (nm_e (nm_r (nI_1 d) (hw _ ⟨fun v hv => ?_, fun c hc => ?_⟩)))
      · by_cases e : v = d
        · rw [e, pk_us]; exact ⟨_, xd, rfl⟩
        · rw [pk_un e]; exact s1 v hv
      · by_cases e : c = d
        · rw [e, pk_us]
        · rw [pk_un e]; exact s2 c (by omega)
theorem tj_buildTrie {post : St1 → Prop} {q m i N C w : Nat} {o : Nat → Nat} (hq : q < 2) (hqu : qu = nI q) (hI : tj_I RO VO LC LI q m) (hL : tj_L AL m) (hO : tj_Or OR oc ac w (tj_va VO q m 4) N C o) (hi : i < 4) (mi : m.testBit i = true) (hDI : ∀ v, v < 5 → tj_N (DI v) 5)
    (H : ∀ (rws : Nat) (DI' : Nat → Int32) (TD' : Nat → Int32) (TV' : Nat → Int32) (TW' : Nat → Int32) (PF' : Nat → Int32) (PT' : Nat → Int32) (DN' : Nat → Int32), (∀ v, v < 5 → tj_N (DI' v) 5) → (∀ j, j ≠ i → TD' j = TD j ∧ DN' j = DN j) → (∀ z, z < 3 * i ∨ 3 * i + 3 ≤ z → TV' z = TV z) → (∀ z, z < 48 * i ∨ 48 * i + 48 ≤ z → TW' z = TW z) → (∀ z, z ≠ 4 * i → PF' z = PF z ∧ PT' z = PT z) →
      tj_TS (tj_V VO q i) N o (tj_P (tj_V VO q) (tj_n LC) (tj_R RO VO LI q) (tj_av AL) i) (TD' i) (fun d => TV' (3 * i + d)) (fun z => TW' (48 * i + z)) rws → DN' i = 0 → PF' (4 * i) = 0 → PT' (4 * i) = nI rws → post (lv, qu, ai, st, fo, af, bd, tc, oc, ac, B, RC, AC, RO, VO, AS, LC, LI, AL, AN, PA, EX, BF, BN, DI', TO, HO, OR, TD', TV', TW', PF', PT', DN', VA)) : wpX_buildTrie post (lv, qu, ai, st, fo, af, bd, tc, oc, ac, B, RC, AC, RO, VO, AS, LC, LI, AL, AN, PA, EX, BF, BN, DI, TO, HO, OR, TD, TV, TW, PF, PT, DN, VA) (nI i) := by
  obtain ⟨eo, ea', n5, cn, oo, oinj, ova, oask⟩ := hO
  subst hqu eo
  obtain ⟨ok, _, rows⟩ := hI i hi mi
  obtain ⟨en, n16⟩ := tj_I_n hI hi mi
  obtain ⟨ea, a16⟩ := tj_L_e hL hi mi
  have pi := pk_in (x := nI i) i 4 hi
  have ci : (nI i).toNatClampNeg = i := nI_clamp (by omega)
  have e3 : tj_e (tj_V VO q i) o N ≤ 3 := tj_e_3 ok (fun j hj => (oo j hj).2) oinj
  have vl : tj_V VO q i < 32 := tj_vs_lt ok
  unfold wpX_buildTrie
  refine nm_r (tj_i4 q i) (tj_variablesOfAtom (by omega) ok (And.intro pi (nm_r (e' := upd TD i 0) (by rw [ci]) ?_)))
  refine pk_loop (fun n k (s : (Nat → Int32) × (Nat → Int32)) => wX_buildTrie_25 post (nI i) (nI (4 * q + i)) (nI (tj_vs VO (4 * q + i))) lv (nI q) ai st fo af bd tc (nI N) ac n (nI k) B RC AC RO VO AS LC LI AL AN PA EX BF BN DI TO HO OR s.1 s.2 TW PF PT DN VA)
    (fun k s => (∀ j, j ≠ i → s.1 j = TD j) ∧ s.1 i = nI (tj_e (tj_V VO q i) o k) ∧ (∀ z, z < 3 * i ∨ 3 * i + 3 ≤ z → s.2 z = TV z) ∧ ∀ j, j < k → (tj_V VO q i).testBit (o j) = true → s.2 (3 * i + tj_e (tj_V VO q i) o j) = nI (o j)) N 0 (upd TD i 0, TV) (by omega)
    ⟨fun j hj => pk_un hj, pk_us, fun _ _ => rfl, fun j hj => absurd hj (by omega)⟩ ?_ ?_
  · rintro n ⟨td, tv⟩ ⟨t1, t2, t3, t4⟩
    dsimp only at t1 t2 t3 t4 ⊢
    refine pk_le N N (fun _ => ?_) (fun z => absurd z (by omega))
    have tvd : ∀ d, d < tj_e (tj_V VO q i) o N → ∃ j, j < N ∧ (tj_V VO q i).testBit (o j) = true ∧ tj_e (tj_V VO q i) o j = d ∧ tv (3 * i + d) = nI (o j) ∧ (tv (3 * i + d)).toNatClampNeg = o j := by
      intro d hd
      obtain ⟨j, j1, j2, j3⟩ := tj_e_at hd
      have := t4 j j1 j2
      rw [j3] at this
      have l := (oo j j1).2
      exact ⟨j, j1, j2, j3, this, by rw [this, nI_clamp (by omega)]⟩
    refine pk_loop (fun n k (s : (Nat → Int32) × (Nat → Int32)) => wX_buildTrie_96 post (nI i) (nI (4 * q + i)) n (nI (tj_ct (tj_av AL i) k)) (nI k) lv (nI q) ai st fo af bd tc (nI N) ac B RC AC RO VO AS LC LI AL AN PA EX BF BN s.1 TO HO OR td tv s.2 PF PT DN VA)
      (fun k s => (∀ v, v < 5 → tj_N (s.1 v) 5) ∧ (∀ z, z < 48 * i ∨ 48 * i + 48 ≤ z → s.2 z = TW z) ∧ (∀ d r, d < tj_e (tj_V VO q i) o N → r < tj_ct (tj_av AL i) k → tj_N (s.2 (48 * i + (16 * d + r))) 5) ∧
        (∀ r r', r < r' → r' < tj_ct (tj_av AL i) k → tj_le (tj_e (tj_V VO q i) o N) (fun d => (s.2 (48 * i + (16 * d + r))).toNatClampNeg) (fun d => (s.2 (48 * i + (16 * d + r'))).toNatClampNeg)) ∧
        (∀ y : Nat → Nat, (∀ d, y d < 5) → ((∃ r, r < tj_ct (tj_av AL i) k ∧ ∀ d, d < tj_e (tj_V VO q i) o N → s.2 (48 * i + (16 * d + r)) = nI (y d)) ↔ ∃ k', k' < k ∧ tj_av AL i k' ∧ ∀ d, d < tj_e (tj_V VO q i) o N → tj_R RO VO LI q i k' (tv (3 * i + d)).toNatClampNeg = y d)))
      (tj_n LC i) 0 (DI, TW) (by omega) ⟨hDI, fun _ _ => rfl, fun d r _ hr => absurd hr (Nat.not_lt_zero r), fun r r' _ hr => absurd hr (Nat.not_lt_zero r'), fun y _ => ⟨fun ⟨r, hr, _⟩ => absurd hr (Nat.not_lt_zero r), fun ⟨k', hk', _⟩ => absurd hk' (by omega)⟩⟩ ?_ ?_
    · rintro n ⟨di, tw⟩ ⟨s1, s2, s3, s4, s5⟩
      dsimp only at s1 s2 s3 s4 s5 ⊢
      have cl := tj_ct_le (tj_av AL i) (tj_n LC i)
      refine And.intro pi ?_
      rw [ci, en]
      have e4 : (4 : Int32) * nI i = nI (4 * i) := by
        show nI 4 * nI i = _
        rw [pk_mul]
      rw [e4, nI_clamp (show 4 * i < 2 ^ 31 by omega), tj_b8 _ (show tj_ct (tj_av AL i) (tj_n LC i) < 128 by omega)]
      have p16 := vp_in_nI (show 4 * i < 16 by omega) (by omega)
      refine tj_ple (fun _ => And.intro pi (nm_e (And.intro p16 (nm_e (And.intro p16 (nm_e (H (tj_ct (tj_av AL i) (tj_n LC i)) di td tv tw (upd PF (4 * i) 0) (upd PT (4 * i) (nI (tj_ct (tj_av AL i) (tj_n LC i)))) (upd DN i 0) s1 (fun j hj => ⟨t1 j hj, pk_un hj⟩) t3 s2 (fun z hz => ⟨pk_un hz, pk_un hz⟩) ?_ pk_us pk_us pk_us))))))) (fun z => absurd z (by omega))
      refine ⟨t2, t4, by omega, s3, s4, fun σ hσ => ?_⟩
      constructor
      · rintro ⟨k, k1, k2, k3⟩
        obtain ⟨r, r1, r2⟩ := (s5 (fun d => σ (tv (3 * i + d)).toNatClampNeg) (fun d => hσ _)).mpr ⟨k, k1, k2, fun d hd => by
          obtain ⟨j, j1, j2, j3, j4, j5⟩ := tvd d hd
          rw [j5]
          exact (k3 (o j) j2).symm⟩
        refine ⟨r, r1, fun j hj hv => ?_⟩
        have jl : tj_e (tj_V VO q i) o j < tj_e (tj_V VO q i) o N := tj_ct_lt (p := fun j => (tj_V VO q i).testBit (o j) = true) hj hv
        have l := (oo j hj).2
        have := r2 _ jl
        rw [t4 j hj hv, nI_clamp (by omega)] at this
        exact this
      · rintro ⟨r, r1, r2⟩
        obtain ⟨k, k1, k2, k3⟩ := (s5 (fun d => σ (tv (3 * i + d)).toNatClampNeg) (fun d => hσ _)).mp ⟨r, r1, fun d hd => by
          obtain ⟨j, j1, j2, j3, j4, j5⟩ := tvd d hd
          rw [j5]
          have := r2 j j1 j2
          rw [j3] at this
          exact this⟩
        refine ⟨k, k1, k2, fun v hv => ?_⟩
        obtain ⟨j, j1, j2⟩ := (ova v).mp ((tj_va_bit v 4).mpr ⟨i, hi, mi, hv⟩)
        subst j2
        have jl : tj_e (tj_V VO q i) o j < tj_e (tj_V VO q i) o N := tj_ct_lt (p := fun j => (tj_V VO q i).testBit (o j) = true) j1 hv
        have l := (oo j j1).2
        have := k3 _ jl
        rw [t4 j j1 hv, nI_clamp (by omega)] at this
        exact this.symm
    · rintro n k ⟨di, tw⟩ hk ⟨s1, s2, s3, s4, s5⟩ hw
      dsimp only at s1 s2 s3 s4 s5 hw ⊢
      have cl := tj_ct_le (tj_av AL i) k
      refine And.intro pi ?_
      rw [ci, en]
      refine tj_ple (fun z => absurd z (by omega)) (fun _ => And.intro pi ?_)
      rw [ea]
      refine tj_br (AL i).toNatClampNeg k (fun z => nm_r (nI_1 k) ?_) (fun z => And.intro (pk_in _ 64 (by omega) (tj_i16 i k)) ?_)
      · have ec : tj_ct (tj_av AL i) (k + 1) = tj_ct (tj_av AL i) k := tj_ct_f (fun y => tj_tf y z)
        rw [← ec]
        refine hw (di, tw) ⟨s1, s2, ?_, ?_, ?_⟩
        · rw [ec]; exact s3
        · rw [ec]; exact s4
        · intro y hy
          rw [ec, s5 y hy]
          constructor
          · rintro ⟨k', k1, k2⟩; exact ⟨k', by omega, k2⟩
          · rintro ⟨k', k1, k2, k3⟩
            rcases Nat.lt_or_ge k' k with u | u
            · exact ⟨k', u, k2, k3⟩
            · rw [show k' = k by omega] at k2; exact (tj_tf k2 z).elim
      · have ec : tj_ct (tj_av AL i) (k + 1) = tj_ct (tj_av AL i) k + 1 := tj_ct_t z
        obtain ⟨r1, r2, r3⟩ := rows k hk
        have rb := tj_rw_b (tj_rel RO (4 * q + i))
        rw [tj_i16, nI_clamp (show 16 * i + k < 2 ^ 31 by omega), r1]
        refine tj_sortIn (D := tj_e (tj_V VO q i) o N) (tv := fun d => (tv (3 * i + d)).toNatClampNeg) hi (by omega) ok (by omega) t2 e3 (fun d hd => ?_) (by omega) s3 s1 s4 (fun DI2 TW2 a1 a2 a3 a4 a5 => nm_r (e' := nI (tj_ct (tj_av AL i) (k + 1))) (by rw [ec, nI_1]) (nm_r (nI_1 k) (hw (DI2, TW2) ⟨a1, fun z hz => (a2 z hz).trans (s2 z hz), ?_, ?_, fun y hy => ?_⟩)))
        · obtain ⟨j, j1, j2, j3, j4, j5⟩ := tvd d hd
          rw [j5]
          exact ⟨j4, (oo j j1).2, j2⟩
        · rw [ec]; exact a3
        · rw [ec]; exact a4
        · dsimp only
          rw [ec, a5 y hy, s5 y hy]
          constructor
          · rintro (h | ⟨k', k1, k2⟩)
            · exact ⟨k, by omega, z, h⟩
            · exact ⟨k', by omega, k2⟩
          · rintro ⟨k', k1, k2, k3⟩
            rcases Nat.lt_or_ge k' k with u | u
            · exact Or.inr ⟨k', u, k2, k3⟩
            · rw [show k' = k by omega] at k3; exact Or.inl k3
  · rintro n k ⟨td, tv⟩ hk ⟨t1, t2, t3, t4⟩ hw
    dsimp only at t1 t2 t3 t4 hw ⊢
    obtain ⟨o1, o2⟩ := oo k hk
    have ek := tj_e_up (V := tj_V VO q i) (o := o) (show k + 1 ≤ N by omega)
    refine pk_le N k (fun z => absurd z (by omega)) (fun _ => And.intro (pk_in k 5 (by omega)) ?_)
    rw [nI_clamp (show k < 2 ^ 31 by omega), o1]
    refine tj_br (tj_vs VO (4 * q + i)) (o k) (fun z => nm_r (nI_1 k) (hw (td, tv) ⟨t1, ?_, t3, fun j hj hv => ?_⟩)) (fun z => And.intro pi (And.intro (pk_in k 5 (by omega)) ?_)) (hm := by have : tj_vs VO (4 * q + i) < 32 := vl; omega)
    · have ef : tj_e (tj_V VO q i) o (k + 1) = tj_e (tj_V VO q i) o k := tj_e_f z
      rw [ef]; exact t2
    · rcases Nat.lt_or_ge j k with u | u
      · exact t4 j u hv
      · rw [show j = k by omega] at hv; exact (tj_tf hv z).elim
    · have et : tj_e (tj_V VO q i) o (k + 1) = tj_e (tj_V VO q i) o k + 1 := tj_e_t z
      rw [ci, t2, tj_i3, nI_clamp (show 3 * i + tj_e (tj_V VO q i) o k < 2 ^ 31 by omega), tj_nar (show o k < 128 by omega), nI_1, tj_b8 _ (show tj_e (tj_V VO q i) o k + 1 < 128 by omega)]
      refine And.intro (vp_in_nI (by omega) (by omega)) (nm_e (And.intro pi (And.intro pi (nm_e (nm_r (nI_1 k) (hw (upd td i (nI (tj_e (tj_V VO q i) o k + 1)), upd tv (3 * i + tj_e (tj_V VO q i) o k) (nI (o k))) ⟨fun j hj => (pk_un hj).trans (t1 j hj), by rw [et]; exact pk_us, fun z hz => (pk_un (by omega)).trans (t3 z hz), fun j hj hv => ?_⟩))))))
      show upd tv (3 * i + tj_e (tj_V VO q i) o k) (nI (o k)) (3 * i + tj_e (tj_V VO q i) o j) = nI (o j)
      rcases Nat.lt_or_ge j k with u | u
      · have jl : tj_e (tj_V VO q i) o j < tj_e (tj_V VO q i) o k := tj_ct_lt (p := fun j => (tj_V VO q i).testBit (o j) = true) u hv
        rw [pk_un (by omega)]
        exact t4 j u hv
      · rw [show j = k by omega, pk_us]
end
end
section
/-! ===== the order of variables; the search ===== -/
section
variable {lv qu ai st fo af bd tc oc ac : Int32} {B AN PA EX : Nat → Int64} {RC AC RO VO AS LC LI AL BF BN DI TO HO OR TD TV TW PF PT DN VA : Nat → Int32}
theorem tj_ct_disj {p q : Nat → Prop} {n : Nat} (h : ∀ a, p a → ¬ q a) : tj_ct p n + tj_ct q n ≤ n := by
  induction n with
  | zero => exact Nat.le_refl 0
  | succ n ih =>
    rcases tj_ct_cases p n with ⟨a, b⟩ | ⟨a, b⟩
    · rw [b, tj_ct_f (h n a)]; omega
    · rcases tj_ct_cases q n with ⟨c, d⟩ | ⟨c, d⟩ <;> omega
theorem tj_addToOrder {post : St1 → Prop} {N v : Nat} (hoc : oc = nI N) (hN : N < 5) (hv : v < 5) (H : post (lv, qu, ai, st, fo, af, bd, tc, nI (N + 1), ac, B, RC, AC, RO, VO, AS, LC, LI, AL, AN, PA, EX, BF, BN, DI, TO, HO, upd OR N (nI v), TD, TV, TW, PF, PT, DN, VA)) : wpX_addToOrder post (lv, qu, ai, st, fo, af, bd, tc, oc, ac, B, RC, AC, RO, VO, AS, LC, LI, AL, AN, PA, EX, BF, BN, DI, TO, HO, OR, TD, TV, TW, PF, PT, DN, VA) (nI v) := by
  subst hoc
  unfold wpX_addToOrder
  exact And.intro (pk_in N 5 hN) (nm_r (e' := upd OR N (nI v)) (by rw [nI_clamp (by omega), tj_b8 v (by omega)]) (nm_r (nI_1 N) H))
theorem tj_orderVariables {post : St1 → Prop} {q m w : Nat} (hq : q < 2) (hm : m < 16) (hqu : qu = nI q) (hai : ai = nI m) (hQ : tj_Q RO VO q m) (hA : AS q = nI w) (hw : w < 32)
    (H : ∀ (N C : Nat) (o : Nat → Nat) (oc' : Int32) (ac' : Int32) (OR' : Nat → Int32), tj_Or OR' oc' ac' w (tj_va VO q m 4) N C o → post (lv, qu, ai, st, fo, af, bd, tc, oc', ac', B, RC, AC, RO, VO, AS, LC, LI, AL, AN, PA, EX, BF, BN, DI, TO, HO, OR', TD, TV, TW, PF, PT, DN, VA)) : wpX_orderVariables post (lv, qu, ai, st, fo, af, bd, tc, oc, ac, B, RC, AC, RO, VO, AS, LC, LI, AL, AN, PA, EX, BF, BN, DI, TO, HO, OR, TD, TV, TW, PF, PT, DN, VA) := by
  subst hqu hai
  have vl : tj_va VO q m 4 < 32 := tj_va_lt hQ 4 (Nat.le_refl 4)
  have cq : (nI q).toNatClampNeg = q := nI_clamp (by omega)
  unfold wpX_orderVariables
  refine tj_variablesOf hq hm hQ ?_
  generalize tj_va VO q m 4 = va at vl H ⊢
  refine pk_loop (fun n v (s : Nat → Int32) => wX_orderVariables_20 post (nI va) n (nI v) lv (nI q) (nI m) st fo af bd tc (nI (tj_ct (fun x => va.testBit x = true ∧ w.testBit x = true) v)) ac B RC AC RO VO AS LC LI AL AN PA EX BF BN DI TO HO s TD TV TW PF PT DN VA)
    (fun v s => (∀ j, j < tj_ct (fun x => va.testBit x = true ∧ w.testBit x = true) v → ∃ x, x < v ∧ s j = nI x ∧ va.testBit x = true ∧ w.testBit x = true) ∧ (∀ a b, a < tj_ct (fun x => va.testBit x = true ∧ w.testBit x = true) v → b < tj_ct (fun x => va.testBit x = true ∧ w.testBit x = true) v → s a = s b → a = b) ∧
      (∀ x, x < v → va.testBit x = true → w.testBit x = true → ∃ j, j < tj_ct (fun x => va.testBit x = true ∧ w.testBit x = true) v ∧ s j = nI x)) 5 0 OR (by omega) ⟨fun j hj => absurd hj (Nat.not_lt_zero j), fun a b ha => absurd ha (Nat.not_lt_zero a), fun x hx => absurd hx (by omega)⟩ ?_ ?_
  · rintro n s ⟨s1, s2, s3⟩
    refine pk_le 5 5 (fun _ => ?_) (fun z => absurd z (by omega))
    have cl := tj_ct_disj (p := fun x => va.testBit x = true ∧ w.testBit x = true) (q := fun x => va.testBit x = true ∧ w.testBit x = false) (n := 5) (fun a h1 h2 => tj_tf h1.2 h2.2)
    generalize hC : tj_ct (fun x => va.testBit x = true ∧ w.testBit x = true) 5 = C at s1 s2 s3 cl ⊢
    refine pk_loop (fun n v (s : Nat → Int32) => wX_orderVariables_64 post (nI va) n (nI v) lv (nI q) (nI m) st fo af bd tc (nI (C + tj_ct (fun x => va.testBit x = true ∧ w.testBit x = false) v)) (nI C) B RC AC RO VO AS LC LI AL AN PA EX BF BN DI TO HO s TD TV TW PF PT DN VA)
      (fun v s => (∀ j, j < C + tj_ct (fun x => va.testBit x = true ∧ w.testBit x = false) v → ∃ x, x < 5 ∧ s j = nI x ∧ va.testBit x = true ∧ (w.testBit x = true ↔ j < C) ∧ (C ≤ j → x < v)) ∧ (∀ a b, a < C + tj_ct (fun x => va.testBit x = true ∧ w.testBit x = false) v → b < C + tj_ct (fun x => va.testBit x = true ∧ w.testBit x = false) v → s a = s b → a = b) ∧
        (∀ x, x < 5 → va.testBit x = true → (w.testBit x = true ∨ x < v) → ∃ j, j < C + tj_ct (fun x => va.testBit x = true ∧ w.testBit x = false) v ∧ s j = nI x)) 5 0 s (by omega)
      ⟨fun j hj => by obtain ⟨x, x1, x2, x3, x4⟩ := s1 j hj; exact ⟨x, x1, x2, x3, ⟨fun _ => hj, fun _ => x4⟩, fun z => absurd (show j < C from hj) (by omega)⟩, fun a b ha hb => s2 a b ha hb, fun x hx hv hw' => by
        rcases hw' with z | z
        · exact s3 x hx hv z
        · omega⟩ ?_ ?_
    · rintro n s ⟨r1, r2, r3⟩
      refine pk_le 5 5 (fun _ => H (C + tj_ct (fun x => va.testBit x = true ∧ w.testBit x = false) 5) C (fun j => (s j).toNatClampNeg) _ _ s ⟨rfl, rfl, cl, by omega, fun j hj => ?_, fun a b ha hb e => ?_, fun v => ⟨fun hv => ?_, fun ⟨j, j1, j2⟩ => ?_⟩, fun j hj => ?_⟩) (fun z => absurd z (by omega))
      · obtain ⟨x, x1, x2, _⟩ := r1 j hj
        show s j = nI (s j).toNatClampNeg ∧ (s j).toNatClampNeg < 5
        rw [x2, nI_clamp (by omega)]
        exact ⟨rfl, x1⟩
      · have e' : (s a).toNatClampNeg = (s b).toNatClampNeg := e
        obtain ⟨x, x1, x2, _⟩ := r1 a ha
        obtain ⟨y, y1, y2, _⟩ := r1 b hb
        refine r2 a b ha hb ?_
        rw [x2, y2] at e' ⊢
        rw [nI_clamp (by omega), nI_clamp (by omega)] at e'
        rw [e']
      · have v5 := tj_bit_lt (k := 5) vl hv
        obtain ⟨j, j1, j2⟩ := r3 v v5 hv (Or.inr v5)
        refine ⟨j, j1, ?_⟩
        show (s j).toNatClampNeg = v
        rw [j2, nI_clamp (by omega)]
      · obtain ⟨x, x1, x2, x3, _⟩ := r1 j j1
        have j2' : (s j).toNatClampNeg = v := j2
        rw [x2, nI_clamp (by omega)] at j2'
        rw [← j2']; exact x3
      · obtain ⟨x, x1, x2, x3, x4, _⟩ := r1 j hj
        show w.testBit (s j).toNatClampNeg = true ↔ j < C
        rw [x2, nI_clamp (by omega)]
        exact x4
    · rintro n v s hv ⟨r1, r2, r3⟩ hn
      refine pk_le 5 v (fun z => absurd z (by omega)) (fun _ => And.intro (pk_in q 2 hq) ?_)
      rw [cq, hA, tj_xm, tj_shl (by omega), tj_and]
      have ll : tj_sd va w &&& 2 ^ v < 2 ^ 31 := Nat.lt_of_le_of_lt Nat.and_le_left (Nat.lt_trans (tj_sd_lt (k := 5) vl) (by decide))
      have bit : (tj_sd va w).testBit v = true ↔ va.testBit v = true ∧ w.testBit v = false := by rw [tj_sd_bit, Bool.and_eq_true, Bool.not_eq_true']
      refine tj_pz (fun z => nm_r (nI_1 v) ?_) (fun z => ?_) (ha := ll)
      · have nb : ¬ (va.testBit v = true ∧ w.testBit v = false) := fun y => tj_tf (bit.mpr y) ((tj_and2p _ _).mp z)
        have ec : tj_ct (fun x => va.testBit x = true ∧ w.testBit x = false) (v + 1) = tj_ct (fun x => va.testBit x = true ∧ w.testBit x = false) v := tj_ct_f nb
        rw [← ec]
        refine hn s ⟨?_, ?_, ?_⟩
        · rw [ec]
          intro j hj
          obtain ⟨x, x1, x2, x3, x4, x5⟩ := r1 j hj
          exact ⟨x, x1, x2, x3, x4, fun y => by have := x5 y; omega⟩
        · rw [ec]; exact r2
        · rw [ec]
          intro x hx hvx hy
          refine r3 x hx hvx ?_
          rcases hy with y | y
          · exact Or.inl y
          · rcases Nat.lt_or_ge x v with u | u
            · exact Or.inr u
            · have e : x = v := by omega
              subst e
              exact Or.inl (tj_nf (fun u2 => nb ⟨hvx, u2⟩))
      · have yb : va.testBit v = true ∧ w.testBit v = false := bit.mp (tj_nf (fun y => z ((tj_and2p _ _).mpr y)))
        have ec : tj_ct (fun x => va.testBit x = true ∧ w.testBit x = false) (v + 1) = tj_ct (fun x => va.testBit x = true ∧ w.testBit x = false) v + 1 := tj_ct_t yb
        have up := tj_ct_up (p := fun x => va.testBit x = true ∧ w.testBit x = false) (show v + 1 ≤ 5 by omega)
        refine tj_addToOrder rfl (by omega) hv (nm_r (nI_1 v) ?_)
        rw [Nat.add_assoc, ← ec]
        refine hn _ ⟨?_, ?_, ?_⟩
        · rw [ec]
          intro j hj
          by_cases e : j = C + tj_ct (fun x => va.testBit x = true ∧ w.testBit x = false) v
          · rw [e, pk_us]
            exact ⟨v, hv, rfl, yb.1, ⟨fun y => (tj_tf y yb.2).elim, fun y => absurd y (by omega)⟩, fun _ => by omega⟩
          · rw [pk_un e]
            obtain ⟨x, x1, x2, x3, x4, x5⟩ := r1 j (by omega)
            exact ⟨x, x1, x2, x3, x4, fun y => by have := x5 y; omega⟩
        · rw [ec]
          have new : ∀ a, a < C + tj_ct (fun x => va.testBit x = true ∧ w.testBit x = false) v → s a ≠ nI v := by
            intro a ha e
            obtain ⟨x, x1, x2, x3, x4, x5⟩ := r1 a ha
            rw [x2, nI_eq (by omega) (by omega)] at e
            subst e
            rcases Nat.lt_or_ge a C with u | u
            · exact tj_tf (x4.mpr u) yb.2
            · have := x5 u; omega
          intro a b ha hb e
          by_cases ea : a = C + tj_ct (fun x => va.testBit x = true ∧ w.testBit x = false) v
          · by_cases eb : b = C + tj_ct (fun x => va.testBit x = true ∧ w.testBit x = false) v
            · omega
            · rw [ea, pk_us, pk_un eb] at e
              exact absurd e.symm (new b (by omega))
          · by_cases eb : b = C + tj_ct (fun x => va.testBit x = true ∧ w.testBit x = false) v
            · rw [eb, pk_us, pk_un ea] at e
              exact absurd e (new a (by omega))
            · rw [pk_un ea, pk_un eb] at e
              exact r2 a b (by omega) (by omega) e
        · rw [ec]
          intro x hx hvx hy
          by_cases e : x = v
          · exact ⟨_, Nat.lt_succ_self _, by rw [e]; exact pk_us⟩
          · obtain ⟨j, j1, j2⟩ := r3 x hx hvx (hy.elim Or.inl (fun u => Or.inr (by omega)))
            exact ⟨j, by omega, by rw [pk_un (by omega)]; exact j2⟩
  · rintro n v s hv ⟨s1, s2, s3⟩ hn
    refine pk_le 5 v (fun z => absurd z (by omega)) (fun _ => And.intro (pk_in q 2 hq) ?_)
    rw [cq, hA, tj_and, tj_shl (by omega), tj_and]
    have ll : (va &&& w) &&& 2 ^ v < 2 ^ 31 := Nat.lt_of_le_of_lt Nat.and_le_left (Nat.lt_of_le_of_lt Nat.and_le_left (Nat.lt_trans vl (by decide)))
    have bit : (va &&& w).testBit v = true ↔ va.testBit v = true ∧ w.testBit v = true := by rw [Nat.testBit_and, Bool.and_eq_true]
    refine tj_pz (fun z => nm_r (nI_1 v) ?_) (fun z => ?_) (ha := ll)
    · have nb : ¬ (va.testBit v = true ∧ w.testBit v = true) := fun y => tj_tf (bit.mpr y) ((tj_and2p _ _).mp z)
      have ec : tj_ct (fun x => va.testBit x = true ∧ w.testBit x = true) (v + 1) = tj_ct (fun x => va.testBit x = true ∧ w.testBit x = true) v := tj_ct_f nb
      rw [← ec]
      refine hn s ⟨?_, ?_, ?_⟩
      · rw [ec]
        intro j hj
        obtain ⟨x, x1, x2⟩ := s1 j hj
        exact ⟨x, by omega, x2⟩
      · rw [ec]; exact s2
      · rw [ec]
        intro x hx hvx hwx
        refine s3 x ?_ hvx hwx
        rcases Nat.lt_or_ge x v with u | u
        · exact u
        · rw [show x = v by omega] at hvx hwx; exact absurd ⟨hvx, hwx⟩ nb
    · have yb : va.testBit v = true ∧ w.testBit v = true := bit.mp (tj_nf (fun y => z ((tj_and2p _ _).mpr y)))
      have ec : tj_ct (fun x => va.testBit x = true ∧ w.testBit x = true) (v + 1) = tj_ct (fun x => va.testBit x = true ∧ w.testBit x = true) v + 1 := tj_ct_t yb
      have cl := tj_ct_le (fun x => va.testBit x = true ∧ w.testBit x = true) v
      refine tj_addToOrder rfl (by omega) hv (nm_r (nI_1 v) ?_)
      rw [← ec]
      refine hn _ ⟨?_, ?_, ?_⟩
      · rw [ec]
        intro j hj
        by_cases e : j = tj_ct (fun x => va.testBit x = true ∧ w.testBit x = true) v
        · rw [e, pk_us]
          exact ⟨v, by omega, rfl, yb⟩
        · rw [pk_un e]
          obtain ⟨x, x1, x2⟩ := s1 j (by omega)
          exact ⟨x, by omega, x2⟩
      · rw [ec]
        have new : ∀ a, a < tj_ct (fun x => va.testBit x = true ∧ w.testBit x = true) v → s a ≠ nI v := by
          intro a ha e
          obtain ⟨x, x1, x2, _⟩ := s1 a ha
          rw [x2, nI_eq (by omega) (by omega)] at e
          omega
        intro a b ha hb e
        by_cases ea : a = tj_ct (fun x => va.testBit x = true ∧ w.testBit x = true) v
        · by_cases eb : b = tj_ct (fun x => va.testBit x = true ∧ w.testBit x = true) v
          · omega
          · rw [ea, pk_us, pk_un eb] at e
            exact absurd e.symm (new b (by omega))
        · by_cases eb : b = tj_ct (fun x => va.testBit x = true ∧ w.testBit x = true) v
          · rw [eb, pk_us, pk_un ea] at e
            exact absurd e (new a (by omega))
          · rw [pk_un ea, pk_un eb] at e
            exact s2 a b (by omega) (by omega) e
      · rw [ec]
        intro x hx hvx hwx
        by_cases e : x = v
        · exact ⟨_, Nat.lt_succ_self _, by rw [e]; exact pk_us⟩
        · obtain ⟨j, j1, j2⟩ := s3 x (by omega) hvx hwx
          exact ⟨j, by omega, by rw [pk_un (by omega)]; exact j2⟩
/-- s comes before t in the first p variables of the order -/
def tj_Bf (o : Nat → Nat) (s t : Nat → Nat) (p : Nat) : Prop := ∃ j, j < p ∧ (∀ l, l < j → s (o l) = t (o l)) ∧ s (o j) < t (o j)
/-- how far the search is -/
def tj_pos (g : Nat → Nat) : Nat → Nat
  | 0 => 0
  | n + 1 => tj_pos g n + g n * 6 ^ (5 - n)
theorem tj_pos_le {g : Nat → Nat} (h : ∀ j, g j ≤ 5) {a n : Nat} (ha : a ≤ n) (hn : n ≤ 6) : tj_pos g n + 6 ^ (6 - n) ≤ tj_pos g a + 6 ^ (6 - a) := by
  induction n with
  | zero => rw [show a = 0 by omega]; exact Nat.le_refl _
  | succ n ih =>
    rcases Nat.lt_or_ge n a with z | z
    · rw [show a = n + 1 by omega]; exact Nat.le_refl _
    · have i := ih z (by omega)
      have e : 6 ^ (6 - n) = 6 * 6 ^ (5 - n) := by rw [show 6 - n = (5 - n) + 1 by omega, Nat.pow_succ, Nat.mul_comm]
      have m : g n * 6 ^ (5 - n) ≤ 5 * 6 ^ (5 - n) := Nat.mul_le_mul_right _ (h n)
      show tj_pos g n + g n * 6 ^ (5 - n) + 6 ^ (6 - (n + 1)) ≤ _
      rw [show 6 - (n + 1) = 5 - n by omega]
      omega
theorem tj_pos_c {g g' : Nat → Nat} {n : Nat} (h : ∀ j, j < n → g j = g' j) : tj_pos g n = tj_pos g' n := by
  induction n with
  | zero => rfl
  | succ n ih =>
    show tj_pos g n + g n * _ = tj_pos g' n + g' n * _
    rw [ih (fun j hj => h j (by omega)), h n (by omega)]
end
end
section
/-! ===== variable by variable ===== -/
section
variable {lv qu ai st fo af bd tc oc ac : Int32} {B AN PA EX : Nat → Int64} {RC AC RO VO AS LC LI AL BF BN DI TO HO OR TD TV TW PF PT DN VA : Nat → Int32}
/-- every trie has a row for the values so far -/
def tj_Cn (VO : Nat → Int32) (q m : Nat) (o : Nat → Nat) (TW : Nat → Int32) (rws : Nat → Nat) (s : Nat → Nat) (p : Nat) : Prop :=
  ∀ i, i < 4 → m.testBit i = true → 0 < tj_e (tj_V VO q i) o p → ∃ r, r < rws i ∧ tj_mr (tj_V VO q i) o (fun z => TW (48 * i + z)) s p r
theorem tj_Cn_dn {q m p p' : Nat} {o : Nat → Nat} {rws : Nat → Nat} {s : Nat → Nat} (h : tj_Cn VO q m o TW rws s p) (hp : p' ≤ p) : tj_Cn VO q m o TW rws s p' := by
  intro i hi mi he
  have := tj_e_up (V := tj_V VO q i) (o := o) hp
  obtain ⟨r, r1, r2⟩ := h i hi mi (by omega)
  exact ⟨r, r1, fun j hj => r2 j (by omega)⟩
theorem tj_Cn_up {q m p x : Nat} {o : Nat → Nat} {rws : Nat → Nat} {s : Nat → Nat} (hs : ∀ j, j < p → tj_up s (o p) x (o j) = s (o j)) (h : tj_Cn VO q m o TW rws s p) (hc : tj_Cm VO q m o TW rws s p x) : tj_Cn VO q m o TW rws (tj_up s (o p) x) (p + 1) := by
  intro i hi mi he
  cases hv : (tj_V VO q i).testBit (o p)
  · rw [tj_e_f hv] at he
    obtain ⟨r, r1, r2⟩ := h i hi mi he
    exact ⟨r, r1, (tj_mr_f hv).mpr ((tj_mr_c hs).mpr r2)⟩
  · obtain ⟨r, r1, r2, r3⟩ := hc.2 i hi mi hv
    exact ⟨r, r1, (tj_mr_t hv).mpr ⟨(tj_mr_c hs).mpr r2, by rw [tj_up_s]; exact r3⟩⟩
theorem tj_sat_cm {q m N p : Nat} {o : Nat → Nat} {rws : Nat → Nat} {P : Nat → (Nat → Nat) → Prop} {s t : Nat → Nat} (hS : tj_St VO q m N o P TD TV TW rws) (hp : p < N) (hs5 : ∀ v, s v < 5) (hs : ∀ i, i < 4 → m.testBit i = true → P i s) (hag : ∀ l, l < p → s (o l) = t (o l)) : tj_Cm VO q m o TW rws t p (s (o p)) := by
  refine ⟨hs5 _, fun i hi mi hv => ?_⟩
  obtain ⟨r, r1, r2⟩ := ((hS i hi mi).2.2.2.2.2 s hs5).mp (hs i hi mi)
  exact ⟨r, r1, fun j hj hvj => by rw [← hag j hj]; exact r2 j (by omega) hvj, r2 p hp hv⟩
theorem tj_cn_sat {q m N C w : Nat} {o : Nat → Nat} {rws : Nat → Nat} {P : Nat → (Nat → Nat) → Prop} {s : Nat → Nat} (hQ : tj_Q RO VO q m) (hO : tj_Or OR oc ac w (tj_va VO q m 4) N C o) (hS : tj_St VO q m N o P TD TV TW rws) (hs5 : ∀ v, s v < 5) (hc : tj_Cn VO q m o TW rws s N) : ∀ i, i < 4 → m.testBit i = true → P i s := by
  intro i hi mi
  obtain ⟨v, _, hv⟩ := tj_vs_ne (hQ i hi mi)
  obtain ⟨j, j1, j2⟩ := (hO.2.2.2.2.2.2.1 v).mp ((tj_va_bit v 4).mpr ⟨i, hi, mi, hv⟩)
  have hv' : (tj_V VO q i).testBit (o j) = true := by rw [j2]; exact hv
  have el : tj_e (tj_V VO q i) o j < tj_e (tj_V VO q i) o N := tj_ct_lt (p := fun j => (tj_V VO q i).testBit (o j) = true) j1 hv'
  obtain ⟨r, r1, r2⟩ := hc i hi mi (by omega)
  exact ((hS i hi mi).2.2.2.2.2 s hs5).mpr ⟨r, r1, r2⟩
theorem tj_66 {p : Nat} (hp : p < 6) : 6 ^ (6 - p) = 6 * 6 ^ (5 - p) := by rw [show 6 - p = (5 - p) + 1 by omega, Nat.pow_succ, Nat.mul_comm]
theorem tj_leapfrog {post : St1 → Prop} {q m w : Nat} (hq : q < 2) (hm : m < 16) (hm0 : m ≠ 0) (hqu : qu = nI q) (hai : ai = nI m) (hI : tj_I RO VO LC LI q m) (hL : tj_L AL m) (hA : AS q = nI w) (hw : w < 32) (hfo : fo = 0 → ∀ v, w.testBit v = true → (tj_va VO q m 4).testBit v = true)
    (hAN : ∀ x, x < 3136 → ¬ tj_in AN x) (haf : af = 0) (hD : ∀ v, v < 5 → tj_N (DI v) 5)
    (H : ∀ (af' : Int32) (AN' : Nat → Int64) (DI' : Nat → Int32) (oc' : Int32) (ac' : Int32) (OR' : Nat → Int32) (TD' : Nat → Int32) (TV' : Nat → Int32) (TW' : Nat → Int32) (PF' : Nat → Int32) (PT' : Nat → Int32) (DN' : Nat → Int32) (VA' : Nat → Int32), (∀ v, v < 5 → tj_N (DI' v) 5) →
      ((af' = 1 ∧ ∃ s : Nat → Nat, (∀ v, s v < 5) ∧ tj_Sat (tj_V VO q) (tj_n LC) (tj_R RO VO LI q) (tj_av AL) m s) ∨ (af' = 0 ∧ ∀ s : Nat → Nat, (∀ v, s v < 5) → ¬ tj_Sat (tj_V VO q) (tj_n LC) (tj_R RO VO LI q) (tj_av AL) m s)) →
      (fo = 0 → ∀ x, x < 3136 → (tj_in AN' x ↔ tj_Ans (tj_V VO q) (tj_n LC) (tj_R RO VO LI q) (tj_av AL) m w x)) → post (lv, qu, ai, st, fo, af', bd, tc, oc', ac', B, RC, AC, RO, VO, AS, LC, LI, AL, AN', PA, EX, BF, BN, DI', TO, HO, OR', TD', TV', TW', PF', PT', DN', VA')) : wpX_leapfrog post (lv, qu, ai, st, fo, af, bd, tc, oc, ac, B, RC, AC, RO, VO, AS, LC, LI, AL, AN, PA, EX, BF, BN, DI, TO, HO, OR, TD, TV, TW, PF, PT, DN, VA) := by
  have hQ := tj_I_Q hI
  unfold wpX_leapfrog
  refine tj_orderVariables hq hm hqu hai hQ hA hw (fun N C o oc' ac' OR' hO => ?_)
  have hO' := hO
  obtain ⟨eo, ec, n5, cn, oo, oinj, ova, oask⟩ := hO'
  subst hqu hai haf eo ec
  refine pk_loop (fun n i (s : (Nat → Int32) × (Nat → Int32) × (Nat → Int32) × (Nat → Int32) × (Nat → Int32) × (Nat → Int32) × (Nat → Int32)) => wX_leapfrog_6 post n (nI i) lv (nI q) (nI m) st fo 0 bd tc (nI N) (nI C) B RC AC RO VO AS LC LI AL AN PA EX BF BN s.1 TO HO OR' s.2.1 s.2.2.1 s.2.2.2.1 s.2.2.2.2.1 s.2.2.2.2.2.1 s.2.2.2.2.2.2 VA)
    (fun i s => (∀ v, v < 5 → tj_N (s.1 v) 5) ∧ ∀ j, j < i → m.testBit j = true → ∃ r, tj_TS (tj_V VO q j) N o (tj_P (tj_V VO q) (tj_n LC) (tj_R RO VO LI q) (tj_av AL) j) (s.2.1 j) (fun d => s.2.2.1 (3 * j + d)) (fun z => s.2.2.2.1 (48 * j + z)) r ∧ s.2.2.2.2.2.2 j = 0 ∧ s.2.2.2.2.1 (4 * j) = 0 ∧ s.2.2.2.2.2.1 (4 * j) = nI r) 4 0 (DI, TD, TV, TW, PF, PT, DN) (by omega) ⟨hD, fun j hj => absurd hj (by omega)⟩ ?_ ?_
  rotate_left
  · rintro n i ⟨di, td, tv, tw, pf, pt, dn⟩ hi ⟨hd, hb⟩ hn
    dsimp only at hd hb hn ⊢
    refine pk_le 4 i (fun z => absurd z (by omega)) (fun _ => tj_br m i (fun z => nm_r (nI_1 i) (hn (di, td, tv, tw, pf, pt, dn) ⟨hd, fun j hj mj => ?_⟩)) (fun z => tj_buildTrie hq rfl hI hL hO hi z hd (fun rws DI2 TD2 TV2 TW2 PF2 PT2 DN2 d2 a1 a2 a3 a4 ts e1 e2 e3 => nm_r (nI_1 i) (hn (DI2, TD2, TV2, TW2, PF2, PT2, DN2) ⟨d2, fun j hj mj => ?_⟩))))
    · rcases Nat.lt_or_ge j i with y | y
      · exact hb j y mj
      · rw [show j = i by omega] at mj; exact (tj_tf mj z).elim
    · by_cases e : j = i
      · subst e
        exact ⟨rws, ts, e1, e2, e3⟩
      · obtain ⟨r, b1, b2, b3, b4⟩ := hb j (by omega) mj
        refine ⟨r, tj_TS_c b1 (tj_e_3 (hQ j (by omega) mj) (fun j hj => (oo j hj).2) oinj) (a1 j e).1 (fun d hd => a2 _ (by omega)) (fun z hz => a3 _ (by omega)), ?_, ?_, ?_⟩
        · show DN2 j = 0
          rw [(a1 j e).2]; exact b2
        · show PF2 (4 * j) = 0
          rw [(a4 (4 * j) (by omega)).1]; exact b3
        · show PT2 (4 * j) = nI r
          rw [(a4 (4 * j) (by omega)).2]; exact b4
  rintro n ⟨di, td, tv, tw, pf, pt, dn⟩ ⟨hd, hb⟩
  dsimp only at hd hb ⊢
  refine pk_le 4 4 (fun _ => ?_) (fun z => absurd z (by omega))
  -- the tries
  obtain ⟨rws, hrws⟩ : ∃ rws : Nat → Nat, ∀ j, j < 4 → m.testBit j = true → tj_TS (tj_V VO q j) N o (tj_P (tj_V VO q) (tj_n LC) (tj_R RO VO LI q) (tj_av AL) j) (td j) (fun d => tv (3 * j + d)) (fun z => tw (48 * j + z)) (rws j) ∧ dn j = 0 ∧ pf (4 * j) = 0 ∧ pt (4 * j) = nI (rws j) := by
    refine Classical.axiomOfChoice (r := fun j r => j < 4 → m.testBit j = true → tj_TS (tj_V VO q j) N o (tj_P (tj_V VO q) (tj_n LC) (tj_R RO VO LI q) (tj_av AL) j) (td j) (fun d => tv (3 * j + d)) (fun z => tw (48 * j + z)) r ∧ dn j = 0 ∧ pf (4 * j) = 0 ∧ pt (4 * j) = nI r) (fun j => ?_)
    by_cases hj : j < 4 ∧ m.testBit j = true
    · obtain ⟨r, hr⟩ := hb j hj.1 hj.2
      exact ⟨r, fun _ _ => hr⟩
    · exact ⟨0, fun a b => absurd ⟨a, b⟩ hj⟩
  have hS : tj_St VO q m N o (tj_P (tj_V VO q) (tj_n LC) (tj_R RO VO LI q) (tj_av AL)) td tv tw rws := fun j hj mj => (hrws j hj mj).1
  have hN : 0 < N := by
    obtain ⟨i, hi⟩ := tj_ne0 hm0
    have i4 := tj_bit_lt (k := 4) hm hi
    obtain ⟨v, _, hv⟩ := tj_vs_ne (hQ i i4 hi)
    obtain ⟨j, j1, _⟩ := (ova v).mp ((tj_va_bit v 4).mpr ⟨i, i4, hi, hv⟩)
    omega
  have keyc : ∀ s t : Nat → Nat, fo = 0 → (∀ j, j < C → s (o j) = t (o j)) → tj_key w s 5 = tj_key w t 5 := by
    intro s t f0 h
    refine tj_key_congr 5 (fun v _ hv => ?_)
    obtain ⟨j, j1, j2⟩ := (ova v).mp (hfo f0 v hv)
    subst j2
    exact h j ((oask j j1).mp hv)
  refine loop_m (fun n (s : Nat × Nat × (Nat → Nat) × Int32 × (Nat → Int64) × (Nat → Int32) × (Nat → Int32) × (Nat → Int32) × (Nat → Int32) × (Nat → Int32)) => wX_leapfrog_37 post n (nI s.1) (nI s.2.1) lv (nI q) (nI m) st fo s.2.2.2.1 bd tc (nI N) (nI C) B RC AC RO VO AS LC LI AL s.2.2.2.2.1 PA EX BF BN s.2.2.2.2.2.1 TO HO OR' td tv tw s.2.2.2.2.2.2.1 s.2.2.2.2.2.2.2.1 s.2.2.2.2.2.2.2.2.1 s.2.2.2.2.2.2.2.2.2)
    (fun s => s.1 < N ∧ s.2.1 ≤ 5 ∧ (∀ v, s.2.2.1 v < 5) ∧ (∀ v, v < 5 → tj_N (s.2.2.2.2.2.1 v) 5) ∧ tj_Dy VO q m o tw rws s.2.2.1 s.1 s.2.2.2.2.2.2.1 s.2.2.2.2.2.2.2.1 s.2.2.2.2.2.2.2.2.1 ∧ (∀ j, j < s.1 → s.2.2.2.2.2.2.2.2.2 j = nI (s.2.2.1 (o j))) ∧ tj_Cn VO q m o tw rws s.2.2.1 s.1 ∧
      ((s.2.2.2.1 = 1 ∧ ∃ s : Nat → Nat, (∀ v, s v < 5) ∧ tj_Sat (tj_V VO q) (tj_n LC) (tj_R RO VO LI q) (tj_av AL) m s) ∨ (s.2.2.2.1 = 0 ∧ ∀ x, x < 3136 → ¬ tj_in s.2.2.2.2.1 x)) ∧
      (fo = 0 → ∀ x, x < 3136 → tj_in s.2.2.2.2.1 x → tj_Ans (tj_V VO q) (tj_n LC) (tj_R RO VO LI q) (tj_av AL) m w x) ∧
      (∀ u : Nat → Nat, (∀ v, u v < 5) → tj_Sat (tj_V VO q) (tj_n LC) (tj_R RO VO LI q) (tj_av AL) m u → (tj_Bf o u s.2.2.1 s.1 ∨ ((∀ l, l < s.1 → u (o l) = s.2.2.1 (o l)) ∧ u (o s.1) < s.2.1)) → fo = 0 ∧ tj_in s.2.2.2.2.1 (tj_key w u 5)))
    (fun s => 8 * (6 ^ 6 - (tj_pos (fun j => s.2.2.1 (o j)) s.1 + s.2.1 * 6 ^ (5 - s.1))) + (5 - s.1)) ?_ (0, 0, fun _ => 0, 0, AN, di, pf, pt, dn, VA) ?_
  rotate_left
  · refine ⟨hN, Nat.zero_le 5, fun _ => (by decide : (0 : Nat) < 5), hd, fun j hj mj => ?_, fun j hj => absurd hj (Nat.not_lt_zero j), fun i hi mi he => absurd he (Nat.lt_irrefl 0), Or.inr ⟨rfl, hAN⟩, fun _ x hx hin => absurd hin (hAN x hx), fun u _ _ hu => ?_⟩
    · obtain ⟨_, h2, h3, h4⟩ := hrws j hj mj
      refine ⟨h2, fun p' hp' => ?_⟩
      have hp0 : p' = 0 := Nat.le_zero.mp hp'
      subst hp0
      exact ⟨0, rws j, h3, h4, Nat.zero_le _, Nat.le_refl _, fun r hr => ⟨fun _ l hl => absurd hl (Nat.not_lt_zero l), fun _ => ⟨Nat.zero_le _, hr⟩⟩⟩
    · rcases hu with ⟨j, hj, _⟩ | ⟨_, hj⟩
      · exact absurd hj (Nat.not_lt_zero j)
      · exact absurd hj (Nat.not_lt_zero _)
  rintro n ⟨p, f, t, af1, an, di1, pf1, pt1, dn1, va1⟩ ⟨hp, hf, ht5, hd1, hY, hVA, hCn, hAF, hSd, hRec⟩ hn
  dsimp only at hp hf ht5 hd1 hY hVA hCn hAF hSd hRec hn ⊢
  have op := oo p hp
  have hposp : tj_pos (fun j => t (o j)) p + 6 ^ (6 - p) ≤ 6 ^ 6 := by
    have := tj_pos_le (g := fun j => t (o j)) (fun j => Nat.le_of_lt (ht5 (o j))) (Nat.zero_le p) (by omega)
    have e0 : tj_pos (fun j => t (o j)) 0 = 0 := rfl
    rw [e0] at this
    omega
  have e66 := tj_66 (show p < 6 by omega)
  have hfm : f * 6 ^ (5 - p) ≤ 5 * 6 ^ (5 - p) := Nat.mul_le_mul_right _ hf
  have hpw : 0 < 6 ^ (5 - p) := Nat.pow_pos (by decide)
  refine br_f (nI_pos (by omega)) (And.intro (pk_in p 5 (by omega)) (nm_r (e' := nI (o p)) (by rw [nI_clamp (by omega)]; exact op.1) ?_))
  refine tj_commonValue hm rfl hQ hO rfl hS hp hf hY (fun none => br_f (by decide) ?_) (fun x hx x5 hcx hmin => br_t (nI_pos' (by omega)) ?_)
  · -- no value: up
    have doneAll : ∀ u : Nat → Nat, (∀ v, u v < 5) → tj_Sat (tj_V VO q) (tj_n LC) (tj_R RO VO LI q) (tj_av AL) m u → (∀ l, l < p → u (o l) = t (o l)) → fo = 0 ∧ tj_in an (tj_key w u 5) := by
      intro u u5 us hag
      rcases Nat.lt_or_ge (u (o p)) f with z | z
      · exact hRec u u5 us (Or.inr ⟨hag, z⟩)
      · exact absurd (tj_sat_cm hS hp u5 us hag) (none _ z)
    cases p with
    | zero =>
      refine nm_e (br_f (by decide) (H _ an _ _ _ _ _ _ _ _ _ _ _ hd1 ?_ ?_))
      · rcases hAF with z | ⟨z1, z2⟩
        · exact Or.inl z
        · refine Or.inr ⟨z1, fun u u5 us => ?_⟩
          have := doneAll u u5 us (fun l hl => absurd hl (Nat.not_lt_zero l))
          exact z2 _ (by have := tj_key_lt5 (m := w) (fun v _ => u5 v) (Nat.le_refl 5); omega) this.2
      · intro f0 x hx
        constructor
        · exact hSd f0 x hx
        · rintro ⟨u, u5, us, e⟩
          rw [e]
          exact (doneAll u u5 us (fun l hl => absurd hl (Nat.not_lt_zero l))).2
    | succ p =>
      refine nm_r (pk_m1 p) (br_t (nI_pos' (by omega)) (And.intro (pk_in p 5 (by omega)) ?_))
      rw [nI_clamp (show p < 2 ^ 31 by omega), (oo p (by omega)).1]
      refine tj_goUp hm rfl hQ hO hS (by omega) hY (fun DN2 hY2 => And.intro (pk_in p 6 (by omega)) (nm_r (e' := nI (t (o p) + 1)) (by rw [hVA p (by omega), nI_1]) ?_))
      have tp := ht5 (o p)
      have e65 : 6 ^ (6 - (p + 1)) = 6 ^ (5 - p) := by rw [show 6 - (p + 1) = 5 - p by omega]
      have posS : tj_pos (fun j => t (o j)) (p + 1) = tj_pos (fun j => t (o j)) p + t (o p) * 6 ^ (5 - p) := rfl
      have mulS : (t (o p) + 1) * 6 ^ (5 - p) = t (o p) * 6 ^ (5 - p) + 6 ^ (5 - p) := by rw [Nat.add_mul, Nat.one_mul]
      refine hn (p, t (o p) + 1, t, af1, an, di1, pf1, pt1, DN2, va1) ⟨by show p < N; omega, by show t (o p) + 1 ≤ 5; omega, ht5, hd1, hY2, fun j hj => hVA j (by have hj' : j < p := hj; omega), tj_Cn_dn hCn (Nat.le_succ p), hAF, hSd, fun u u5 us hu => ?_⟩ ?_
      · rcases hu with ⟨j, j1, j2, j3⟩ | ⟨j1, j2⟩
        · have j1' : j < p := j1
          exact hRec u u5 us (Or.inl ⟨j, by omega, j2, j3⟩)
        · have j2' : u (o p) < t (o p) + 1 := j2
          rcases Nat.lt_or_ge (u (o p)) (t (o p)) with z | z
          · exact hRec u u5 us (Or.inl ⟨p, by omega, j1, z⟩)
          · refine doneAll u u5 us (fun l hl => ?_)
            rcases Nat.lt_or_ge l p with y | y
            · exact j1 l y
            · rw [show l = p by omega]; omega
      · show 8 * (6 ^ 6 - (tj_pos (fun j => t (o j)) p + (t (o p) + 1) * 6 ^ (5 - p))) + (5 - p) < 8 * (6 ^ 6 - (tj_pos (fun j => t (o j)) (p + 1) + f * 6 ^ (5 - (p + 1)))) + (5 - (p + 1))
        rw [mulS]
        omega
  · -- a value: down
    have hss : ∀ j, j < p → tj_up t (o p) x (o j) = t (o j) := fun j hj => tj_up_n (fun e => absurd (oinj j p (by omega) hp e) (by omega))
    have t5' : ∀ v, tj_up t (o p) x v < 5 := by
      intro v
      unfold tj_up
      split
      · exact x5
      · exact ht5 v
    refine tj_goDown hm rfl hQ hO hS hp x5 hY (fun r PF2 PT2 DN2 hY2 => And.intro (pk_in p 6 (by omega)) (nm_r (e' := upd va1 p (nI x)) (by rw [nI_clamp (by omega), tj_b8 x (by omega)]) (nm_r (nI_1 p) ?_)))
    have hVA2 : ∀ j, j < p + 1 → upd va1 p (nI x) j = nI (tj_up t (o p) x (o j)) := by
      intro j hj
      by_cases e : j = p
      · rw [e, pk_us, tj_up_s]
      · rw [pk_un e, hss j (by omega)]; exact hVA j (by omega)
    have hCn2 := tj_Cn_up hss hCn hcx
    have hRec2 : ∀ u : Nat → Nat, (∀ v, u v < 5) → tj_Sat (tj_V VO q) (tj_n LC) (tj_R RO VO LI q) (tj_av AL) m u → tj_Bf o u (tj_up t (o p) x) (p + 1) → fo = 0 ∧ tj_in an (tj_key w u 5) := by
      rintro u u5 us ⟨j, j1, j2, j3⟩
      have j2' : ∀ l, l < j → u (o l) = t (o l) := fun l hl => by rw [j2 l hl, hss l (by omega)]
      by_cases e : j = p
      · subst e
        rw [tj_up_s] at j3
        rcases Nat.lt_or_ge (u (o j)) f with z | z
        · exact hRec u u5 us (Or.inr ⟨j2', z⟩)
        · exact absurd (tj_sat_cm hS hp u5 us j2') (hmin _ z j3)
      · rw [hss j (by omega)] at j3
        exact hRec u u5 us (Or.inl ⟨j, by omega, j2', j3⟩)
    have posC : tj_pos (fun j => tj_up t (o p) x (o j)) p = tj_pos (fun j => t (o j)) p := tj_pos_c hss
    have posN : tj_pos (fun j => tj_up t (o p) x (o j)) (p + 1) = tj_pos (fun j => t (o j)) p + x * 6 ^ (5 - p) := by
      show tj_pos (fun j => tj_up t (o p) x (o j)) p + tj_up t (o p) x (o p) * 6 ^ (5 - p) = _
      rw [posC, tj_up_s]
    have xm : f * 6 ^ (5 - p) ≤ x * 6 ^ (5 - p) := Nat.mul_le_mul_right _ hx
    have xm4 : x * 6 ^ (5 - p) ≤ 4 * 6 ^ (5 - p) := Nat.mul_le_mul_right _ (by omega)
    refine pk_le N (p + 1) (fun z => ?_) (fun z => hn (p + 1, 0, tj_up t (o p) x, af1, an, di1, PF2, PT2, DN2, upd va1 p (nI x)) ⟨z, Nat.zero_le 5, t5', hd1, hY2, hVA2, hCn2, hAF, hSd, fun u u5 us hu => ?_⟩ ?_)
    rotate_left
    · rcases hu with hu | ⟨_, hu⟩
      · exact hRec2 u u5 us hu
      · exact absurd hu (Nat.not_lt_zero _)
    · show 8 * (6 ^ 6 - (tj_pos (fun j => tj_up t (o p) x (o j)) (p + 1) + 0 * 6 ^ (5 - (p + 1)))) + (5 - (p + 1)) < 8 * (6 ^ 6 - (tj_pos (fun j => t (o j)) p + f * 6 ^ (5 - p))) + (5 - p)
      rw [posN, Nat.zero_mul]
      omega
    have eN : N = p + 1 := by omega
    have hsat : tj_Sat (tj_V VO q) (tj_n LC) (tj_R RO VO LI q) (tj_av AL) m (tj_up t (o p) x) := tj_cn_sat hQ hO hS t5' (by rw [eN]; exact hCn2)
    refine tj_takeAnswer (s := tj_up t (o p) x) hq rfl hA hw hO (fun j hj => ⟨hVA2 j (by omega), t5' _⟩) hd1 (fun u DI2 AN2 d2 u5 uo hA2 => ?_)
    refine br_c (fun f0 => ?_) (fun f0 => H 1 AN2 DI2 _ _ _ _ _ _ _ _ _ _ d2 (Or.inl ⟨rfl, _, t5', hsat⟩) (fun e => absurd e f0))
    have ku : tj_key w u 5 = tj_key w (tj_up t (o p) x) 5 := keyc u _ f0 (fun j hj => uo j (by omega))
    have hSd2 : fo = 0 → ∀ y, y < 3136 → tj_in AN2 y → tj_Ans (tj_V VO q) (tj_n LC) (tj_R RO VO LI q) (tj_av AL) m w y := by
      intro _ y hy hin
      rcases (hA2 y).mp hin with e | e
      · exact ⟨_, t5', hsat, by rw [e, ku]⟩
      · exact hSd f0 y hy e
    refine pk_eq C 0 (fun c0 => H 1 AN2 DI2 _ _ _ _ _ _ _ _ _ _ d2 (Or.inl ⟨rfl, _, t5', hsat⟩) (fun _ y hy => ⟨hSd2 f0 y hy, fun ⟨s, s5, ss, e⟩ => ?_⟩)) (fun c0 => ?_)
    · rw [hA2 y, ku, e]
      exact Or.inl (keyc _ _ f0 (fun j hj => absurd hj (by omega)))
    · refine loop_m (fun n' (s : Nat × (Nat → Int32)) => wX_leapfrog_143 post (wX_leapfrog_37 post n) n' (nI s.1) lv (nI q) (nI m) st fo 1 bd tc (nI N) (nI C) B RC AC RO VO AS LC LI AL AN2 PA EX BF BN DI2 TO HO OR' td tv tw PF2 PT2 s.2 (upd va1 p (nI x)))
        (fun s => C - 1 ≤ s.1 ∧ s.1 ≤ N ∧ tj_Dy VO q m o tw rws (tj_up t (o p) x) s.1 PF2 PT2 s.2) (fun s => s.1) ?_ (p + 1, DN2) ⟨by show C - 1 ≤ p + 1; omega, by show p + 1 ≤ N; omega, hY2⟩
      rintro n' ⟨p2, dn2⟩ ⟨k1, k2, k3⟩ hn'
      dsimp only at k1 k2 k3 hn' ⊢
      have ec1 : nI C - 1 = nI (C - 1) := by
        show nI C - nI 1 = _
        rw [pk_sub (by omega)]
      refine pk_le p2 (C - 1) (fun z2 => And.intro (pk_in p2 6 (by omega)) ?_) (fun z2 => ?_) (hy := ec1)
      · have ep : p2 = C - 1 := by omega
        have tl := t5' (o p2)
        refine nm_r (e' := nI (tj_up t (o p) x (o p2) + 1)) (by rw [nI_clamp (by omega), hVA2 p2 (by omega), nI_1]) (hn (p2, tj_up t (o p) x (o p2) + 1, tj_up t (o p) x, 1, AN2, DI2, PF2, PT2, dn2, upd va1 p (nI x)) ⟨by show p2 < N; omega, by show tj_up t (o p) x (o p2) + 1 ≤ 5; omega, t5', d2, k3, fun j hj => hVA2 j (by have hj' : j < p2 := hj; omega), tj_Cn_dn hCn2 (by omega), Or.inl ⟨rfl, _, t5', hsat⟩, hSd2, fun s s5 ss hs => ?_⟩ ?_)
        · have up : tj_Bf o s (tj_up t (o p) x) (p + 1) → fo = 0 ∧ tj_in AN2 (tj_key w s 5) := fun hb => ⟨f0, (hA2 _).mpr (Or.inr (hRec2 s s5 ss hb).2)⟩
          rcases hs with ⟨j, j1, j2, j3⟩ | ⟨j1, j2⟩
          · have j1' : j < p2 := j1
            exact up ⟨j, by omega, j2, j3⟩
          · have j2' : s (o p2) < tj_up t (o p) x (o p2) + 1 := j2
            rcases Nat.lt_or_ge (s (o p2)) (tj_up t (o p) x (o p2)) with y | y
            · exact up ⟨p2, by omega, j1, y⟩
            · refine ⟨f0, (hA2 _).mpr (Or.inl ?_)⟩
              rw [ku]
              refine keyc _ _ f0 (fun j hj => ?_)
              rcases Nat.lt_or_ge j p2 with y2 | y2
              · exact j1 j y2
              · rw [show j = p2 by omega]; omega
        · show 8 * (6 ^ 6 - (tj_pos (fun j => tj_up t (o p) x (o j)) p2 + (tj_up t (o p) x (o p2) + 1) * 6 ^ (5 - p2))) + (5 - p2) < 8 * (6 ^ 6 - (tj_pos (fun j => t (o j)) p + f * 6 ^ (5 - p))) + (5 - p)
          have mulS : (tj_up t (o p) x (o p2) + 1) * 6 ^ (5 - p2) = tj_up t (o p) x (o p2) * 6 ^ (5 - p2) + 6 ^ (5 - p2) := by rw [Nat.add_mul, Nat.one_mul]
          have posS : tj_pos (fun j => tj_up t (o p) x (o j)) (p2 + 1) = tj_pos (fun j => tj_up t (o p) x (o j)) p2 + tj_up t (o p) x (o p2) * 6 ^ (5 - p2) := rfl
          have l1 := tj_pos_le (g := fun j => tj_up t (o p) x (o j)) (fun j => Nat.le_of_lt (t5' (o j))) (show p2 + 1 ≤ p + 1 by omega) (by omega)
          have l2 := tj_pos_le (g := fun j => tj_up t (o p) x (o j)) (fun j => Nat.le_of_lt (t5' (o j))) (Nat.zero_le (p2 + 1)) (by omega)
          have e0 : tj_pos (fun j => tj_up t (o p) x (o j)) 0 = 0 := rfl
          have e5 : 6 ^ (6 - (p2 + 1)) = 6 ^ (5 - p2) := by rw [show 6 - (p2 + 1) = 5 - p2 by omega]
          have e6 : 0 < 6 ^ (6 - (p + 1)) := Nat.pow_pos (by decide)
          rw [e0, e5] at l2
          rw [posN, e5] at l1
          rw [mulS]
          have e7 : 6 ^ (6 - 0) = 6 ^ 6 := rfl
          rw [e7] at l2
          omega
      · obtain ⟨p3, rfl⟩ : ∃ p3, p2 = p3 + 1 := ⟨p2 - 1, by omega⟩
        refine nm_r (pk_m1 p3) (And.intro (pk_in p3 5 (by omega)) ?_)
        rw [nI_clamp (show p3 < 2 ^ 31 by omega), (oo p3 (by omega)).1]
        exact tj_goUp hm rfl hQ hO hS (by omega) k3 (fun DN3 hY3 => hn' (p3, DN3) ⟨by show C - 1 ≤ p3; omega, by show p3 ≤ N; omega, hY3⟩ (by show p3 < p3 + 1; omega))
end
end
section
/-! ===== working out ===== -/
section
variable {lv qu ai st fo af bd tc oc ac : Int32} {B AN PA EX : Nat → Int64} {RC AC RO VO AS LC LI AL BF BN DI TO HO OR TD TV TW PF PT DN VA : Nat → Int32}
/-- the search's answer: whether there is a choice -/
def tj_AF (V n : Nat → Nat) (R : Nat → Nat → Nat → Nat) (a : Nat → Nat → Prop) (m : Nat) (af : Int32) : Prop :=
  (af = 1 ∧ ∃ s : Nat → Nat, (∀ v, s v < 5) ∧ tj_Sat V n R a m s) ∨ (af = 0 ∧ ∀ s : Nat → Nat, (∀ v, s v < 5) → ¬ tj_Sat V n R a m s)
theorem tj_sbw53 {post : St1 → Prop} {q m w : Nat} (hq : q < 2) (hm : m < 16) (hqu : qu = nI q) (hai : ai = nI m) (hI : tj_I RO VO LC LI q m) (hL : tj_L AL m) (hA : AS q = nI w) (hw : w < 32) (hfo : fo = 0 → ∀ v, w.testBit v = true → (tj_va VO q m 4).testBit v = true) (hAN : ∀ x, x < 3136 → ¬ tj_in AN x) (haf : af = 0) (hD : ∀ v, v < 5 → tj_N (DI v) 5)
    (H : ∀ (af' : Int32) (bd' : Int32) (AN' : Nat → Int64) (PA' : Nat → Int64) (EX' : Nat → Int64) (BF' : Nat → Int32) (BN' : Nat → Int32) (DI' : Nat → Int32) (tc' : Int32) (TO' : Nat → Int32), (∀ v, v < 5 → tj_N (DI' v) 5) → tj_AF (tj_V VO q) (tj_n LC) (tj_R RO VO LI q) (tj_av AL) m af' →
      (fo = 0 → ∀ x, x < 3136 → (tj_in AN' x ↔ tj_Ans (tj_V VO q) (tj_n LC) (tj_R RO VO LI q) (tj_av AL) m w x)) → post (lv, qu, ai, st, fo, af', bd', tc', oc, ac, B, RC, AC, RO, VO, AS, LC, LI, AL, AN', PA', EX', BF', BN', DI', TO', HO, OR, TD, TV, TW, PF, PT, DN, VA)) : wX_searchByWay_53 post lv qu ai st fo af bd tc oc ac B RC AC RO VO AS LC LI AL AN PA EX BF BN DI TO HO OR TD TV TW PF PT DN VA := by
  unfold wX_searchByWay_53 wX_searchByWay_54
  refine br_t rfl (tj_chooseOrder hq hm hqu hai hI (fun tc' TO' hTo => ?_))
  obtain ⟨T, o, e, T4, h1, h2⟩ := hTo
  unfold wX_searchByWay_70
  exact tj_joinAll hq hqu hI hL hA hw e T4 h1 h2 hAN haf hD (fun af' bd' AN' PA' EX' BF' BN' DI' d a b => H af' bd' AN' PA' EX' BF' BN' DI' tc' TO' d a (fun f0 => b f0 (hfo f0)))
theorem tj_searchByWay {post : St1 → Prop} {q m w l : Nat} (hq : q < 2) (hm : m < 16) (hm0 : m ≠ 0) (hqu : qu = nI q) (hai : ai = nI m) (hI : tj_I RO VO LC LI q m) (hL : tj_L AL m) (hA : AS q = nI w) (hw : w < 32) (hlv : lv = nI l) (hl : l ≤ 2) (hfo : fo = 0 → ∀ v, w.testBit v = true → (tj_va VO q m 4).testBit v = true) (hD : ∀ v, v < 5 → tj_N (DI v) 5)
    (H : ∀ (af' : Int32) (bd' : Int32) (tc' : Int32) (oc' : Int32) (ac' : Int32) (AL' : Nat → Int32) (AN' : Nat → Int64) (PA' : Nat → Int64) (EX' : Nat → Int64) (BF' : Nat → Int32) (BN' : Nat → Int32) (DI' : Nat → Int32) (TO' : Nat → Int32) (HO' : Nat → Int32) (OR' : Nat → Int32) (TD' : Nat → Int32) (TV' : Nat → Int32) (TW' : Nat → Int32) (PF' : Nat → Int32) (PT' : Nat → Int32) (DN' : Nat → Int32) (VA' : Nat → Int32), (∀ v, v < 5 → tj_N (DI' v) 5) → tj_AF (tj_V VO q) (tj_n LC) (tj_R RO VO LI q) (tj_av AL) m af' →
      (fo = 0 → ∀ x, x < 3136 → (tj_in AN' x ↔ tj_Ans (tj_V VO q) (tj_n LC) (tj_R RO VO LI q) (tj_av AL) m w x)) → (¬ (l = 1 ∧ tj_gy (tj_V VO q) 4 m) → AL' = AL) → post (lv, qu, ai, st, fo, af', bd', tc', oc', ac', B, RC, AC, RO, VO, AS, LC, LI, AL', AN', PA', EX', BF', BN', DI', TO', HO', OR', TD', TV', TW', PF', PT', DN', VA')) : wpX_searchByWay post (lv, qu, ai, st, fo, af, bd, tc, oc, ac, B, RC, AC, RO, VO, AS, LC, LI, AL, AN, PA, EX, BF, BN, DI, TO, HO, OR, TD, TV, TW, PF, PT, DN, VA) := by
  subst hlv
  unfold wpX_searchByWay
  refine tj_empty (fun AN0 hA0 => ?_)
  have hAN : ∀ x, x < 3136 → ¬ tj_in AN0 x := fun x hx => tj_in_0 hA0 hx
  refine pk_eq l 2 (fun e => ?_) (fun ne2 => pk_eq l 1 (fun e => ?_) (fun ne1 => ?_))
  · exact tj_leapfrog hq hm hm0 hqu hai hI hL hA hw hfo hAN rfl hD (fun af' AN' DI' oc' ac' OR' TD' TV' TW' PF' PT' DN' VA' d a b => H af' bd tc oc' ac' AL AN' PA EX BF BN DI' TO HO OR' TD' TV' TW' PF' PT' DN' VA' d a b (fun _ => rfl))
  · subst hqu hai
    refine tj_findTree hq hm (tj_I_Q hI) (fun hg tc1 TO1 HO1 hF => br_f (by decide) ?_) (fun hg tc1 TO1 HO1 => br_t rfl ?_)
    · unfold wX_searchByWay_54
      refine br_f (by decide) (tj_reduceTree hq rfl hI hL hF (fun AL1 BF1 BN1 hL1 hsat _ => ?_))
      unfold wX_searchByWay_70
      obtain ⟨T, o, p, e1, T4, hT, hTO, _, _⟩ := hF
      refine tj_joinAll hq rfl hI hL1 hA hw e1 T4 (fun t ht => ⟨hTO t ht, hT.1 t ht⟩) hT.2.1 hAN rfl hD (fun af' bd' AN' PA' EX' BF' BN' DI' d a b => H af' bd' tc1 oc ac AL1 AN' PA' EX' BF' BN' DI' TO1 HO1 OR TD TV TW PF PT DN VA d ?_ (fun f0 x hx => ?_) (fun z => absurd ⟨e, hg⟩ z))
      · rcases a with ⟨a1, s, s1, s2⟩ | ⟨a1, a2⟩
        · exact Or.inl ⟨a1, s, s1, (hsat s).mp s2⟩
        · exact Or.inr ⟨a1, fun s s1 s2 => a2 s s1 ((hsat s).mpr s2)⟩
      · rw [b f0 (hfo f0) x hx]
        exact ⟨fun ⟨s, s1, s2, s3⟩ => ⟨s, s1, (hsat s).mp s2, s3⟩, fun ⟨s, s1, s2, s3⟩ => ⟨s, s1, (hsat s).mpr s2, s3⟩⟩
    · exact tj_sbw53 hq hm rfl rfl hI hL hA hw hfo hAN rfl hD (fun af' bd' AN' PA' EX' BF' BN' DI' tc' TO' d a b => H af' bd' tc' oc ac AL AN' PA' EX' BF' BN' DI' TO' HO1 OR TD TV TW PF PT DN VA d a b (fun _ => rfl))
  · exact tj_sbw53 hq hm hqu hai hI hL hA hw hfo hAN rfl hD (fun af' bd' AN' PA' EX' BF' BN' DI' tc' TO' d a b => H af' bd' tc' oc ac AL AN' PA' EX' BF' BN' DI' TO' HO OR TD TV TW PF PT DN VA d a b (fun _ => rfl))
/-- row k of atom i is in some choice -/
def tj_uf (V n : Nat → Nat) (R : Nat → Nat → Nat → Nat) (a : Nat → Nat → Prop) (m i k : Nat) : Prop := ∃ s : Nat → Nat, (∀ v, s v < 5) ∧ tj_Sat V n R a m s ∧ ∀ v, (V i).testBit v = true → s v = R i k v
theorem tj_usefulRows {post : Int32 → St1 → Prop} {q m w l i : Nat} (hq : q < 2) (hm : m < 16) (hm0 : m ≠ 0) (hqu : qu = nI q) (hai : ai = nI m) (hI : tj_I RO VO LC LI q m) (hL : tj_L AL m) (hA : AS q = nI w) (hw : w < 32) (hlv : lv = nI l) (hl : l ≤ 2) (hD : ∀ v, v < 5 → tj_N (DI v) 5) (hng : ¬ (l = 1 ∧ tj_gy (tj_V VO q) 4 m)) (hi : i < 4)
    (H : ∀ (u : Nat) (fo' : Int32) (af' : Int32) (bd' : Int32) (tc' : Int32) (oc' : Int32) (ac' : Int32) (AN' : Nat → Int64) (PA' : Nat → Int64) (EX' : Nat → Int64) (BF' : Nat → Int32) (BN' : Nat → Int32) (DI' : Nat → Int32) (TO' : Nat → Int32) (HO' : Nat → Int32) (OR' : Nat → Int32) (TD' : Nat → Int32) (TV' : Nat → Int32) (TW' : Nat → Int32) (PF' : Nat → Int32) (PT' : Nat → Int32) (DN' : Nat → Int32) (VA' : Nat → Int32), (∀ v, v < 5 → tj_N (DI' v) 5) → u < 65536 → (m.testBit i = true → ∀ k, k < tj_n LC i → (u.testBit k = true ↔ tj_av AL i k ∧ tj_uf (tj_V VO q) (tj_n LC) (tj_R RO VO LI q) (tj_av AL) m i k)) → post (nI u) (lv, qu, ai, st, fo', af', bd', tc', oc', ac', B, RC, AC, RO, VO, AS, LC, LI, AL, AN', PA', EX', BF', BN', DI', TO', HO', OR', TD', TV', TW', PF', PT', DN', VA')) : wpX_usefulRows post (lv, qu, ai, st, fo, af, bd, tc, oc, ac, B, RC, AC, RO, VO, AS, LC, LI, AL, AN, PA, EX, BF, BN, DI, TO, HO, OR, TD, TV, TW, PF, PT, DN, VA) (nI i) := by
  unfold wpX_usefulRows
  subst hai
  have pi := pk_in (x := nI i) i 4 hi
  have ci : (nI i).toNatClampNeg = i := nI_clamp (by omega)
  refine tj_br m i (fun z => H 0 fo af bd tc oc ac AN PA EX BF BN DI TO HO OR TD TV TW PF PT DN VA hD (by decide) (fun y => (tj_tf y z).elim)) (fun mi => And.intro pi ?_)
  obtain ⟨en, n16⟩ := tj_I_n hI hi mi
  obtain ⟨ea, a16⟩ := tj_L_e hL hi mi
  rw [ci]
  refine nm_r (e' := nI (AL i).toNatClampNeg) ea ?_
  refine pk_loop (fun n k (s : Nat × St1) => wX_usefulRows_25 post (nI i) (nI (AL i).toNatClampNeg) n (nI s.1) (nI k) s.2.1 s.2.2.1 s.2.2.2.1 s.2.2.2.2.1 s.2.2.2.2.2.1 s.2.2.2.2.2.2.1 s.2.2.2.2.2.2.2.1 s.2.2.2.2.2.2.2.2.1 s.2.2.2.2.2.2.2.2.2.1 s.2.2.2.2.2.2.2.2.2.2.1 s.2.2.2.2.2.2.2.2.2.2.2.1 s.2.2.2.2.2.2.2.2.2.2.2.2.1 s.2.2.2.2.2.2.2.2.2.2.2.2.2.1 s.2.2.2.2.2.2.2.2.2.2.2.2.2.2.1 s.2.2.2.2.2.2.2.2.2.2.2.2.2.2.2.1 s.2.2.2.2.2.2.2.2.2.2.2.2.2.2.2.2.1 s.2.2.2.2.2.2.2.2.2.2.2.2.2.2.2.2.2.1 s.2.2.2.2.2.2.2.2.2.2.2.2.2.2.2.2.2.2.1 s.2.2.2.2.2.2.2.2.2.2.2.2.2.2.2.2.2.2.2.1 s.2.2.2.2.2.2.2.2.2.2.2.2.2.2.2.2.2.2.2.2.1 s.2.2.2.2.2.2.2.2.2.2.2.2.2.2.2.2.2.2.2.2.2.1 s.2.2.2.2.2.2.2.2.2.2.2.2.2.2.2.2.2.2.2.2.2.2.1 s.2.2.2.2.2.2.2.2.2.2.2.2.2.2.2.2.2.2.2.2.2.2.2.1 s.2.2.2.2.2.2.2.2.2.2.2.2.2.2.2.2.2.2.2.2.2.2.2.2.1 s.2.2.2.2.2.2.2.2.2.2.2.2.2.2.2.2.2.2.2.2.2.2.2.2.2.1 s.2.2.2.2.2.2.2.2.2.2.2.2.2.2.2.2.2.2.2.2.2.2.2.2.2.2.1 s.2.2.2.2.2.2.2.2.2.2.2.2.2.2.2.2.2.2.2.2.2.2.2.2.2.2.2.1 s.2.2.2.2.2.2.2.2.2.2.2.2.2.2.2.2.2.2.2.2.2.2.2.2.2.2.2.2.1 s.2.2.2.2.2.2.2.2.2.2.2.2.2.2.2.2.2.2.2.2.2.2.2.2.2.2.2.2.2.1 s.2.2.2.2.2.2.2.2.2.2.2.2.2.2.2.2.2.2.2.2.2.2.2.2.2.2.2.2.2.2.1 s.2.2.2.2.2.2.2.2.2.2.2.2.2.2.2.2.2.2.2.2.2.2.2.2.2.2.2.2.2.2.2.1 s.2.2.2.2.2.2.2.2.2.2.2.2.2.2.2.2.2.2.2.2.2.2.2.2.2.2.2.2.2.2.2.2.1 s.2.2.2.2.2.2.2.2.2.2.2.2.2.2.2.2.2.2.2.2.2.2.2.2.2.2.2.2.2.2.2.2.2.1 s.2.2.2.2.2.2.2.2.2.2.2.2.2.2.2.2.2.2.2.2.2.2.2.2.2.2.2.2.2.2.2.2.2.2.1 s.2.2.2.2.2.2.2.2.2.2.2.2.2.2.2.2.2.2.2.2.2.2.2.2.2.2.2.2.2.2.2.2.2.2.2)
    (fun k s => (∀ k', s.1.testBit k' = true ↔ k' < k ∧ tj_av AL i k' ∧ tj_uf (tj_V VO q) (tj_n LC) (tj_R RO VO LI q) (tj_av AL) m i k') ∧ ∃ (fo1 : Int32) (af1 : Int32) (bd1 : Int32) (tc1 : Int32) (oc1 : Int32) (ac1 : Int32) (AN1 : Nat → Int64) (PA1 : Nat → Int64) (EX1 : Nat → Int64) (BF1 : Nat → Int32) (BN1 : Nat → Int32) (DI1 : Nat → Int32) (TO1 : Nat → Int32) (HO1 : Nat → Int32) (OR1 : Nat → Int32) (TD1 : Nat → Int32) (TV1 : Nat → Int32) (TW1 : Nat → Int32) (PF1 : Nat → Int32) (PT1 : Nat → Int32) (DN1 : Nat → Int32) (VA1 : Nat → Int32) (AL1 : Nat → Int32), s.2 = (lv, qu, nI m, st, fo1, af1, bd1, tc1, oc1, ac1, B, RC, AC, RO, VO, AS, LC, LI, AL1, AN1, PA1, EX1, BF1, BN1, DI1, TO1, HO1, OR1, TD1, TV1, TW1, PF1, PT1, DN1, VA1) ∧ (∀ x, x ≠ i → AL1 x = AL x) ∧ ∀ v, v < 5 → tj_N (DI1 v) 5)
    (tj_n LC i) 0 (0, (lv, qu, nI m, st, fo, af, bd, tc, oc, ac, B, RC, AC, RO, VO, AS, LC, LI, AL, AN, PA, EX, BF, BN, DI, TO, HO, OR, TD, TV, TW, PF, PT, DN, VA)) (by omega) ⟨fun k' => ⟨fun z => absurd z (by rw [Nat.zero_testBit]; decide), fun z => absurd z.1 (by omega)⟩, fo, af, bd, tc, oc, ac, AN, PA, EX, BF, BN, DI, TO, HO, OR, TD, TV, TW, PF, PT, DN, VA, AL, rfl, fun _ _ => rfl, hD⟩ ?_ ?_
  · rintro n ⟨u, st⟩ hJ
    dsimp only at hJ
    obtain ⟨hu, fo1, af1, bd1, tc1, oc1, ac1, AN1, PA1, EX1, BF1, BN1, DI1, TO1, HO1, OR1, TD1, TV1, TW1, PF1, PT1, DN1, VA1, AL1, rfl, hAL1, hD1⟩ := hJ
    refine And.intro pi ?_
    dsimp only
    rw [ci, en]
    refine tj_ple (fun _ => And.intro pi (nm_r (e' := AL) ?_ (H u fo1 af1 bd1 tc1 oc1 ac1 AN1 PA1 EX1 BF1 BN1 DI1 TO1 HO1 OR1 TD1 TV1 TW1 PF1 PT1 DN1 VA1 hD1 (Nat.lt_pow_two_of_testBit u (n := 16) (fun k hk => tj_nt (fun z => ?_))) (fun _ k hk => ?_)))) (fun z => absurd z (by omega))
    · rw [← ea]
      funext x
      by_cases e : x = i
      · rw [e, pk_us]
      · rw [pk_un e, hAL1 x e]
    · have := ((hu k).mp z).1
      omega
    · rw [hu k]
      exact ⟨fun z => z.2, fun z => ⟨hk, z⟩⟩
  · rintro n k ⟨u, st⟩ hk hJ hw'
    dsimp only at hJ
    obtain ⟨hu, fo1, af1, bd1, tc1, oc1, ac1, AN1, PA1, EX1, BF1, BN1, DI1, TO1, HO1, OR1, TD1, TV1, TW1, PF1, PT1, DN1, VA1, AL1, rfl, hAL1, hD1⟩ := hJ
    refine And.intro pi ?_
    dsimp only
    rw [ci, en]
    refine tj_ple (fun z => absurd z (by omega)) (fun _ => tj_br (AL i).toNatClampNeg k (fun z => nm_r (nI_1 k) (hw' (u, (lv, qu, nI m, st, fo1, af1, bd1, tc1, oc1, ac1, B, RC, AC, RO, VO, AS, LC, LI, AL1, AN1, PA1, EX1, BF1, BN1, DI1, TO1, HO1, OR1, TD1, TV1, TW1, PF1, PT1, DN1, VA1)) ⟨fun k' => ?_, fo1, af1, bd1, tc1, oc1, ac1, AN1, PA1, EX1, BF1, BN1, DI1, TO1, HO1, OR1, TD1, TV1, TW1, PF1, PT1, DN1, VA1, AL1, rfl, hAL1, hD1⟩)) (fun z => And.intro pi ?_))
    · rw [hu k']
      constructor
      · rintro ⟨a1, a2⟩; exact ⟨by omega, a2⟩
      · rintro ⟨a1, a2, a3⟩
        rcases Nat.lt_or_ge k' k with y | y
        · exact ⟨y, a2, a3⟩
        · rw [show k' = k by omega] at a2; exact (tj_tf a2 z).elim
    · rw [tj_shl (by omega)]
      refine nm_e ?_
      have p16 : 2 ^ k < 65536 := tj_2p (k := 16) (by omega)
      have hL2 : tj_L (upd AL1 i (nI (2 ^ k))) m := by
        intro x hx mx
        by_cases e : x = i
        · rw [e, pk_us]; exact ⟨_, p16, rfl⟩
        · rw [pk_un e, hAL1 x e]; exact hL x hx mx
      have av2 : ∀ x k', x ≠ i → (tj_av (upd AL1 i (nI (2 ^ k))) x k' ↔ tj_av AL x k') := by
        intro x k' e
        unfold tj_av
        rw [pk_un e, hAL1 x e]
      have avi : ∀ k', tj_av (upd AL1 i (nI (2 ^ k))) i k' ↔ k' = k := by
        intro k'
        unfold tj_av
        rw [pk_us, nI_clamp (by omega), tj_bit2p, decide_eq_true_iff]
        exact ⟨fun e => e.symm, fun e => e.symm⟩
      have sat2 : ∀ s, tj_Sat (tj_V VO q) (tj_n LC) (tj_R RO VO LI q) (tj_av (upd AL1 i (nI (2 ^ k)))) m s ↔ tj_Sat (tj_V VO q) (tj_n LC) (tj_R RO VO LI q) (tj_av AL) m s ∧ ∀ v, (tj_V VO q i).testBit v = true → s v = tj_R RO VO LI q i k v := by
        intro s
        constructor
        · intro hs
          obtain ⟨k', k1, k2, k3⟩ := hs i hi mi
          rw [avi k'] at k2
          subst k2
          refine ⟨fun x hx mx => ?_, k3⟩
          by_cases e : x = i
          · subst e; exact ⟨k', k1, z, k3⟩
          · exact tj_P_mono (fun y _ h => (av2 x y e).mp h) (hs x hx mx)
        · rintro ⟨hs, hv⟩ x hx mx
          by_cases e : x = i
          · subst e; exact ⟨k, hk, (avi k).mpr rfl, hv⟩
          · exact tj_P_mono (fun y _ h => (av2 x y e).mpr h) (hs x hx mx)
      refine tj_searchByWay hq hm hm0 hqu rfl hI hL2 hA hw hlv hl (fun z => absurd z (by decide)) hD1 (fun af2 bd2 tc2 oc2 ac2 AL2 AN2 PA2 EX2 BF2 BN2 DI2 TO2 HO2 OR2 TD2 TV2 TW2 PF2 PT2 DN2 VA2 d2 a2 _ c2 => ?_)
      have e2 := c2 hng
      subst e2
      have hAL2 : ∀ x, x ≠ i → upd AL1 i (nI (2 ^ k)) x = AL x := fun x hx => (pk_un hx).trans (hAL1 x hx)
      rcases a2 with ⟨e, s, s1, s2⟩ | ⟨e, none⟩
      · rw [e]
        refine br_f (show ¬ (1 : Int32) = 0 by decide) (nm_r (e' := nI (u ||| 2 ^ k)) (tj_or u (2 ^ k)) (nm_r (nI_1 k) (hw' (u ||| 2 ^ k, (lv, qu, nI m, st, 1, 1, bd2, tc2, oc2, ac2, B, RC, AC, RO, VO, AS, LC, LI, upd AL1 i (nI (2 ^ k)), AN2, PA2, EX2, BF2, BN2, DI2, TO2, HO2, OR2, TD2, TV2, TW2, PF2, PT2, DN2, VA2)) ⟨fun k' => ?_, 1, 1, bd2, tc2, oc2, ac2, AN2, PA2, EX2, BF2, BN2, DI2, TO2, HO2, OR2, TD2, TV2, TW2, PF2, PT2, DN2, VA2, _, rfl, hAL2, d2⟩)))
        rw [Nat.testBit_or, Bool.or_eq_true, hu k', tj_bit2p, decide_eq_true_iff]
        constructor
        · rintro (⟨b1, b2⟩ | b1)
          · exact ⟨by omega, b2⟩
          · subst b1; exact ⟨by omega, z, s, s1, ((sat2 s).mp s2).1, ((sat2 s).mp s2).2⟩
        · rintro ⟨b1, b2⟩
          rcases Nat.lt_or_ge k' k with y | y
          · exact Or.inl ⟨y, b2⟩
          · exact Or.inr (by omega)
      · rw [e]
        refine br_t rfl (nm_r (nI_1 k) (hw' (u, (lv, qu, nI m, st, 1, 0, bd2, tc2, oc2, ac2, B, RC, AC, RO, VO, AS, LC, LI, upd AL1 i (nI (2 ^ k)), AN2, PA2, EX2, BF2, BN2, DI2, TO2, HO2, OR2, TD2, TV2, TW2, PF2, PT2, DN2, VA2)) ⟨fun k' => ?_, 1, 0, bd2, tc2, oc2, ac2, AN2, PA2, EX2, BF2, BN2, DI2, TO2, HO2, OR2, TD2, TV2, TW2, PF2, PT2, DN2, VA2, _, rfl, hAL2, d2⟩))
        rw [hu k']
        constructor
        · rintro ⟨b1, b2⟩; exact ⟨by omega, b2⟩
        · rintro ⟨b1, b2, s, s1, s2, s3⟩
          rcases Nat.lt_or_ge k' k with y | y
          · exact ⟨y, b2, s, s1, s2, s3⟩
          · have e' : k' = k := by omega
            subst e'
            exact absurd ((sat2 s).mpr ⟨s2, s3⟩) (none s s1)
theorem tj_keepUseful {post : St1 → Prop} {q m w l : Nat} (hq : q < 2) (hm : m < 16) (hm0 : m ≠ 0) (hqu : qu = nI q) (hai : ai = nI m) (hI : tj_I RO VO LC LI q m) (hL : tj_L AL m) (hA : AS q = nI w) (hw : w < 32) (hlv : lv = nI l) (hl : l ≤ 2) (hD : ∀ v, v < 5 → tj_N (DI v) 5) (hng : ¬ (l = 1 ∧ tj_gy (tj_V VO q) 4 m))
    (H : ∀ (fo' : Int32) (af' : Int32) (bd' : Int32) (tc' : Int32) (oc' : Int32) (ac' : Int32) (AN' : Nat → Int64) (PA' : Nat → Int64) (EX' : Nat → Int64) (BF' : Nat → Int32) (BN' : Nat → Int32) (DI' : Nat → Int32) (TO' : Nat → Int32) (HO' : Nat → Int32) (OR' : Nat → Int32) (TD' : Nat → Int32) (TV' : Nat → Int32) (TW' : Nat → Int32) (PF' : Nat → Int32) (PT' : Nat → Int32) (DN' : Nat → Int32) (VA' : Nat → Int32) (AL' : Nat → Int32), (∀ v, v < 5 → tj_N (DI' v) 5) → tj_L AL' m → tj_Us (tj_V VO q) (tj_n LC) (tj_R RO VO LI q) (tj_av AL) (tj_av AL') m → post (lv, qu, ai, st, fo', af', bd', tc', oc', ac', B, RC, AC, RO, VO, AS, LC, LI, AL', AN', PA', EX', BF', BN', DI', TO', HO', OR', TD', TV', TW', PF', PT', DN', VA')) : wpX_keepUseful post (lv, qu, ai, st, fo, af, bd, tc, oc, ac, B, RC, AC, RO, VO, AS, LC, LI, AL, AN, PA, EX, BF, BN, DI, TO, HO, OR, TD, TV, TW, PF, PT, DN, VA) := by
  unfold wpX_keepUseful
  refine tj_usefulRows (i := 0) hq hm hm0 hqu hai hI hL hA hw hlv hl hD hng (by decide) (fun u0 fo0 af0 bd0 tc0 oc0 ac0 AN0 PA0 EX0 BF0 BN0 DI0 TO0 HO0 OR0 TD0 TV0 TW0 PF0 PT0 DN0 VA0 d0 l0 h0 => ?_)
  refine tj_usefulRows (i := 1) hq hm hm0 hqu hai hI hL hA hw hlv hl d0 hng (by decide) (fun u1 fo1 af1 bd1 tc1 oc1 ac1 AN1 PA1 EX1 BF1 BN1 DI1 TO1 HO1 OR1 TD1 TV1 TW1 PF1 PT1 DN1 VA1 d1 l1 h1 => ?_)
  refine tj_usefulRows (i := 2) hq hm hm0 hqu hai hI hL hA hw hlv hl d1 hng (by decide) (fun u2 fo2 af2 bd2 tc2 oc2 ac2 AN2 PA2 EX2 BF2 BN2 DI2 TO2 HO2 OR2 TD2 TV2 TW2 PF2 PT2 DN2 VA2 d2 l2 h2 => ?_)
  refine tj_usefulRows (i := 3) hq hm hm0 hqu hai hI hL hA hw hlv hl d2 hng (by decide) (fun u3 fo3 af3 bd3 tc3 oc3 ac3 AN3 PA3 EX3 BF3 BN3 DI3 TO3 HO3 OR3 TD3 TV3 TW3 PF3 PT3 DN3 VA3 d3 l3 h3 => ?_)
  have e0 : upd (upd (upd (upd AL 0 (nI u0)) 1 (nI u1)) 2 (nI u2)) 3 (nI u3) 0 = nI u0 := rfl
  have e1 : upd (upd (upd (upd AL 0 (nI u0)) 1 (nI u1)) 2 (nI u2)) 3 (nI u3) 1 = nI u1 := rfl
  have e2 : upd (upd (upd (upd AL 0 (nI u0)) 1 (nI u1)) 2 (nI u2)) 3 (nI u3) 2 = nI u2 := rfl
  have e3 : upd (upd (upd (upd AL 0 (nI u0)) 1 (nI u1)) 2 (nI u2)) 3 (nI u3) 3 = nI u3 := rfl
  refine nm_e (nm_e (nm_e (nm_e (H fo3 af3 bd3 tc3 oc3 ac3 AN3 PA3 EX3 BF3 BN3 DI3 TO3 HO3 OR3 TD3 TV3 TW3 PF3 PT3 DN3 VA3 _ d3 (fun x hx mx => ?_) (fun x hx mx k hk => ?_)))))
  · rcases (show x = 0 ∨ x = 1 ∨ x = 2 ∨ x = 3 by omega) with rfl | rfl | rfl | rfl
    · rw [e0]; exact ⟨_, l0, rfl⟩
    · rw [e1]; exact ⟨_, l1, rfl⟩
    · rw [e2]; exact ⟨_, l2, rfl⟩
    · rw [e3]; exact ⟨_, l3, rfl⟩
  · show (upd (upd (upd (upd AL 0 (nI u0)) 1 (nI u1)) 2 (nI u2)) 3 (nI u3) x).toNatClampNeg.testBit k = true ↔ _
    rcases (show x = 0 ∨ x = 1 ∨ x = 2 ∨ x = 3 by omega) with rfl | rfl | rfl | rfl
    · rw [e0, nI_clamp (by omega)]; exact h0 mx k hk
    · rw [e1, nI_clamp (by omega)]; exact h1 mx k hk
    · rw [e2, nI_clamp (by omega)]; exact h2 mx k hk
    · rw [e3, nI_clamp (by omega)]; exact h3 mx k hk
/-! what a question means over relations -/
def tj_SS (RO VO : Nat → Int32) (hs : Nat → Nat → Prop) (q m : Nat) (s : Nat → Nat) : Prop := ∀ i, i < 4 → m.testBit i = true → ∃ row, hs (tj_rel RO (4 * q + i)) row ∧ tj_mt RO VO (4 * q + i) row s
def tj_SA (RO VO : Nat → Int32) (hs : Nat → Nat → Prop) (q m w x : Nat) : Prop := ∃ s : Nat → Nat, (∀ v, s v < 5) ∧ tj_SS RO VO hs q m s ∧ x = tj_key w s 5
/-- the lists made by start -/
theorem tj_lists {q m f : Nat} (hQ : tj_Q RO VO q m) (h : ∀ i, i < 4 → m.testBit i = true → tj_Gd RO VO B f q i (LC i) (AL i) (fun k => LI (16 * i + k))) :
    tj_I RO VO LC LI q m ∧ tj_L AL m ∧ (∀ i, i < 4 → m.testBit i = true → ∀ k, k < tj_n LC i → tj_av AL i k ∧ tj_has B f (tj_rel RO (4 * q + i)) (tj_ro LI i k)) ∧
    (∀ i, i < 4 → m.testBit i = true → ∀ row, tj_has B f (tj_rel RO (4 * q + i)) row → tj_fit RO VO (4 * q + i) row → ∃ k, k < tj_n LC i ∧ tj_ro LI i k = row) ∧
    (∀ s, tj_Sat (tj_V VO q) (tj_n LC) (tj_R RO VO LI q) (tj_av AL) m s ↔ tj_SS RO VO (tj_has B f) q m s) := by
  have rows : ∀ i, i < 4 → m.testBit i = true → ∀ k, k < tj_n LC i → LI (16 * i + k) = nI (tj_ro LI i k) ∧ tj_has B f (tj_rel RO (4 * q + i)) (tj_ro LI i k) ∧ tj_fit RO VO (4 * q + i) (tj_ro LI i k) := by
    intro i hi mi k hk
    obtain ⟨c, c1, c2, c3, c4, c5⟩ := h i hi mi
    unfold tj_n at hk
    rw [c2, nI_clamp (by omega)] at hk
    obtain ⟨x, x1, x2, x3⟩ := c4 k hk
    dsimp only at x1
    have xl := x2.2.1
    have rb := tj_rw_b (tj_rel RO (4 * q + i))
    have e : tj_ro LI i k = x := by unfold tj_ro; rw [x1, nI_clamp (by omega)]
    rw [e]
    exact ⟨x1, x2, x3⟩
  have hI : tj_I RO VO LC LI q m := by
    intro i hi mi
    obtain ⟨c, c1, c2, c3, c4, c5⟩ := h i hi mi
    exact ⟨hQ i hi mi, ⟨c, by omega, c2⟩, fun k hk => ⟨(rows i hi mi k hk).1, (rows i hi mi k hk).2.1.2.1, (rows i hi mi k hk).2.2⟩⟩
  have hav : ∀ i, i < 4 → m.testBit i = true → ∀ k, k < tj_n LC i → tj_av AL i k := by
    intro i hi mi k hk
    obtain ⟨c, c1, c2, c3, c4, c5⟩ := h i hi mi
    unfold tj_n at hk
    rw [c2, nI_clamp (by omega)] at hk
    unfold tj_av
    have := tj_2m c1
    rw [c3, nI_clamp (by omega), tj_pm1, decide_eq_true_iff]
    exact hk
  have hall : ∀ i, i < 4 → m.testBit i = true → ∀ row, tj_has B f (tj_rel RO (4 * q + i)) row → tj_fit RO VO (4 * q + i) row → ∃ k, k < tj_n LC i ∧ tj_ro LI i k = row := by
    intro i hi mi row hr hf
    obtain ⟨c, c1, c2, c3, c4, c5⟩ := h i hi mi
    obtain ⟨k, k1, k2⟩ := c5 row hr hf
    dsimp only at k2
    have xl := hr.2.1
    have rb := tj_rw_b (tj_rel RO (4 * q + i))
    refine ⟨k, ?_, ?_⟩
    · unfold tj_n; rw [c2, nI_clamp (by omega)]; exact k1
    · unfold tj_ro; rw [k2, nI_clamp (by omega)]
  refine ⟨hI, ?_, fun i hi mi k hk => ⟨hav i hi mi k hk, (rows i hi mi k hk).2.1⟩, hall, fun s => ?_⟩
  · intro i hi mi
    obtain ⟨c, c1, c2, c3, c4, c5⟩ := h i hi mi
    exact ⟨_, tj_2m c1, c3⟩
  · constructor
    · intro hs i hi mi
      obtain ⟨k, k1, k2, k3⟩ := hs i hi mi
      obtain ⟨r1, r2, r3⟩ := rows i hi mi k k1
      exact ⟨_, r2, (tj_mt_ra (hQ i hi mi) r3).mpr k3⟩
    · intro hs i hi mi
      obtain ⟨row, r1, r2⟩ := hs i hi mi
      have hf := tj_mt_fit r2
      obtain ⟨k, k1, k2⟩ := hall i hi mi row r1 hf
      refine ⟨k, k1, hav i hi mi k k1, ?_⟩
      have := (tj_mt_ra (hQ i hi mi) hf).mp r2
      intro v hv
      show s v = tj_ra RO VO (4 * q + i) (tj_ro LI i k) v
      rw [k2]
      exact this v hv
theorem tj_workOut {post : St1 → Prop} {q m w l f : Nat} (hq : q < 2) (hm : m < 16) (hm0 : m ≠ 0) (hf : f ≤ 6) (hQ : tj_Q RO VO q m) (h16 : ∀ i, i < 4 → m.testBit i = true → tj_ct (tj_has B f (tj_rel RO (4 * q + i))) 125 ≤ 16) (hA : AS q = nI w) (hw : w < 32) (hlv : lv = nI l) (hl : l ≤ 2) (hwh : ∀ v, w.testBit v = true → (tj_va VO q m 4).testBit v = true) (hD : ∀ v, v < 5 → tj_N (DI v) 5)
    (H : ∀ (qu' : Int32) (ai' : Int32) (st' : Int32) (fo' : Int32) (af' : Int32) (bd' : Int32) (tc' : Int32) (oc' : Int32) (ac' : Int32) (LC' : Nat → Int32) (LI' : Nat → Int32) (AL' : Nat → Int32) (AN' : Nat → Int64) (PA' : Nat → Int64) (EX' : Nat → Int64) (BF' : Nat → Int32) (BN' : Nat → Int32) (DI' : Nat → Int32) (TO' : Nat → Int32) (HO' : Nat → Int32) (OR' : Nat → Int32) (TD' : Nat → Int32) (TV' : Nat → Int32) (TW' : Nat → Int32) (PF' : Nat → Int32) (PT' : Nat → Int32) (DN' : Nat → Int32) (VA' : Nat → Int32), (∀ v, v < 5 → tj_N (DI' v) 5) → (∀ x, x < 3136 → (tj_in AN' x ↔ tj_SA RO VO (tj_has B f) q m w x)) → post (lv, qu', ai', st', fo', af', bd', tc', oc', ac', B, RC, AC, RO, VO, AS, LC', LI', AL', AN', PA', EX', BF', BN', DI', TO', HO', OR', TD', TV', TW', PF', PT', DN', VA')) : wpX_workOut post (lv, qu, ai, st, fo, af, bd, tc, oc, ac, B, RC, AC, RO, VO, AS, LC, LI, AL, AN, PA, EX, BF, BN, DI, TO, HO, OR, TD, TV, TW, PF, PT, DN, VA) (nI q) (nI m) (nI f) 0 := by
  unfold wpX_workOut
  refine tj_start hq hm hf hQ h16 (fun LC' LI' AL' hG => And.intro (by rfl) (And.intro (by rfl) ?_))
  obtain ⟨hI, hL, _, _, hS⟩ := tj_lists hQ hG
  refine tj_searchByWay hq hm hm0 rfl rfl hI hL hA hw hlv hl (fun _ => hwh) hD (fun af2 bd2 tc2 oc2 ac2 AL2 AN2 PA2 EX2 BF2 BN2 DI2 TO2 HO2 OR2 TD2 TV2 TW2 PF2 PT2 DN2 VA2 d2 _ b2 _ => H (nI q) (nI m) (nI f) 0 af2 bd2 tc2 oc2 ac2 LC' LI' AL2 AN2 PA2 EX2 BF2 BN2 DI2 TO2 HO2 OR2 TD2 TV2 TW2 PF2 PT2 DN2 VA2 d2 (fun x hx => ?_))
  rw [b2 rfl x hx]
  exact ⟨fun ⟨s, s1, s2, s3⟩ => ⟨s, s1, (hS s).mp s2, s3⟩, fun ⟨s, s1, s2, s3⟩ => ⟨s, s1, (hS s).mpr s2, s3⟩⟩
end
end
section
/-! ===== what the questions answer ===== -/
section
variable {lv qu ai st fo af bd tc oc ac : Int32} {B AN PA EX : Nat → Int64} {RC AC RO VO AS LC LI AL BF BN DI TO HO OR TD TV TW PF PT DN VA : Nat → Int32}
theorem tj_onesIn {post : Int32 → Prop} {S : Nat → Prop} (h : ∀ x, x < 3136 → (tj_in AN x ↔ S x)) (hS : ∀ x, S x → x < 3125) (H : post (nI (tj_ct S 3125))) : wpX_onesIn post (lv, qu, ai, st, fo, af, bd, tc, oc, ac, B, RC, AC, RO, VO, AS, LC, LI, AL, AN, PA, EX, BF, BN, DI, TO, HO, OR, TD, TV, TW, PF, PT, DN, VA) := by
  have e : tj_ct (tj_in AN) 3136 = tj_ct S 3125 := by
    rw [tj_ct_congr h, show 3136 = 3125 + 11 from rfl, tj_ct_add, tj_ct_none (p := fun j => S (3125 + j)) (fun a _ z => absurd (hS _ z) (by omega)), Nat.add_zero]
  unfold wpX_onesIn
  refine pk_loop (σ := Unit) (fun n w _ => wX_onesIn_4 post lv qu ai st fo af bd tc oc ac B RC AC RO VO AS LC LI AL AN PA EX BF BN DI TO HO OR TD TV TW PF PT DN VA n (nI (tj_ct (tj_in AN) (64 * w))) (nI w)) (fun _ _ => True) 49 0 () (by omega) trivial ?_ ?_
  · intro n _ _
    refine pk_le 49 49 (fun _ => ?_) (fun z => absurd z (by omega))
    show post (nI (tj_ct (tj_in AN) 3136))
    rw [e]
    exact H
  · intro n w _ hw _ hn
    have ea : tj_ct (tj_in AN) (64 * (w + 1)) = tj_ct (tj_in AN) (64 * w) + tj_ct (fun j => tj_bl (AN w) j = true) 64 := by
      rw [Nat.mul_succ, tj_ct_add]
      congr 1
      refine tj_ct_congr (fun j hj => ?_)
      unfold tj_in
      rw [show (64 * w + j) / 64 = w by omega, show (64 * w + j) % 64 = j by omega]
    refine pk_le 49 w (fun z => absurd z (by omega)) (fun _ => And.intro (pk_in w 49 hw) (nm_r (e' := AN w) (by rw [nI_clamp (by omega)]) ?_))
    refine loop_m (fun n' (s : Nat × Int64) => wX_onesIn_15 post (wX_onesIn_4 post lv qu ai st fo af bd tc oc ac B RC AC RO VO AS LC LI AL AN PA EX BF BN DI TO HO OR TD TV TW PF PT DN VA n) (nI w) lv qu ai st fo af bd tc oc ac B RC AC RO VO AS LC LI AL AN PA EX BF BN DI TO HO OR TD TV TW PF PT DN VA n' (nI s.1) s.2) (fun s => s.1 + tj_ct (fun j => tj_bl s.2 j = true) 64 = tj_ct (tj_in AN) (64 * (w + 1))) (fun s => tj_ct (fun j => tj_bl s.2 j = true) 64) ?_ (tj_ct (tj_in AN) (64 * w), AN w) ea.symm
    rintro n' ⟨c, x⟩ hc hn'
    dsimp only at hc hn' ⊢
    refine br_c (fun z => nm_r (nI_1 w) ?_) (fun z => nm_e (nm_r (nI_1 c) (hn' (c + 1, x &&& (x - 1)) ?_ ?_)))
    · rw [z, tj_ct_none (fun j _ y => tj_tf y (tj_bl_0 j)), Nat.add_zero] at hc
      rw [hc]
      exact hn () trivial
    · show c + 1 + tj_ct (fun j => tj_bl (x &&& (x - 1)) j = true) 64 = _
      have := tj_lowL z
      omega
    · show tj_ct (fun j => tj_bl (x &&& (x - 1)) j = true) 64 < tj_ct (fun j => tj_bl x j = true) 64
      have := tj_lowL z
      omega
/-! the picture of a state between calls -/
def tj_qn (AC : Nat → Int32) (q : Nat) : Nat := (AC q).toNatClampNeg
def tj_qm (AC : Nat → Int32) (q : Nat) : Nat := 2 ^ tj_qn AC q - 1
def tj_qw (AS : Nat → Int32) (q : Nat) : Nat := (AS q).toNatClampNeg
def tj_Wf (hs : Nat → Nat → Prop) (RC AC RO VO AS : Nat → Int32) : Prop :=
  (∀ q, q < 2 → tj_N (AC q) 5 ∧ tj_Q RO VO q (tj_qm AC q)) ∧ (∀ q, q < 2 → tj_N (AS q) 32) ∧ (∀ r, r < 3 → tj_ct (hs r) 125 ≤ 16 ∧ RC r = nI (tj_ct (hs r) 125))
theorem tj_Wf_e {hs : Nat → Nat → Prop} {q : Nat} (h : tj_Wf hs RC AC RO VO AS) (hq : q < 2) : AC q = nI (tj_qn AC q) ∧ tj_qn AC q ≤ 4 ∧ tj_qm AC q < 16 ∧ tj_Q RO VO q (tj_qm AC q) ∧ AS q = nI (tj_qw AS q) ∧ tj_qw AS q < 32 := by
  obtain ⟨h1, h2⟩ := h.1 q hq
  obtain ⟨a, b⟩ := tj_N_e h1 (by decide)
  obtain ⟨c, d⟩ := tj_N_e (h.2.1 q hq) (by decide)
  have b' : tj_qn AC q ≤ 4 := Nat.le_of_lt_succ b
  have hp : 2 ^ tj_qn AC q ≤ 2 ^ 4 := Nat.pow_le_pow_right (by decide) b'
  have h0 : 0 < 2 ^ tj_qn AC q := Nat.pow_pos (by decide)
  refine ⟨a, b', ?_, h2, c, d⟩
  unfold tj_qm
  omega
abbrev tj_Wd (l : Nat) (hs : Nat → Nat → Prop) (RC AC RO VO AS : Nat → Int32) (u : St1) : Prop := match u with
  | (lv', qu', ai', st', fo', af', bd', tc', oc', ac', B', RC', AC', RO', VO', AS', LC', LI', AL', AN', PA', EX', BF', BN', DI', TO', HO', OR', TD', TV', TW', PF', PT', DN', VA') => lv' = nI l ∧ tj_has B' 0 = hs ∧ RC' = RC ∧ AC' = AC ∧ RO' = RO ∧ VO' = VO ∧ AS' = AS ∧ ∀ v, v < 5 → tj_N (DI' v) 5
def tj_wo (VO AC AS : Nat → Int32) (q : Nat) : Prop := tj_wh VO q (tj_qm AC q) (tj_qw AS q)
def tj_as (hs : Nat → Nat → Prop) (RO VO AC AS : Nat → Int32) (q : Nat) : Nat → Prop := tj_SA RO VO hs q (tj_qm AC q) (tj_qw AS q)
theorem tj_as_lt {hs : Nat → Nat → Prop} {q x : Nat} (h : tj_as hs RO VO AC AS q x) : x < 3125 := by
  obtain ⟨s, s1, _, e⟩ := h
  rw [e]
  exact tj_key_lt5 (fun v _ => s1 v) (Nat.le_refl 5)
theorem tj_wholeT {post : Int32 → Prop} {hs : Nat → Nat → Prop} {q : Nat} (hW : tj_Wf hs RC AC RO VO AS) (hq : q < 2) (h1 : tj_wo VO AC AS q → post 1) (h0 : ¬ tj_wo VO AC AS q → post 0) : wpX_whole post (lv, qu, ai, st, fo, af, bd, tc, oc, ac, B, RC, AC, RO, VO, AS, LC, LI, AL, AN, PA, EX, BF, BN, DI, TO, HO, OR, TD, TV, TW, PF, PT, DN, VA) (nI q) := by
  obtain ⟨a, b, c, d, e, f⟩ := tj_Wf_e hW hq
  exact tj_whole hq b a d e f h1 h0
theorem tj_answerOwn {post : St1 → Prop} {hs : Nat → Nat → Prop} {l q : Nat} (hW : tj_Wf hs RC AC RO VO AS) (hl : l ≤ 2) (hlv : lv = nI l) (hB : tj_has B 0 = hs) (hD : ∀ v, v < 5 → tj_N (DI v) 5) (hq : q < 2) (hwo : tj_wo VO AC AS q)
    (H : ∀ (qu' : Int32) (ai' : Int32) (st' : Int32) (fo' : Int32) (af' : Int32) (bd' : Int32) (tc' : Int32) (oc' : Int32) (ac' : Int32) (LC' : Nat → Int32) (LI' : Nat → Int32) (AL' : Nat → Int32) (AN' : Nat → Int64) (PA' : Nat → Int64) (EX' : Nat → Int64) (BF' : Nat → Int32) (BN' : Nat → Int32) (DI' : Nat → Int32) (TO' : Nat → Int32) (HO' : Nat → Int32) (OR' : Nat → Int32) (TD' : Nat → Int32) (TV' : Nat → Int32) (TW' : Nat → Int32) (PF' : Nat → Int32) (PT' : Nat → Int32) (DN' : Nat → Int32) (VA' : Nat → Int32), (∀ v, v < 5 → tj_N (DI' v) 5) → (∀ x, x < 3136 → (tj_in AN' x ↔ tj_as hs RO VO AC AS q x)) → post (lv, qu', ai', st', fo', af', bd', tc', oc', ac', B, RC, AC, RO, VO, AS, LC', LI', AL', AN', PA', EX', BF', BN', DI', TO', HO', OR', TD', TV', TW', PF', PT', DN', VA')) : wpX_answerOwn post (lv, qu, ai, st, fo, af, bd, tc, oc, ac, B, RC, AC, RO, VO, AS, LC, LI, AL, AN, PA, EX, BF, BN, DI, TO, HO, OR, TD, TV, TW, PF, PT, DN, VA) (nI q) := by
  obtain ⟨a, b, c, d, e, f⟩ := tj_Wf_e hW hq
  subst hB
  unfold wpX_answerOwn
  refine tj_allAtoms hq b a ?_
  exact tj_workOut (f := 0) hq c hwo.1 (by decide) d (fun i hi mi => (hW.2.2 _ (tj_aok_r (d i hi mi)).2).1) e f hlv hl hwo.2 hD (fun qu2 ai2 st2 fo2 af2 bd2 tc2 oc2 ac2 LC2 LI2 AL2 AN2 PA2 EX2 BF2 BN2 DI2 TO2 HO2 OR2 TD2 TV2 TW2 PF2 PT2 DN2 VA2 d2 h2 => H qu2 ai2 st2 fo2 af2 bd2 tc2 oc2 ac2 LC2 LI2 AL2 AN2 PA2 EX2 BF2 BN2 DI2 TO2 HO2 OR2 TD2 TV2 TW2 PF2 PT2 DN2 VA2 d2 h2)
noncomputable def tj_cv (hs : Nat → Nat → Prop) (RO VO AC AS : Nat → Int32) (q : Nat) : Int32 := @ite _ (tj_wo VO AC AS q) (Classical.propDecidable _) (nI (tj_ct (tj_as hs RO VO AC AS q) 3125)) (-3)
theorem tj_cv_y {hs : Nat → Nat → Prop} {q : Nat} (h : tj_wo VO AC AS q) : tj_cv hs RO VO AC AS q = nI (tj_ct (tj_as hs RO VO AC AS q) 3125) := by unfold tj_cv; rw [if_pos h]
theorem tj_cv_n {hs : Nat → Nat → Prop} {q : Nat} (h : ¬ tj_wo VO AC AS q) : tj_cv hs RO VO AC AS q = -3 := by unfold tj_cv; rw [if_neg h]
theorem tj_count {post : Int32 → St1 → Prop} {hs : Nat → Nat → Prop} {l q : Nat} {u : St1} (hW : tj_Wf hs RC AC RO VO AS) (hl : l ≤ 2) (hu : tj_Wd l hs RC AC RO VO AS u) (hq : q < 2) (H : ∀ u', tj_Wd l hs RC AC RO VO AS u' → post (tj_cv hs RO VO AC AS q) u') : wpX_count post u (nI q) := by
  obtain ⟨lv, qu, ai, st, fo, af, bd, tc, oc, ac, B0, RC0, AC0, RO0, VO0, AS0, LC, LI, AL, AN, PA, EX, BF, BN, DI, TO, HO, OR, TD, TV, TW, PF, PT, DN, VA⟩ := u
  obtain ⟨h1, h2, rfl, rfl, rfl, rfl, rfl, hD⟩ := hu
  unfold wpX_count
  refine tj_isQuestion hq (br_f (by decide) (tj_wholeT hW hq (fun z => br_f (by decide) ?_) (fun z => br_t rfl ?_)))
  · refine tj_answerOwn hW hl h1 h2 hD hq z (fun qu2 ai2 st2 fo2 af2 bd2 tc2 oc2 ac2 LC2 LI2 AL2 AN2 PA2 EX2 BF2 BN2 DI2 TO2 HO2 OR2 TD2 TV2 TW2 PF2 PT2 DN2 VA2 d2 a2 => tj_onesIn a2 (fun x => tj_as_lt) ?_)
    rw [← tj_cv_y (hs := hs) (RO := RO0) z]
    exact H _ ⟨h1, h2, rfl, rfl, rfl, rfl, rfl, d2⟩
  · rw [← tj_cv_n (hs := hs) (RO := RO0) z]
    exact H _ ⟨h1, h2, rfl, rfl, rfl, rfl, rfl, hD⟩
/-- answer number k -/
noncomputable def tj_kv (hs : Nat → Nat → Prop) (RO VO AC AS : Nat → Int32) (q k : Nat) : Int32 := @ite _ (tj_wo VO AC AS q) (Classical.propDecidable _) (tj_kth (tj_as hs RO VO AC AS q) k) (-3)
theorem tj_kv_y {hs : Nat → Nat → Prop} {q k : Nat} (h : tj_wo VO AC AS q) : tj_kv hs RO VO AC AS q k = tj_kth (tj_as hs RO VO AC AS q) k := by unfold tj_kv; rw [if_pos h]
theorem tj_kv_n {hs : Nat → Nat → Prop} {q k : Nat} (h : ¬ tj_wo VO AC AS q) : tj_kv hs RO VO AC AS q k = -3 := by unfold tj_kv; rw [if_neg h]
theorem tj_answer {post : Int32 → St1 → Prop} {hs : Nat → Nat → Prop} {l q k : Nat} {u : St1} (hW : tj_Wf hs RC AC RO VO AS) (hl : l ≤ 2) (hu : tj_Wd l hs RC AC RO VO AS u) (hq : q < 2) (hk : k < 2 ^ 31) (H : ∀ u', tj_Wd l hs RC AC RO VO AS u' → post (tj_kv hs RO VO AC AS q k) u') : wpX_answer post u (nI q) (nI k) := by
  obtain ⟨lv, qu, ai, st, fo, af, bd, tc, oc, ac, B0, RC0, AC0, RO0, VO0, AS0, LC, LI, AL, AN, PA, EX, BF, BN, DI, TO, HO, OR, TD, TV, TW, PF, PT, DN, VA⟩ := u
  obtain ⟨h1, h2, rfl, rfl, rfl, rfl, rfl, hD⟩ := hu
  unfold wpX_answer
  refine tj_isQuestion hq (br_f (by decide) (tj_wholeT hW hq (fun z => br_f (by decide) (br_t (nI_pos' hk) ?_)) (fun z => br_t rfl ?_)))
  · refine tj_answerOwn hW hl h1 h2 hD hq z (fun qu2 ai2 st2 fo2 af2 bd2 tc2 oc2 ac2 LC2 LI2 AL2 AN2 PA2 EX2 BF2 BN2 DI2 TO2 HO2 OR2 TD2 TV2 TW2 PF2 PT2 DN2 VA2 d2 a2 => ?_)
    have fin : ∀ r, r = tj_kv hs RO0 VO0 AC0 AS0 q k → post r (lv, qu2, ai2, st2, fo2, af2, bd2, tc2, oc2, ac2, B0, RC0, AC0, RO0, VO0, AS0, LC2, LI2, AL2, AN2, PA2, EX2, BF2, BN2, DI2, TO2, HO2, OR2, TD2, TV2, TW2, PF2, PT2, DN2, VA2) := by
      intro r e
      rw [e]
      exact H _ ⟨h1, h2, rfl, rfl, rfl, rfl, rfl, d2⟩
    refine pk_loop (σ := Unit) (fun n a _ => wX_answer_35 post lv qu2 ai2 st2 fo2 af2 bd2 tc2 oc2 ac2 B0 RC0 AC0 RO0 VO0 AS0 LC2 LI2 AL2 AN2 PA2 EX2 BF2 BN2 DI2 TO2 HO2 OR2 TD2 TV2 TW2 PF2 PT2 DN2 VA2 n (nI (k - tj_ct (tj_as hs RO0 VO0 AC0 AS0 q) a)) (nI a)) (fun a _ => tj_ct (tj_as hs RO0 VO0 AC0 AS0 q) a ≤ k) 3125 0 () (by omega) (Nat.zero_le k) ?_ ?_
    · intro n _ hI
      refine pk_le 3125 3125 (fun _ => fin _ ?_) (fun z => absurd z (by omega))
      rw [tj_kv_y z, tj_kth_n hI]
    · intro n a _ ha hI hn
      refine pk_le 3125 a (fun z => absurd z (by omega)) (fun _ => tj_isIn_2 (by omega) (fun y => br_f (by decide) ?_) (fun y => br_t rfl (nm_r (nI_1 a) ?_)))
      · have ya := (a2 a (by omega)).mp y
        refine pk_eq (k - tj_ct (tj_as hs RO0 VO0 AC0 AS0 q) a) 0 (fun e => fin _ ?_) (fun e => ?_)
        · rw [tj_kv_y z, tj_kth_y ha ya (by omega)]
        · have et := tj_ct_t (p := tj_as hs RO0 VO0 AC0 AS0 q) ya
          refine nm_r (e' := nI (k - tj_ct (tj_as hs RO0 VO0 AC0 AS0 q) (a + 1))) ?_ (nm_r (nI_1 a) (hn () (by rw [et]; omega)))
          have ek : k - tj_ct (tj_as hs RO0 VO0 AC0 AS0 q) a = (k - (tj_ct (tj_as hs RO0 VO0 AC0 AS0 q) a + 1)) + 1 := by omega
          rw [et, ek, pk_m1]
      · have ny : ¬ tj_as hs RO0 VO0 AC0 AS0 q a := fun w => y ((a2 a (by omega)).mpr w)
        rw [← tj_ct_f ny]
        exact hn () (by rw [tj_ct_f ny]; exact hI)
  · rw [← tj_kv_n (hs := hs) (RO := RO0) (k := k) z]
    exact H _ ⟨h1, h2, rfl, rfl, rfl, rfl, rfl, hD⟩
theorem tj_answer_neg {post : Int32 → St1 → Prop} {hs : Nat → Nat → Prop} {l q : Nat} {k : Int32} {u : St1} (hW : tj_Wf hs RC AC RO VO AS) (hu : tj_Wd l hs RC AC RO VO AS u) (hq : q < 2) (hk : ¬ 0 ≤ k) (H : ∀ u', tj_Wd l hs RC AC RO VO AS u' → post (-3) u') : wpX_answer post u (nI q) k := by
  obtain ⟨lv, qu, ai, st, fo, af, bd, tc, oc, ac, B0, RC0, AC0, RO0, VO0, AS0, LC, LI, AL, AN, PA, EX, BF, BN, DI, TO, HO, OR, TD, TV, TW, PF, PT, DN, VA⟩ := u
  obtain ⟨h1, h2, rfl, rfl, rfl, rfl, rfl, hD⟩ := hu
  unfold wpX_answer
  exact tj_isQuestion hq (br_f (by decide) (tj_wholeT hW hq (fun z => br_f (by decide) (br_f hk (H _ ⟨h1, h2, rfl, rfl, rfl, rfl, rfl, hD⟩))) (fun z => br_t rfl (H _ ⟨h1, h2, rfl, rfl, rfl, rfl, rfl, hD⟩))))
def tj_wt (w v : Nat) : Nat → Nat
  | 0 => 1
  | j + 1 => if w.testBit (v + 1 + j) = true then tj_wt w v j * 5 else tj_wt w v j
theorem tj_wt_b (w v : Nat) : ∀ j, 0 < tj_wt w v j ∧ tj_wt w v j ≤ 5 ^ j := by
  intro j
  induction j with
  | zero => exact ⟨Nat.one_pos, Nat.le_refl 1⟩
  | succ j ih =>
    show 0 < (if w.testBit (v + 1 + j) = true then tj_wt w v j * 5 else tj_wt w v j) ∧ (if w.testBit (v + 1 + j) = true then tj_wt w v j * 5 else tj_wt w v j) ≤ 5 ^ (j + 1)
    rw [Nat.pow_succ]
    split <;> omega
noncomputable def tj_ov2 (hs : Nat → Nat → Prop) (RO VO AC AS : Nat → Int32) (q v x : Nat) : Int32 := @ite _ (tj_wo VO AC AS q ∧ (tj_qw AS q).testBit v = true) (Classical.propDecidable _) (nI (tj_ct (fun a => tj_as hs RO VO AC AS q a ∧ a / tj_wt (tj_qw AS q) v (4 - v) % 5 = x) 3125)) (-3)
theorem tj_often {post : Int32 → St1 → Prop} {hs : Nat → Nat → Prop} {l q v x : Nat} {u : St1} (hW : tj_Wf hs RC AC RO VO AS) (hl : l ≤ 2) (hu : tj_Wd l hs RC AC RO VO AS u) (hq : q < 2) (hv : v < 5) (hx : x < 5) (H : ∀ u', tj_Wd l hs RC AC RO VO AS u' → post (tj_ov2 hs RO VO AC AS q v x) u') : wpX_often post u (nI q) (nI v) (nI x) := by
  obtain ⟨lv, qu, ai, st, fo, af, bd, tc, oc, ac, B0, RC0, AC0, RO0, VO0, AS0, LC, LI, AL, AN, PA, EX, BF, BN, DI, TO, HO, OR, TD, TV, TW, PF, PT, DN, VA⟩ := u
  obtain ⟨h1, h2, rfl, rfl, rfl, rfl, rfl, hD⟩ := hu
  obtain ⟨wa, wb, wc, wd, we, wf⟩ := tj_Wf_e hW hq
  unfold wpX_often
  refine tj_isQuestion hq (br_f (by decide) (br_f (nI_pos (by omega)) (br_f (nI_ge (b := 5) hv (by decide)) (br_f (nI_pos (by omega)) (br_t (nI_lt (b := 5) hx (by decide)) (tj_wholeT hW hq (fun z => br_f (by decide) (And.intro (pk_in q 2 hq) ?_)) (fun z => br_t rfl ?_)))))))
  · rw [nI_clamp (show q < 2 ^ 31 by omega), we]
    refine tj_br (tj_qw AS0 q) v (fun y => ?_) (fun y => ?_)
    · have e : tj_ov2 hs RO0 VO0 AC0 AS0 q v x = -3 := by unfold tj_ov2; rw [if_neg (fun w => tj_tf w.2 y)]
      rw [← e]
      exact H _ ⟨h1, h2, rfl, rfl, rfl, rfl, rfl, hD⟩
    · have e : tj_ov2 hs RO0 VO0 AC0 AS0 q v x = nI (tj_ct (fun a => tj_as hs RO0 VO0 AC0 AS0 q a ∧ a / tj_wt (tj_qw AS0 q) v (4 - v) % 5 = x) 3125) := by unfold tj_ov2; rw [if_pos ⟨z, y⟩]
      refine tj_answerOwn hW hl h1 h2 hD hq z (fun qu2 ai2 st2 fo2 af2 bd2 tc2 oc2 ac2 LC2 LI2 AL2 AN2 PA2 EX2 BF2 BN2 DI2 TO2 HO2 OR2 TD2 TV2 TW2 PF2 PT2 DN2 VA2 d2 a2 => nm_r (nI_1 v) ?_)
      have start : ∃ n, wX_often_65 post (nI q) (nI x) lv qu2 ai2 st2 fo2 af2 bd2 tc2 oc2 ac2 B0 RC0 AC0 RO0 VO0 AS0 LC2 LI2 AL2 AN2 PA2 EX2 BF2 BN2 DI2 TO2 HO2 OR2 TD2 TV2 TW2 PF2 PT2 DN2 VA2 n (nI (tj_wt (tj_qw AS0 q) v 0)) (nI (v + 1 + 0)) := by
        refine pk_loop (σ := Unit) (fun n j _ => wX_often_65 post (nI q) (nI x) lv qu2 ai2 st2 fo2 af2 bd2 tc2 oc2 ac2 B0 RC0 AC0 RO0 VO0 AS0 LC2 LI2 AL2 AN2 PA2 EX2 BF2 BN2 DI2 TO2 HO2 OR2 TD2 TV2 TW2 PF2 PT2 DN2 VA2 n (nI (tj_wt (tj_qw AS0 q) v j)) (nI (v + 1 + j))) (fun _ _ => True) (4 - v) 0 () (by omega) trivial ?_ ?_
        · intro n _ _
          refine pk_le 5 (v + 1 + (4 - v)) (fun _ => ?_) (fun w => absurd w (by omega))
          have wb2 := tj_wt_b (tj_qw AS0 q) v (4 - v)
          have wb3 : 5 ^ (4 - v) ≤ 5 ^ 4 := Nat.pow_le_pow_right (by decide) (by omega)
          generalize tj_wt (tj_qw AS0 q) v (4 - v) = wt at wb2 e ⊢
          refine pk_loop (σ := Unit) (fun n a _ => wX_often_103 post (nI x) (nI wt) lv qu2 ai2 st2 fo2 af2 bd2 tc2 oc2 ac2 B0 RC0 AC0 RO0 VO0 AS0 LC2 LI2 AL2 AN2 PA2 EX2 BF2 BN2 DI2 TO2 HO2 OR2 TD2 TV2 TW2 PF2 PT2 DN2 VA2 n (nI (tj_ct (fun a => tj_as hs RO0 VO0 AC0 AS0 q a ∧ a / wt % 5 = x) a)) (nI a)) (fun _ _ => True) 3125 0 () (by omega) trivial ?_ ?_
          · intro n _ _
            refine pk_le 3125 3125 (fun _ => ?_) (fun w => absurd w (by omega))
            rw [← e]
            exact H _ ⟨h1, h2, rfl, rfl, rfl, rfl, rfl, d2⟩
          · intro n a _ ha _ hn
            refine pk_le 3125 a (fun w => absurd w (by omega)) (fun _ => tj_isIn_2 (by omega) (fun w => br_f (by decide) (And.intro (nI_ne0 wb2.1 (by omega)) (And.intro (by decide) ?_))) (fun w => br_t rfl (nm_r (nI_1 a) ?_)))
            · have ya := (a2 a (by omega)).mp w
              have dl : a / wt ≤ a := Nat.div_le_self _ _
              rw [pk_div (show a < 2 ^ 31 by omega) wb2.1 (by omega), tj_r5 (show a / wt < 2 ^ 31 by omega)]
              have ml := Nat.mod_lt (a / wt) (show 5 > 0 by decide)
              refine pk_eq (a / wt % 5) x (fun y2 => ?_) (fun y2 => nm_r (nI_1 a) ?_)
              · have et := tj_ct_t (p := fun a => tj_as hs RO0 VO0 AC0 AS0 q a ∧ a / wt % 5 = x) (n := a) ⟨ya, y2⟩
                exact nm_r (e' := nI (tj_ct (fun a => tj_as hs RO0 VO0 AC0 AS0 q a ∧ a / wt % 5 = x) (a + 1))) (by rw [et, nI_1]) (nm_r (nI_1 a) (hn () trivial))
              · rw [← tj_ct_f (p := fun a => tj_as hs RO0 VO0 AC0 AS0 q a ∧ a / wt % 5 = x) (n := a) (fun k => y2 k.2)]
                exact hn () trivial
            · rw [← tj_ct_f (p := fun a => tj_as hs RO0 VO0 AC0 AS0 q a ∧ a / wt % 5 = x) (n := a) (fun k => w ((a2 a (by omega)).mpr k.1))]
              exact hn () trivial
        · intro n j _ hj _ hn
          refine pk_le 5 (v + 1 + j) (fun w => absurd w (by omega)) (fun _ => And.intro (pk_in q 2 hq) ?_)
          rw [nI_clamp (show q < 2 ^ 31 by omega), we]
          refine tj_br (tj_qw AS0 q) (v + 1 + j) (fun w => nm_r (nI_1 (v + 1 + j)) ?_) (fun w => nm_r (e' := nI (tj_wt (tj_qw AS0 q) v (j + 1))) ?_ (nm_r (nI_1 (v + 1 + j)) (hn () trivial)))
          · have ew : tj_wt (tj_qw AS0 q) v (j + 1) = tj_wt (tj_qw AS0 q) v j := if_neg (by rw [w]; decide)
            rw [← ew]
            exact hn () trivial
          · have ew : tj_wt (tj_qw AS0 q) v (j + 1) = tj_wt (tj_qw AS0 q) v j * 5 := if_pos w
            rw [ew, ← pk_mul]
            rfl
      exact start
  · have e : tj_ov2 hs RO0 VO0 AC0 AS0 q v x = -3 := by unfold tj_ov2; rw [if_neg (fun w => z w.1)]
    rw [← e]
    exact H _ ⟨h1, h2, rfl, rfl, rfl, rfl, rfl, hD⟩
end
end
section
/-! ===== idle rows; the sum ===== -/
section
variable {lv qu ai st fo af bd tc oc ac : Int32} {B AN PA EX : Nat → Int64} {RC AC RO VO AS LC LI AL BF BN DI TO HO OR TD TV TW PF PT DN VA : Nat → Int32}
theorem tj_has_put {f r row : Nat} (hr : r < 3) (hrow : row < tj_rw r) (r' row' : Nat) : tj_has (vp_updL B (f + 2 * r + row / 64) (B (f + 2 * r + row / 64) ||| ((1 : Int64) <<< ((nI row &&& 63).toInt64 &&& 63)))) f r' row' ↔ tj_has B f r' row' ∨ (r' = r ∧ row' = row) := by
  have rb := tj_rw_b r
  have rb' := tj_rw_b r'
  unfold tj_has
  constructor
  · rintro ⟨a, b, c⟩
    by_cases e : f + 2 * r' + row' / 64 = f + 2 * r + row / 64
    · rw [e, pk_uLs, tj_bl_put (by omega), Bool.or_eq_true, decide_eq_true_iff] at c
      rcases c with c | c
      · exact Or.inl ⟨a, b, by rw [e]; exact c⟩
      · exact Or.inr ⟨by omega, by omega⟩
    · rw [pk_uLn e] at c
      exact Or.inl ⟨a, b, c⟩
  · rintro (⟨a, b, c⟩ | ⟨rfl, rfl⟩)
    · refine ⟨a, b, ?_⟩
      by_cases e : f + 2 * r' + row' / 64 = f + 2 * r + row / 64
      · rw [e] at c ⊢
        rw [pk_uLs, tj_bl_put (by omega), c, Bool.true_or]
      · rw [pk_uLn e]; exact c
    · refine ⟨hr, hrow, ?_⟩
      rw [pk_uLs, tj_bl_put (by omega), decide_eq_true rfl, Bool.or_true]
theorem tj_has_c {B' : Nat → Int64} {f : Nat} (h : ∀ j, f ≤ j → j < f + 6 → B' j = B j) : tj_has B' f = tj_has B f := by
  funext r row
  apply propext
  have rb := tj_rw_b r
  unfold tj_has
  constructor
  · rintro ⟨a, b, c⟩
    rw [h _ (by omega) (by omega)] at c
    exact ⟨a, b, c⟩
  · rintro ⟨a, b, c⟩
    refine ⟨a, b, ?_⟩
    rw [h _ (by omega) (by omega)]
    exact c
theorem tj_setRow {post : St1 → Prop} {f r row : Nat} (hf : f ≤ 6) (hr : r < 3) (hrow : row < tj_rw r) (H : post (lv, qu, ai, st, fo, af, bd, tc, oc, ac, vp_updL B (f + 2 * r + row / 64) (B (f + 2 * r + row / 64) ||| ((1 : Int64) <<< ((nI row &&& 63).toInt64 &&& 63))), RC, AC, RO, VO, AS, LC, LI, AL, AN, PA, EX, BF, BN, DI, TO, HO, OR, TD, TV, TW, PF, PT, DN, VA)) : wpX_setRow post (lv, qu, ai, st, fo, af, bd, tc, oc, ac, B, RC, AC, RO, VO, AS, LC, LI, AL, AN, PA, EX, BF, BN, DI, TO, HO, OR, TD, TV, TW, PF, PT, DN, VA) (nI f) (nI r) (nI row) := by
  have rb := tj_rw_b r
  unfold wpX_setRow
  dsimp only
  rw [tj_rix (by omega), nI_clamp (by omega)]
  exact ⟨vp_in_nI (by omega) (by omega), vp_in_nI (by omega) (by omega), nm_e H⟩
theorem tj_isRow {post : Int32 → Prop} {r row : Nat} (hr : r < 3) (hrow : row < 2 ^ 31) (h1 : row < tj_rw r → post 1) (h0 : ¬ row < tj_rw r → post 0) : wpX_isRow post (lv, qu, ai, st, fo, af, bd, tc, oc, ac, B, RC, AC, RO, VO, AS, LC, LI, AL, AN, PA, EX, BF, BN, DI, TO, HO, OR, TD, TV, TW, PF, PT, DN, VA) (nI r) (nI row) := by
  have rb := tj_rw_b r
  unfold wpX_isRow
  refine br_f (nI_pos (by omega)) (pk_lt 2 r (fun z => absurd z (by omega)) (fun _ => br_f (nI_pos hrow) ?_))
  have main : wX_isRow_26 post (nI (tj_rw r)) (nI row) lv qu ai st fo af bd tc oc ac B RC AC RO VO AS LC LI AL AN PA EX BF BN DI TO HO OR TD TV TW PF PT DN VA := pk_le (tj_rw r) row (fun z => h0 (by omega)) (fun z => h1 z)
  exact pk_eq r 2 (fun z => by rw [show tj_rw r = 125 from if_pos z] at main; exact main) (fun z => by rw [show tj_rw r = 25 from if_neg z] at main; exact main)
noncomputable def tj_s3 (g : Nat → Nat) : Nat → Nat
  | 0 => 0
  | r + 1 => tj_s3 g r + g r
/-- marked: rows that are alive -/
def tj_mk (RO LC LI AL : Nat → Int32) (q n r row : Nat) : Prop := ∃ i, i < n ∧ tj_rel RO (4 * q + i) = r ∧ ∃ k, k < tj_n LC i ∧ tj_av AL i k ∧ tj_ro LI i k = row
theorem tj_idle66 {post : Int32 → St1 → Prop} {q n : Nat} (hq : q < 2) (hn : n ≤ 4) (hA : AC q = nI n) (hI : tj_I RO VO LC LI q (2 ^ n - 1)) (hL : tj_L AL (2 ^ n - 1))
    (H : ∀ B' : Nat → Int64, (∀ j, j < 6 → B' j = B j) → post (nI (tj_s3 (fun r => tj_ct (fun row => tj_has B 0 r row ∧ ¬ tj_mk RO LC LI AL q n r row) 125) 3)) (lv, qu, ai, st, fo, af, bd, tc, oc, ac, B', RC, AC, RO, VO, AS, LC, LI, AL, AN, PA, EX, BF, BN, DI, TO, HO, OR, TD, TV, TW, PF, PT, DN, VA)) : ∃ fu, wX_idle_66 post (nI q) lv qu ai st fo af bd tc oc ac fu 6 B RC AC RO VO AS LC LI AL AN PA EX BF BN DI TO HO OR TD TV TW PF PT DN VA := by
  have mb : ∀ i, i < n → (2 ^ n - 1).testBit i = true := fun i hi => by rw [tj_pm1, decide_eq_true_iff]; exact hi
  refine pk_loop (fun n' x s => wX_idle_66 post (nI q) lv qu ai st fo af bd tc oc ac n' (nI x) s RC AC RO VO AS LC LI AL AN PA EX BF BN DI TO HO OR TD TV TW PF PT DN VA) (fun x s => 6 ≤ x ∧ (∀ j, j < 6 → s j = B j) ∧ ∀ j, 6 ≤ j → j < x → s j = 0) 12 6 B (by omega) ⟨Nat.le_refl 6, fun _ _ => rfl, fun j h1 h2 => absurd h1 (by omega)⟩ ?_ ?_
  rotate_left
  · rintro n' x s hx ⟨x6, s1, s2⟩ hw
    refine pk_le 12 x (fun z => absurd z (by omega)) (fun _ => And.intro (pk_in x 12 hx) (nm_r (e' := vp_updL s x 0) (by rw [nI_clamp (by omega)]) (nm_r (nI_1 x) (hw _ ⟨by omega, fun j hj => (pk_uLn (by omega)).trans (s1 j hj), fun j h1 h2 => ?_⟩))))
    by_cases e : j = x
    · rw [e, pk_uLs]
    · rw [pk_uLn e]; exact s2 j h1 (by omega)
  rintro n' b0 ⟨_, b1, b2⟩
  refine pk_le 12 12 (fun _ => ?_) (fun z => absurd z (by omega))
  refine pk_loop (fun n' i s => wX_idle_87 post (nI q) n' (nI i) lv qu ai st fo af bd tc oc ac s RC AC RO VO AS LC LI AL AN PA EX BF BN DI TO HO OR TD TV TW PF PT DN VA) (fun i s => (∀ j, j < 6 → s j = B j) ∧ ∀ r row, tj_has s 6 r row ↔ tj_mk RO LC LI AL q i r row) n 0 b0 (by omega)
    ⟨b1, fun r row => ⟨fun ⟨h1, h2, h3⟩ => ?_, fun ⟨i, hi, _⟩ => absurd hi (by omega)⟩⟩ ?_ ?_
  · have rb := tj_rw_b r
    rw [b2 _ (by omega) (by omega), tj_bl_0] at h3
    exact absurd h3 (by decide)
  · rintro n' b ⟨c1, c2⟩
    refine And.intro (pk_in q 2 hq) ?_
    rw [nI_clamp (show q < 2 ^ 31 by omega), hA]
    refine pk_le n n (fun _ => ?_) (fun z => absurd z (by omega))
    have e0 : tj_has b 0 = tj_has B 0 := tj_has_c (fun j _ hj => c1 j (by omega))
    refine pk_loop (σ := Unit) (fun n' r _ => wX_idle_170 post lv qu ai st fo af bd tc oc ac b RC AC RO VO AS LC LI AL AN PA EX BF BN DI TO HO OR TD TV TW PF PT DN VA n' (nI (tj_s3 (fun r => tj_ct (fun row => tj_has B 0 r row ∧ ¬ tj_mk RO LC LI AL q n r row) 125) r)) (nI r)) (fun _ _ => True) 3 0 () (by omega) trivial ?_ ?_
    · intro n' _ _
      exact pk_le 3 3 (fun _ => H b c1) (fun z => absurd z (by omega))
    · intro n' r _ hr _ hw
      refine pk_le 3 r (fun z => absurd z (by omega)) (fun _ => ?_)
      refine pk_loop (σ := Unit) (fun n'' row _ => wX_idle_179 post (wX_idle_170 post lv qu ai st fo af bd tc oc ac b RC AC RO VO AS LC LI AL AN PA EX BF BN DI TO HO OR TD TV TW PF PT DN VA n') (nI r) lv qu ai st fo af bd tc oc ac b RC AC RO VO AS LC LI AL AN PA EX BF BN DI TO HO OR TD TV TW PF PT DN VA n'' (nI (tj_s3 (fun r => tj_ct (fun row => tj_has B 0 r row ∧ ¬ tj_mk RO LC LI AL q n r row) 125) r + tj_ct (fun row => tj_has B 0 r row ∧ ¬ tj_mk RO LC LI AL q n r row) row)) (nI row)) (fun _ _ => True) 125 0 () (by omega) trivial ?_ ?_
      · intro n'' _ _
        exact pk_le 125 125 (fun _ => nm_r (nI_1 r) (hw () trivial)) (fun z => absurd z (by omega))
      · intro n'' row _ hrow _ hw'
        have skip : ¬ (tj_has B 0 r row ∧ ¬ tj_mk RO LC LI AL q n r row) → ∀ x5, x5 = nI row + 1 → wX_idle_179 post (wX_idle_170 post lv qu ai st fo af bd tc oc ac b RC AC RO VO AS LC LI AL AN PA EX BF BN DI TO HO OR TD TV TW PF PT DN VA n') (nI r) lv qu ai st fo af bd tc oc ac b RC AC RO VO AS LC LI AL AN PA EX BF BN DI TO HO OR TD TV TW PF PT DN VA n'' (nI (tj_s3 (fun r => tj_ct (fun row => tj_has B 0 r row ∧ ¬ tj_mk RO LC LI AL q n r row) 125) r + tj_ct (fun row => tj_has B 0 r row ∧ ¬ tj_mk RO LC LI AL q n r row) row)) x5 := by
          intro hno
          refine nm_r (nI_1 row) ?_
          rw [← tj_ct_f (p := fun row => tj_has B 0 r row ∧ ¬ tj_mk RO LC LI AL q n r row) hno]
          exact hw' () trivial
        refine pk_le 125 row (fun z => absurd z (by omega)) (fun _ => tj_isRow hr (by omega) (fun z => br_f (by decide) (tj_hasRow (f := 0) (by decide) hr z (fun y => br_f (by decide) (tj_hasRow (f := 6) (by decide) hr z (fun x => br_f (by decide) (skip (fun w => w.2 ((c2 r row).mp x)))) (fun x => br_t rfl ?_))) (fun y => br_t rfl (skip (fun w => y (by rw [e0]; exact w.1)))))) (fun z => br_t rfl (skip (fun w => z w.1.2.1))))
        have yes : tj_has B 0 r row ∧ ¬ tj_mk RO LC LI AL q n r row := ⟨by rw [← e0]; exact y, fun w => x ((c2 r row).mpr w)⟩
        refine nm_r (e' := nI (tj_s3 (fun r => tj_ct (fun row => tj_has B 0 r row ∧ ¬ tj_mk RO LC LI AL q n r row) 125) r + tj_ct (fun row => tj_has B 0 r row ∧ ¬ tj_mk RO LC LI AL q n r row) (row + 1))) ?_ (nm_r (nI_1 row) (hw' () trivial))
        rw [tj_ct_t (p := fun row => tj_has B 0 r row ∧ ¬ tj_mk RO LC LI AL q n r row) yes, ← Nat.add_assoc, nI_1]
  · rintro n' i b hi ⟨c1, c2⟩ hw
    obtain ⟨ok, _, rows⟩ := hI i (by omega) (mb i hi)
    obtain ⟨en, n16⟩ := tj_I_n hI (by omega) (mb i hi)
    obtain ⟨ea, a16⟩ := tj_L_e hL (by omega) (mb i hi)
    have ci : (nI i).toNatClampNeg = i := nI_clamp (by omega)
    have pi := pk_in (x := nI i) i 4 (by omega)
    refine And.intro (pk_in q 2 hq) ?_
    rw [nI_clamp (show q < 2 ^ 31 by omega), hA]
    refine pk_le n i (fun z => absurd z (by omega)) (fun _ => ?_)
    refine pk_loop (fun n'' k s => wX_idle_100 post (wX_idle_87 post (nI q) n') (nI q) (nI i) n'' (nI k) lv qu ai st fo af bd tc oc ac s RC AC RO VO AS LC LI AL AN PA EX BF BN DI TO HO OR TD TV TW PF PT DN VA) (fun k s => (∀ j, j < 6 → s j = B j) ∧ ∀ r row, tj_has s 6 r row ↔ tj_mk RO LC LI AL q i r row ∨ (tj_rel RO (4 * q + i) = r ∧ ∃ k', k' < k ∧ tj_av AL i k' ∧ tj_ro LI i k' = row)) (tj_n LC i) 0 b (by omega)
      ⟨c1, fun r row => ⟨fun z => Or.inl ((c2 r row).mp z), fun z => z.elim (fun z => (c2 r row).mpr z) (fun ⟨_, k', hk', _⟩ => absurd hk' (by omega))⟩⟩ ?_ ?_
    · rintro n'' s ⟨s1, s2⟩
      refine And.intro pi ?_
      rw [ci, en]
      refine tj_ple (fun _ => nm_r (nI_1 i) (hw s ⟨s1, fun r row => ?_⟩)) (fun z => absurd z (by omega))
      rw [s2 r row]
      constructor
      · rintro (⟨i', h1, h2⟩ | ⟨h1, k, h2⟩)
        · exact ⟨i', by omega, h2⟩
        · exact ⟨i, by omega, h1, k, h2⟩
      · rintro ⟨i', h1, h2, h3⟩
        rcases Nat.lt_or_ge i' i with z | z
        · exact Or.inl ⟨i', z, h2, h3⟩
        · have e : i' = i := by omega
          subst e
          exact Or.inr ⟨h2, h3⟩
    · rintro n'' k s hk ⟨s1, s2⟩ hw'
      obtain ⟨r1, r2, r3⟩ := rows k hk
      refine And.intro pi ?_
      rw [ci, en]
      refine tj_ple (fun z => absurd z (by omega)) (fun _ => And.intro pi ?_)
      rw [ea]
      refine tj_br (AL i).toNatClampNeg k (fun z => nm_r (nI_1 k) (hw' s ⟨s1, fun r row => ?_⟩)) (fun z => ?_)
      · rw [s2 r row]
        constructor
        · rintro (h | ⟨h1, k', h2, h3⟩)
          · exact Or.inl h
          · exact Or.inr ⟨h1, k', by omega, h3⟩
        · rintro (h | ⟨h1, k', h2, h3, h4⟩)
          · exact Or.inl h
          · rcases Nat.lt_or_ge k' k with y | y
            · exact Or.inr ⟨h1, k', y, h3, h4⟩
            · rw [show k' = k by omega] at h3; exact (tj_tf h3 z).elim
      · rw [tj_i4, tj_i16, nI_clamp (show 4 * q + i < 2 ^ 31 by omega), nI_clamp (show 16 * i + k < 2 ^ 31 by omega), (tj_aok_r ok).1, r1]
        refine And.intro (vp_in_nI (by omega) (by omega)) (And.intro (vp_in_nI (by omega) (by omega)) (tj_setRow (f := 6) (by decide) (tj_aok_r ok).2 r2 (nm_r (nI_1 k) (hw' _ ⟨fun j hj => (pk_uLn (by omega)).trans (s1 j hj), fun r row => ?_⟩))))
        rw [tj_has_put (tj_aok_r ok).2 r2, s2 r row]
        constructor
        · rintro ((h | ⟨h1, k', h2, h3⟩) | ⟨h1, h2⟩)
          · exact Or.inl h
          · exact Or.inr ⟨h1, k', by omega, h3⟩
          · exact Or.inr ⟨h1.symm, k, by omega, z, h2.symm⟩
        · rintro (h | ⟨h1, k', h2, h3, h4⟩)
          · exact Or.inl (Or.inl h)
          · rcases Nat.lt_or_ge k' k with y | y
            · exact Or.inl (Or.inr ⟨h1, k', y, h3, h4⟩)
            · have e : k' = k := by omega
              subst e
              exact Or.inr ⟨h1.symm, h4.symm⟩
end
end
section
/-! ===== idle and sum ===== -/
section
variable {lv qu ai st fo af bd tc oc ac : Int32} {B AN PA EX : Nat → Int64} {RC AC RO VO AS LC LI AL BF BN DI TO HO OR TD TV TW PF PT DN VA : Nat → Int32}
def tj_us (RO VO : Nat → Int32) (hs : Nat → Nat → Prop) (q m r row : Nat) : Prop := ∃ i, i < 4 ∧ m.testBit i = true ∧ tj_rel RO (4 * q + i) = r ∧ ∃ s : Nat → Nat, (∀ v, s v < 5) ∧ tj_SS RO VO hs q m s ∧ tj_mt RO VO (4 * q + i) row s
noncomputable def tj_iv (hs : Nat → Nat → Prop) (RO VO AC : Nat → Int32) (q : Nat) : Int32 := if tj_qn AC q = 0 then -3 else nI (tj_s3 (fun r => tj_ct (fun row => hs r row ∧ ¬ tj_us RO VO hs q (tj_qm AC q) r row) 125) 3)
theorem tj_s3_c {g g' : Nat → Nat} {n : Nat} (h : ∀ r, r < n → g r = g' r) : tj_s3 g n = tj_s3 g' n := by
  induction n with
  | zero => rfl
  | succ n ih =>
    show tj_s3 g n + g n = tj_s3 g' n + g' n
    rw [ih (fun r hr => h r (by omega)), h n (by omega)]
/-- the marked rows are those in use -/
theorem tj_mk_us {AL' : Nat → Int32} {q n f : Nat} (hn : n ≤ 4) (hQ : tj_Q RO VO q (2 ^ n - 1)) (hG : ∀ i, i < 4 → (2 ^ n - 1).testBit i = true → tj_Gd RO VO B f q i (LC i) (AL i) (fun k => LI (16 * i + k)))
    (hU : tj_Us (tj_V VO q) (tj_n LC) (tj_R RO VO LI q) (tj_av AL) (tj_av AL') (2 ^ n - 1)) : ∀ r row, tj_has B f r row → (tj_mk RO LC LI AL' q n r row ↔ tj_us RO VO (tj_has B f) q (2 ^ n - 1) r row) := by
  obtain ⟨hI, hL, hrows, hall, hS⟩ := tj_lists hQ hG
  have mb : ∀ i, (2 ^ n - 1).testBit i = true ↔ i < n := fun i => by rw [tj_pm1, decide_eq_true_iff]
  intro r row hr
  constructor
  · rintro ⟨i, hi, e, k, k1, k2, k3⟩
    have mi := (mb i).mpr hi
    obtain ⟨_, s, s1, s2, s3⟩ := (hU i (by omega) mi k k1).mp k2
    refine ⟨i, by omega, mi, e, s, s1, (hS s).mp s2, ?_⟩
    rw [← k3]
    exact (tj_mt_ra (hQ i (by omega) mi) (hI i (by omega) mi |>.2.2 k k1).2.2).mpr s3
  · rintro ⟨i, hi, mi, e, s, s1, s2, s3⟩
    subst e
    have hf := tj_mt_fit s3
    obtain ⟨k, k1, k2⟩ := hall i hi mi row hr hf
    refine ⟨i, (mb i).mp mi, rfl, k, k1, (hU i hi mi k k1).mpr ⟨(hrows i hi mi k k1).1, s, s1, (hS s).mpr s2, ?_⟩, k2⟩
    have := (tj_mt_ra (hQ i hi mi) hf).mp s3
    intro v hv
    show s v = tj_ra RO VO (4 * q + i) (tj_ro LI i k) v
    rw [k2]
    exact this v hv
theorem tj_idle {post : Int32 → St1 → Prop} {hs : Nat → Nat → Prop} {l q : Nat} {u : St1} (hW : tj_Wf hs RC AC RO VO AS) (hl : l ≤ 2) (hu : tj_Wd l hs RC AC RO VO AS u) (hq : q < 2) (H : ∀ u', tj_Wd l hs RC AC RO VO AS u' → post (tj_iv hs RO VO AC q) u') : wpX_idle post u (nI q) := by
  obtain ⟨lv, qu, ai, st, fo, af, bd, tc, oc, ac, B0, RC0, AC0, RO0, VO0, AS0, LC, LI, AL, AN, PA, EX, BF, BN, DI, TO, HO, OR, TD, TV, TW, PF, PT, DN, VA⟩ := u
  obtain ⟨h1, h2, rfl, rfl, rfl, rfl, rfl, hD⟩ := hu
  obtain ⟨wa, wb, wc, wd, we, wf⟩ := tj_Wf_e hW hq
  subst h1 h2
  unfold wpX_idle
  refine tj_isQuestion hq (br_f (by decide) (And.intro (pk_in q 2 hq) ?_))
  rw [nI_clamp (show q < 2 ^ 31 by omega), wa]
  refine pk_eq (tj_qn AC0 q) 0 (fun e => ?_) (fun ne => ?_)
  · have ei : tj_iv (tj_has B0 0) RO0 VO0 AC0 q = -3 := if_pos e
    rw [← ei]
    exact H _ ⟨rfl, rfl, rfl, rfl, rfl, rfl, rfl, hD⟩
  · have hm0 : tj_qm AC0 q ≠ 0 := by
      have : 2 ^ 1 ≤ 2 ^ tj_qn AC0 q := Nat.pow_le_pow_right (by decide) (by omega)
      unfold tj_qm
      omega
    refine tj_allAtoms hq wb wa ?_
    refine tj_start (f := 0) hq wc (by decide) wd (fun i hi mi => (hW.2.2 _ (tj_aok_r (wd i hi mi)).2).1) (fun LC' LI' AL' hG => ?_)
    obtain ⟨hI, hL, _, _, _⟩ := tj_lists wd hG
    have val : ∀ AL2 : Nat → Int32, tj_Us (tj_V VO0 q) (tj_n LC') (tj_R RO0 VO0 LI' q) (tj_av AL') (tj_av AL2) (tj_qm AC0 q) → tj_iv (tj_has B0 0) RO0 VO0 AC0 q = nI (tj_s3 (fun r => tj_ct (fun row => tj_has B0 0 r row ∧ ¬ tj_mk RO0 LC' LI' AL2 q (tj_qn AC0 q) r row) 125) 3) := by
      intro AL2 hU
      have mk := tj_mk_us wb wd hG hU
      unfold tj_iv
      rw [if_neg ne]
      congr 1
      refine tj_s3_c (fun r _ => tj_ct_congr (fun row _ => and_congr_right (fun hr => not_congr (mk r row hr).symm)))
    refine pk_eq l 1 (fun e1 => ?_) (fun ne1 => ?_)
    · refine tj_findTree hq wc wd (fun hg tc1 TO1 HO1 hF => br_f (by decide) (tj_reduceTree hq rfl hI hL hF (fun AL2 BF2 BN2 hL2 _ hU => tj_idle66 hq wb wa hI hL2 (fun B2 hB2 => ?_)))) (fun hg tc1 TO1 HO1 => br_t rfl ?_)
      · rw [← val AL2 hU]
        exact H _ ⟨rfl, tj_has_c (fun j _ hj => hB2 j (by omega)), rfl, rfl, rfl, rfl, rfl, hD⟩
      · unfold wX_idle_59
        refine tj_keepUseful hq wc hm0 rfl rfl hI hL we wf rfl hl hD (fun z => hg z.2) (fun fo2 af2 bd2 tc2 oc2 ac2 AN2 PA2 EX2 BF2 BN2 DI2 TO2 HO2 OR2 TD2 TV2 TW2 PF2 PT2 DN2 VA2 AL2 d2 hL2 hU => tj_idle66 hq wb wa hI hL2 (fun B2 hB2 => ?_))
        rw [← val AL2 hU]
        exact H _ ⟨rfl, tj_has_c (fun j _ hj => hB2 j (by omega)), rfl, rfl, rfl, rfl, rfl, d2⟩
    · unfold wX_idle_59
      refine tj_keepUseful hq wc hm0 rfl rfl hI hL we wf rfl hl hD (fun z => ne1 z.1) (fun fo2 af2 bd2 tc2 oc2 ac2 AN2 PA2 EX2 BF2 BN2 DI2 TO2 HO2 OR2 TD2 TV2 TW2 PF2 PT2 DN2 VA2 AL2 d2 hL2 hU => tj_idle66 hq wb wa hI hL2 (fun B2 hB2 => ?_))
      rw [← val AL2 hU]
      exact H _ ⟨rfl, tj_has_c (fun j _ hj => hB2 j (by omega)), rfl, rfl, rfl, rfl, rfl, d2⟩
noncomputable def tj_fo (a : Nat → Int32) (h : Int32) : Nat → Int32
  | 0 => h
  | k + 1 => 31 * tj_fo a h k + a k
/-- how many answers the sum takes -/
noncomputable def tj_sk (hs : Nat → Nat → Prop) (RO VO AC AS : Nat → Int32) (q : Nat) : Nat := @ite _ (tj_wo VO AC AS q) (Classical.propDecidable _) (min (tj_ct (tj_as hs RO VO AC AS q) 3125) 8) 0
noncomputable def tj_sv (hs : Nat → Nat → Prop) (RO VO AC AS : Nat → Int32) (q : Nat) : Int32 :=
  tj_fo (fun j => tj_ov2 hs RO VO AC AS q (3 * j / 5) (3 * j % 5)) (tj_fo (tj_kv hs RO VO AC AS q) (31 * tj_cv hs RO VO AC AS q + tj_iv hs RO VO AC q) (tj_sk hs RO VO AC AS q)) 9
theorem tj_sum55 {post : Int32 → St1 → Prop} {hs : Nat → Nat → Prop} {l q : Nat} {u : St1} {h : Int32} (hW : tj_Wf hs RC AC RO VO AS) (hl : l ≤ 2) (hu : tj_Wd l hs RC AC RO VO AS u) (hq : q < 2) (H : ∀ u', tj_Wd l hs RC AC RO VO AS u' → post (tj_fo (fun j => tj_ov2 hs RO VO AC AS q (3 * j / 5) (3 * j % 5)) h 9) u') : ∃ fu, wL_sum_55 post (nI q) fu h 0 u.1 u.2.1 u.2.2.1 u.2.2.2.1 u.2.2.2.2.1 u.2.2.2.2.2.1 u.2.2.2.2.2.2.1 u.2.2.2.2.2.2.2.1 u.2.2.2.2.2.2.2.2.1 u.2.2.2.2.2.2.2.2.2.1 u.2.2.2.2.2.2.2.2.2.2.1 u.2.2.2.2.2.2.2.2.2.2.2.1 u.2.2.2.2.2.2.2.2.2.2.2.2.1 u.2.2.2.2.2.2.2.2.2.2.2.2.2.1 u.2.2.2.2.2.2.2.2.2.2.2.2.2.2.1 u.2.2.2.2.2.2.2.2.2.2.2.2.2.2.2.1 u.2.2.2.2.2.2.2.2.2.2.2.2.2.2.2.2.1 u.2.2.2.2.2.2.2.2.2.2.2.2.2.2.2.2.2.1 u.2.2.2.2.2.2.2.2.2.2.2.2.2.2.2.2.2.2.1 u.2.2.2.2.2.2.2.2.2.2.2.2.2.2.2.2.2.2.2.1 u.2.2.2.2.2.2.2.2.2.2.2.2.2.2.2.2.2.2.2.2.1 u.2.2.2.2.2.2.2.2.2.2.2.2.2.2.2.2.2.2.2.2.2.1 u.2.2.2.2.2.2.2.2.2.2.2.2.2.2.2.2.2.2.2.2.2.2.1 u.2.2.2.2.2.2.2.2.2.2.2.2.2.2.2.2.2.2.2.2.2.2.2.1 u.2.2.2.2.2.2.2.2.2.2.2.2.2.2.2.2.2.2.2.2.2.2.2.2.1 u.2.2.2.2.2.2.2.2.2.2.2.2.2.2.2.2.2.2.2.2.2.2.2.2.2.1 u.2.2.2.2.2.2.2.2.2.2.2.2.2.2.2.2.2.2.2.2.2.2.2.2.2.2.1 u.2.2.2.2.2.2.2.2.2.2.2.2.2.2.2.2.2.2.2.2.2.2.2.2.2.2.2.1 u.2.2.2.2.2.2.2.2.2.2.2.2.2.2.2.2.2.2.2.2.2.2.2.2.2.2.2.2.1 u.2.2.2.2.2.2.2.2.2.2.2.2.2.2.2.2.2.2.2.2.2.2.2.2.2.2.2.2.2.1 u.2.2.2.2.2.2.2.2.2.2.2.2.2.2.2.2.2.2.2.2.2.2.2.2.2.2.2.2.2.2.1 u.2.2.2.2.2.2.2.2.2.2.2.2.2.2.2.2.2.2.2.2.2.2.2.2.2.2.2.2.2.2.2.1 u.2.2.2.2.2.2.2.2.2.2.2.2.2.2.2.2.2.2.2.2.2.2.2.2.2.2.2.2.2.2.2.2.1 u.2.2.2.2.2.2.2.2.2.2.2.2.2.2.2.2.2.2.2.2.2.2.2.2.2.2.2.2.2.2.2.2.2.1 u.2.2.2.2.2.2.2.2.2.2.2.2.2.2.2.2.2.2.2.2.2.2.2.2.2.2.2.2.2.2.2.2.2.2 := by
  refine pk_loop (fun n j (s : St1) => wL_sum_55 post (nI q) n (tj_fo (fun j => tj_ov2 hs RO VO AC AS q (3 * j / 5) (3 * j % 5)) h j) (nI (3 * j)) s.1 s.2.1 s.2.2.1 s.2.2.2.1 s.2.2.2.2.1 s.2.2.2.2.2.1 s.2.2.2.2.2.2.1 s.2.2.2.2.2.2.2.1 s.2.2.2.2.2.2.2.2.1 s.2.2.2.2.2.2.2.2.2.1 s.2.2.2.2.2.2.2.2.2.2.1 s.2.2.2.2.2.2.2.2.2.2.2.1 s.2.2.2.2.2.2.2.2.2.2.2.2.1 s.2.2.2.2.2.2.2.2.2.2.2.2.2.1 s.2.2.2.2.2.2.2.2.2.2.2.2.2.2.1 s.2.2.2.2.2.2.2.2.2.2.2.2.2.2.2.1 s.2.2.2.2.2.2.2.2.2.2.2.2.2.2.2.2.1 s.2.2.2.2.2.2.2.2.2.2.2.2.2.2.2.2.2.1 s.2.2.2.2.2.2.2.2.2.2.2.2.2.2.2.2.2.2.1 s.2.2.2.2.2.2.2.2.2.2.2.2.2.2.2.2.2.2.2.1 s.2.2.2.2.2.2.2.2.2.2.2.2.2.2.2.2.2.2.2.2.1 s.2.2.2.2.2.2.2.2.2.2.2.2.2.2.2.2.2.2.2.2.2.1 s.2.2.2.2.2.2.2.2.2.2.2.2.2.2.2.2.2.2.2.2.2.2.1 s.2.2.2.2.2.2.2.2.2.2.2.2.2.2.2.2.2.2.2.2.2.2.2.1 s.2.2.2.2.2.2.2.2.2.2.2.2.2.2.2.2.2.2.2.2.2.2.2.2.1 s.2.2.2.2.2.2.2.2.2.2.2.2.2.2.2.2.2.2.2.2.2.2.2.2.2.1 s.2.2.2.2.2.2.2.2.2.2.2.2.2.2.2.2.2.2.2.2.2.2.2.2.2.2.1 s.2.2.2.2.2.2.2.2.2.2.2.2.2.2.2.2.2.2.2.2.2.2.2.2.2.2.2.1 s.2.2.2.2.2.2.2.2.2.2.2.2.2.2.2.2.2.2.2.2.2.2.2.2.2.2.2.2.1 s.2.2.2.2.2.2.2.2.2.2.2.2.2.2.2.2.2.2.2.2.2.2.2.2.2.2.2.2.2.1 s.2.2.2.2.2.2.2.2.2.2.2.2.2.2.2.2.2.2.2.2.2.2.2.2.2.2.2.2.2.2.1 s.2.2.2.2.2.2.2.2.2.2.2.2.2.2.2.2.2.2.2.2.2.2.2.2.2.2.2.2.2.2.2.1 s.2.2.2.2.2.2.2.2.2.2.2.2.2.2.2.2.2.2.2.2.2.2.2.2.2.2.2.2.2.2.2.2.1 s.2.2.2.2.2.2.2.2.2.2.2.2.2.2.2.2.2.2.2.2.2.2.2.2.2.2.2.2.2.2.2.2.2.1 s.2.2.2.2.2.2.2.2.2.2.2.2.2.2.2.2.2.2.2.2.2.2.2.2.2.2.2.2.2.2.2.2.2.2) (fun _ s => tj_Wd l hs RC AC RO VO AS s) 9 0 u (by omega) hu ?_ ?_
  · intro n s hs'
    exact pk_le 25 27 (fun _ => H s hs') (fun z => absurd z (by omega))
  · intro n j s hj hs' hw
    refine pk_le 25 (3 * j) (fun z => absurd z (by omega)) (fun _ => And.intro (by decide) (And.intro (by decide) ?_))
    rw [tj_r5 (show 3 * j < 2 ^ 31 by omega), tj_d5 (show 3 * j < 2 ^ 31 by omega)]
    refine tj_often (u := s) hW hl hs' hq (by omega) (by omega) (fun u2 h2 => ?_)
    obtain ⟨lv, qu, ai, st, fo, af, bd, tc, oc, ac, B, RC, AC, RO, VO, AS, LC, LI, AL, AN, PA, EX, BF, BN, DI, TO, HO, OR, TD, TV, TW, PF, PT, DN, VA⟩ := u2
    refine nm_e (nm_r (e' := nI (3 * (j + 1))) ?_ (hw _ h2))
    show nI (3 * j) + nI 3 = _
    rw [nI_add]
    rfl
theorem tj_sum {post : Int32 → St1 → Prop} {hs : Nat → Nat → Prop} {l q : Nat} {u : St1} (hW : tj_Wf hs RC AC RO VO AS) (hl : l ≤ 2) (hu : tj_Wd l hs RC AC RO VO AS u) (hq : q < 2) (H : ∀ u', tj_Wd l hs RC AC RO VO AS u' → post (tj_sv hs RO VO AC AS q) u') : wpL_sum post u (nI q) := by
  obtain ⟨lv, qu, ai, st, fo, af, bd, tc, oc, ac, B0, RC0, AC0, RO0, VO0, AS0, LC, LI, AL, AN, PA, EX, BF, BN, DI, TO, HO, OR, TD, TV, TW, PF, PT, DN, VA⟩ := u
  unfold wpL_sum
  refine tj_count hW hl hu hq (fun u1 h1 => ?_)
  obtain ⟨lv, qu, ai, st, fo, af, bd, tc, oc, ac, B0, RC0, AC0, RO0, VO0, AS0, LC, LI, AL, AN, PA, EX, BF, BN, DI, TO, HO, OR, TD, TV, TW, PF, PT, DN, VA⟩ := u1
  refine tj_idle hW hl h1 hq (fun u2 h2 => ?_)
  obtain ⟨lv, qu, ai, st, fo, af, bd, tc, oc, ac, B0, RC0, AC0, RO0, VO0, AS0, LC, LI, AL, AN, PA, EX, BF, BN, DI, TO, HO, OR, TD, TV, TW, PF, PT, DN, VA⟩ := u2
  refine nm_e ?_
  have sk8 : tj_sk hs RO VO AC AS q ≤ 8 := by
    unfold tj_sk
    split
    · exact Nat.min_le_right _ _
    · exact Nat.zero_le 8
  refine pk_loop (fun n k (s : St1) => wL_sum_20 post (nI q) (tj_cv hs RO VO AC AS q) n (tj_fo (tj_kv hs RO VO AC AS q) (31 * tj_cv hs RO VO AC AS q + tj_iv hs RO VO AC q) k) (nI k) s.1 s.2.1 s.2.2.1 s.2.2.2.1 s.2.2.2.2.1 s.2.2.2.2.2.1 s.2.2.2.2.2.2.1 s.2.2.2.2.2.2.2.1 s.2.2.2.2.2.2.2.2.1 s.2.2.2.2.2.2.2.2.2.1 s.2.2.2.2.2.2.2.2.2.2.1 s.2.2.2.2.2.2.2.2.2.2.2.1 s.2.2.2.2.2.2.2.2.2.2.2.2.1 s.2.2.2.2.2.2.2.2.2.2.2.2.2.1 s.2.2.2.2.2.2.2.2.2.2.2.2.2.2.1 s.2.2.2.2.2.2.2.2.2.2.2.2.2.2.2.1 s.2.2.2.2.2.2.2.2.2.2.2.2.2.2.2.2.1 s.2.2.2.2.2.2.2.2.2.2.2.2.2.2.2.2.2.1 s.2.2.2.2.2.2.2.2.2.2.2.2.2.2.2.2.2.2.1 s.2.2.2.2.2.2.2.2.2.2.2.2.2.2.2.2.2.2.2.1 s.2.2.2.2.2.2.2.2.2.2.2.2.2.2.2.2.2.2.2.2.1 s.2.2.2.2.2.2.2.2.2.2.2.2.2.2.2.2.2.2.2.2.2.1 s.2.2.2.2.2.2.2.2.2.2.2.2.2.2.2.2.2.2.2.2.2.2.1 s.2.2.2.2.2.2.2.2.2.2.2.2.2.2.2.2.2.2.2.2.2.2.2.1 s.2.2.2.2.2.2.2.2.2.2.2.2.2.2.2.2.2.2.2.2.2.2.2.2.1 s.2.2.2.2.2.2.2.2.2.2.2.2.2.2.2.2.2.2.2.2.2.2.2.2.2.1 s.2.2.2.2.2.2.2.2.2.2.2.2.2.2.2.2.2.2.2.2.2.2.2.2.2.2.1 s.2.2.2.2.2.2.2.2.2.2.2.2.2.2.2.2.2.2.2.2.2.2.2.2.2.2.2.1 s.2.2.2.2.2.2.2.2.2.2.2.2.2.2.2.2.2.2.2.2.2.2.2.2.2.2.2.2.1 s.2.2.2.2.2.2.2.2.2.2.2.2.2.2.2.2.2.2.2.2.2.2.2.2.2.2.2.2.2.1 s.2.2.2.2.2.2.2.2.2.2.2.2.2.2.2.2.2.2.2.2.2.2.2.2.2.2.2.2.2.2.1 s.2.2.2.2.2.2.2.2.2.2.2.2.2.2.2.2.2.2.2.2.2.2.2.2.2.2.2.2.2.2.2.1 s.2.2.2.2.2.2.2.2.2.2.2.2.2.2.2.2.2.2.2.2.2.2.2.2.2.2.2.2.2.2.2.2.1 s.2.2.2.2.2.2.2.2.2.2.2.2.2.2.2.2.2.2.2.2.2.2.2.2.2.2.2.2.2.2.2.2.2.1 s.2.2.2.2.2.2.2.2.2.2.2.2.2.2.2.2.2.2.2.2.2.2.2.2.2.2.2.2.2.2.2.2.2.2) (fun _ s => tj_Wd l hs RC AC RO VO AS s) (tj_sk hs RO VO AC AS q) 0 (lv, qu, ai, st, fo, af, bd, tc, oc, ac, B0, RC0, AC0, RO0, VO0, AS0, LC, LI, AL, AN, PA, EX, BF, BN, DI, TO, HO, OR, TD, TV, TW, PF, PT, DN, VA) (Nat.zero_le _) h2 ?_ ?_
  · intro n s hs'
    have fin := tj_sum55 (post := post) (h := tj_fo (tj_kv hs RO VO AC AS q) (31 * tj_cv hs RO VO AC AS q + tj_iv hs RO VO AC q) (tj_sk hs RO VO AC AS q)) hW hl hs' hq H
    rcases Classical.em (tj_wo VO AC AS q) with z | z
    · have e : tj_sk hs RO VO AC AS q = min (tj_ct (tj_as hs RO VO AC AS q) 3125) 8 := by unfold tj_sk; rw [if_pos z]
      have cl := tj_ct_le (tj_as hs RO VO AC AS q) 3125
      rw [tj_cv_y z] at fin ⊢
      exact pk_le (tj_ct (tj_as hs RO VO AC AS q) 3125) (tj_sk hs RO VO AC AS q) (fun _ => fin) (fun y => pk_le 8 (tj_sk hs RO VO AC AS q) (fun _ => fin) (fun y2 => absurd e (by omega)))
    · have e : tj_sk hs RO VO AC AS q = 0 := by unfold tj_sk; rw [if_neg z]
      rw [e, tj_cv_n z] at fin ⊢
      exact br_t (by decide) fin
  · intro n k s hk hs' hw
    have z : tj_wo VO AC AS q := by
      rcases Classical.em (tj_wo VO AC AS q) with z | z
      · exact z
      · have e : tj_sk hs RO VO AC AS q = 0 := by unfold tj_sk; rw [if_neg z]
        omega
    have e : tj_sk hs RO VO AC AS q = min (tj_ct (tj_as hs RO VO AC AS q) 3125) 8 := by unfold tj_sk; rw [if_pos z]
    have cl := tj_ct_le (tj_as hs RO VO AC AS q) 3125
    have cv := tj_cv_y (hs := hs) (RO := RO) z
    refine pk_le (tj_ct (tj_as hs RO VO AC AS q) 3125) k (fun y => absurd e (by omega)) (fun _ => pk_le 8 k (fun y => absurd y (by omega)) (fun _ => tj_answer (u := s) hW hl hs' hq (by omega) (fun u3 h3 => ?_))) (hx := cv)
    obtain ⟨lv, qu, ai, st, fo, af, bd, tc, oc, ac, B, RC, AC, RO, VO, AS, LC, LI, AL, AN, PA, EX, BF, BN, DI, TO, HO, OR, TD, TV, TW, PF, PT, DN, VA⟩ := u3
    exact nm_e (nm_r (nI_1 k) (hw _ h3))
end
end
section
/-! ===== meaning: one question within another; the smallest ===== -/
section
variable {lv qu ai st fo af bd tc oc ac : Int32} {B AN PA EX : Nat → Int64} {RC AC RO VO AS LC LI AL BF BN DI TO HO OR TD TV TW PF PT DN VA : Nat → Int32}
def tj_fzn (VO : Nat → Int32) (t : Nat) : Nat → Nat
  | 0 => 0
  | c + 1 => 5 * tj_fzn VO t c + tj_var VO t c
/-- the row in which an atom's variables stand for themselves -/
def tj_fz (RO VO : Nat → Int32) (t : Nat) : Nat := tj_fzn VO t (tj_cols (tj_rel RO t))
theorem tj_rw_c (r : Nat) : tj_rw r = 5 ^ tj_cols r := by unfold tj_rw tj_cols; split <;> rfl
theorem tj_fzn_lt {t : Nat} (h : tj_aok RO VO t) : ∀ c, c ≤ tj_cols (tj_rel RO t) → tj_fzn VO t c < 5 ^ c := by
  intro c
  induction c with
  | zero => intro _; exact (by decide : 0 < 1)
  | succ c ih =>
    intro hc
    have i := ih (by omega)
    have v := (tj_aok_v h (c := c) (by omega)).2
    show 5 * tj_fzn VO t c + tj_var VO t c < 5 ^ (c + 1)
    rw [Nat.pow_succ]
    omega
theorem tj_fz_lt {t : Nat} (h : tj_aok RO VO t) : tj_fz RO VO t < tj_rw (tj_rel RO t) := by
  rw [tj_rw_c]
  exact tj_fzn_lt h _ (Nat.le_refl _)
theorem tj_fz_col {t c : Nat} (h : tj_aok RO VO t) (hc : c < tj_cols (tj_rel RO t)) : tj_col (tj_rel RO t) (tj_fz RO VO t) c = tj_var VO t c := by
  have main : ∀ n, n ≤ tj_cols (tj_rel RO t) → ∀ c, c < n → tj_fzn VO t n / 5 ^ (n - 1 - c) % 5 = tj_var VO t c := by
    intro n
    induction n with
    | zero => intro _ c hc; omega
    | succ n ih =>
      intro hn c hc
      have v := (tj_aok_v h (c := n) (by omega)).2
      show (5 * tj_fzn VO t n + tj_var VO t n) / 5 ^ (n + 1 - 1 - c) % 5 = _
      rcases Nat.lt_or_ge c n with z | z
      · rw [show n + 1 - 1 - c = (n - 1 - c) + 1 by omega, Nat.pow_succ, Nat.mul_comm (5 ^ (n - 1 - c)) 5, ← Nat.div_div_eq_div_mul, show (5 * tj_fzn VO t n + tj_var VO t n) / 5 = tj_fzn VO t n by omega]
        exact ih (by omega) c z
      · rw [show c = n by omega, show n + 1 - 1 - n = 0 by omega, Nat.pow_zero, Nat.div_one]
        omega
  exact main _ (Nat.le_refl _) c hc
/-- the relations made of a question's atoms -/
def tj_fh (RO VO : Nat → Int32) (q m r row : Nat) : Prop := ∃ i, i < 4 ∧ m.testBit i = true ∧ tj_rel RO (4 * q + i) = r ∧ row = tj_fz RO VO (4 * q + i)
theorem tj_fh_ct {q m r n : Nat} : tj_ct (tj_fh RO VO q m r) n ≤ 16 := by
  have h1 : tj_ct (tj_fh RO VO q m r) n ≤ tj_ct (fun a => a = tj_fz RO VO (4 * q + 0) ∨ (a = tj_fz RO VO (4 * q + 1) ∨ (a = tj_fz RO VO (4 * q + 2) ∨ a = tj_fz RO VO (4 * q + 3)))) n := by
    apply tj_ct_mono
    rintro a _ ⟨i, hi, _, _, e⟩
    rcases (show i = 0 ∨ i = 1 ∨ i = 2 ∨ i = 3 by omega) with rfl | rfl | rfl | rfl
    · exact Or.inl e
    · exact Or.inr (Or.inl e)
    · exact Or.inr (Or.inr (Or.inl e))
    · exact Or.inr (Or.inr (Or.inr e))
  have h2 := tj_ct_or (p := fun a => a = tj_fz RO VO (4 * q + 0)) (q := fun a => a = tj_fz RO VO (4 * q + 1) ∨ (a = tj_fz RO VO (4 * q + 2) ∨ a = tj_fz RO VO (4 * q + 3))) n
  have h3 := tj_ct_or (p := fun a => a = tj_fz RO VO (4 * q + 1)) (q := fun a => a = tj_fz RO VO (4 * q + 2) ∨ a = tj_fz RO VO (4 * q + 3)) n
  have h4 := tj_ct_or (p := fun a => a = tj_fz RO VO (4 * q + 2)) (q := fun a => a = tj_fz RO VO (4 * q + 3)) n
  have a := tj_ct_one (tj_fz RO VO (4 * q + 0)) n
  have b := tj_ct_one (tj_fz RO VO (4 * q + 1)) n
  have c := tj_ct_one (tj_fz RO VO (4 * q + 2)) n
  have d := tj_ct_one (tj_fz RO VO (4 * q + 3)) n
  omega
theorem tj_freeze {post : St1 → Prop} {q m : Nat} (hq : q < 2) (hm : m < 16) (hQ : tj_Q RO VO q m) (H : ∀ B' : Nat → Int64, (∀ j, j < 6 → B' j = B j) → tj_has B' 6 = tj_fh RO VO q m → post (lv, qu, ai, st, fo, af, bd, tc, oc, ac, B', RC, AC, RO, VO, AS, LC, LI, AL, AN, PA, EX, BF, BN, DI, TO, HO, OR, TD, TV, TW, PF, PT, DN, VA)) : wpX_freeze post (lv, qu, ai, st, fo, af, bd, tc, oc, ac, B, RC, AC, RO, VO, AS, LC, LI, AL, AN, PA, EX, BF, BN, DI, TO, HO, OR, TD, TV, TW, PF, PT, DN, VA) (nI q) (nI m) := by
  unfold wpX_freeze
  refine pk_loop (fun n' x s => wX_freeze_3 post (nI q) (nI m) lv qu ai st fo af bd tc oc ac n' (nI x) s RC AC RO VO AS LC LI AL AN PA EX BF BN DI TO HO OR TD TV TW PF PT DN VA) (fun x s => 6 ≤ x ∧ (∀ j, j < 6 → s j = B j) ∧ ∀ j, 6 ≤ j → j < x → s j = 0) 12 6 B (by omega) ⟨Nat.le_refl 6, fun _ _ => rfl, fun j h1 h2 => absurd h1 (by omega)⟩ ?_ ?_
  rotate_left
  · rintro n' x s hx ⟨x6, s1, s2⟩ hw
    refine pk_le 12 x (fun z => absurd z (by omega)) (fun _ => And.intro (pk_in x 12 hx) (nm_r (e' := vp_updL s x 0) (by rw [nI_clamp (by omega)]) (nm_r (nI_1 x) (hw _ ⟨by omega, fun j hj => (pk_uLn (by omega)).trans (s1 j hj), fun j h1 h2 => ?_⟩))))
    by_cases e : j = x
    · rw [e, pk_uLs]
    · rw [pk_uLn e]; exact s2 j h1 (by omega)
  rintro n' b0 ⟨_, b1, b2⟩
  refine pk_le 12 12 (fun _ => ?_) (fun z => absurd z (by omega))
  refine pk_loop (fun n' i s => wX_freeze_24 post (nI q) (nI m) n' (nI i) lv qu ai st fo af bd tc oc ac s RC AC RO VO AS LC LI AL AN PA EX BF BN DI TO HO OR TD TV TW PF PT DN VA) (fun i s => (∀ j, j < 6 → s j = B j) ∧ ∀ r row, tj_has s 6 r row ↔ ∃ i', i' < i ∧ m.testBit i' = true ∧ tj_rel RO (4 * q + i') = r ∧ row = tj_fz RO VO (4 * q + i')) 4 0 b0 (by omega)
    ⟨b1, fun r row => ⟨fun ⟨h1, h2, h3⟩ => ?_, fun ⟨i, hi, _⟩ => absurd hi (by omega)⟩⟩ ?_ ?_
  · have rb := tj_rw_b r
    rw [b2 _ (by omega) (by omega), tj_bl_0] at h3
    exact absurd h3 (by decide)
  · rintro n' b ⟨c1, c2⟩
    exact pk_le 4 4 (fun _ => H b c1 (funext (fun r => funext (fun row => propext (c2 r row))))) (fun z => absurd z (by omega))
  · rintro n' i b hi ⟨c1, c2⟩ hw
    refine pk_le 4 i (fun z => absurd z (by omega)) (fun _ => tj_br m i (fun z => nm_r (nI_1 i) (hw b ⟨c1, fun r row => ?_⟩)) (fun z => nm_r (tj_i4 q i) ?_))
    · rw [c2 r row]
      constructor
      · rintro ⟨i', h1, h2⟩; exact ⟨i', by omega, h2⟩
      · rintro ⟨i', h1, h2, h3⟩
        rcases Nat.lt_or_ge i' i with y | y
        · exact ⟨i', y, h2, h3⟩
        · rw [show i' = i by omega] at h2; exact (tj_tf h2 z).elim
    · have ok := hQ i hi z
      have hr := tj_aok_r ok
      have cb := tj_cols_b (tj_rel RO (4 * q + i))
      have ct : (nI (4 * q + i)).toNatClampNeg = 4 * q + i := nI_clamp (by omega)
      have p8 := vp_in_nI (show 4 * q + i < 8 by omega) (by omega)
      refine pk_loop (σ := Unit) (fun n'' c _ => wX_freeze_53 post (wX_freeze_24 post (nI q) (nI m) n') (nI q) (nI m) (nI i) (nI (4 * q + i)) lv qu ai st fo af bd tc oc ac b RC AC RO VO AS LC LI AL AN PA EX BF BN DI TO HO OR TD TV TW PF PT DN VA n'' (nI (tj_fzn VO (4 * q + i) c)) (nI c)) (fun _ _ => True) (tj_cols (tj_rel RO (4 * q + i))) 0 () (by omega) trivial ?_ ?_
      · intro n'' _ _
        refine And.intro p8 ?_
        rw [ct, hr.1]
        refine tj_columnsOf hr.2 ?_
        refine tj_ple (fun _ => And.intro p8 ?_) (fun z => absurd z (by omega))
        refine tj_setRow (f := 6) (row := tj_fz RO VO (4 * q + i)) (by decide) hr.2 (tj_fz_lt ok) (nm_r (nI_1 i) (hw _ ⟨fun j hj => (pk_uLn (by omega)).trans (c1 j hj), fun r row => ?_⟩))
        rw [tj_has_put hr.2 (tj_fz_lt ok), c2 r row]
        constructor
        · rintro (⟨i', h1, h2⟩ | ⟨h1, h2⟩)
          · exact ⟨i', by omega, h2⟩
          · exact ⟨i, by omega, z, h1.symm, h2⟩
        · rintro ⟨i', h1, h2, h3, h4⟩
          rcases Nat.lt_or_ge i' i with y | y
          · exact Or.inl ⟨i', y, h2, h3, h4⟩
          · have e : i' = i := by omega
            subst e
            exact Or.inr ⟨h3.symm, h4⟩
      · intro n'' c _ hc _ hw'
        refine And.intro p8 ?_
        rw [ct, hr.1]
        refine tj_columnsOf hr.2 ?_
        refine tj_ple (fun z => absurd z (by omega)) (fun _ => ?_)
        rw [tj_i3, nI_clamp (show 3 * (4 * q + i) + c < 2 ^ 31 by omega), (tj_aok_v ok hc).1]
        exact And.intro (vp_in_nI (by omega) (by omega)) (nm_r (tj_i5 _ _) (nm_r (nI_1 c) (hw' () trivial)))
theorem tj_answersItself {post : Int32 → St1 → Prop} {q m w l : Nat} (hq : q < 2) (hm : m < 16) (hm0 : m ≠ 0) (hQ : tj_Q RO VO q m) (h16 : ∀ r, tj_ct (tj_has B 6 r) 125 ≤ 16) (hA : AS q = nI w) (hw : w < 32) (hlv : lv = nI l) (hl : l ≤ 2) (hwh : ∀ v, w.testBit v = true → (tj_va VO q m 4).testBit v = true) (hD : ∀ v, v < 5 → tj_N (DI v) 5)
    (H : ∀ (r : Int32) (qu' : Int32) (ai' : Int32) (st' : Int32) (fo' : Int32) (af' : Int32) (bd' : Int32) (tc' : Int32) (oc' : Int32) (ac' : Int32) (LC' : Nat → Int32) (LI' : Nat → Int32) (AL' : Nat → Int32) (AN' : Nat → Int64) (PA' : Nat → Int64) (EX' : Nat → Int64) (BF' : Nat → Int32) (BN' : Nat → Int32) (DI' : Nat → Int32) (TO' : Nat → Int32) (HO' : Nat → Int32) (OR' : Nat → Int32) (TD' : Nat → Int32) (TV' : Nat → Int32) (TW' : Nat → Int32) (PF' : Nat → Int32) (PT' : Nat → Int32) (DN' : Nat → Int32) (VA' : Nat → Int32), (∀ v, v < 5 → tj_N (DI' v) 5) → ((r = 1 ∧ tj_SA RO VO (tj_has B 6) q m w (tj_key w (fun v => v) 5)) ∨ r = 0) → post r (lv, qu', ai', st', fo', af', bd', tc', oc', ac', B, RC, AC, RO, VO, AS, LC', LI', AL', AN', PA', EX', BF', BN', DI', TO', HO', OR', TD', TV', TW', PF', PT', DN', VA')) : wpX_answersItself post (lv, qu, ai, st, fo, af, bd, tc, oc, ac, B, RC, AC, RO, VO, AS, LC, LI, AL, AN, PA, EX, BF, BN, DI, TO, HO, OR, TD, TV, TW, PF, PT, DN, VA) (nI q) (nI m) := by
  unfold wpX_answersItself
  refine tj_workOut (f := 6) hq hm hm0 (by decide) hQ (fun i hi mi => h16 _) hA hw hlv hl hwh hD (fun qu2 ai2 st2 fo2 af2 bd2 tc2 oc2 ac2 LC2 LI2 AL2 AN2 PA2 EX2 BF2 BN2 DI2 TO2 HO2 OR2 TD2 TV2 TW2 PF2 PT2 DN2 VA2 d2 a2 => ?_)
  refine pk_loop (σ := Unit) (fun n v _ => wX_answersItself_14 post (nI q) lv qu2 ai2 st2 fo2 af2 bd2 tc2 oc2 ac2 B RC AC RO VO AS LC2 LI2 AL2 AN2 PA2 EX2 BF2 BN2 DI2 TO2 HO2 OR2 TD2 TV2 TW2 PF2 PT2 DN2 VA2 n (nI (tj_key w (fun v => v) v)) (nI v)) (fun _ _ => True) 5 0 () (by omega) trivial ?_ ?_
  · intro n _ _
    have kl := tj_key_lt5 (m := w) (s := fun v => v) (fun v hv => hv) (Nat.le_refl 5)
    exact pk_le 5 5 (fun _ => tj_isIn_2 (by omega) (fun z => And.intro (by decide) (H 1 qu2 ai2 st2 fo2 af2 bd2 tc2 oc2 ac2 LC2 LI2 AL2 AN2 PA2 EX2 BF2 BN2 DI2 TO2 HO2 OR2 TD2 TV2 TW2 PF2 PT2 DN2 VA2 d2 (Or.inl ⟨rfl, (a2 _ (by omega)).mp z⟩))) (fun z => And.intro (by decide) (H 0 qu2 ai2 st2 fo2 af2 bd2 tc2 oc2 ac2 LC2 LI2 AL2 AN2 PA2 EX2 BF2 BN2 DI2 TO2 HO2 OR2 TD2 TV2 TW2 PF2 PT2 DN2 VA2 d2 (Or.inr rfl)))) (fun z => absurd z (by omega))
  · intro n v _ hv _ hn
    refine pk_le 5 v (fun z => absurd z (by omega)) (fun _ => And.intro (pk_in q 2 hq) ?_)
    rw [nI_clamp (show q < 2 ^ 31 by omega), hA]
    refine tj_br w v (fun z => nm_r (nI_1 v) ?_) (fun z => nm_r (by rw [tj_i5, ← tj_key_t (s := fun v => v) z]) (nm_r (nI_1 v) (hn () trivial)))
    rw [← tj_key_f (s := fun v => v) z]
    exact hn () trivial
/-- a homomorphism carries answers over -/
theorem tj_hom {hs : Nat → Nat → Prop} {q m q' m' w : Nat} (hQ : tj_Q RO VO q m) (hQ' : tj_Q RO VO q' m') (h : tj_SA RO VO (tj_fh RO VO q m) q' m' w (tj_key w (fun v => v) 5)) {x : Nat} (hx : tj_SA RO VO hs q m w x) : tj_SA RO VO hs q' m' w x := by
  obtain ⟨s, s1, s2, s3⟩ := h
  obtain ⟨t, t1, t2, t3⟩ := hx
  have sv := tj_key_inj (m := w) 5 (fun v hv => hv) (fun v _ => s1 v) s3
  refine ⟨fun v => t (s v), fun v => t1 _, fun i hi mi => ?_, ?_⟩
  · obtain ⟨row, ⟨j, hj, mj, e, er⟩, r2⟩ := s2 i hi mi
    obtain ⟨row2, b1, b2⟩ := t2 j hj mj
    rw [e] at b1
    refine ⟨row2, b1, fun c hc => ?_⟩
    have hc' : c < tj_cols (tj_rel RO (4 * q + j)) := by rw [e]; exact hc
    have e1 := r2 c hc
    rw [er, ← e, tj_fz_col (hQ j hj mj) hc'] at e1
    have e2 := b2 c hc'
    rw [e] at e2
    show t (s (tj_var VO (4 * q' + i) c)) = _
    rw [e1, e2]
  · rw [t3]
    refine tj_key_congr 5 (fun v hv hb => ?_)
    show t v = t (s v)
    rw [← sv v hv hb]
theorem tj_1m {q : Nat} (hq : q < 2) : 1 - nI q = nI (1 - q) := by
  show nI 1 - nI q = _
  rw [pk_sub (by omega)]
theorem tj_within {post : Int32 → St1 → Prop} {hs : Nat → Nat → Prop} {l q : Nat} {u : St1} (hW : tj_Wf hs RC AC RO VO AS) (hl : l ≤ 2) (hu : tj_Wd l hs RC AC RO VO AS u) (hq : q < 2)
    (H1 : tj_wo VO AC AS q → tj_wo VO AC AS (1 - q) → (∀ x, tj_as hs RO VO AC AS q x → tj_as hs RO VO AC AS (1 - q) x) → ∀ u', tj_Wd l hs RC AC RO VO AS u' → post 1 u') (H0 : ∀ (r : Int32) u', ¬ r = 1 → tj_Wd l hs RC AC RO VO AS u' → post r u') : wpX_within post u (nI q) := by
  obtain ⟨lv, qu, ai, st, fo, af, bd, tc, oc, ac, B0, RC0, AC0, RO0, VO0, AS0, LC, LI, AL, AN, PA, EX, BF, BN, DI, TO, HO, OR, TD, TV, TW, PF, PT, DN, VA⟩ := u
  have hu' := hu
  obtain ⟨h1, h2, rfl, rfl, rfl, rfl, rfl, hD⟩ := hu'
  obtain ⟨wa, wb, wc, wd, we, wf⟩ := tj_Wf_e hW hq
  obtain ⟨va, vb, vc, vd, ve, vf⟩ := tj_Wf_e hW (show 1 - q < 2 by omega)
  unfold wpX_within
  refine tj_isQuestion hq (br_f (by decide) (tj_wholeT (q := 0) hW (by decide) (fun z0 => br_f (by decide) (tj_wholeT (q := 1) hW (by decide) (fun z1 => br_f (by decide) (br_c (fun e => ?_) (fun e => H0 (-3) _ (by decide) hu))) (fun _ => br_t rfl (H0 (-3) _ (by decide) hu)))) (fun _ => br_t rfl (H0 (-3) _ (by decide) hu))))
  have zq : tj_wo VO0 AC0 AS0 q := by
    rcases (show q = 0 ∨ q = 1 by omega) with rfl | rfl
    · exact z0
    · exact z1
  have zq' : tj_wo VO0 AC0 AS0 (1 - q) := by
    rcases (show q = 0 ∨ q = 1 by omega) with rfl | rfl
    · exact z1
    · exact z0
  have ew : tj_qw AS0 (1 - q) = tj_qw AS0 q := by
    unfold tj_qw
    rcases (show q = 0 ∨ q = 1 by omega) with rfl | rfl
    · show (AS0 1).toNatClampNeg = (AS0 0).toNatClampNeg
      rw [e]
    · show (AS0 0).toNatClampNeg = (AS0 1).toNatClampNeg
      rw [e]
  refine tj_allAtoms hq wb wa ?_
  rw [tj_1m hq]
  refine tj_allAtoms (show 1 - q < 2 by omega) vb va ?_
  refine tj_freeze hq wc wd (fun B2 hB2 hF2 => ?_)
  have e0 : tj_has B2 0 = hs := (tj_has_c (fun j _ hj => hB2 j (by omega))).trans h2
  refine tj_answersItself (show 1 - q < 2 by omega) vc zq'.1 vd (fun r => by rw [hF2]; exact tj_fh_ct) ve vf h1 hl zq'.2 hD (fun r qu2 ai2 st2 fo2 af2 bd2 tc2 oc2 ac2 LC2 LI2 AL2 AN2 PA2 EX2 BF2 BN2 DI2 TO2 HO2 OR2 TD2 TV2 TW2 PF2 PT2 DN2 VA2 d2 hr => ?_)
  rcases hr with ⟨e1, hsa⟩ | e1
  · rw [e1]
    refine br_f (by decide) (H1 zq zq' (fun x hx => ?_) _ ⟨h1, e0, rfl, rfl, rfl, rfl, rfl, d2⟩)
    rw [hF2] at hsa
    have hsa' : tj_SA RO0 VO0 (tj_fh RO0 VO0 q (tj_qm AC0 q)) (1 - q) (tj_qm AC0 (1 - q)) (tj_qw AS0 (1 - q)) (tj_key (tj_qw AS0 (1 - q)) (fun v => v) 5) := hsa
    refine tj_hom wd vd hsa' ?_
    rw [ew]
    exact hx
  · rw [e1]
    exact br_t rfl (H0 0 _ (by decide) ⟨h1, e0, rfl, rfl, rfl, rfl, rfl, d2⟩)
theorem tj_cb_pm {n : Nat} (hn : n ≤ 4) : tj_cb (2 ^ n - 1) = n := by
  have main : ∀ k, tj_ct (fun i => i < n) k = min n k := by
    intro k
    induction k with
    | zero => show 0 = min n 0; omega
    | succ k ih =>
      rcases Nat.lt_or_ge k n with z | z
      · rw [tj_ct_t (p := fun i => i < n) z, ih]; omega
      · rw [tj_ct_f (p := fun i => i < n) (by omega), ih]; omega
  unfold tj_cb
  rw [tj_ct_congr (q := fun i => i < n) (fun a _ => by rw [tj_pm1, decide_eq_true_iff]), main 4]
  omega
theorem tj_smallest {post : Int32 → St1 → Prop} {hs : Nat → Nat → Prop} {l q : Nat} {u : St1} (hW : tj_Wf hs RC AC RO VO AS) (hl : l ≤ 2) (hu : tj_Wd l hs RC AC RO VO AS u) (hq : q < 2)
    (H1 : tj_wo VO AC AS q → ∀ c u', 1 ≤ c → c ≤ tj_qn AC q → tj_Wd l hs RC AC RO VO AS u' → post (nI c) u') (H0 : ¬ tj_wo VO AC AS q → ∀ u', tj_Wd l hs RC AC RO VO AS u' → post (-3) u') : wpX_smallest post u (nI q) := by
  obtain ⟨wa, wb, wc, wd, we, wf⟩ := tj_Wf_e hW hq
  obtain ⟨lv, qu, ai, st, fo, af, bd, tc, oc, ac, B0, RC0, AC0, RO0, VO0, AS0, LC, LI, AL, AN, PA, EX, BF, BN, DI, TO, HO, OR, TD, TV, TW, PF, PT, DN, VA⟩ := u
  have hu' := hu
  obtain ⟨h1, h2, rfl, rfl, rfl, rfl, rfl, hD⟩ := hu'
  unfold wpX_smallest
  refine tj_isQuestion hq (br_f (by decide) (tj_wholeT hW hq (fun z => br_f (by decide) ?_) (fun z => br_t rfl (H0 z _ hu))))
  refine tj_allAtoms hq wb wa (And.intro (pk_in q 2 hq) (nm_r (e' := nI (tj_qn AC0 q)) (by rw [nI_clamp (by omega)]; exact wa) ?_))
  suffices main : ∃ fu, wX_smallest_37 post (nI q) fu (nI (tj_qm AC0 q)) (nI (tj_cb (tj_qm AC0 q))) (nI 0) lv qu ai st fo af bd tc oc ac B0 RC0 AC0 RO0 VO0 AS0 LC LI AL AN PA EX BF BN DI TO HO OR TD TV TW PF PT DN VA by
    rw [show tj_cb (tj_qm AC0 q) = tj_qn AC0 q from tj_cb_pm wb] at main
    exact main
  refine pk_loop (fun n i (s : Nat × St1) => wX_smallest_37 post (nI q) n (nI s.1) (nI (tj_cb s.1)) (nI i) s.2.1 s.2.2.1 s.2.2.2.1 s.2.2.2.2.1 s.2.2.2.2.2.1 s.2.2.2.2.2.2.1 s.2.2.2.2.2.2.2.1 s.2.2.2.2.2.2.2.2.1 s.2.2.2.2.2.2.2.2.2.1 s.2.2.2.2.2.2.2.2.2.2.1 s.2.2.2.2.2.2.2.2.2.2.2.1 s.2.2.2.2.2.2.2.2.2.2.2.2.1 s.2.2.2.2.2.2.2.2.2.2.2.2.2.1 s.2.2.2.2.2.2.2.2.2.2.2.2.2.2.1 s.2.2.2.2.2.2.2.2.2.2.2.2.2.2.2.1 s.2.2.2.2.2.2.2.2.2.2.2.2.2.2.2.2.1 s.2.2.2.2.2.2.2.2.2.2.2.2.2.2.2.2.2.1 s.2.2.2.2.2.2.2.2.2.2.2.2.2.2.2.2.2.2.1 s.2.2.2.2.2.2.2.2.2.2.2.2.2.2.2.2.2.2.2.1 s.2.2.2.2.2.2.2.2.2.2.2.2.2.2.2.2.2.2.2.2.1 s.2.2.2.2.2.2.2.2.2.2.2.2.2.2.2.2.2.2.2.2.2.1 s.2.2.2.2.2.2.2.2.2.2.2.2.2.2.2.2.2.2.2.2.2.2.1 s.2.2.2.2.2.2.2.2.2.2.2.2.2.2.2.2.2.2.2.2.2.2.2.1 s.2.2.2.2.2.2.2.2.2.2.2.2.2.2.2.2.2.2.2.2.2.2.2.2.1 s.2.2.2.2.2.2.2.2.2.2.2.2.2.2.2.2.2.2.2.2.2.2.2.2.2.1 s.2.2.2.2.2.2.2.2.2.2.2.2.2.2.2.2.2.2.2.2.2.2.2.2.2.2.1 s.2.2.2.2.2.2.2.2.2.2.2.2.2.2.2.2.2.2.2.2.2.2.2.2.2.2.2.1 s.2.2.2.2.2.2.2.2.2.2.2.2.2.2.2.2.2.2.2.2.2.2.2.2.2.2.2.2.1 s.2.2.2.2.2.2.2.2.2.2.2.2.2.2.2.2.2.2.2.2.2.2.2.2.2.2.2.2.2.1 s.2.2.2.2.2.2.2.2.2.2.2.2.2.2.2.2.2.2.2.2.2.2.2.2.2.2.2.2.2.2.1 s.2.2.2.2.2.2.2.2.2.2.2.2.2.2.2.2.2.2.2.2.2.2.2.2.2.2.2.2.2.2.2.1 s.2.2.2.2.2.2.2.2.2.2.2.2.2.2.2.2.2.2.2.2.2.2.2.2.2.2.2.2.2.2.2.2.1 s.2.2.2.2.2.2.2.2.2.2.2.2.2.2.2.2.2.2.2.2.2.2.2.2.2.2.2.2.2.2.2.2.2.1 s.2.2.2.2.2.2.2.2.2.2.2.2.2.2.2.2.2.2.2.2.2.2.2.2.2.2.2.2.2.2.2.2.2.2.1 s.2.2.2.2.2.2.2.2.2.2.2.2.2.2.2.2.2.2.2.2.2.2.2.2.2.2.2.2.2.2.2.2.2.2.2)
    (fun i s => s.1 < 16 ∧ tj_wh VO0 q s.1 (tj_qw AS0 q) ∧ (∀ j, s.1.testBit j = true → (tj_qm AC0 q).testBit j = true) ∧ (∀ j, i ≤ j → j < tj_qn AC0 q → s.1.testBit j = true) ∧ tj_cb s.1 ≤ tj_qn AC0 q ∧ tj_Wd l hs RC0 AC0 RO0 VO0 AS0 s.2)
    (tj_qn AC0 q) 0 (tj_qm AC0 q, (lv, qu, ai, st, fo, af, bd, tc, oc, ac, B0, RC0, AC0, RO0, VO0, AS0, LC, LI, AL, AN, PA, EX, BF, BN, DI, TO, HO, OR, TD, TV, TW, PF, PT, DN, VA)) (by omega) ⟨wc, z, fun _ h => h, fun j _ hj => by unfold tj_qm; rw [tj_pm1, decide_eq_true_iff]; exact hj, Nat.le_of_eq (tj_cb_pm wb), hu⟩ ?_ ?_
  · rintro n ⟨K, s⟩ ⟨k1, k2, k3, k4, k5, k6⟩
    dsimp only at k1 k2 k3 k4 k5 k6
    obtain ⟨lv, qu, ai, st, fo, af, bd, tc, oc, ac, B1, RC1, AC1, RO1, VO1, AS1, LC, LI, AL, AN, PA, EX, BF, BN, DI, TO, HO, OR, TD, TV, TW, PF, PT, DN, VA⟩ := s
    have k6' := k6
    obtain ⟨g1, g2, rfl, rfl, rfl, rfl, rfl, gD⟩ := k6'
    refine And.intro (pk_in q 2 hq) ?_
    dsimp only
    rw [nI_clamp (show q < 2 ^ 31 by omega), wa]
    have cp := tj_cb_pos k1 k2.1
    exact tj_ple (fun _ => H1 z _ _ (by omega) k5 k6) (fun z => absurd z (by omega))
  · rintro n i ⟨K, s⟩ hi ⟨k1, k2, k3, k4, k5, k6⟩ hw
    dsimp only at k1 k2 k3 k4 k5 k6 hw
    obtain ⟨lv, qu, ai, st, fo, af, bd, tc, oc, ac, B1, RC1, AC1, RO1, VO1, AS1, LC, LI, AL, AN, PA, EX, BF, BN, DI, TO, HO, OR, TD, TV, TW, PF, PT, DN, VA⟩ := s
    have k6' := k6
    obtain ⟨g1, g2, rfl, rfl, rfl, rfl, rfl, gD⟩ := k6'
    have ki : K.testBit i = true := k4 i (Nat.le_refl i) hi
    have crm := tj_cb_rm (show i < 4 by omega) ki
    have kr : tj_sd K (2 ^ i) < 16 := tj_sd_lt (k := 4) k1
    have hQr : tj_Q RO1 VO1 q (tj_sd K (2 ^ i)) := fun x hx mx => wd x hx (k3 x (tj_sd2.mp mx).1)
    have hQk : tj_Q RO1 VO1 q K := fun x hx mx => wd x hx (k3 x mx)
    refine And.intro (pk_in q 2 hq) ?_
    dsimp only
    rw [nI_clamp (show q < 2 ^ 31 by omega), wa]
    refine tj_ple (fun z => absurd z (by omega)) (fun _ => nm_r (e' := nI (tj_sd K (2 ^ i))) (by rw [tj_shl (by omega), tj_xm]) ?_)
    have keep : ∀ s' : St1, tj_Wd l hs RC1 AC1 RO1 VO1 AS1 s' → (K, s').1 < 16 ∧ tj_wh VO1 q (K, s').1 (tj_qw AS1 q) ∧ (∀ j, (K, s').1.testBit j = true → (tj_qm AC1 q).testBit j = true) ∧ (∀ j, i + 1 ≤ j → j < tj_qn AC1 q → (K, s').1.testBit j = true) ∧ tj_cb (K, s').1 ≤ tj_qn AC1 q ∧ tj_Wd l hs RC1 AC1 RO1 VO1 AS1 (K, s').2 :=
      fun s' hs' => ⟨k1, k2, k3, fun j hj => k4 j (by omega), k5, hs'⟩
    refine tj_isWhole hq kr hQr we wf (fun y => br_f (by decide) ?_) (fun y => br_t rfl (nm_r (nI_1 i) (hw (K, _) (keep _ k6))))
    refine tj_freeze hq kr hQr (fun B2 hB2 hF2 => ?_)
    have e0 : tj_has B2 0 = hs := (tj_has_c (fun j _ hj => hB2 j (by omega))).trans g2
    refine tj_answersItself hq k1 k2.1 hQk (fun r => by rw [hF2]; exact tj_fh_ct) we wf g1 hl k2.2 gD (fun r qu2 ai2 st2 fo2 af2 bd2 tc2 oc2 ac2 LC2 LI2 AL2 AN2 PA2 EX2 BF2 BN2 DI2 TO2 HO2 OR2 TD2 TV2 TW2 PF2 PT2 DN2 VA2 d2 hr => ?_)
    have ok2 : tj_Wd l hs RC1 AC1 RO1 VO1 AS1 (lv, qu2, ai2, st2, fo2, af2, bd2, tc2, oc2, ac2, B2, RC1, AC1, RO1, VO1, AS1, LC2, LI2, AL2, AN2, PA2, EX2, BF2, BN2, DI2, TO2, HO2, OR2, TD2, TV2, TW2, PF2, PT2, DN2, VA2) := ⟨g1, e0, rfl, rfl, rfl, rfl, rfl, d2⟩
    rcases hr with ⟨e1, _⟩ | e1
    · rw [e1]
      refine br_f (by decide) (nm_r (e' := nI (tj_cb (tj_sd K (2 ^ i)))) (by rw [← crm, pk_m1]) (nm_r (nI_1 i) (hw (tj_sd K (2 ^ i), _) ⟨kr, y, fun j hj => k3 j (tj_sd2.mp hj).1, fun j hj hj2 => tj_sd2.mpr ⟨k4 j (by omega) hj2, by omega⟩, ?_, ok2⟩)))
      show tj_cb (tj_sd K (2 ^ i)) ≤ _
      omega
    · rw [e1]
      exact br_t rfl (nm_r (nI_1 i) (hw (K, _) (keep _ ok2)))
end
end
section
/-! ===== the law's checks ===== -/
section
variable {lv qu ai st fo af bd tc oc ac : Int32} {B AN PA EX : Nat → Int64} {RC AC RO VO AS LC LI AL BF BN DI TO HO OR TD TV TW PF PT DN VA : Nat → Int32}
theorem tj_isAnswer {post : Int32 → St1 → Prop} {hs : Nat → Nat → Prop} {l q a : Nat} {u : St1} (hW : tj_Wf hs RC AC RO VO AS) (hl : l ≤ 2) (hu : tj_Wd l hs RC AC RO VO AS u) (hq : q < 2) (hwo : tj_wo VO AC AS q) (ha : tj_as hs RO VO AC AS q a) (H : ∀ u', tj_Wd l hs RC AC RO VO AS u' → post 1 u') : wpL_isAnswer post u (nI q) (nI a) := by
  obtain ⟨lv, qu, ai, st, fo, af, bd, tc, oc, ac, B0, RC0, AC0, RO0, VO0, AS0, LC, LI, AL, AN, PA, EX, BF, BN, DI, TO, HO, OR, TD, TV, TW, PF, PT, DN, VA⟩ := u
  unfold wpL_isAnswer
  refine tj_count hW hl hu hq (fun u1 h1 => ?_)
  obtain ⟨lv, qu, ai, st, fo, af, bd, tc, oc, ac, B0, RC0, AC0, RO0, VO0, AS0, LC, LI, AL, AN, PA, EX, BF, BN, DI, TO, HO, OR, TD, TV, TW, PF, PT, DN, VA⟩ := u1
  have a5 := tj_as_lt ha
  have cl := tj_ct_le (tj_as hs RO VO AC AS q) 3125
  have kl := tj_ct_lt a5 ha
  rw [tj_cv_y hwo]
  refine pk_loop (fun n k (s : St1) => wL_isAnswer_9 post (nI q) (nI a) (nI (tj_ct (tj_as hs RO VO AC AS q) 3125)) n (nI k) s.1 s.2.1 s.2.2.1 s.2.2.2.1 s.2.2.2.2.1 s.2.2.2.2.2.1 s.2.2.2.2.2.2.1 s.2.2.2.2.2.2.2.1 s.2.2.2.2.2.2.2.2.1 s.2.2.2.2.2.2.2.2.2.1 s.2.2.2.2.2.2.2.2.2.2.1 s.2.2.2.2.2.2.2.2.2.2.2.1 s.2.2.2.2.2.2.2.2.2.2.2.2.1 s.2.2.2.2.2.2.2.2.2.2.2.2.2.1 s.2.2.2.2.2.2.2.2.2.2.2.2.2.2.1 s.2.2.2.2.2.2.2.2.2.2.2.2.2.2.2.1 s.2.2.2.2.2.2.2.2.2.2.2.2.2.2.2.2.1 s.2.2.2.2.2.2.2.2.2.2.2.2.2.2.2.2.2.1 s.2.2.2.2.2.2.2.2.2.2.2.2.2.2.2.2.2.2.1 s.2.2.2.2.2.2.2.2.2.2.2.2.2.2.2.2.2.2.2.1 s.2.2.2.2.2.2.2.2.2.2.2.2.2.2.2.2.2.2.2.2.1 s.2.2.2.2.2.2.2.2.2.2.2.2.2.2.2.2.2.2.2.2.2.1 s.2.2.2.2.2.2.2.2.2.2.2.2.2.2.2.2.2.2.2.2.2.2.1 s.2.2.2.2.2.2.2.2.2.2.2.2.2.2.2.2.2.2.2.2.2.2.2.1 s.2.2.2.2.2.2.2.2.2.2.2.2.2.2.2.2.2.2.2.2.2.2.2.2.1 s.2.2.2.2.2.2.2.2.2.2.2.2.2.2.2.2.2.2.2.2.2.2.2.2.2.1 s.2.2.2.2.2.2.2.2.2.2.2.2.2.2.2.2.2.2.2.2.2.2.2.2.2.2.1 s.2.2.2.2.2.2.2.2.2.2.2.2.2.2.2.2.2.2.2.2.2.2.2.2.2.2.2.1 s.2.2.2.2.2.2.2.2.2.2.2.2.2.2.2.2.2.2.2.2.2.2.2.2.2.2.2.2.1 s.2.2.2.2.2.2.2.2.2.2.2.2.2.2.2.2.2.2.2.2.2.2.2.2.2.2.2.2.2.1 s.2.2.2.2.2.2.2.2.2.2.2.2.2.2.2.2.2.2.2.2.2.2.2.2.2.2.2.2.2.2.1 s.2.2.2.2.2.2.2.2.2.2.2.2.2.2.2.2.2.2.2.2.2.2.2.2.2.2.2.2.2.2.2.1 s.2.2.2.2.2.2.2.2.2.2.2.2.2.2.2.2.2.2.2.2.2.2.2.2.2.2.2.2.2.2.2.2.1 s.2.2.2.2.2.2.2.2.2.2.2.2.2.2.2.2.2.2.2.2.2.2.2.2.2.2.2.2.2.2.2.2.2.1 s.2.2.2.2.2.2.2.2.2.2.2.2.2.2.2.2.2.2.2.2.2.2.2.2.2.2.2.2.2.2.2.2.2.2) (fun _ s => tj_Wd l hs RC AC RO VO AS s) (tj_ct (tj_as hs RO VO AC AS q) a) 0 (lv, qu, ai, st, fo, af, bd, tc, oc, ac, B0, RC0, AC0, RO0, VO0, AS0, LC, LI, AL, AN, PA, EX, BF, BN, DI, TO, HO, OR, TD, TV, TW, PF, PT, DN, VA) (Nat.zero_le _) h1 ?_ ?_
  · intro n s hs'
    refine tj_ple (fun z => absurd z (by omega)) (fun _ => tj_answer (u := s) hW hl hs' hq (by omega) (fun u3 h3 => ?_))
    obtain ⟨lv, qu, ai, st, fo, af, bd, tc, oc, ac, B, RC, AC, RO, VO, AS, LC, LI, AL, AN, PA, EX, BF, BN, DI, TO, HO, OR, TD, TV, TW, PF, PT, DN, VA⟩ := u3
    exact br_t (by rw [tj_kv_y hwo, tj_kth_y a5 ha rfl]) (H _ h3)
  · intro n k s hk hs' hw
    refine tj_ple (fun z => absurd z (by omega)) (fun _ => tj_answer (u := s) hW hl hs' hq (by omega) (fun u3 h3 => ?_))
    obtain ⟨lv, qu, ai, st, fo, af, bd, tc, oc, ac, B, RC, AC, RO, VO, AS, LC, LI, AL, AN, PA, EX, BF, BN, DI, TO, HO, OR, TD, TV, TW, PF, PT, DN, VA⟩ := u3
    exact br_c (fun _ => H _ h3) (fun _ => nm_r (nI_1 k) (hw _ h3))
theorem tj_level {post : Int32 → St1 → Prop} {hs : Nat → Nat → Prop} {l k : Nat} {u : St1} (hu : tj_Wd l hs RC AC RO VO AS u) (hk : k ≤ 2) (H : ∀ u', tj_Wd k hs RC AC RO VO AS u' → post 1 u') : wpX_level post u (nI k) := by
  obtain ⟨lv, qu, ai, st, fo, af, bd, tc, oc, ac, B0, RC0, AC0, RO0, VO0, AS0, LC, LI, AL, AN, PA, EX, BF, BN, DI, TO, HO, OR, TD, TV, TW, PF, PT, DN, VA⟩ := u
  obtain ⟨h1, h2, h3⟩ := hu
  unfold wpX_level
  exact br_f (nI_pos (by omega)) (br_t (nI_le (b := 2) hk (by decide)) (H _ ⟨rfl, h2, h3⟩))
theorem tj_holds138 {post : Int32 → St1 → Prop} {hs : Nat → Nat → Prop} {l q : Nat} {u : St1} (hW : tj_Wf hs RC AC RO VO AS) (hl : l ≤ 2) (hu : tj_Wd l hs RC AC RO VO AS u) (hq : q < 2) (H : ∀ u', tj_Wd l hs RC AC RO VO AS u' → post 1 u') : wL_holds_138 post (nI q) (nI (tj_qn AC q)) u.1 u.2.1 u.2.2.1 u.2.2.2.1 u.2.2.2.2.1 u.2.2.2.2.2.1 u.2.2.2.2.2.2.1 u.2.2.2.2.2.2.2.1 u.2.2.2.2.2.2.2.2.1 u.2.2.2.2.2.2.2.2.2.1 u.2.2.2.2.2.2.2.2.2.2.1 u.2.2.2.2.2.2.2.2.2.2.2.1 u.2.2.2.2.2.2.2.2.2.2.2.2.1 u.2.2.2.2.2.2.2.2.2.2.2.2.2.1 u.2.2.2.2.2.2.2.2.2.2.2.2.2.2.1 u.2.2.2.2.2.2.2.2.2.2.2.2.2.2.2.1 u.2.2.2.2.2.2.2.2.2.2.2.2.2.2.2.2.1 u.2.2.2.2.2.2.2.2.2.2.2.2.2.2.2.2.2.1 u.2.2.2.2.2.2.2.2.2.2.2.2.2.2.2.2.2.2.1 u.2.2.2.2.2.2.2.2.2.2.2.2.2.2.2.2.2.2.2.1 u.2.2.2.2.2.2.2.2.2.2.2.2.2.2.2.2.2.2.2.2.1 u.2.2.2.2.2.2.2.2.2.2.2.2.2.2.2.2.2.2.2.2.2.1 u.2.2.2.2.2.2.2.2.2.2.2.2.2.2.2.2.2.2.2.2.2.2.1 u.2.2.2.2.2.2.2.2.2.2.2.2.2.2.2.2.2.2.2.2.2.2.2.1 u.2.2.2.2.2.2.2.2.2.2.2.2.2.2.2.2.2.2.2.2.2.2.2.2.1 u.2.2.2.2.2.2.2.2.2.2.2.2.2.2.2.2.2.2.2.2.2.2.2.2.2.1 u.2.2.2.2.2.2.2.2.2.2.2.2.2.2.2.2.2.2.2.2.2.2.2.2.2.2.1 u.2.2.2.2.2.2.2.2.2.2.2.2.2.2.2.2.2.2.2.2.2.2.2.2.2.2.2.1 u.2.2.2.2.2.2.2.2.2.2.2.2.2.2.2.2.2.2.2.2.2.2.2.2.2.2.2.2.1 u.2.2.2.2.2.2.2.2.2.2.2.2.2.2.2.2.2.2.2.2.2.2.2.2.2.2.2.2.2.1 u.2.2.2.2.2.2.2.2.2.2.2.2.2.2.2.2.2.2.2.2.2.2.2.2.2.2.2.2.2.2.1 u.2.2.2.2.2.2.2.2.2.2.2.2.2.2.2.2.2.2.2.2.2.2.2.2.2.2.2.2.2.2.2.1 u.2.2.2.2.2.2.2.2.2.2.2.2.2.2.2.2.2.2.2.2.2.2.2.2.2.2.2.2.2.2.2.2.1 u.2.2.2.2.2.2.2.2.2.2.2.2.2.2.2.2.2.2.2.2.2.2.2.2.2.2.2.2.2.2.2.2.2.1 u.2.2.2.2.2.2.2.2.2.2.2.2.2.2.2.2.2.2.2.2.2.2.2.2.2.2.2.2.2.2.2.2.2.2 := by
  have wb := (tj_Wf_e hW hq).2.1
  unfold wL_holds_138
  refine tj_smallest (u := u) hW hl hu hq (fun z c u1 c1 c2 h1 => ?_) (fun z u1 h1 => ?_)
  · obtain ⟨lv, qu, ai, st, fo, af, bd, tc, oc, ac, B0, RC0, AC0, RO0, VO0, AS0, LC, LI, AL, AN, PA, EX, BF, BN, DI, TO, HO, OR, TD, TV, TW, PF, PT, DN, VA⟩ := u1
    obtain ⟨_, _, rfl, rfl, rfl, rfl, rfl, _⟩ := id h1
    exact tj_wholeT hW hq (fun _ => br_f (by decide) (br_f (nI_nlt (b := 1) c1 (by omega)) (br_f (nI_nlt c2 (by omega)) (H _ h1)))) (fun y => absurd z y)
  · obtain ⟨lv, qu, ai, st, fo, af, bd, tc, oc, ac, B0, RC0, AC0, RO0, VO0, AS0, LC, LI, AL, AN, PA, EX, BF, BN, DI, TO, HO, OR, TD, TV, TW, PF, PT, DN, VA⟩ := u1
    obtain ⟨_, _, rfl, rfl, rfl, rfl, rfl, _⟩ := id h1
    exact tj_wholeT hW hq (fun y => absurd y z) (fun _ => br_t rfl (br_t rfl (H _ h1)))
theorem tj_holds86 {post : Int32 → St1 → Prop} {hs : Nat → Nat → Prop} {l q : Nat} {z0 : Int32} {u : St1} (hW : tj_Wf hs RC AC RO VO AS) (hl : l ≤ 2) (hu : tj_Wd l hs RC AC RO VO AS u) (hq : q < 2)
    (hz : z0 = 0 ∨ (tj_wo VO AC AS q ∧ tj_wo VO AC AS (1 - q) ∧ ∀ x, tj_as hs RO VO AC AS q x → tj_as hs RO VO AC AS (1 - q) x)) (H : ∀ u', tj_Wd l hs RC AC RO VO AS u' → post 1 u') : ∃ fu, wL_holds_86 post (nI q) (nI (tj_qn AC q)) (tj_cv hs RO VO AC AS q) z0 fu 0 u.1 u.2.1 u.2.2.1 u.2.2.2.1 u.2.2.2.2.1 u.2.2.2.2.2.1 u.2.2.2.2.2.2.1 u.2.2.2.2.2.2.2.1 u.2.2.2.2.2.2.2.2.1 u.2.2.2.2.2.2.2.2.2.1 u.2.2.2.2.2.2.2.2.2.2.1 u.2.2.2.2.2.2.2.2.2.2.2.1 u.2.2.2.2.2.2.2.2.2.2.2.2.1 u.2.2.2.2.2.2.2.2.2.2.2.2.2.1 u.2.2.2.2.2.2.2.2.2.2.2.2.2.2.1 u.2.2.2.2.2.2.2.2.2.2.2.2.2.2.2.1 u.2.2.2.2.2.2.2.2.2.2.2.2.2.2.2.2.1 u.2.2.2.2.2.2.2.2.2.2.2.2.2.2.2.2.2.1 u.2.2.2.2.2.2.2.2.2.2.2.2.2.2.2.2.2.2.1 u.2.2.2.2.2.2.2.2.2.2.2.2.2.2.2.2.2.2.2.1 u.2.2.2.2.2.2.2.2.2.2.2.2.2.2.2.2.2.2.2.2.1 u.2.2.2.2.2.2.2.2.2.2.2.2.2.2.2.2.2.2.2.2.2.1 u.2.2.2.2.2.2.2.2.2.2.2.2.2.2.2.2.2.2.2.2.2.2.1 u.2.2.2.2.2.2.2.2.2.2.2.2.2.2.2.2.2.2.2.2.2.2.2.1 u.2.2.2.2.2.2.2.2.2.2.2.2.2.2.2.2.2.2.2.2.2.2.2.2.1 u.2.2.2.2.2.2.2.2.2.2.2.2.2.2.2.2.2.2.2.2.2.2.2.2.2.1 u.2.2.2.2.2.2.2.2.2.2.2.2.2.2.2.2.2.2.2.2.2.2.2.2.2.2.1 u.2.2.2.2.2.2.2.2.2.2.2.2.2.2.2.2.2.2.2.2.2.2.2.2.2.2.2.1 u.2.2.2.2.2.2.2.2.2.2.2.2.2.2.2.2.2.2.2.2.2.2.2.2.2.2.2.2.1 u.2.2.2.2.2.2.2.2.2.2.2.2.2.2.2.2.2.2.2.2.2.2.2.2.2.2.2.2.2.1 u.2.2.2.2.2.2.2.2.2.2.2.2.2.2.2.2.2.2.2.2.2.2.2.2.2.2.2.2.2.2.1 u.2.2.2.2.2.2.2.2.2.2.2.2.2.2.2.2.2.2.2.2.2.2.2.2.2.2.2.2.2.2.2.1 u.2.2.2.2.2.2.2.2.2.2.2.2.2.2.2.2.2.2.2.2.2.2.2.2.2.2.2.2.2.2.2.2.1 u.2.2.2.2.2.2.2.2.2.2.2.2.2.2.2.2.2.2.2.2.2.2.2.2.2.2.2.2.2.2.2.2.2.1 u.2.2.2.2.2.2.2.2.2.2.2.2.2.2.2.2.2.2.2.2.2.2.2.2.2.2.2.2.2.2.2.2.2.2 := by
  rcases Classical.em (tj_wo VO AC AS q) with w | w
  · rw [tj_cv_y w]
    have cl := tj_ct_le (tj_as hs RO VO AC AS q) 3125
    refine pk_loop (fun n k (s : St1) => wL_holds_86 post (nI q) (nI (tj_qn AC q)) (nI (tj_ct (tj_as hs RO VO AC AS q) 3125)) z0 n (nI k) s.1 s.2.1 s.2.2.1 s.2.2.2.1 s.2.2.2.2.1 s.2.2.2.2.2.1 s.2.2.2.2.2.2.1 s.2.2.2.2.2.2.2.1 s.2.2.2.2.2.2.2.2.1 s.2.2.2.2.2.2.2.2.2.1 s.2.2.2.2.2.2.2.2.2.2.1 s.2.2.2.2.2.2.2.2.2.2.2.1 s.2.2.2.2.2.2.2.2.2.2.2.2.1 s.2.2.2.2.2.2.2.2.2.2.2.2.2.1 s.2.2.2.2.2.2.2.2.2.2.2.2.2.2.1 s.2.2.2.2.2.2.2.2.2.2.2.2.2.2.2.1 s.2.2.2.2.2.2.2.2.2.2.2.2.2.2.2.2.1 s.2.2.2.2.2.2.2.2.2.2.2.2.2.2.2.2.2.1 s.2.2.2.2.2.2.2.2.2.2.2.2.2.2.2.2.2.2.1 s.2.2.2.2.2.2.2.2.2.2.2.2.2.2.2.2.2.2.2.1 s.2.2.2.2.2.2.2.2.2.2.2.2.2.2.2.2.2.2.2.2.1 s.2.2.2.2.2.2.2.2.2.2.2.2.2.2.2.2.2.2.2.2.2.1 s.2.2.2.2.2.2.2.2.2.2.2.2.2.2.2.2.2.2.2.2.2.2.1 s.2.2.2.2.2.2.2.2.2.2.2.2.2.2.2.2.2.2.2.2.2.2.2.1 s.2.2.2.2.2.2.2.2.2.2.2.2.2.2.2.2.2.2.2.2.2.2.2.2.1 s.2.2.2.2.2.2.2.2.2.2.2.2.2.2.2.2.2.2.2.2.2.2.2.2.2.1 s.2.2.2.2.2.2.2.2.2.2.2.2.2.2.2.2.2.2.2.2.2.2.2.2.2.2.1 s.2.2.2.2.2.2.2.2.2.2.2.2.2.2.2.2.2.2.2.2.2.2.2.2.2.2.2.1 s.2.2.2.2.2.2.2.2.2.2.2.2.2.2.2.2.2.2.2.2.2.2.2.2.2.2.2.2.1 s.2.2.2.2.2.2.2.2.2.2.2.2.2.2.2.2.2.2.2.2.2.2.2.2.2.2.2.2.2.1 s.2.2.2.2.2.2.2.2.2.2.2.2.2.2.2.2.2.2.2.2.2.2.2.2.2.2.2.2.2.2.1 s.2.2.2.2.2.2.2.2.2.2.2.2.2.2.2.2.2.2.2.2.2.2.2.2.2.2.2.2.2.2.2.1 s.2.2.2.2.2.2.2.2.2.2.2.2.2.2.2.2.2.2.2.2.2.2.2.2.2.2.2.2.2.2.2.2.1 s.2.2.2.2.2.2.2.2.2.2.2.2.2.2.2.2.2.2.2.2.2.2.2.2.2.2.2.2.2.2.2.2.2.1 s.2.2.2.2.2.2.2.2.2.2.2.2.2.2.2.2.2.2.2.2.2.2.2.2.2.2.2.2.2.2.2.2.2.2) (fun _ s => tj_Wd l hs RC AC RO VO AS s) (min (tj_ct (tj_as hs RO VO AC AS q) 3125) 4) 0 u (Nat.zero_le _) hu ?_ ?_
    · intro n s hs'
      have fin := tj_holds138 (post := post) hW hl hs' hq H
      exact tj_ple (fun _ => fin) (fun z => pk_le 4 (min (tj_ct (tj_as hs RO VO AC AS q) 3125) 4) (fun _ => fin) (fun z2 => absurd z (by omega)))
    · intro n k s hk hs' hw
      have hk' := hk
      refine tj_ple (fun z => absurd hk' (by omega)) (fun _ => pk_le 4 k (fun z => absurd hk' (by omega)) (fun _ => ?_))
      have e : (nI (tj_ct (tj_as hs RO VO AC AS q) 3125) - 1) - nI k = nI (tj_ct (tj_as hs RO VO AC AS q) 3125 - 1 - k) := by
        show nI (tj_ct (tj_as hs RO VO AC AS q) 3125) - nI 1 - nI k = _
        rw [pk_sub (by omega), pk_sub (by omega)]
      rw [e]
      refine tj_answer (u := s) hW hl hs' hq (by omega) (fun u3 h3 => ?_)
      obtain ⟨lv, qu, ai, st, fo, af, bd, tc, oc, ac, B0, RC0, AC0, RO0, VO0, AS0, LC, LI, AL, AN, PA, EX, BF, BN, DI, TO, HO, OR, TD, TV, TW, PF, PT, DN, VA⟩ := u3
      rcases hz with z | ⟨z1, z2, z3⟩
      · exact br_t z (nm_r (nI_1 k) (hw _ h3))
      · refine br_c (fun _ => nm_r (nI_1 k) (hw _ h3)) (fun _ => ?_)
        obtain ⟨a, a1, a2, a3⟩ := tj_ct_at (p := tj_as hs RO VO AC AS q) (n := 3125) (k := tj_ct (tj_as hs RO VO AC AS q) 3125 - 1 - k) (by omega)
        rw [tj_1m hq, tj_kv_y w, tj_kth_y a1 a2 a3]
        refine tj_isAnswer hW hl h3 (by omega) z2 (z3 a a2) (fun u4 h4 => ?_)
        obtain ⟨lv, qu, ai, st, fo, af, bd, tc, oc, ac, B, RC, AC, RO, VO, AS, LC, LI, AL, AN, PA, EX, BF, BN, DI, TO, HO, OR, TD, TV, TW, PF, PT, DN, VA⟩ := u4
        exact br_f (by decide) (nm_r (nI_1 k) (hw _ h4))
  · rw [tj_cv_n w]
    exact ⟨1, br_t (by decide) (tj_holds138 (post := post) hW hl hu hq H)⟩
theorem tj_holds {post : Int32 → St1 → Prop} {hs : Nat → Nat → Prop} {q : Nat} {u : St1} (hW : tj_Wf hs RC AC RO VO AS) (hu : tj_Wd 2 hs RC AC RO VO AS u) (hq : q < 2) (H : ∀ u', tj_Wd 2 hs RC AC RO VO AS u' → post 1 u') : wpL_holds post u (nI q) (nI (tj_qn AC q)) := by
  obtain ⟨lv, qu, ai, st, fo, af, bd, tc, oc, ac, B0, RC0, AC0, RO0, VO0, AS0, LC, LI, AL, AN, PA, EX, BF, BN, DI, TO, HO, OR, TD, TV, TW, PF, PT, DN, VA⟩ := u
  unfold wpL_holds
  refine tj_sum hW (Nat.le_refl 2) hu hq (fun u1 h1 => ?_)
  obtain ⟨lv, qu, ai, st, fo, af, bd, tc, oc, ac, B0, RC0, AC0, RO0, VO0, AS0, LC, LI, AL, AN, PA, EX, BF, BN, DI, TO, HO, OR, TD, TV, TW, PF, PT, DN, VA⟩ := u1
  refine pk_loop (fun n k (s : St1) => wL_holds_9 post (nI q) (nI (tj_qn AC q)) (tj_sv hs RO VO AC AS q) n (nI k) s.1 s.2.1 s.2.2.1 s.2.2.2.1 s.2.2.2.2.1 s.2.2.2.2.2.1 s.2.2.2.2.2.2.1 s.2.2.2.2.2.2.2.1 s.2.2.2.2.2.2.2.2.1 s.2.2.2.2.2.2.2.2.2.1 s.2.2.2.2.2.2.2.2.2.2.1 s.2.2.2.2.2.2.2.2.2.2.2.1 s.2.2.2.2.2.2.2.2.2.2.2.2.1 s.2.2.2.2.2.2.2.2.2.2.2.2.2.1 s.2.2.2.2.2.2.2.2.2.2.2.2.2.2.1 s.2.2.2.2.2.2.2.2.2.2.2.2.2.2.2.1 s.2.2.2.2.2.2.2.2.2.2.2.2.2.2.2.2.1 s.2.2.2.2.2.2.2.2.2.2.2.2.2.2.2.2.2.1 s.2.2.2.2.2.2.2.2.2.2.2.2.2.2.2.2.2.2.1 s.2.2.2.2.2.2.2.2.2.2.2.2.2.2.2.2.2.2.2.1 s.2.2.2.2.2.2.2.2.2.2.2.2.2.2.2.2.2.2.2.2.1 s.2.2.2.2.2.2.2.2.2.2.2.2.2.2.2.2.2.2.2.2.2.1 s.2.2.2.2.2.2.2.2.2.2.2.2.2.2.2.2.2.2.2.2.2.2.1 s.2.2.2.2.2.2.2.2.2.2.2.2.2.2.2.2.2.2.2.2.2.2.2.1 s.2.2.2.2.2.2.2.2.2.2.2.2.2.2.2.2.2.2.2.2.2.2.2.2.1 s.2.2.2.2.2.2.2.2.2.2.2.2.2.2.2.2.2.2.2.2.2.2.2.2.2.1 s.2.2.2.2.2.2.2.2.2.2.2.2.2.2.2.2.2.2.2.2.2.2.2.2.2.2.1 s.2.2.2.2.2.2.2.2.2.2.2.2.2.2.2.2.2.2.2.2.2.2.2.2.2.2.2.1 s.2.2.2.2.2.2.2.2.2.2.2.2.2.2.2.2.2.2.2.2.2.2.2.2.2.2.2.2.1 s.2.2.2.2.2.2.2.2.2.2.2.2.2.2.2.2.2.2.2.2.2.2.2.2.2.2.2.2.2.1 s.2.2.2.2.2.2.2.2.2.2.2.2.2.2.2.2.2.2.2.2.2.2.2.2.2.2.2.2.2.2.1 s.2.2.2.2.2.2.2.2.2.2.2.2.2.2.2.2.2.2.2.2.2.2.2.2.2.2.2.2.2.2.2.1 s.2.2.2.2.2.2.2.2.2.2.2.2.2.2.2.2.2.2.2.2.2.2.2.2.2.2.2.2.2.2.2.2.1 s.2.2.2.2.2.2.2.2.2.2.2.2.2.2.2.2.2.2.2.2.2.2.2.2.2.2.2.2.2.2.2.2.2.1 s.2.2.2.2.2.2.2.2.2.2.2.2.2.2.2.2.2.2.2.2.2.2.2.2.2.2.2.2.2.2.2.2.2.2) (fun k s => ∃ l, l ≤ 2 ∧ (k = 3 → l = 2) ∧ tj_Wd l hs RC AC RO VO AS s) 3 0 (lv, qu, ai, st, fo, af, bd, tc, oc, ac, B0, RC0, AC0, RO0, VO0, AS0, LC, LI, AL, AN, PA, EX, BF, BN, DI, TO, HO, OR, TD, TV, TW, PF, PT, DN, VA) (by omega) ⟨2, Nat.le_refl 2, fun _ => rfl, h1⟩ ?_ ?_
  · rintro n s ⟨l, hl, e, hs'⟩
    have e2 := e rfl
    subst e2
    refine pk_le 3 3 (fun _ => ?_) (fun z => absurd z (by omega))
    refine tj_count (u := s) hW hl hs' hq (fun u2 h2 => ?_)
    obtain ⟨lv, qu, ai, st, fo, af, bd, tc, oc, ac, B0, RC0, AC0, RO0, VO0, AS0, LC, LI, AL, AN, PA, EX, BF, BN, DI, TO, HO, OR, TD, TV, TW, PF, PT, DN, VA⟩ := u2
    refine tj_within hW hl h2 hq (fun z1 z2 z3 u3 h3 => ?_) (fun r u3 hr h3 => ?_)
    · obtain ⟨lv, qu, ai, st, fo, af, bd, tc, oc, ac, B0, RC0, AC0, RO0, VO0, AS0, LC, LI, AL, AN, PA, EX, BF, BN, DI, TO, HO, OR, TD, TV, TW, PF, PT, DN, VA⟩ := u3
      refine br_t rfl ?_
      unfold wL_holds_62
      refine br_f (by decide) ?_
      rw [tj_1m hq]
      refine tj_count hW hl h3 (by omega) (fun u4 h4 => ?_)
      have fin := tj_holds86 (post := post) (z0 := 1) hW hl h4 hq (Or.inr ⟨z1, z2, z3⟩) H
      obtain ⟨lv, qu, ai, st, fo, af, bd, tc, oc, ac, B0, RC0, AC0, RO0, VO0, AS0, LC, LI, AL, AN, PA, EX, BF, BN, DI, TO, HO, OR, TD, TV, TW, PF, PT, DN, VA⟩ := u4
      refine br_t ?_ fin
      have cl := tj_ct_le (tj_as hs RO VO AC AS (1 - q)) 3125
      rw [tj_cv_y z1, tj_cv_y z2]
      exact nI_le (tj_ct_mono (fun a _ => z3 a)) (by omega)
    · have fin := tj_holds86 (post := post) (z0 := 0) hW hl h3 hq (Or.inl rfl) H
      obtain ⟨lv, qu, ai, st, fo, af, bd, tc, oc, ac, B0, RC0, AC0, RO0, VO0, AS0, LC, LI, AL, AN, PA, EX, BF, BN, DI, TO, HO, OR, TD, TV, TW, PF, PT, DN, VA⟩ := u3
      refine br_f hr ?_
      unfold wL_holds_62
      exact br_t rfl fin
  · rintro n k s hk ⟨l, hl, e, hs'⟩ hw
    refine pk_le 3 k (fun z => absurd z (by omega)) (fun _ => tj_level (u := s) hs' (by omega) (fun u2 h2 => ?_))
    obtain ⟨lv, qu, ai, st, fo, af, bd, tc, oc, ac, B0, RC0, AC0, RO0, VO0, AS0, LC, LI, AL, AN, PA, EX, BF, BN, DI, TO, HO, OR, TD, TV, TW, PF, PT, DN, VA⟩ := u2
    refine br_f (by decide) (tj_sum hW (by omega) h2 hq (fun u3 h3 => ?_))
    obtain ⟨lv, qu, ai, st, fo, af, bd, tc, oc, ac, B, RC, AC, RO, VO, AS, LC, LI, AL, AN, PA, EX, BF, BN, DI, TO, HO, OR, TD, TV, TW, PF, PT, DN, VA⟩ := u3
    exact br_t rfl (nm_r (nI_1 k) (hw _ ⟨k, by omega, fun z => by omega, h3⟩))
end
end
section
/-! ===== calls that change the relations and the questions ===== -/
section
variable {lv qu ai st fo af bd tc oc ac : Int32} {B AN PA EX : Nat → Int64} {RC AC RO VO AS LC LI AL BF BN DI TO HO OR TD TV TW PF PT DN VA : Nat → Int32}
theorem tj_has_clr {f r row : Nat} (hr : r < 3) (hrow : row < tj_rw r) (r' row' : Nat) : tj_has (vp_updL B (f + 2 * r + row / 64) (B (f + 2 * r + row / 64) &&& (((1 : Int64) <<< ((nI row &&& 63).toInt64 &&& 63)) ^^^ (-1)))) f r' row' ↔ tj_has B f r' row' ∧ ¬ (r' = r ∧ row' = row) := by
  have rb := tj_rw_b r
  have rb' := tj_rw_b r'
  unfold tj_has
  constructor
  · rintro ⟨a, b, c⟩
    by_cases e : f + 2 * r' + row' / 64 = f + 2 * r + row / 64
    · rw [e, pk_uLs, tj_bl_clr (by omega) _ (by omega), Bool.and_eq_true, Bool.not_eq_true', decide_eq_false_iff_not] at c
      exact ⟨⟨a, b, by rw [e]; exact c.1⟩, fun z => c.2 (by rw [z.2])⟩
    · rw [pk_uLn e] at c
      exact ⟨⟨a, b, c⟩, fun z => e (by rw [z.1, z.2])⟩
  · rintro ⟨⟨a, b, c⟩, d⟩
    refine ⟨a, b, ?_⟩
    by_cases e : f + 2 * r' + row' / 64 = f + 2 * r + row / 64
    · rw [e] at c ⊢
      rw [pk_uLs, tj_bl_clr (by omega) _ (by omega), c, Bool.true_and, Bool.not_eq_true', decide_eq_false_iff_not]
      intro z
      exact d ⟨by omega, by omega⟩
    · rw [pk_uLn e]; exact c
theorem tj_add {post : Int32 → St1 → Prop} {hs : Nat → Nat → Prop} {l r row : Nat} {u : St1} (hW : tj_Wf hs RC AC RO VO AS) (hu : tj_Wd l hs RC AC RO VO AS u) (hr : r < 3) (hrow : row < tj_rw r)
    (H : ∀ (x : Int32) (hs' : Nat → Nat → Prop) (RC' : Nat → Int32) u', tj_Wf hs' RC' AC RO VO AS → tj_Wd l hs' RC' AC RO VO AS u' → post x u') : wpX_add post u (nI r) (nI row) := by
  obtain ⟨lv, qu, ai, st, fo, af, bd, tc, oc, ac, B0, RC0, AC0, RO0, VO0, AS0, LC, LI, AL, AN, PA, EX, BF, BN, DI, TO, HO, OR, TD, TV, TW, PF, PT, DN, VA⟩ := u
  have hu' := hu
  obtain ⟨h1, h2, rfl, rfl, rfl, rfl, rfl, hD⟩ := hu'
  subst h2
  have rb := tj_rw_b r
  obtain ⟨c16, ec⟩ := hW.2.2 r hr
  unfold wpX_add
  refine tj_isRow hr (by omega) (fun _ => br_f (by decide) (tj_hasRow (f := 0) (by decide) hr hrow (fun y => br_f (by decide) (H 0 _ _ _ hW hu)) (fun y => br_t rfl (And.intro (pk_in r 3 hr) ?_)))) (fun z => absurd hrow z)
  rw [nI_clamp (show r < 2 ^ 31 by omega), ec]
  refine pk_lt (tj_ct (tj_has B0 0 r) 125) 16 (fun z => tj_setRow (f := 0) (by decide) hr hrow (And.intro (pk_in r 3 hr) (And.intro (pk_in r 3 hr) ?_))) (fun z => H (-2) _ _ _ hW hu)
  rw [ec, nI_1, tj_b8 _ (show tj_ct (tj_has B0 0 r) 125 + 1 < 128 by omega)]
  refine nm_e (H 1 (tj_has (vp_updL B0 (0 + 2 * r + row / 64) (B0 (0 + 2 * r + row / 64) ||| ((1 : Int64) <<< ((nI row &&& 63).toInt64 &&& 63)))) 0) _ _ ⟨hW.1, hW.2.1, fun r' hr' => ?_⟩ ⟨h1, rfl, rfl, rfl, rfl, rfl, rfl, hD⟩)
  by_cases e : r' = r
  · subst e
    have rm := tj_ct_rm (p := tj_has (vp_updL B0 (0 + 2 * r' + row / 64) (B0 (0 + 2 * r' + row / 64) ||| ((1 : Int64) <<< ((nI row &&& 63).toInt64 &&& 63)))) 0 r') (show row < 125 by omega) ((tj_has_put hr hrow r' row).mpr (Or.inr ⟨rfl, rfl⟩))
    have cg : tj_ct (fun x => tj_has (vp_updL B0 (0 + 2 * r' + row / 64) (B0 (0 + 2 * r' + row / 64) ||| ((1 : Int64) <<< ((nI row &&& 63).toInt64 &&& 63)))) 0 r' x ∧ x ≠ row) 125 = tj_ct (tj_has B0 0 r') 125 := by
      refine tj_ct_congr (fun x _ => ?_)
      rw [tj_has_put hr hrow]
      constructor
      · rintro ⟨a | a, b⟩
        · exact a
        · exact absurd a.2 b
      · intro a
        exact ⟨Or.inl a, fun b => y (by rw [← b]; exact a)⟩
    rw [cg] at rm
    rw [← rm]
    exact ⟨by omega, pk_us⟩
  · have cg : tj_has (vp_updL B0 (0 + 2 * r + row / 64) (B0 (0 + 2 * r + row / 64) ||| ((1 : Int64) <<< ((nI row &&& 63).toInt64 &&& 63)))) 0 r' = tj_has B0 0 r' := by
      funext x
      apply propext
      rw [tj_has_put hr hrow]
      exact ⟨fun z => z.elim id (fun z => absurd z.1 e), Or.inl⟩
    rw [cg, pk_un e]
    exact hW.2.2 r' hr'
theorem tj_remove {post : Int32 → St1 → Prop} {hs : Nat → Nat → Prop} {l r row : Nat} {u : St1} (hW : tj_Wf hs RC AC RO VO AS) (hu : tj_Wd l hs RC AC RO VO AS u) (hr : r < 3) (hrow : row < tj_rw r)
    (H : ∀ (x : Int32) (hs' : Nat → Nat → Prop) (RC' : Nat → Int32) u', tj_Wf hs' RC' AC RO VO AS → tj_Wd l hs' RC' AC RO VO AS u' → post x u') : wpX_remove post u (nI r) (nI row) := by
  obtain ⟨lv, qu, ai, st, fo, af, bd, tc, oc, ac, B0, RC0, AC0, RO0, VO0, AS0, LC, LI, AL, AN, PA, EX, BF, BN, DI, TO, HO, OR, TD, TV, TW, PF, PT, DN, VA⟩ := u
  have hu' := hu
  obtain ⟨h1, h2, rfl, rfl, rfl, rfl, rfl, hD⟩ := hu'
  subst h2
  have rb := tj_rw_b r
  obtain ⟨c16, ec⟩ := hW.2.2 r hr
  unfold wpX_remove
  refine tj_isRow hr (by omega) (fun _ => br_f (by decide) (tj_hasRow (f := 0) (by decide) hr hrow (fun y => br_f (by decide) ?_) (fun y => br_t rfl (H 0 _ _ _ hW hu)))) (fun z => absurd hrow z)
  have ei : (2 * nI r) + (nI row >>> ((6 : Int32) &&& 31)) = nI (0 + 2 * r + row / 64) := by
    rw [tj_w6 (by omega), show (2 : Int32) = nI 2 from rfl, pk_mul, nI_add, Nat.zero_add]
  have rm := tj_ct_rm (p := tj_has B0 0 r) (show row < 125 by omega) y
  rw [ei, nI_clamp (show 0 + 2 * r + row / 64 < 2 ^ 31 by omega), nI_clamp (show r < 2 ^ 31 by omega), ec, ← rm, nI_pred, tj_b8 _ (show tj_ct (fun x => tj_has B0 0 r x ∧ x ≠ row) 125 < 128 by omega)]
  have p12 := vp_in_nI (show 0 + 2 * r + row / 64 < 12 by omega) (by omega)
  refine And.intro p12 (And.intro p12 (nm_e (And.intro (pk_in r 3 hr) (And.intro (pk_in r 3 hr) (nm_e (H 1 (tj_has (vp_updL B0 (0 + 2 * r + row / 64) (B0 (0 + 2 * r + row / 64) &&& (((1 : Int64) <<< ((nI row &&& 63).toInt64 &&& 63)) ^^^ (-1)))) 0) _ _ ⟨hW.1, hW.2.1, fun r' hr' => ?_⟩ ⟨h1, rfl, rfl, rfl, rfl, rfl, rfl, hD⟩))))))
  by_cases e : r' = r
  · subst e
    have cg : tj_ct (tj_has (vp_updL B0 (0 + 2 * r' + row / 64) (B0 (0 + 2 * r' + row / 64) &&& (((1 : Int64) <<< ((nI row &&& 63).toInt64 &&& 63)) ^^^ (-1)))) 0 r') 125 = tj_ct (fun x => tj_has B0 0 r' x ∧ x ≠ row) 125 := by
      refine tj_ct_congr (fun x _ => ?_)
      rw [tj_has_clr hr hrow]
      exact ⟨fun a => ⟨a.1, fun b => a.2 ⟨rfl, b⟩⟩, fun a => ⟨a.1, fun b => a.2 b.2⟩⟩
    rw [cg]
    exact ⟨by omega, pk_us⟩
  · have cg : tj_has (vp_updL B0 (0 + 2 * r + row / 64) (B0 (0 + 2 * r + row / 64) &&& (((1 : Int64) <<< ((nI row &&& 63).toInt64 &&& 63)) ^^^ (-1)))) 0 r' = tj_has B0 0 r' := by
      funext x
      apply propext
      rw [tj_has_clr hr hrow]
      exact ⟨fun z => z.1, fun z => ⟨z, fun b => e b.1⟩⟩
    rw [cg, pk_un e]
    exact hW.2.2 r' hr'
theorem tj_ask {post : Int32 → St1 → Prop} {hs : Nat → Nat → Prop} {l q w : Nat} {u : St1} (hW : tj_Wf hs RC AC RO VO AS) (hu : tj_Wd l hs RC AC RO VO AS u) (hq : q < 2) (hw : w < 32)
    (H : ∀ u', tj_Wf hs RC AC RO VO (upd AS q (nI w)) → tj_Wd l hs RC AC RO VO (upd AS q (nI w)) u' → post 1 u') : wpX_ask post u (nI q) (nI w) := by
  obtain ⟨lv, qu, ai, st, fo, af, bd, tc, oc, ac, B0, RC0, AC0, RO0, VO0, AS0, LC, LI, AL, AN, PA, EX, BF, BN, DI, TO, HO, OR, TD, TV, TW, PF, PT, DN, VA⟩ := u
  obtain ⟨h1, h2, rfl, rfl, rfl, rfl, rfl, hD⟩ := hu
  unfold wpX_ask
  refine tj_isQuestion hq (br_f (by decide) (br_f (nI_pos (by omega)) (br_t (nI_le (b := 31) (by omega) (by decide)) (And.intro (pk_in q 2 hq) (nm_r (e' := upd AS0 q (nI w)) (by rw [nI_clamp (by omega), tj_b8 w (by omega)]) (H _ ⟨hW.1, fun q' hq' => ?_, hW.2.2⟩ ⟨h1, h2, rfl, rfl, rfl, rfl, rfl, hD⟩))))))
  by_cases e : q' = q
  · rw [e, pk_us]; exact ⟨w, hw, rfl⟩
  · rw [pk_un e]; exact hW.2.1 q' hq'
/-- an atom of one question is one of another -/
def tj_sa (RO VO RO' VO' : Nat → Int32) (t t' : Nat) : Prop := RO' t = RO t' ∧ ∀ c, c < 3 → VO' (3 * t + c) = VO (3 * t' + c)
theorem tj_sa_ok {RO' VO' : Nat → Int32} {t t' : Nat} (h : tj_sa RO VO RO' VO' t t') (ok : tj_aok RO VO t') : tj_aok RO' VO' t := by
  have er : tj_rel RO' t = tj_rel RO t' := by unfold tj_rel; rw [h.1]
  have cb := tj_cols_b (tj_rel RO t')
  unfold tj_aok
  rw [er, h.1]
  exact ⟨ok.1, fun c hc => by rw [h.2 c (by omega)]; exact ok.2.1 c hc, fun c hc hc3 => by rw [h.2 c hc3]; exact ok.2.2 c hc hc3⟩
theorem tj_sa_mt {RO' VO' : Nat → Int32} {t t' row : Nat} {s : Nat → Nat} (h : tj_sa RO VO RO' VO' t t') (hm : tj_mt RO VO t' row s) : tj_mt RO' VO' t row s := by
  have er : tj_rel RO' t = tj_rel RO t' := by unfold tj_rel; rw [h.1]
  have cb := tj_cols_b (tj_rel RO t')
  intro c hc
  rw [er] at hc ⊢
  have ev : tj_var VO' t c = tj_var VO t' c := by unfold tj_var; rw [h.2 c (by omega)]
  rw [ev]
  exact hm c hc
theorem tj_qm_bit {i q : Nat} : (tj_qm AC q).testBit i = true ↔ i < tj_qn AC q := by unfold tj_qm; rw [tj_pm1, decide_eq_true_iff]
theorem tj_cut {post : Int32 → St1 → Prop} {hs : Nat → Nat → Prop} {l q i : Nat} {u : St1} (hW : tj_Wf hs RC AC RO VO AS) (hu : tj_Wd l hs RC AC RO VO AS u) (hq : q < 2) (hi : i < tj_qn AC q)
    (H : ∀ (AC' RO' VO' : Nat → Int32) u', tj_qn AC' q + 1 = tj_qn AC q → (∀ q', q' ≠ q → tj_qn AC' q' = tj_qn AC q') → (∀ x, tj_as hs RO VO AC AS q x → tj_as hs RO' VO' AC' AS q x) → tj_Wf hs RC AC' RO' VO' AS → tj_Wd l hs RC AC' RO' VO' AS u' → post (nI (tj_qn AC' q)) u') : wpX_cut post u (nI q) (nI i) := by
  obtain ⟨wa, wb, wc, wd, we, wf⟩ := tj_Wf_e hW hq
  obtain ⟨lv, qu, ai, st, fo, af, bd, tc, oc, ac, B0, RC0, AC0, RO0, VO0, AS0, LC, LI, AL, AN, PA, EX, BF, BN, DI, TO, HO, OR, TD, TV, TW, PF, PT, DN, VA⟩ := u
  obtain ⟨h1, h2, rfl, rfl, rfl, rfl, rfl, hD⟩ := hu
  obtain ⟨n, en⟩ : ∃ n, tj_qn AC0 q = n + 1 := ⟨tj_qn AC0 q - 1, by omega⟩
  have cq : (nI q).toNatClampNeg = q := nI_clamp (by omega)
  have pq := pk_in (x := nI q) q 2 hq
  unfold wpX_cut
  refine tj_isQuestion hq (br_f (by decide) (br_f (nI_pos (by omega)) (And.intro pq ?_)))
  rw [cq, wa, en, nI_pred, tj_b8 n (by omega)]
  refine br_t (nI_lt (by omega) (by omega)) (And.intro pq (And.intro pq (nm_e (nm_r (tj_i4 q i) ?_))))
  have qn' : tj_qn (upd AC0 q (nI n)) q = n := by unfold tj_qn; rw [pk_us, nI_clamp (by omega)]
  have qo : ∀ q', q' ≠ q → tj_qn (upd AC0 q (nI n)) q' = tj_qn AC0 q' := fun q' hq' => by unfold tj_qn; rw [pk_un hq']
  refine pk_loop (fun m' t (s : (Nat → Int32) × (Nat → Int32)) => wX_cut_41 post (nI q) lv qu ai st fo af bd tc oc ac m' (nI t) B0 RC0 (upd AC0 q (nI n)) s.1 s.2 AS0 LC LI AL AN PA EX BF BN DI TO HO OR TD TV TW PF PT DN VA)
    (fun t s => 4 * q + i ≤ t ∧ (∀ x, 4 * q + i ≤ x → x < t → tj_sa RO0 VO0 s.1 s.2 x (x + 1)) ∧ (∀ x, x < 4 * q + i ∨ t ≤ x → tj_sa RO0 VO0 s.1 s.2 x x)) (4 * q + n) (4 * q + i) (RO0, VO0) (by omega) ⟨Nat.le_refl _, fun x h1 h2 => absurd h1 (by omega), fun x _ => ⟨rfl, fun _ _ => rfl⟩⟩ ?_ ?_
  · rintro m' ⟨ro, vo⟩ ⟨s0, s1, s2⟩
    dsimp only at s1 s2 ⊢
    refine And.intro pq ?_
    rw [cq, pk_us, tj_i4]
    -- where each atom comes from
    have src : ∀ q', q' < 2 → ∀ j, j < 4 → (tj_qm (upd AC0 q (nI n)) q').testBit j = true → ∃ j', j' < 4 ∧ (tj_qm AC0 q').testBit j' = true ∧ tj_sa RO0 VO0 ro vo (4 * q' + j) (4 * q' + j') := by
      intro q' hq' j hj mj
      rw [tj_qm_bit] at mj
      by_cases e : q' = q
      · subst e
        rw [qn'] at mj
        by_cases hji : j < i
        · exact ⟨j, hj, by rw [tj_qm_bit]; omega, s2 _ (by omega)⟩
        · exact ⟨j + 1, by omega, by rw [tj_qm_bit]; omega, s1 (4 * q' + j) (by omega) (by omega)⟩
      · rw [qo q' e] at mj
        refine ⟨j, hj, by rw [tj_qm_bit]; exact mj, s2 _ ?_⟩
        omega
    refine tj_ple (fun _ => And.intro pq ?_) (fun z => absurd z (by omega))
    have fin := H (upd AC0 q (nI n)) ro vo (lv, qu, ai, st, fo, af, bd, tc, oc, ac, B0, RC0, upd AC0 q (nI n), ro, vo, AS0, LC, LI, AL, AN, PA, EX, BF, BN, DI, TO, HO, OR, TD, TV, TW, PF, PT, DN, VA) (by rw [qn', en]) qo ?_ ?_ ⟨h1, h2, rfl, rfl, rfl, rfl, rfl, hD⟩
    · rw [qn'] at fin
      exact fin
    · rintro x ⟨s, a1, a2, a3⟩
      refine ⟨s, a1, fun j hj mj => ?_, a3⟩
      obtain ⟨j', b1, b2, b3⟩ := src q hq j hj mj
      obtain ⟨row, c1, c2⟩ := a2 j' b1 b2
      have er : tj_rel ro (4 * q + j) = tj_rel RO0 (4 * q + j') := by unfold tj_rel; rw [b3.1]
      exact ⟨row, by rw [er]; exact c1, tj_sa_mt b3 c2⟩
    · refine ⟨fun q' hq' => ⟨?_, fun j hj mj => ?_⟩, hW.2.1, hW.2.2⟩
      · by_cases e : q' = q
        · rw [e, pk_us]; exact ⟨n, by omega, rfl⟩
        · rw [pk_un e]; exact (hW.1 q' hq').1
      · obtain ⟨j', b1, b2, b3⟩ := src q' hq' j hj mj
        exact tj_sa_ok b3 ((hW.1 q' hq').2 j' b1 b2)
  · rintro m' t ⟨ro, vo⟩ ht ⟨s0, s1, s2⟩ hw
    dsimp only at s1 s2 hw ⊢
    refine And.intro pq ?_
    rw [cq, pk_us, tj_i4]
    have t7 : t + 1 < 8 := by omega
    -- the atom behind t
    have okt : tj_aok RO0 VO0 (t + 1) := by
      have := (hW.1 q hq).2 (t + 1 - 4 * q) (by omega) (by rw [tj_qm_bit]; omega)
      rw [show 4 * q + (t + 1 - 4 * q) = t + 1 by omega] at this
      exact this
    obtain ⟨r1, r2⟩ := tj_aok_r okt
    have sat := s2 (t + 1) (by omega)
    refine tj_ple (fun z => absurd z (by omega)) (fun _ => ?_)
    rw [nI_1, nI_clamp (show t + 1 < 2 ^ 31 by omega), nI_clamp (show t < 2 ^ 31 by omega), sat.1, r1, tj_nar (by omega)]
    refine And.intro (vp_in_nI t7 (by omega)) (And.intro (vp_in_nI (by omega) (by omega)) (nm_e ?_))
    have vn : ∀ c, c < 3 → vp_nar .byte (VO0 (3 * (t + 1) + c)) = VO0 (3 * (t + 1) + c) := by
      intro c hc
      by_cases hcc : c < tj_cols (tj_rel RO0 (t + 1))
      · obtain ⟨e1, e2⟩ := tj_aok_v okt hcc
        rw [e1]; exact tj_nar (by omega)
      · rw [okt.2.2 c (by omega) hc]; exact tj_narm
    refine pk_loop (fun m'' c s => wX_cut_72 post (wX_cut_41 post (nI q) lv qu ai st fo af bd tc oc ac m') (nI q) (nI t) lv qu ai st fo af bd tc oc ac m'' (nI c) B0 RC0 (upd AC0 q (nI n)) (upd ro t (nI (tj_rel RO0 (t + 1)))) s AS0 LC LI AL AN PA EX BF BN DI TO HO OR TD TV TW PF PT DN VA)
      (fun c s => (∀ c', c' < c → s (3 * t + c') = VO0 (3 * (t + 1) + c')) ∧ ∀ z, (z < 3 * t ∨ 3 * t + c ≤ z) → s z = vo z) 3 0 vo (by omega) ⟨fun c' hc' => absurd hc' (by omega), fun _ _ => rfl⟩ ?_ ?_
    · rintro m'' s ⟨v1, v2⟩
      refine pk_le 3 3 (fun _ => nm_r (nI_1 t) (hw (upd ro t (nI (tj_rel RO0 (t + 1))), s) ⟨by omega, fun x x1 x2 => ?_, fun x hx => ?_⟩)) (fun z => absurd z (by omega))
      · dsimp only
        by_cases e : x = t
        · subst e
          exact ⟨by rw [pk_us, r1], fun c hc => v1 c hc⟩
        · have := s1 x x1 (by omega)
          exact ⟨by rw [pk_un e]; exact this.1, fun c hc => by rw [v2 _ (by omega)]; exact this.2 c hc⟩
      · dsimp only
        have := s2 x (by omega)
        exact ⟨by rw [pk_un (by omega)]; exact this.1, fun c hc => by rw [v2 _ (by omega)]; exact this.2 c hc⟩
    · rintro m'' c s hc ⟨v1, v2⟩ hw'
      have e1 : ((3 * nI t) + 3) + nI c = nI (3 * (t + 1) + c) := by
        show nI 3 * nI t + nI 3 + nI c = _
        rw [pk_mul, nI_add, nI_add]
        rfl
      refine pk_le 3 c (fun z => absurd z (by omega)) (fun _ => ?_)
      have sv : s (3 * (t + 1) + c) = VO0 (3 * (t + 1) + c) := by rw [v2 _ (by omega)]; exact sat.2 c hc
      rw [e1, tj_i3, nI_clamp (show 3 * (t + 1) + c < 2 ^ 31 by omega), nI_clamp (show 3 * t + c < 2 ^ 31 by omega), sv, vn c hc]
      refine And.intro (vp_in_nI (by omega) (by omega)) (And.intro (vp_in_nI (by omega) (by omega)) (nm_e (nm_r (nI_1 c) (hw' _ ⟨fun c' hc' => ?_, fun z hz => ?_⟩))))
      · by_cases e : c' = c
        · rw [e, pk_us]
        · rw [pk_un (by omega)]; exact v1 c' (by omega)
      · rw [pk_un (by omega)]
        exact v2 z (by omega)
theorem tj_atom {post : Int32 → St1 → Prop} {hs : Nat → Nat → Prop} {l q r vs : Nat} {u : St1} (hW : tj_Wf hs RC AC RO VO AS) (hu : tj_Wd l hs RC AC RO VO AS u) (hq : q < 2) (hr : r < 3) (hvs : vs < tj_rw r)
    (H1 : ∀ (AC' RO' VO' : Nat → Int32) u', tj_qn AC' q = tj_qn AC q + 1 → (∀ q', q' ≠ q → tj_qn AC' q' = tj_qn AC q') → tj_Wf hs RC AC' RO' VO' AS → tj_Wd l hs RC AC' RO' VO' AS u' → post (nI (tj_qn AC' q)) u') (H2 : ∀ u', tj_Wd l hs RC AC RO VO AS u' → post (-2) u') : wpX_atom post u (nI q) (nI r) (nI vs) := by
  obtain ⟨wa, wb, wc, wd, we, wf⟩ := tj_Wf_e hW hq
  obtain ⟨lv, qu, ai, st, fo, af, bd, tc, oc, ac, B0, RC0, AC0, RO0, VO0, AS0, LC, LI, AL, AN, PA, EX, BF, BN, DI, TO, HO, OR, TD, TV, TW, PF, PT, DN, VA⟩ := u
  have hu' := hu
  obtain ⟨h1, h2, rfl, rfl, rfl, rfl, rfl, hD⟩ := hu'
  have rb := tj_rw_b r
  have cb := tj_cols_b r
  have cq : (nI q).toNatClampNeg = q := nI_clamp (by omega)
  have pq := pk_in (x := nI q) q 2 hq
  unfold wpX_atom
  refine tj_isQuestion hq (br_f (by decide) (tj_isRow hr (by omega) (fun _ => br_f (by decide) (And.intro pq ?_)) (fun z => absurd hvs z)))
  rw [cq, wa]
  generalize en : tj_qn AC0 q = n at *
  refine pk_lt n 4 (fun n4 => And.intro pq (nm_r (tj_i4 q n) (And.intro (pk_in (4 * q + n) 8 (by omega)) (nm_r (e' := upd RO0 (4 * q + n) (nI r)) (by rw [nI_clamp (by omega), tj_b8 r (by omega)]) ?_)))) (fun _ => H2 _ hu)
  have qn' : tj_qn (upd AC0 q (nI (n + 1))) q = n + 1 := by unfold tj_qn; rw [pk_us, nI_clamp (by omega)]
  have qo : ∀ q', q' ≠ q → tj_qn (upd AC0 q (nI (n + 1))) q' = tj_qn AC0 q' := fun q' hq' => by unfold tj_qn; rw [pk_un hq']
  refine pk_loop (fun m' c s => wX_atom_56 post (nI q) (nI r) (nI vs) (nI (4 * q + n)) lv qu ai st fo af bd tc oc ac m' (nI c) B0 RC0 AC0 (upd RO0 (4 * q + n) (nI r)) s AS0 LC LI AL AN PA EX BF BN DI TO HO OR TD TV TW PF PT DN VA)
    (fun c s => (∀ c', c' < c → s (3 * (4 * q + n) + c') = if c' < tj_cols r then nI (tj_col r vs c') else -1) ∧ ∀ z, (z < 3 * (4 * q + n) ∨ 3 * (4 * q + n) + 3 ≤ z) → s z = VO0 z) 3 0 VO0 (by omega) ⟨fun c' hc' => absurd hc' (by omega), fun _ _ => rfl⟩ ?_ ?_
  · rintro m' s ⟨v1, v2⟩
    refine pk_le 3 3 (fun _ => And.intro pq (And.intro pq ?_)) (fun z => absurd z (by omega))
    rw [cq, wa, nI_1, tj_b8 (n + 1) (by omega)]
    refine nm_e (And.intro pq ?_)
    rw [pk_us]
    have fin := H1 (upd AC0 q (nI (n + 1))) (upd RO0 (4 * q + n) (nI r)) s (lv, qu, ai, st, fo, af, bd, tc, oc, ac, B0, RC0, upd AC0 q (nI (n + 1)), upd RO0 (4 * q + n) (nI r), s, AS0, LC, LI, AL, AN, PA, EX, BF, BN, DI, TO, HO, OR, TD, TV, TW, PF, PT, DN, VA) qn' qo ?_ ⟨h1, h2, rfl, rfl, rfl, rfl, rfl, hD⟩
    · rw [qn'] at fin
      exact fin
    · refine ⟨fun q' hq' => ⟨?_, fun j hj mj => ?_⟩, hW.2.1, hW.2.2⟩
      · by_cases e : q' = q
        · rw [e, pk_us]; exact ⟨n + 1, by omega, rfl⟩
        · rw [pk_un e]; exact (hW.1 q' hq').1
      · rw [tj_qm_bit] at mj
        by_cases e : 4 * q' + j = 4 * q + n
        · have er : tj_rel (upd RO0 (4 * q + n) (nI r)) (4 * q + n) = r := by unfold tj_rel; rw [pk_us, nI_clamp (by omega)]
          rw [e]
          unfold tj_aok
          rw [er, pk_us]
          refine ⟨⟨r, hr, rfl⟩, fun c hc => ?_, fun c hc hc3 => ?_⟩
          · rw [v1 c (by omega), if_pos hc]; exact ⟨_, tj_col_lt _ _ _, rfl⟩
          · rw [v1 c hc3, if_neg (by omega)]
        · have old : tj_aok RO0 VO0 (4 * q' + j) := by
            refine (hW.1 q' hq').2 j hj ?_
            rw [tj_qm_bit]
            by_cases e2 : q' = q
            · subst e2
              rw [qn'] at mj
              omega
            · rw [qo q' e2] at mj; exact mj
          refine tj_sa_ok (RO := RO0) (VO := VO0) ⟨pk_un e, fun c hc => v2 _ ?_⟩ old
          omega
  · rintro m' c s hc ⟨v1, v2⟩ hw
    refine pk_le 3 c (fun z => absurd z (by omega)) (fun _ => tj_columnsOf hr (pk_le (tj_cols r) c (fun z => ?_) (fun z => tj_columnOf hr (by omega) z ?_)))
    · rw [tj_i3, nI_clamp (show 3 * (4 * q + n) + c < 2 ^ 31 by omega), tj_b8m]
      refine And.intro (vp_in_nI (by omega) (by omega)) (nm_e (nm_r (nI_1 c) (hw _ ⟨fun c' hc' => ?_, fun z hz => (pk_un (by omega)).trans (v2 z hz)⟩)))
      by_cases e : c' = c
      · rw [e, pk_us, if_neg (by omega)]
      · rw [pk_un (by omega)]; exact v1 c' (by omega)
    · have l5 := tj_col_lt r vs c
      rw [tj_i3, nI_clamp (show 3 * (4 * q + n) + c < 2 ^ 31 by omega), tj_b8 _ (show tj_col r vs c < 128 by omega)]
      refine And.intro (vp_in_nI (by omega) (by omega)) (nm_e (nm_r (nI_1 c) (hw _ ⟨fun c' hc' => ?_, fun z hz => (pk_un (by omega)).trans (v2 z hz)⟩)))
      by_cases e : c' = c
      · rw [e, pk_us, if_pos z]
      · rw [pk_un (by omega)]; exact v1 c' (by omega)
end
end
section
/-! ===== the law ===== -/
section
variable {lv qu ai st fo af bd tc oc ac : Int32} {B AN PA EX : Nat → Int64} {RC AC RO VO AS LC LI AL BF BN DI TO HO OR TD TV TW PF PT DN VA : Nat → Int32}
theorem tj_law365 {post : Int32 → Prop} {L : Nat} {xs : Nat → Int32} {J15 : _} {kc ks : Nat} {hs : Nat → Nat → Prop} {q t : Nat} {x2 x3 : Int32} {u : St1} (hL : L ≤ 260) (ht : t < L) (hW : tj_Wf hs RC AC RO VO AS) (hu : tj_Wd 2 hs RC AC RO VO AS u) (hq : q < 2) (h2 : q ≠ 0 → x2 = nI (tj_qn AC 0)) (h3 : q ≠ 1 → x3 = nI (tj_qn AC 1))
    (HJ : ∀ u', tj_Wd 2 hs RC AC RO VO AS u' → J15 (nI (tj_qn AC 0)) (nI (tj_qn AC 1)) (nI (t + 3)) u'.1 u'.2.1 u'.2.2.1 u'.2.2.2.1 u'.2.2.2.2.1 u'.2.2.2.2.2.1 u'.2.2.2.2.2.2.1 u'.2.2.2.2.2.2.2.1 u'.2.2.2.2.2.2.2.2.1 u'.2.2.2.2.2.2.2.2.2.1 u'.2.2.2.2.2.2.2.2.2.2.1 u'.2.2.2.2.2.2.2.2.2.2.2.1 u'.2.2.2.2.2.2.2.2.2.2.2.2.1 u'.2.2.2.2.2.2.2.2.2.2.2.2.2.1 u'.2.2.2.2.2.2.2.2.2.2.2.2.2.2.1 u'.2.2.2.2.2.2.2.2.2.2.2.2.2.2.2.1 u'.2.2.2.2.2.2.2.2.2.2.2.2.2.2.2.2.1 u'.2.2.2.2.2.2.2.2.2.2.2.2.2.2.2.2.2.1 u'.2.2.2.2.2.2.2.2.2.2.2.2.2.2.2.2.2.2.1 u'.2.2.2.2.2.2.2.2.2.2.2.2.2.2.2.2.2.2.2.1 u'.2.2.2.2.2.2.2.2.2.2.2.2.2.2.2.2.2.2.2.2.1 u'.2.2.2.2.2.2.2.2.2.2.2.2.2.2.2.2.2.2.2.2.2.1 u'.2.2.2.2.2.2.2.2.2.2.2.2.2.2.2.2.2.2.2.2.2.2.1 u'.2.2.2.2.2.2.2.2.2.2.2.2.2.2.2.2.2.2.2.2.2.2.2.1 u'.2.2.2.2.2.2.2.2.2.2.2.2.2.2.2.2.2.2.2.2.2.2.2.2.1 u'.2.2.2.2.2.2.2.2.2.2.2.2.2.2.2.2.2.2.2.2.2.2.2.2.2.1 u'.2.2.2.2.2.2.2.2.2.2.2.2.2.2.2.2.2.2.2.2.2.2.2.2.2.2.1 u'.2.2.2.2.2.2.2.2.2.2.2.2.2.2.2.2.2.2.2.2.2.2.2.2.2.2.2.1 u'.2.2.2.2.2.2.2.2.2.2.2.2.2.2.2.2.2.2.2.2.2.2.2.2.2.2.2.2.1 u'.2.2.2.2.2.2.2.2.2.2.2.2.2.2.2.2.2.2.2.2.2.2.2.2.2.2.2.2.2.1 u'.2.2.2.2.2.2.2.2.2.2.2.2.2.2.2.2.2.2.2.2.2.2.2.2.2.2.2.2.2.2.1 u'.2.2.2.2.2.2.2.2.2.2.2.2.2.2.2.2.2.2.2.2.2.2.2.2.2.2.2.2.2.2.2.1 u'.2.2.2.2.2.2.2.2.2.2.2.2.2.2.2.2.2.2.2.2.2.2.2.2.2.2.2.2.2.2.2.2.1 u'.2.2.2.2.2.2.2.2.2.2.2.2.2.2.2.2.2.2.2.2.2.2.2.2.2.2.2.2.2.2.2.2.2.1 u'.2.2.2.2.2.2.2.2.2.2.2.2.2.2.2.2.2.2.2.2.2.2.2.2.2.2.2.2.2.2.2.2.2.2) : wL_law_365 post L xs J15 x2 x3 (nI t) (nI q) (nI (tj_qn AC q)) kc ks u.1 u.2.1 u.2.2.1 u.2.2.2.1 u.2.2.2.2.1 u.2.2.2.2.2.1 u.2.2.2.2.2.2.1 u.2.2.2.2.2.2.2.1 u.2.2.2.2.2.2.2.2.1 u.2.2.2.2.2.2.2.2.2.1 u.2.2.2.2.2.2.2.2.2.2.1 u.2.2.2.2.2.2.2.2.2.2.2.1 u.2.2.2.2.2.2.2.2.2.2.2.2.1 u.2.2.2.2.2.2.2.2.2.2.2.2.2.1 u.2.2.2.2.2.2.2.2.2.2.2.2.2.2.1 u.2.2.2.2.2.2.2.2.2.2.2.2.2.2.2.1 u.2.2.2.2.2.2.2.2.2.2.2.2.2.2.2.2.1 u.2.2.2.2.2.2.2.2.2.2.2.2.2.2.2.2.2.1 u.2.2.2.2.2.2.2.2.2.2.2.2.2.2.2.2.2.2.1 u.2.2.2.2.2.2.2.2.2.2.2.2.2.2.2.2.2.2.2.1 u.2.2.2.2.2.2.2.2.2.2.2.2.2.2.2.2.2.2.2.2.1 u.2.2.2.2.2.2.2.2.2.2.2.2.2.2.2.2.2.2.2.2.2.1 u.2.2.2.2.2.2.2.2.2.2.2.2.2.2.2.2.2.2.2.2.2.2.1 u.2.2.2.2.2.2.2.2.2.2.2.2.2.2.2.2.2.2.2.2.2.2.2.1 u.2.2.2.2.2.2.2.2.2.2.2.2.2.2.2.2.2.2.2.2.2.2.2.2.1 u.2.2.2.2.2.2.2.2.2.2.2.2.2.2.2.2.2.2.2.2.2.2.2.2.2.1 u.2.2.2.2.2.2.2.2.2.2.2.2.2.2.2.2.2.2.2.2.2.2.2.2.2.2.1 u.2.2.2.2.2.2.2.2.2.2.2.2.2.2.2.2.2.2.2.2.2.2.2.2.2.2.2.1 u.2.2.2.2.2.2.2.2.2.2.2.2.2.2.2.2.2.2.2.2.2.2.2.2.2.2.2.2.1 u.2.2.2.2.2.2.2.2.2.2.2.2.2.2.2.2.2.2.2.2.2.2.2.2.2.2.2.2.2.1 u.2.2.2.2.2.2.2.2.2.2.2.2.2.2.2.2.2.2.2.2.2.2.2.2.2.2.2.2.2.2.1 u.2.2.2.2.2.2.2.2.2.2.2.2.2.2.2.2.2.2.2.2.2.2.2.2.2.2.2.2.2.2.2.1 u.2.2.2.2.2.2.2.2.2.2.2.2.2.2.2.2.2.2.2.2.2.2.2.2.2.2.2.2.2.2.2.2.1 u.2.2.2.2.2.2.2.2.2.2.2.2.2.2.2.2.2.2.2.2.2.2.2.2.2.2.2.2.2.2.2.2.2.1 u.2.2.2.2.2.2.2.2.2.2.2.2.2.2.2.2.2.2.2.2.2.2.2.2.2.2.2.2.2.2.2.2.2.2 := by
  have e3 : nI t + 3 = nI (t + 3) := nI_add t 3
  have main : ∀ y2 y3 : Int32, y2 = nI (tj_qn AC 0) → y3 = nI (tj_qn AC 1) → wL_law_379 post L xs J15 y2 y3 (nI t) (nI q) (nI (tj_qn AC q)) kc ks u.1 u.2.1 u.2.2.1 u.2.2.2.1 u.2.2.2.2.1 u.2.2.2.2.2.1 u.2.2.2.2.2.2.1 u.2.2.2.2.2.2.2.1 u.2.2.2.2.2.2.2.2.1 u.2.2.2.2.2.2.2.2.2.1 u.2.2.2.2.2.2.2.2.2.2.1 u.2.2.2.2.2.2.2.2.2.2.2.1 u.2.2.2.2.2.2.2.2.2.2.2.2.1 u.2.2.2.2.2.2.2.2.2.2.2.2.2.1 u.2.2.2.2.2.2.2.2.2.2.2.2.2.2.1 u.2.2.2.2.2.2.2.2.2.2.2.2.2.2.2.1 u.2.2.2.2.2.2.2.2.2.2.2.2.2.2.2.2.1 u.2.2.2.2.2.2.2.2.2.2.2.2.2.2.2.2.2.1 u.2.2.2.2.2.2.2.2.2.2.2.2.2.2.2.2.2.2.1 u.2.2.2.2.2.2.2.2.2.2.2.2.2.2.2.2.2.2.2.1 u.2.2.2.2.2.2.2.2.2.2.2.2.2.2.2.2.2.2.2.2.1 u.2.2.2.2.2.2.2.2.2.2.2.2.2.2.2.2.2.2.2.2.2.1 u.2.2.2.2.2.2.2.2.2.2.2.2.2.2.2.2.2.2.2.2.2.2.1 u.2.2.2.2.2.2.2.2.2.2.2.2.2.2.2.2.2.2.2.2.2.2.2.1 u.2.2.2.2.2.2.2.2.2.2.2.2.2.2.2.2.2.2.2.2.2.2.2.2.1 u.2.2.2.2.2.2.2.2.2.2.2.2.2.2.2.2.2.2.2.2.2.2.2.2.2.1 u.2.2.2.2.2.2.2.2.2.2.2.2.2.2.2.2.2.2.2.2.2.2.2.2.2.2.1 u.2.2.2.2.2.2.2.2.2.2.2.2.2.2.2.2.2.2.2.2.2.2.2.2.2.2.2.1 u.2.2.2.2.2.2.2.2.2.2.2.2.2.2.2.2.2.2.2.2.2.2.2.2.2.2.2.2.1 u.2.2.2.2.2.2.2.2.2.2.2.2.2.2.2.2.2.2.2.2.2.2.2.2.2.2.2.2.2.1 u.2.2.2.2.2.2.2.2.2.2.2.2.2.2.2.2.2.2.2.2.2.2.2.2.2.2.2.2.2.2.1 u.2.2.2.2.2.2.2.2.2.2.2.2.2.2.2.2.2.2.2.2.2.2.2.2.2.2.2.2.2.2.2.1 u.2.2.2.2.2.2.2.2.2.2.2.2.2.2.2.2.2.2.2.2.2.2.2.2.2.2.2.2.2.2.2.2.1 u.2.2.2.2.2.2.2.2.2.2.2.2.2.2.2.2.2.2.2.2.2.2.2.2.2.2.2.2.2.2.2.2.2.1 u.2.2.2.2.2.2.2.2.2.2.2.2.2.2.2.2.2.2.2.2.2.2.2.2.2.2.2.2.2.2.2.2.2.2 := by
    intro y2 y3 e0 e1
    rw [e0, e1]
    unfold wL_law_379
    refine And.intro (pk_in t L ht) (br_c (fun _ => tj_holds (u := u) hW hu hq (fun u' hu' => ?_)) (fun _ => nm_r e3 (HJ u hu)))
    have fin := HJ u' hu'
    obtain ⟨lv, qu, ai, st, fo, af, bd, tc, oc, ac, B, RC, AC, RO, VO, AS, LC, LI, AL, AN, PA, EX, BF, BN, DI, TO, HO, OR, TD, TV, TW, PF, PT, DN, VA⟩ := u'
    exact br_f (by decide) (nm_r e3 fin)
  unfold wL_law_365
  refine pk_eq q 0 (fun e => ?_) (fun ne => ?_)
  · refine main _ _ (by rw [e]) (h3 (by omega))
  · refine main _ _ (h2 ne) (by rw [show q = 1 by omega])
theorem tj_a31 (x y : Int32) : ∃ w : Nat, w < 32 ∧ (x &&& 31) &&& y = nI w := by
  obtain ⟨j, hj, e⟩ := pk_andE (x &&& y) (m := 31) 5 (by decide)
  refine ⟨j, hj, ?_⟩
  rw [← e, Int32.and_assoc, Int32.and_comm 31 y, ← Int32.and_assoc]
theorem tj_law91 {post : Int32 → Prop} {L : Nat} {xs : Nat → Int32} {J15 : _} {kc ks : Nat} {hs : Nat → Nat → Prop} {q r row t : Nat} {x2 x3 x6 : Int32} {u : St1} (hL : L ≤ 260) (ht : t < L) (hW : tj_Wf hs RC AC RO VO AS) (hu : tj_Wd 2 hs RC AC RO VO AS u) (hq : q < 2) (hr : r < 3) (hrow : row < tj_rw r) (h2 : x2 = nI (tj_qn AC 0)) (h3 : x3 = nI (tj_qn AC 1))
    (HJ : ∀ (hs' : Nat → Nat → Prop) (RC' AC' RO' VO' AS' : Nat → Int32) u', tj_Wf hs' RC' AC' RO' VO' AS' → tj_Wd 2 hs' RC' AC' RO' VO' AS' u' → J15 (nI (tj_qn AC' 0)) (nI (tj_qn AC' 1)) (nI (t + 3)) u'.1 u'.2.1 u'.2.2.1 u'.2.2.2.1 u'.2.2.2.2.1 u'.2.2.2.2.2.1 u'.2.2.2.2.2.2.1 u'.2.2.2.2.2.2.2.1 u'.2.2.2.2.2.2.2.2.1 u'.2.2.2.2.2.2.2.2.2.1 u'.2.2.2.2.2.2.2.2.2.2.1 u'.2.2.2.2.2.2.2.2.2.2.2.1 u'.2.2.2.2.2.2.2.2.2.2.2.2.1 u'.2.2.2.2.2.2.2.2.2.2.2.2.2.1 u'.2.2.2.2.2.2.2.2.2.2.2.2.2.2.1 u'.2.2.2.2.2.2.2.2.2.2.2.2.2.2.2.1 u'.2.2.2.2.2.2.2.2.2.2.2.2.2.2.2.2.1 u'.2.2.2.2.2.2.2.2.2.2.2.2.2.2.2.2.2.1 u'.2.2.2.2.2.2.2.2.2.2.2.2.2.2.2.2.2.2.1 u'.2.2.2.2.2.2.2.2.2.2.2.2.2.2.2.2.2.2.2.1 u'.2.2.2.2.2.2.2.2.2.2.2.2.2.2.2.2.2.2.2.2.1 u'.2.2.2.2.2.2.2.2.2.2.2.2.2.2.2.2.2.2.2.2.2.1 u'.2.2.2.2.2.2.2.2.2.2.2.2.2.2.2.2.2.2.2.2.2.2.1 u'.2.2.2.2.2.2.2.2.2.2.2.2.2.2.2.2.2.2.2.2.2.2.2.1 u'.2.2.2.2.2.2.2.2.2.2.2.2.2.2.2.2.2.2.2.2.2.2.2.2.1 u'.2.2.2.2.2.2.2.2.2.2.2.2.2.2.2.2.2.2.2.2.2.2.2.2.2.1 u'.2.2.2.2.2.2.2.2.2.2.2.2.2.2.2.2.2.2.2.2.2.2.2.2.2.2.1 u'.2.2.2.2.2.2.2.2.2.2.2.2.2.2.2.2.2.2.2.2.2.2.2.2.2.2.2.1 u'.2.2.2.2.2.2.2.2.2.2.2.2.2.2.2.2.2.2.2.2.2.2.2.2.2.2.2.2.1 u'.2.2.2.2.2.2.2.2.2.2.2.2.2.2.2.2.2.2.2.2.2.2.2.2.2.2.2.2.2.1 u'.2.2.2.2.2.2.2.2.2.2.2.2.2.2.2.2.2.2.2.2.2.2.2.2.2.2.2.2.2.2.1 u'.2.2.2.2.2.2.2.2.2.2.2.2.2.2.2.2.2.2.2.2.2.2.2.2.2.2.2.2.2.2.2.1 u'.2.2.2.2.2.2.2.2.2.2.2.2.2.2.2.2.2.2.2.2.2.2.2.2.2.2.2.2.2.2.2.2.1 u'.2.2.2.2.2.2.2.2.2.2.2.2.2.2.2.2.2.2.2.2.2.2.2.2.2.2.2.2.2.2.2.2.2.1 u'.2.2.2.2.2.2.2.2.2.2.2.2.2.2.2.2.2.2.2.2.2.2.2.2.2.2.2.2.2.2.2.2.2.2) :
    wL_law_91 post L xs J15 x2 x3 (nI t) x6 (nI r) (nI row) (nI q) (nI (tj_qn AC q)) kc ks u.1 u.2.1 u.2.2.1 u.2.2.2.1 u.2.2.2.2.1 u.2.2.2.2.2.1 u.2.2.2.2.2.2.1 u.2.2.2.2.2.2.2.1 u.2.2.2.2.2.2.2.2.1 u.2.2.2.2.2.2.2.2.2.1 u.2.2.2.2.2.2.2.2.2.2.1 u.2.2.2.2.2.2.2.2.2.2.2.1 u.2.2.2.2.2.2.2.2.2.2.2.2.1 u.2.2.2.2.2.2.2.2.2.2.2.2.2.1 u.2.2.2.2.2.2.2.2.2.2.2.2.2.2.1 u.2.2.2.2.2.2.2.2.2.2.2.2.2.2.2.1 u.2.2.2.2.2.2.2.2.2.2.2.2.2.2.2.2.1 u.2.2.2.2.2.2.2.2.2.2.2.2.2.2.2.2.2.1 u.2.2.2.2.2.2.2.2.2.2.2.2.2.2.2.2.2.2.1 u.2.2.2.2.2.2.2.2.2.2.2.2.2.2.2.2.2.2.2.1 u.2.2.2.2.2.2.2.2.2.2.2.2.2.2.2.2.2.2.2.2.1 u.2.2.2.2.2.2.2.2.2.2.2.2.2.2.2.2.2.2.2.2.2.1 u.2.2.2.2.2.2.2.2.2.2.2.2.2.2.2.2.2.2.2.2.2.2.1 u.2.2.2.2.2.2.2.2.2.2.2.2.2.2.2.2.2.2.2.2.2.2.2.1 u.2.2.2.2.2.2.2.2.2.2.2.2.2.2.2.2.2.2.2.2.2.2.2.2.1 u.2.2.2.2.2.2.2.2.2.2.2.2.2.2.2.2.2.2.2.2.2.2.2.2.2.1 u.2.2.2.2.2.2.2.2.2.2.2.2.2.2.2.2.2.2.2.2.2.2.2.2.2.2.1 u.2.2.2.2.2.2.2.2.2.2.2.2.2.2.2.2.2.2.2.2.2.2.2.2.2.2.2.1 u.2.2.2.2.2.2.2.2.2.2.2.2.2.2.2.2.2.2.2.2.2.2.2.2.2.2.2.2.1 u.2.2.2.2.2.2.2.2.2.2.2.2.2.2.2.2.2.2.2.2.2.2.2.2.2.2.2.2.2.1 u.2.2.2.2.2.2.2.2.2.2.2.2.2.2.2.2.2.2.2.2.2.2.2.2.2.2.2.2.2.2.1 u.2.2.2.2.2.2.2.2.2.2.2.2.2.2.2.2.2.2.2.2.2.2.2.2.2.2.2.2.2.2.2.1 u.2.2.2.2.2.2.2.2.2.2.2.2.2.2.2.2.2.2.2.2.2.2.2.2.2.2.2.2.2.2.2.2.1 u.2.2.2.2.2.2.2.2.2.2.2.2.2.2.2.2.2.2.2.2.2.2.2.2.2.2.2.2.2.2.2.2.2.1 u.2.2.2.2.2.2.2.2.2.2.2.2.2.2.2.2.2.2.2.2.2.2.2.2.2.2.2.2.2.2.2.2.2.2 := by
  obtain ⟨wa, wb, wc, wd, we, wf⟩ := tj_Wf_e hW hq
  have fin : ∀ (hs' : Nat → Nat → Prop) (RC' AC' RO' VO' AS' : Nat → Int32) u', tj_Wf hs' RC' AC' RO' VO' AS' → tj_Wd 2 hs' RC' AC' RO' VO' AS' u' → (∀ q', q' ≠ q → tj_qn AC' q' = tj_qn AC q') → wL_law_365 post L xs J15 x2 x3 (nI t) (nI q) (nI (tj_qn AC' q)) kc ks u'.1 u'.2.1 u'.2.2.1 u'.2.2.2.1 u'.2.2.2.2.1 u'.2.2.2.2.2.1 u'.2.2.2.2.2.2.1 u'.2.2.2.2.2.2.2.1 u'.2.2.2.2.2.2.2.2.1 u'.2.2.2.2.2.2.2.2.2.1 u'.2.2.2.2.2.2.2.2.2.2.1 u'.2.2.2.2.2.2.2.2.2.2.2.1 u'.2.2.2.2.2.2.2.2.2.2.2.2.1 u'.2.2.2.2.2.2.2.2.2.2.2.2.2.1 u'.2.2.2.2.2.2.2.2.2.2.2.2.2.2.1 u'.2.2.2.2.2.2.2.2.2.2.2.2.2.2.2.1 u'.2.2.2.2.2.2.2.2.2.2.2.2.2.2.2.2.1 u'.2.2.2.2.2.2.2.2.2.2.2.2.2.2.2.2.2.1 u'.2.2.2.2.2.2.2.2.2.2.2.2.2.2.2.2.2.2.1 u'.2.2.2.2.2.2.2.2.2.2.2.2.2.2.2.2.2.2.2.1 u'.2.2.2.2.2.2.2.2.2.2.2.2.2.2.2.2.2.2.2.2.1 u'.2.2.2.2.2.2.2.2.2.2.2.2.2.2.2.2.2.2.2.2.2.1 u'.2.2.2.2.2.2.2.2.2.2.2.2.2.2.2.2.2.2.2.2.2.2.1 u'.2.2.2.2.2.2.2.2.2.2.2.2.2.2.2.2.2.2.2.2.2.2.2.1 u'.2.2.2.2.2.2.2.2.2.2.2.2.2.2.2.2.2.2.2.2.2.2.2.2.1 u'.2.2.2.2.2.2.2.2.2.2.2.2.2.2.2.2.2.2.2.2.2.2.2.2.2.1 u'.2.2.2.2.2.2.2.2.2.2.2.2.2.2.2.2.2.2.2.2.2.2.2.2.2.2.1 u'.2.2.2.2.2.2.2.2.2.2.2.2.2.2.2.2.2.2.2.2.2.2.2.2.2.2.2.1 u'.2.2.2.2.2.2.2.2.2.2.2.2.2.2.2.2.2.2.2.2.2.2.2.2.2.2.2.2.1 u'.2.2.2.2.2.2.2.2.2.2.2.2.2.2.2.2.2.2.2.2.2.2.2.2.2.2.2.2.2.1 u'.2.2.2.2.2.2.2.2.2.2.2.2.2.2.2.2.2.2.2.2.2.2.2.2.2.2.2.2.2.2.1 u'.2.2.2.2.2.2.2.2.2.2.2.2.2.2.2.2.2.2.2.2.2.2.2.2.2.2.2.2.2.2.2.1 u'.2.2.2.2.2.2.2.2.2.2.2.2.2.2.2.2.2.2.2.2.2.2.2.2.2.2.2.2.2.2.2.2.1 u'.2.2.2.2.2.2.2.2.2.2.2.2.2.2.2.2.2.2.2.2.2.2.2.2.2.2.2.2.2.2.2.2.2.1 u'.2.2.2.2.2.2.2.2.2.2.2.2.2.2.2.2.2.2.2.2.2.2.2.2.2.2.2.2.2.2.2.2.2.2 := by
    intro hs' RC' AC' RO' VO' AS' u' hW' hu' ho
    exact tj_law365 hL ht hW' hu' hq (fun z => by rw [h2, ho 0 (fun e => z e.symm)]) (fun z => by rw [h3, ho 1 (fun e => z e.symm)]) (fun u'' hu'' => HJ hs' RC' AC' RO' VO' AS' u'' hW' hu'')
  obtain ⟨k, hk, ek⟩ := pk_andE (xs t) (m := 15) 4 (by decide)
  obtain ⟨j, hj, ej⟩ := pk_andE x6 (m := 255) 8 (by decide)
  have l160 : wL_law_160 post L xs J15 x2 x3 (nI t) x6 (nI q) (nI (tj_qn AC q)) kc ks u.1 u.2.1 u.2.2.1 u.2.2.2.1 u.2.2.2.2.1 u.2.2.2.2.2.1 u.2.2.2.2.2.2.1 u.2.2.2.2.2.2.2.1 u.2.2.2.2.2.2.2.2.1 u.2.2.2.2.2.2.2.2.2.1 u.2.2.2.2.2.2.2.2.2.2.1 u.2.2.2.2.2.2.2.2.2.2.2.1 u.2.2.2.2.2.2.2.2.2.2.2.2.1 u.2.2.2.2.2.2.2.2.2.2.2.2.2.1 u.2.2.2.2.2.2.2.2.2.2.2.2.2.2.1 u.2.2.2.2.2.2.2.2.2.2.2.2.2.2.2.1 u.2.2.2.2.2.2.2.2.2.2.2.2.2.2.2.2.1 u.2.2.2.2.2.2.2.2.2.2.2.2.2.2.2.2.2.1 u.2.2.2.2.2.2.2.2.2.2.2.2.2.2.2.2.2.2.1 u.2.2.2.2.2.2.2.2.2.2.2.2.2.2.2.2.2.2.2.1 u.2.2.2.2.2.2.2.2.2.2.2.2.2.2.2.2.2.2.2.2.1 u.2.2.2.2.2.2.2.2.2.2.2.2.2.2.2.2.2.2.2.2.2.1 u.2.2.2.2.2.2.2.2.2.2.2.2.2.2.2.2.2.2.2.2.2.2.1 u.2.2.2.2.2.2.2.2.2.2.2.2.2.2.2.2.2.2.2.2.2.2.2.1 u.2.2.2.2.2.2.2.2.2.2.2.2.2.2.2.2.2.2.2.2.2.2.2.2.1 u.2.2.2.2.2.2.2.2.2.2.2.2.2.2.2.2.2.2.2.2.2.2.2.2.2.1 u.2.2.2.2.2.2.2.2.2.2.2.2.2.2.2.2.2.2.2.2.2.2.2.2.2.2.1 u.2.2.2.2.2.2.2.2.2.2.2.2.2.2.2.2.2.2.2.2.2.2.2.2.2.2.2.1 u.2.2.2.2.2.2.2.2.2.2.2.2.2.2.2.2.2.2.2.2.2.2.2.2.2.2.2.2.1 u.2.2.2.2.2.2.2.2.2.2.2.2.2.2.2.2.2.2.2.2.2.2.2.2.2.2.2.2.2.1 u.2.2.2.2.2.2.2.2.2.2.2.2.2.2.2.2.2.2.2.2.2.2.2.2.2.2.2.2.2.2.1 u.2.2.2.2.2.2.2.2.2.2.2.2.2.2.2.2.2.2.2.2.2.2.2.2.2.2.2.2.2.2.2.1 u.2.2.2.2.2.2.2.2.2.2.2.2.2.2.2.2.2.2.2.2.2.2.2.2.2.2.2.2.2.2.2.2.1 u.2.2.2.2.2.2.2.2.2.2.2.2.2.2.2.2.2.2.2.2.2.2.2.2.2.2.2.2.2.2.2.2.2.1 u.2.2.2.2.2.2.2.2.2.2.2.2.2.2.2.2.2.2.2.2.2.2.2.2.2.2.2.2.2.2.2.2.2.2 := by
    obtain ⟨w, hw, ew⟩ := tj_a31 x6 (x6 >>> ((5 : Int32) &&& 31))
    unfold wL_law_160
    refine nm_r ew (tj_ask (q := 0) (u := u) hW hu (by decide) hw (fun u1 hW1 hu1 => ?_))
    obtain ⟨w2, hw2, ew2⟩ := pk_andE (x6 >>> ((11 : Int32) &&& 31)) (m := 31) 5 (by decide)
    have l204 : ∀ w', w' < 32 → wL_law_204 post L xs J15 x2 x3 (nI t) (nI q) (nI (tj_qn AC q)) (nI w') 1 kc ks u1.1 u1.2.1 u1.2.2.1 u1.2.2.2.1 u1.2.2.2.2.1 u1.2.2.2.2.2.1 u1.2.2.2.2.2.2.1 u1.2.2.2.2.2.2.2.1 u1.2.2.2.2.2.2.2.2.1 u1.2.2.2.2.2.2.2.2.2.1 u1.2.2.2.2.2.2.2.2.2.2.1 u1.2.2.2.2.2.2.2.2.2.2.2.1 u1.2.2.2.2.2.2.2.2.2.2.2.2.1 u1.2.2.2.2.2.2.2.2.2.2.2.2.2.1 u1.2.2.2.2.2.2.2.2.2.2.2.2.2.2.1 u1.2.2.2.2.2.2.2.2.2.2.2.2.2.2.2.1 u1.2.2.2.2.2.2.2.2.2.2.2.2.2.2.2.2.1 u1.2.2.2.2.2.2.2.2.2.2.2.2.2.2.2.2.2.1 u1.2.2.2.2.2.2.2.2.2.2.2.2.2.2.2.2.2.2.1 u1.2.2.2.2.2.2.2.2.2.2.2.2.2.2.2.2.2.2.2.1 u1.2.2.2.2.2.2.2.2.2.2.2.2.2.2.2.2.2.2.2.2.1 u1.2.2.2.2.2.2.2.2.2.2.2.2.2.2.2.2.2.2.2.2.2.1 u1.2.2.2.2.2.2.2.2.2.2.2.2.2.2.2.2.2.2.2.2.2.2.1 u1.2.2.2.2.2.2.2.2.2.2.2.2.2.2.2.2.2.2.2.2.2.2.2.1 u1.2.2.2.2.2.2.2.2.2.2.2.2.2.2.2.2.2.2.2.2.2.2.2.2.1 u1.2.2.2.2.2.2.2.2.2.2.2.2.2.2.2.2.2.2.2.2.2.2.2.2.2.1 u1.2.2.2.2.2.2.2.2.2.2.2.2.2.2.2.2.2.2.2.2.2.2.2.2.2.2.1 u1.2.2.2.2.2.2.2.2.2.2.2.2.2.2.2.2.2.2.2.2.2.2.2.2.2.2.2.1 u1.2.2.2.2.2.2.2.2.2.2.2.2.2.2.2.2.2.2.2.2.2.2.2.2.2.2.2.2.1 u1.2.2.2.2.2.2.2.2.2.2.2.2.2.2.2.2.2.2.2.2.2.2.2.2.2.2.2.2.2.1 u1.2.2.2.2.2.2.2.2.2.2.2.2.2.2.2.2.2.2.2.2.2.2.2.2.2.2.2.2.2.2.1 u1.2.2.2.2.2.2.2.2.2.2.2.2.2.2.2.2.2.2.2.2.2.2.2.2.2.2.2.2.2.2.2.1 u1.2.2.2.2.2.2.2.2.2.2.2.2.2.2.2.2.2.2.2.2.2.2.2.2.2.2.2.2.2.2.2.2.1 u1.2.2.2.2.2.2.2.2.2.2.2.2.2.2.2.2.2.2.2.2.2.2.2.2.2.2.2.2.2.2.2.2.2.1 u1.2.2.2.2.2.2.2.2.2.2.2.2.2.2.2.2.2.2.2.2.2.2.2.2.2.2.2.2.2.2.2.2.2.2 := by
      intro w' hw'
      unfold wL_law_204
      refine tj_ask (q := 1) (u := u1) hW1 hu1 (by decide) hw' (fun u2 hW2 hu2 => ?_)
      have f := fin _ _ _ _ _ _ u2 hW2 hu2 (fun _ _ => rfl)
      obtain ⟨lv, qu, ai, st, fo, af, bd, tc, oc, ac, B, RC, AC, RO, VO, AS, LC, LI, AL, AN, PA, EX, BF, BN, DI, TO, HO, OR, TD, TV, TW, PF, PT, DN, VA⟩ := u2
      exact f
    have a := l204 w hw
    have b := l204 w2 hw2
    obtain ⟨lv, qu, ai, st, fo, af, bd, tc, oc, ac, B, RC, AC, RO, VO, AS, LC, LI, AL, AN, PA, EX, BF, BN, DI, TO, HO, OR, TD, TV, TW, PF, PT, DN, VA⟩ := u1
    rw [ew2]
    exact br_c (fun _ => a) (fun _ => b)
  have l314 : wL_law_314 post L xs J15 x2 x3 (nI t) x6 (nI r) (nI q) (nI (tj_qn AC q)) kc ks u.1 u.2.1 u.2.2.1 u.2.2.2.1 u.2.2.2.2.1 u.2.2.2.2.2.1 u.2.2.2.2.2.2.1 u.2.2.2.2.2.2.2.1 u.2.2.2.2.2.2.2.2.1 u.2.2.2.2.2.2.2.2.2.1 u.2.2.2.2.2.2.2.2.2.2.1 u.2.2.2.2.2.2.2.2.2.2.2.1 u.2.2.2.2.2.2.2.2.2.2.2.2.1 u.2.2.2.2.2.2.2.2.2.2.2.2.2.1 u.2.2.2.2.2.2.2.2.2.2.2.2.2.2.1 u.2.2.2.2.2.2.2.2.2.2.2.2.2.2.2.1 u.2.2.2.2.2.2.2.2.2.2.2.2.2.2.2.2.1 u.2.2.2.2.2.2.2.2.2.2.2.2.2.2.2.2.2.1 u.2.2.2.2.2.2.2.2.2.2.2.2.2.2.2.2.2.2.1 u.2.2.2.2.2.2.2.2.2.2.2.2.2.2.2.2.2.2.2.1 u.2.2.2.2.2.2.2.2.2.2.2.2.2.2.2.2.2.2.2.2.1 u.2.2.2.2.2.2.2.2.2.2.2.2.2.2.2.2.2.2.2.2.2.1 u.2.2.2.2.2.2.2.2.2.2.2.2.2.2.2.2.2.2.2.2.2.2.1 u.2.2.2.2.2.2.2.2.2.2.2.2.2.2.2.2.2.2.2.2.2.2.2.1 u.2.2.2.2.2.2.2.2.2.2.2.2.2.2.2.2.2.2.2.2.2.2.2.2.1 u.2.2.2.2.2.2.2.2.2.2.2.2.2.2.2.2.2.2.2.2.2.2.2.2.2.1 u.2.2.2.2.2.2.2.2.2.2.2.2.2.2.2.2.2.2.2.2.2.2.2.2.2.2.1 u.2.2.2.2.2.2.2.2.2.2.2.2.2.2.2.2.2.2.2.2.2.2.2.2.2.2.2.1 u.2.2.2.2.2.2.2.2.2.2.2.2.2.2.2.2.2.2.2.2.2.2.2.2.2.2.2.2.1 u.2.2.2.2.2.2.2.2.2.2.2.2.2.2.2.2.2.2.2.2.2.2.2.2.2.2.2.2.2.1 u.2.2.2.2.2.2.2.2.2.2.2.2.2.2.2.2.2.2.2.2.2.2.2.2.2.2.2.2.2.2.1 u.2.2.2.2.2.2.2.2.2.2.2.2.2.2.2.2.2.2.2.2.2.2.2.2.2.2.2.2.2.2.2.1 u.2.2.2.2.2.2.2.2.2.2.2.2.2.2.2.2.2.2.2.2.2.2.2.2.2.2.2.2.2.2.2.2.1 u.2.2.2.2.2.2.2.2.2.2.2.2.2.2.2.2.2.2.2.2.2.2.2.2.2.2.2.2.2.2.2.2.2.1 u.2.2.2.2.2.2.2.2.2.2.2.2.2.2.2.2.2.2.2.2.2.2.2.2.2.2.2.2.2.2.2.2.2.2 := by
    have l338 : ∀ d : Nat, 0 < d → d ≤ 64 → d ≤ tj_rw r → wL_law_338 post L xs J15 x2 x3 (nI t) (nI q) (nI (tj_qn AC q)) (nI d) (x6 &&& 255) (nI r) (nI q) kc ks u.1 u.2.1 u.2.2.1 u.2.2.2.1 u.2.2.2.2.1 u.2.2.2.2.2.1 u.2.2.2.2.2.2.1 u.2.2.2.2.2.2.2.1 u.2.2.2.2.2.2.2.2.1 u.2.2.2.2.2.2.2.2.2.1 u.2.2.2.2.2.2.2.2.2.2.1 u.2.2.2.2.2.2.2.2.2.2.2.1 u.2.2.2.2.2.2.2.2.2.2.2.2.1 u.2.2.2.2.2.2.2.2.2.2.2.2.2.1 u.2.2.2.2.2.2.2.2.2.2.2.2.2.2.1 u.2.2.2.2.2.2.2.2.2.2.2.2.2.2.2.1 u.2.2.2.2.2.2.2.2.2.2.2.2.2.2.2.2.1 u.2.2.2.2.2.2.2.2.2.2.2.2.2.2.2.2.2.1 u.2.2.2.2.2.2.2.2.2.2.2.2.2.2.2.2.2.2.1 u.2.2.2.2.2.2.2.2.2.2.2.2.2.2.2.2.2.2.2.1 u.2.2.2.2.2.2.2.2.2.2.2.2.2.2.2.2.2.2.2.2.1 u.2.2.2.2.2.2.2.2.2.2.2.2.2.2.2.2.2.2.2.2.2.1 u.2.2.2.2.2.2.2.2.2.2.2.2.2.2.2.2.2.2.2.2.2.2.1 u.2.2.2.2.2.2.2.2.2.2.2.2.2.2.2.2.2.2.2.2.2.2.2.1 u.2.2.2.2.2.2.2.2.2.2.2.2.2.2.2.2.2.2.2.2.2.2.2.2.1 u.2.2.2.2.2.2.2.2.2.2.2.2.2.2.2.2.2.2.2.2.2.2.2.2.2.1 u.2.2.2.2.2.2.2.2.2.2.2.2.2.2.2.2.2.2.2.2.2.2.2.2.2.2.1 u.2.2.2.2.2.2.2.2.2.2.2.2.2.2.2.2.2.2.2.2.2.2.2.2.2.2.2.1 u.2.2.2.2.2.2.2.2.2.2.2.2.2.2.2.2.2.2.2.2.2.2.2.2.2.2.2.2.1 u.2.2.2.2.2.2.2.2.2.2.2.2.2.2.2.2.2.2.2.2.2.2.2.2.2.2.2.2.2.1 u.2.2.2.2.2.2.2.2.2.2.2.2.2.2.2.2.2.2.2.2.2.2.2.2.2.2.2.2.2.2.1 u.2.2.2.2.2.2.2.2.2.2.2.2.2.2.2.2.2.2.2.2.2.2.2.2.2.2.2.2.2.2.2.1 u.2.2.2.2.2.2.2.2.2.2.2.2.2.2.2.2.2.2.2.2.2.2.2.2.2.2.2.2.2.2.2.2.1 u.2.2.2.2.2.2.2.2.2.2.2.2.2.2.2.2.2.2.2.2.2.2.2.2.2.2.2.2.2.2.2.2.2.1 u.2.2.2.2.2.2.2.2.2.2.2.2.2.2.2.2.2.2.2.2.2.2.2.2.2.2.2.2.2.2.2.2.2.2 := by
      intro d d0 d64 dr
      unfold wL_law_338
      refine And.intro (nI_ne0 d0 (by omega)) ?_
      rw [ej, pk_rem (by omega) d0 (by omega)]
      have jm := Nat.mod_lt j d0
      refine tj_atom (u := u) hW hu hq hr (by omega) (fun AC' RO' VO' u1 e1 ho hW1 hu1 => ?_) (fun u1 hu1 => ?_)
      · have f := fin _ _ _ _ _ _ u1 hW1 hu1 ho
        have l4 := (tj_Wf_e hW1 hq).2.1
        obtain ⟨lv, qu, ai, st, fo, af, bd, tc, oc, ac, B, RC, AC, RO, VO, AS, LC, LI, AL, AN, PA, EX, BF, BN, DI, TO, HO, OR, TD, TV, TW, PF, PT, DN, VA⟩ := u1
        exact br_f (nI_nle (by omega) (by omega)) f
      · have f := fin _ _ _ _ _ _ u1 hW hu1 (fun _ _ => rfl)
        obtain ⟨lv, qu, ai, st, fo, af, bd, tc, oc, ac, B, RC, AC, RO, VO, AS, LC, LI, AL, AN, PA, EX, BF, BN, DI, TO, HO, OR, TD, TV, TW, PF, PT, DN, VA⟩ := u1
        exact br_t (by decide) f
    have rb := tj_rw_b r
    unfold wL_law_314
    exact pk_eq r 2 (fun e => l338 64 (by decide) (by decide) (by rw [show tj_rw r = 125 from if_pos e]; decide)) (fun _ => l338 12 (by decide) (by decide) (by omega))
  unfold wL_law_91
  refine And.intro (pk_in t L ht) (nm_r (e' := nI k) (by rw [nI_clamp (by omega)]; exact ek) (br_f (nI_pos (by omega)) (pk_lt 7 k (fun _ => tj_add (u := u) hW hu hr hrow (fun x hs' RC' u1 hW1 hu1 => ?_)) (fun _ => pk_eq k 0 (fun _ => tj_remove (u := u) hW hu hr hrow (fun x hs' RC' u1 hW1 hu1 => ?_)) (fun _ => pk_eq k 1 (fun _ => l160) (fun _ => pk_eq k 2 (fun _ => l160) (fun _ => pk_eq k 3 (fun _ => ?_) (fun _ => pk_eq k 4 (fun _ => l314) (fun _ => pk_eq k 5 (fun _ => l314) (fun _ => pk_eq k 6 (fun _ => l314) (fun _ => pk_eq k 7 (fun _ => l314) (fun _ => trivial)))))))))))) 
  · have f := fin _ _ _ _ _ _ u1 hW1 hu1 (fun _ _ => rfl)
    obtain ⟨lv, qu, ai, st, fo, af, bd, tc, oc, ac, B, RC, AC, RO, VO, AS, LC, LI, AL, AN, PA, EX, BF, BN, DI, TO, HO, OR, TD, TV, TW, PF, PT, DN, VA⟩ := u1
    exact f
  · have f := fin _ _ _ _ _ _ u1 hW1 hu1 (fun _ _ => rfl)
    obtain ⟨lv, qu, ai, st, fo, af, bd, tc, oc, ac, B, RC, AC, RO, VO, AS, LC, LI, AL, AN, PA, EX, BF, BN, DI, TO, HO, OR, TD, TV, TW, PF, PT, DN, VA⟩ := u1
    exact f
  · refine pk_le (tj_qn AC q) 0 (fun _ => fin _ _ _ _ _ _ u hW hu (fun _ _ => rfl)) (fun npos => ?_)
    have im := Nat.mod_lt j npos
    refine tj_count (u := u) hW (Nat.le_refl 2) hu hq (fun u1 hu1 => ?_)
    obtain ⟨lv, qu, ai, st, fo, af, bd, tc, oc, ac, B9, RC9, AC9, RO9, VO9, AS9, LC, LI, AL, AN, PA, EX, BF, BN, DI, TO, HO, OR, TD, TV, TW, PF, PT, DN, VA⟩ := u1
    refine tj_answer (k := 0) hW (Nat.le_refl 2) hu1 hq (by decide) (fun u2 hu2 => ?_)
    obtain ⟨lv, qu, ai, st, fo, af, bd, tc, oc, ac, B9, RC9, AC9, RO9, VO9, AS9, LC, LI, AL, AN, PA, EX, BF, BN, DI, TO, HO, OR, TD, TV, TW, PF, PT, DN, VA⟩ := u2
    have cl := tj_ct_le (tj_as hs RO VO AC AS q) 3125
    rcases Classical.em (tj_wo VO AC AS q ∧ 0 < tj_ct (tj_as hs RO VO AC AS q) 3125) with ⟨w, cpos⟩ | hno
    · rw [tj_cv_y w]
      have e1 : nI (tj_ct (tj_as hs RO VO AC AS q) 3125) - 1 = nI (tj_ct (tj_as hs RO VO AC AS q) 3125 - 1) := by
        show nI _ - nI 1 = _
        rw [pk_sub (by omega)]
      rw [e1]
      refine tj_answer hW (Nat.le_refl 2) hu2 hq (by omega) (fun u3 hu3 => ?_)
      obtain ⟨lv, qu, ai, st, fo, af, bd, tc, oc, ac, B9, RC9, AC9, RO9, VO9, AS9, LC, LI, AL, AN, PA, EX, BF, BN, DI, TO, HO, OR, TD, TV, TW, PF, PT, DN, VA⟩ := u3
      refine And.intro (nI_ne0 npos (by omega)) ?_
      rw [ej, pk_rem (by omega) npos (by omega)]
      refine tj_cut hW hu3 hq im (fun AC' RO' VO' u4 e4 ho sub hW4 hu4 => ?_)
      have f4 := fin _ _ _ _ _ _ u4 hW4 hu4 ho
      obtain ⟨lv, qu, ai, st, fo, af, bd, tc, oc, ac, B0, RC0, AC0, RO0, VO0, AS0, LC, LI, AL, AN, PA, EX, BF, BN, DI, TO, HO, OR, TD, TV, TW, PF, PT, DN, VA⟩ := u4
      obtain ⟨_, _, rfl, rfl, rfl, rfl, rfl, _⟩ := id hu4
      obtain ⟨a, a1, a2, a3⟩ := tj_ct_at (p := tj_as hs RO VO AC AS0 q) (n := 3125) (k := 0) cpos
      obtain ⟨b, b1, b2, b3⟩ := tj_ct_at (p := tj_as hs RO VO AC AS0 q) (n := 3125) (k := tj_ct (tj_as hs RO VO AC AS0 q) 3125 - 1) (by omega)
      refine tj_wholeT hW4 hq (fun w4 => br_f (by decide) (br_f (nI_nle cpos (by omega)) ?_)) (fun _ => br_t rfl f4)
      rw [tj_kv_y w, tj_kv_y w, tj_kth_y a1 a2 a3, tj_kth_y b1 b2 b3]
      refine tj_count hW4 (Nat.le_refl 2) hu4 hq (fun u5 hu5 => ?_)
      obtain ⟨lv, qu, ai, st, fo, af, bd, tc, oc, ac, B9, RC9, AC9, RO9, VO9, AS9, LC, LI, AL, AN, PA, EX, BF, BN, DI, TO, HO, OR, TD, TV, TW, PF, PT, DN, VA⟩ := u5
      have cl4 := tj_ct_le (tj_as hs RO0 VO0 AC0 AS0 q) 3125
      refine br_f ?_ (tj_isAnswer hW4 (Nat.le_refl 2) hu5 hq w4 (sub a a2) (fun u6 hu6 => ?_))
      · rw [tj_cv_y w4]
        exact nI_nlt (tj_ct_mono (fun x _ => sub x)) (by omega)
      · obtain ⟨lv, qu, ai, st, fo, af, bd, tc, oc, ac, B9, RC9, AC9, RO9, VO9, AS9, LC, LI, AL, AN, PA, EX, BF, BN, DI, TO, HO, OR, TD, TV, TW, PF, PT, DN, VA⟩ := u6
        refine br_f (by decide) (tj_isAnswer hW4 (Nat.le_refl 2) hu6 hq w4 (sub b b2) (fun u7 hu7 => ?_))
        have f7 := fin _ _ _ _ _ _ u7 hW4 hu7 ho
        obtain ⟨lv, qu, ai, st, fo, af, bd, tc, oc, ac, B9, RC9, AC9, RO9, VO9, AS9, LC, LI, AL, AN, PA, EX, BF, BN, DI, TO, HO, OR, TD, TV, TW, PF, PT, DN, VA⟩ := u7
        exact br_f (by decide) f7
    · have cv0 : tj_cv hs RO VO AC AS q ≤ 0 ∧ ¬ 0 ≤ tj_cv hs RO VO AC AS q - 1 := by
        rcases Classical.em (tj_wo VO AC AS q) with w | w
        · rw [tj_cv_y w, show tj_ct (tj_as hs RO VO AC AS q) 3125 = 0 by
            rcases Nat.eq_zero_or_pos (tj_ct (tj_as hs RO VO AC AS q) 3125) with z | z
            · exact z
            · exact absurd ⟨w, z⟩ hno]
          exact ⟨by decide, by decide⟩
        · rw [tj_cv_n w]
          exact ⟨by decide, by decide⟩
      refine tj_answer_neg hW hu2 hq cv0.2 (fun u3 hu3 => ?_)
      obtain ⟨lv, qu, ai, st, fo, af, bd, tc, oc, ac, B9, RC9, AC9, RO9, VO9, AS9, LC, LI, AL, AN, PA, EX, BF, BN, DI, TO, HO, OR, TD, TV, TW, PF, PT, DN, VA⟩ := u3
      refine And.intro (nI_ne0 npos (by omega)) ?_
      rw [ej, pk_rem (by omega) npos (by omega)]
      refine tj_cut hW hu3 hq im (fun AC' RO' VO' u4 e4 ho sub hW4 hu4 => ?_)
      have f4 := fin _ _ _ _ _ _ u4 hW4 hu4 ho
      obtain ⟨lv, qu, ai, st, fo, af, bd, tc, oc, ac, B0, RC0, AC0, RO0, VO0, AS0, LC, LI, AL, AN, PA, EX, BF, BN, DI, TO, HO, OR, TD, TV, TW, PF, PT, DN, VA⟩ := u4
      obtain ⟨_, _, rfl, rfl, rfl, rfl, rfl, _⟩ := id hu4
      exact tj_wholeT hW4 hq (fun _ => br_f (by decide) (br_t cv0.1 f4)) (fun _ => br_t rfl f4)
theorem tj_l3 {L x : Nat} (hL : L < 2 ^ 30) (hx : x < 2 ^ 30) : (nI L - 3 < nI x) ↔ L < x + 3 := by
  have e : (nI L - 3).toInt = (L : Int) - 3 := pk_sub_toInt (b := 3) hL (by decide)
  rw [Int32.lt_iff_toInt_lt, e, nI_toInt (by omega)]
  omega
theorem tj_law15 {L : Nat} {xs : Nat → Int32} {kc ks : Nat} (hL : L ≤ 260) {hs : Nat → Nat → Prop} {u : St1} (hW : tj_Wf hs RC AC RO VO AS) (hu : tj_Wd 2 hs RC AC RO VO AS u) :
    ∃ fu, wL_law_15 (fun r => r = 1) L xs kc ks fu (nI (tj_qn AC 0)) (nI (tj_qn AC 1)) 0 u.1 u.2.1 u.2.2.1 u.2.2.2.1 u.2.2.2.2.1 u.2.2.2.2.2.1 u.2.2.2.2.2.2.1 u.2.2.2.2.2.2.2.1 u.2.2.2.2.2.2.2.2.1 u.2.2.2.2.2.2.2.2.2.1 u.2.2.2.2.2.2.2.2.2.2.1 u.2.2.2.2.2.2.2.2.2.2.2.1 u.2.2.2.2.2.2.2.2.2.2.2.2.1 u.2.2.2.2.2.2.2.2.2.2.2.2.2.1 u.2.2.2.2.2.2.2.2.2.2.2.2.2.2.1 u.2.2.2.2.2.2.2.2.2.2.2.2.2.2.2.1 u.2.2.2.2.2.2.2.2.2.2.2.2.2.2.2.2.1 u.2.2.2.2.2.2.2.2.2.2.2.2.2.2.2.2.2.1 u.2.2.2.2.2.2.2.2.2.2.2.2.2.2.2.2.2.2.1 u.2.2.2.2.2.2.2.2.2.2.2.2.2.2.2.2.2.2.2.1 u.2.2.2.2.2.2.2.2.2.2.2.2.2.2.2.2.2.2.2.2.1 u.2.2.2.2.2.2.2.2.2.2.2.2.2.2.2.2.2.2.2.2.2.1 u.2.2.2.2.2.2.2.2.2.2.2.2.2.2.2.2.2.2.2.2.2.2.1 u.2.2.2.2.2.2.2.2.2.2.2.2.2.2.2.2.2.2.2.2.2.2.2.1 u.2.2.2.2.2.2.2.2.2.2.2.2.2.2.2.2.2.2.2.2.2.2.2.2.1 u.2.2.2.2.2.2.2.2.2.2.2.2.2.2.2.2.2.2.2.2.2.2.2.2.2.1 u.2.2.2.2.2.2.2.2.2.2.2.2.2.2.2.2.2.2.2.2.2.2.2.2.2.2.1 u.2.2.2.2.2.2.2.2.2.2.2.2.2.2.2.2.2.2.2.2.2.2.2.2.2.2.2.1 u.2.2.2.2.2.2.2.2.2.2.2.2.2.2.2.2.2.2.2.2.2.2.2.2.2.2.2.2.1 u.2.2.2.2.2.2.2.2.2.2.2.2.2.2.2.2.2.2.2.2.2.2.2.2.2.2.2.2.2.1 u.2.2.2.2.2.2.2.2.2.2.2.2.2.2.2.2.2.2.2.2.2.2.2.2.2.2.2.2.2.2.1 u.2.2.2.2.2.2.2.2.2.2.2.2.2.2.2.2.2.2.2.2.2.2.2.2.2.2.2.2.2.2.2.1 u.2.2.2.2.2.2.2.2.2.2.2.2.2.2.2.2.2.2.2.2.2.2.2.2.2.2.2.2.2.2.2.2.1 u.2.2.2.2.2.2.2.2.2.2.2.2.2.2.2.2.2.2.2.2.2.2.2.2.2.2.2.2.2.2.2.2.2.1 u.2.2.2.2.2.2.2.2.2.2.2.2.2.2.2.2.2.2.2.2.2.2.2.2.2.2.2.2.2.2.2.2.2.2 := by
  refine loop_m (fun n (s : (Nat → Int32) × Nat × St1) => wL_law_15 (fun r => r = 1) L xs kc ks n (nI (tj_qn s.1 0)) (nI (tj_qn s.1 1)) (nI s.2.1) s.2.2.1 s.2.2.2.1 s.2.2.2.2.1 s.2.2.2.2.2.1 s.2.2.2.2.2.2.1 s.2.2.2.2.2.2.2.1 s.2.2.2.2.2.2.2.2.1 s.2.2.2.2.2.2.2.2.2.1 s.2.2.2.2.2.2.2.2.2.2.1 s.2.2.2.2.2.2.2.2.2.2.2.1 s.2.2.2.2.2.2.2.2.2.2.2.2.1 s.2.2.2.2.2.2.2.2.2.2.2.2.2.1 s.2.2.2.2.2.2.2.2.2.2.2.2.2.2.1 s.2.2.2.2.2.2.2.2.2.2.2.2.2.2.2.1 s.2.2.2.2.2.2.2.2.2.2.2.2.2.2.2.2.1 s.2.2.2.2.2.2.2.2.2.2.2.2.2.2.2.2.2.1 s.2.2.2.2.2.2.2.2.2.2.2.2.2.2.2.2.2.2.1 s.2.2.2.2.2.2.2.2.2.2.2.2.2.2.2.2.2.2.2.1 s.2.2.2.2.2.2.2.2.2.2.2.2.2.2.2.2.2.2.2.2.1 s.2.2.2.2.2.2.2.2.2.2.2.2.2.2.2.2.2.2.2.2.2.1 s.2.2.2.2.2.2.2.2.2.2.2.2.2.2.2.2.2.2.2.2.2.2.1 s.2.2.2.2.2.2.2.2.2.2.2.2.2.2.2.2.2.2.2.2.2.2.2.1 s.2.2.2.2.2.2.2.2.2.2.2.2.2.2.2.2.2.2.2.2.2.2.2.2.1 s.2.2.2.2.2.2.2.2.2.2.2.2.2.2.2.2.2.2.2.2.2.2.2.2.2.1 s.2.2.2.2.2.2.2.2.2.2.2.2.2.2.2.2.2.2.2.2.2.2.2.2.2.2.1 s.2.2.2.2.2.2.2.2.2.2.2.2.2.2.2.2.2.2.2.2.2.2.2.2.2.2.2.1 s.2.2.2.2.2.2.2.2.2.2.2.2.2.2.2.2.2.2.2.2.2.2.2.2.2.2.2.2.1 s.2.2.2.2.2.2.2.2.2.2.2.2.2.2.2.2.2.2.2.2.2.2.2.2.2.2.2.2.2.1 s.2.2.2.2.2.2.2.2.2.2.2.2.2.2.2.2.2.2.2.2.2.2.2.2.2.2.2.2.2.2.1 s.2.2.2.2.2.2.2.2.2.2.2.2.2.2.2.2.2.2.2.2.2.2.2.2.2.2.2.2.2.2.2.1 s.2.2.2.2.2.2.2.2.2.2.2.2.2.2.2.2.2.2.2.2.2.2.2.2.2.2.2.2.2.2.2.2.1 s.2.2.2.2.2.2.2.2.2.2.2.2.2.2.2.2.2.2.2.2.2.2.2.2.2.2.2.2.2.2.2.2.2.1 s.2.2.2.2.2.2.2.2.2.2.2.2.2.2.2.2.2.2.2.2.2.2.2.2.2.2.2.2.2.2.2.2.2.2.1 s.2.2.2.2.2.2.2.2.2.2.2.2.2.2.2.2.2.2.2.2.2.2.2.2.2.2.2.2.2.2.2.2.2.2.2.1 s.2.2.2.2.2.2.2.2.2.2.2.2.2.2.2.2.2.2.2.2.2.2.2.2.2.2.2.2.2.2.2.2.2.2.2.2)
    (fun s => s.2.1 ≤ L + 3 ∧ ∃ (hs' : Nat → Nat → Prop) (RC' RO' VO' AS' : Nat → Int32), tj_Wf hs' RC' s.1 RO' VO' AS' ∧ tj_Wd 2 hs' RC' s.1 RO' VO' AS' s.2.2) (fun s => L + 3 - s.2.1) ?_ (AC, 0, u) ⟨Nat.zero_le _, hs, RC, RO, VO, AS, hW, hu⟩
  rintro n ⟨ac1, t, v⟩ ⟨ht, hs1, RC1, RO1, VO1, AS1, hW1, hv⟩ hn
  dsimp only at ht hW1 hv hn ⊢
  refine br_c (fun z => ?_) (fun z => ?_)
  · refine tj_holds (q := 0) (u := v) hW1 hv (by decide) (fun u1 h1 => ?_)
    obtain ⟨lv, qu, ai, st, fo, af, bd, tc, oc, ac, B, RC, AC, RO, VO, AS, LC, LI, AL, AN, PA, EX, BF, BN, DI, TO, HO, OR, TD, TV, TW, PF, PT, DN, VA⟩ := u1
    refine br_f (by decide) (tj_holds (q := 1) hW1 h1 (by decide) (fun u2 h2 => ?_))
    obtain ⟨lv, qu, ai, st, fo, af, bd, tc, oc, ac, B, RC, AC, RO, VO, AS, LC, LI, AL, AN, PA, EX, BF, BN, DI, TO, HO, OR, TD, TV, TW, PF, PT, DN, VA⟩ := u2
    exact br_f (by decide) rfl
  · have zl : ¬ L < t + 3 := fun y => z ((tj_l3 (by omega) (by omega)).mpr y)
    obtain ⟨j5, hj5, e5⟩ := pk_andE (xs (t + 1)) (m := 255) 8 (by decide)
    obtain ⟨j6, hj6, e6⟩ := pk_andE (xs (t + 2)) (m := 255) 8 (by decide)
    have t1 : nI t + 1 = nI (t + 1) := nI_add t 1
    have t2 : nI t + 2 = nI (t + 2) := nI_add t 2
    have m3 := Nat.mod_lt j5 (show 3 > 0 by decide)
    refine And.intro (pk_in (t + 1) L (by omega) t1) (nm_r (e' := xs (t + 1)) (by rw [t1, nI_clamp (by omega)]) (And.intro (pk_in (t + 2) L (by omega) t2) (nm_r (e' := xs (t + 2)) (by rw [t2, nI_clamp (by omega)]) (And.intro (by decide) (nm_r (e' := nI (j5 % 3)) (by rw [e5]; exact pk_rem (d := 3) (by omega) (by decide) (by decide)) ?_)))))
    have l69 : wL_law_69 (fun r => r = 1) L xs (wL_law_15 (fun r => r = 1) L xs kc ks n) (nI (tj_qn ac1 0)) (nI (tj_qn ac1 1)) (nI t) (xs (t + 1)) (xs (t + 2)) (nI (j5 % 3)) (nI (tj_rw (j5 % 3))) (xs (t + 2) &&& 255) kc ks v.1 v.2.1 v.2.2.1 v.2.2.2.1 v.2.2.2.2.1 v.2.2.2.2.2.1 v.2.2.2.2.2.2.1 v.2.2.2.2.2.2.2.1 v.2.2.2.2.2.2.2.2.1 v.2.2.2.2.2.2.2.2.2.1 v.2.2.2.2.2.2.2.2.2.2.1 v.2.2.2.2.2.2.2.2.2.2.2.1 v.2.2.2.2.2.2.2.2.2.2.2.2.1 v.2.2.2.2.2.2.2.2.2.2.2.2.2.1 v.2.2.2.2.2.2.2.2.2.2.2.2.2.2.1 v.2.2.2.2.2.2.2.2.2.2.2.2.2.2.2.1 v.2.2.2.2.2.2.2.2.2.2.2.2.2.2.2.2.1 v.2.2.2.2.2.2.2.2.2.2.2.2.2.2.2.2.2.1 v.2.2.2.2.2.2.2.2.2.2.2.2.2.2.2.2.2.2.1 v.2.2.2.2.2.2.2.2.2.2.2.2.2.2.2.2.2.2.2.1 v.2.2.2.2.2.2.2.2.2.2.2.2.2.2.2.2.2.2.2.2.1 v.2.2.2.2.2.2.2.2.2.2.2.2.2.2.2.2.2.2.2.2.2.1 v.2.2.2.2.2.2.2.2.2.2.2.2.2.2.2.2.2.2.2.2.2.2.1 v.2.2.2.2.2.2.2.2.2.2.2.2.2.2.2.2.2.2.2.2.2.2.2.1 v.2.2.2.2.2.2.2.2.2.2.2.2.2.2.2.2.2.2.2.2.2.2.2.2.1 v.2.2.2.2.2.2.2.2.2.2.2.2.2.2.2.2.2.2.2.2.2.2.2.2.2.1 v.2.2.2.2.2.2.2.2.2.2.2.2.2.2.2.2.2.2.2.2.2.2.2.2.2.2.1 v.2.2.2.2.2.2.2.2.2.2.2.2.2.2.2.2.2.2.2.2.2.2.2.2.2.2.2.1 v.2.2.2.2.2.2.2.2.2.2.2.2.2.2.2.2.2.2.2.2.2.2.2.2.2.2.2.2.1 v.2.2.2.2.2.2.2.2.2.2.2.2.2.2.2.2.2.2.2.2.2.2.2.2.2.2.2.2.2.1 v.2.2.2.2.2.2.2.2.2.2.2.2.2.2.2.2.2.2.2.2.2.2.2.2.2.2.2.2.2.2.1 v.2.2.2.2.2.2.2.2.2.2.2.2.2.2.2.2.2.2.2.2.2.2.2.2.2.2.2.2.2.2.2.1 v.2.2.2.2.2.2.2.2.2.2.2.2.2.2.2.2.2.2.2.2.2.2.2.2.2.2.2.2.2.2.2.2.1 v.2.2.2.2.2.2.2.2.2.2.2.2.2.2.2.2.2.2.2.2.2.2.2.2.2.2.2.2.2.2.2.2.2.1 v.2.2.2.2.2.2.2.2.2.2.2.2.2.2.2.2.2.2.2.2.2.2.2.2.2.2.2.2.2.2.2.2.2.2 := by
      have rb := tj_rw_b (j5 % 3)
      obtain ⟨q, hq, eq⟩ := pk_andE (xs (t + 1) >>> ((8 : Int32) &&& 31)) (m := 1) 1 (by decide)
      unfold wL_law_69
      refine And.intro (nI_ne0 (by omega) (by omega)) (nm_r (e' := nI (j6 % tj_rw (j5 % 3))) (by rw [e6, pk_rem (by omega) (by omega) (by omega)]) (nm_r eq ?_))
      have rm := Nat.mod_lt j6 (show tj_rw (j5 % 3) > 0 by omega)
      have HJ : ∀ (hs' : Nat → Nat → Prop) (RC' AC' RO' VO' AS' : Nat → Int32) u', tj_Wf hs' RC' AC' RO' VO' AS' → tj_Wd 2 hs' RC' AC' RO' VO' AS' u' → wL_law_15 (fun r => r = 1) L xs kc ks n (nI (tj_qn AC' 0)) (nI (tj_qn AC' 1)) (nI (t + 3)) u'.1 u'.2.1 u'.2.2.1 u'.2.2.2.1 u'.2.2.2.2.1 u'.2.2.2.2.2.1 u'.2.2.2.2.2.2.1 u'.2.2.2.2.2.2.2.1 u'.2.2.2.2.2.2.2.2.1 u'.2.2.2.2.2.2.2.2.2.1 u'.2.2.2.2.2.2.2.2.2.2.1 u'.2.2.2.2.2.2.2.2.2.2.2.1 u'.2.2.2.2.2.2.2.2.2.2.2.2.1 u'.2.2.2.2.2.2.2.2.2.2.2.2.2.1 u'.2.2.2.2.2.2.2.2.2.2.2.2.2.2.1 u'.2.2.2.2.2.2.2.2.2.2.2.2.2.2.2.1 u'.2.2.2.2.2.2.2.2.2.2.2.2.2.2.2.2.1 u'.2.2.2.2.2.2.2.2.2.2.2.2.2.2.2.2.2.1 u'.2.2.2.2.2.2.2.2.2.2.2.2.2.2.2.2.2.2.1 u'.2.2.2.2.2.2.2.2.2.2.2.2.2.2.2.2.2.2.2.1 u'.2.2.2.2.2.2.2.2.2.2.2.2.2.2.2.2.2.2.2.2.1 u'.2.2.2.2.2.2.2.2.2.2.2.2.2.2.2.2.2.2.2.2.2.1 u'.2.2.2.2.2.2.2.2.2.2.2.2.2.2.2.2.2.2.2.2.2.2.1 u'.2.2.2.2.2.2.2.2.2.2.2.2.2.2.2.2.2.2.2.2.2.2.2.1 u'.2.2.2.2.2.2.2.2.2.2.2.2.2.2.2.2.2.2.2.2.2.2.2.2.1 u'.2.2.2.2.2.2.2.2.2.2.2.2.2.2.2.2.2.2.2.2.2.2.2.2.2.1 u'.2.2.2.2.2.2.2.2.2.2.2.2.2.2.2.2.2.2.2.2.2.2.2.2.2.2.1 u'.2.2.2.2.2.2.2.2.2.2.2.2.2.2.2.2.2.2.2.2.2.2.2.2.2.2.2.1 u'.2.2.2.2.2.2.2.2.2.2.2.2.2.2.2.2.2.2.2.2.2.2.2.2.2.2.2.2.1 u'.2.2.2.2.2.2.2.2.2.2.2.2.2.2.2.2.2.2.2.2.2.2.2.2.2.2.2.2.2.1 u'.2.2.2.2.2.2.2.2.2.2.2.2.2.2.2.2.2.2.2.2.2.2.2.2.2.2.2.2.2.2.1 u'.2.2.2.2.2.2.2.2.2.2.2.2.2.2.2.2.2.2.2.2.2.2.2.2.2.2.2.2.2.2.2.1 u'.2.2.2.2.2.2.2.2.2.2.2.2.2.2.2.2.2.2.2.2.2.2.2.2.2.2.2.2.2.2.2.2.1 u'.2.2.2.2.2.2.2.2.2.2.2.2.2.2.2.2.2.2.2.2.2.2.2.2.2.2.2.2.2.2.2.2.2.1 u'.2.2.2.2.2.2.2.2.2.2.2.2.2.2.2.2.2.2.2.2.2.2.2.2.2.2.2.2.2.2.2.2.2.2 :=
        fun hs' RC' AC' RO' VO' AS' u' hW' hu' => hn (AC', t + 3, u') ⟨by show t + 3 ≤ L + 3; omega, hs', RC', RO', VO', AS', hW', hu'⟩ (by show L + 3 - (t + 3) < L + 3 - t; omega)
      refine pk_eq q 0 (fun e => ?_) (fun ne => ?_)
      · subst e
        exact tj_law91 (q := 0) hL (by omega) hW1 hv (by decide) m3 rm rfl rfl HJ
      · have e : q = 1 := by omega
        subst e
        exact tj_law91 (q := 1) hL (by omega) hW1 hv (by decide) m3 rm rfl rfl HJ
    exact pk_eq (j5 % 3) 2 (fun e => by rw [show tj_rw (j5 % 3) = 125 from if_pos e] at l69; exact l69) (fun e => by rw [show tj_rw (j5 % 3) = 25 from if_neg e] at l69; exact l69)
end
theorem i_vc (xs : Nat → Int32) (L : Nat) (hL : L ≤ 260) : wpL_law (fun r => r = 1) L xs := by
  have nohas : ∀ r row, ¬ tj_has (fun _ => 0) 0 r row := fun r row h => by
    have := h.2.2
    rw [tj_bl_0] at this
    exact absurd this (by decide)
  have hW : tj_Wf (tj_has (fun _ => 0) 0) (fun _ => 0) (fun _ => 0) (fun _ => 0) (fun _ => 0) (fun _ => 0) := by
    refine ⟨fun q hq => ⟨⟨0, by decide, rfl⟩, fun i hi mi => ?_⟩, fun q hq => ⟨0, by decide, rfl⟩, fun r hr => ?_⟩
    · exfalso
      have e : tj_qm (fun _ => 0) q = 0 := rfl
      rw [e, Nat.zero_testBit] at mi
      exact absurd mi (by decide)
    · have e : tj_ct (tj_has (fun _ => 0) 0 r) 125 = 0 := tj_ct_none (fun a _ => nohas r a)
      rw [e]
      exact ⟨by decide, rfl⟩
  have main := tj_law15 (xs := xs) (kc := 1 + 25) (ks := 35 + 679) hL (u := (2, 0, 0, 0, 0, 0, 0, 0, 0, 0, (fun _ => 0), (fun _ => 0), (fun _ => 0), (fun _ => 0), (fun _ => 0), (fun _ => 0), (fun _ => 0), (fun _ => 0), (fun _ => 0), (fun _ => 0), (fun _ => 0), (fun _ => 0), (fun _ => 0), (fun _ => 0), (fun _ => 0), (fun _ => 0), (fun _ => 0), (fun _ => 0), (fun _ => 0), (fun _ => 0), (fun _ => 0), (fun _ => 0), (fun _ => 0), (fun _ => 0), (fun _ => 0))) hW ⟨rfl, rfl, rfl, rfl, rfl, rfl, rfl, fun v _ => ⟨0, by decide, rfl⟩⟩
  unfold wpL_law
  refine ⟨25, 679, by decide, by decide, ?_⟩
  unfold wpX_init
  dsimp only
  repeat' apply And.intro
  all_goals first | decide | exact main
end
