section
/-! rows of kit/rows, pasted (starting text) -/
theorem pk_us {f : Nat → Int32} {k : Nat} {x : Int32} : upd f k x k = x := if_pos rfl
theorem pk_un {f : Nat → Int32} {k j : Nat} {x : Int32} (h : j ≠ k) : upd f k x j = f j := if_neg h
theorem pk_sub {a b : Nat} (h : b ≤ a) : nI a - nI b = nI (a - b) := by
  obtain ⟨c, rfl⟩ : ∃ c, a = c + b := ⟨a - b, by omega⟩
  rw [← nI_add, Int32.add_sub_cancel, Nat.add_sub_cancel]
theorem pk_m1 (n : Nat) : nI (n + 1) + (-1) = nI n := by
  rw [← nI_1, Int32.add_assoc, show (1 : Int32) + (-1) = 0 from rfl, Int32.add_zero]
theorem pk_mul (a b : Nat) : nI a * nI b = nI (a * b) := (Int32.ofNat_mul a b).symm
theorem pk_div {a d : Nat} (ha : a < 2 ^ 31) (h0 : 0 < d) (hd : d < 2 ^ 31) : nI a / nI d = nI (a / d) := by
  apply Int32.toInt_inj.mp
  rw [lg_idiv_nonneg (by rw [nI_toInt ha]; omega) (by rw [nI_toInt hd]; omega), nI_toInt ha, nI_toInt hd, nI_toInt (Nat.lt_of_le_of_lt (Nat.div_le_self a d) ha)]
  first | rfl | exact (Int.natCast_ediv _ _).symm
theorem pk_rem {a d : Nat} (ha : a < 2 ^ 31) (h0 : 0 < d) (hd : d < 2 ^ 31) : nI a - nI a / nI d * nI d = nI (a % d) := by
  rw [pk_div ha h0 hd, pk_mul, pk_sub (Nat.div_mul_le_self a d)]
  exact congrArg nI (by have := Nat.div_add_mod' a d; omega)
theorem pk_ix (x : Int32) {n : Nat} (hn : n < 2 ^ 31) : x < 0 ∨ nI n ≤ x ∨ ∃ j : Nat, j < n ∧ x = nI j := by
  by_cases h : x < 0
  · exact Or.inl h
  · obtain ⟨j, hj, rfl⟩ := nI_of h
    by_cases h2 : j < n
    · exact Or.inr (Or.inr ⟨j, h2, rfl⟩)
    · exact Or.inr (Or.inl (nI_le (by omega) hj))
theorem pk_le {x y : Int32} {A B : Prop} (a b : Nat) (f : a ≤ b → A) (g : b < a → B) (hx : x = nI a := by rfl) (hy : y = nI b := by rfl) (ha : a < 2 ^ 31 := by omega) (hb : b < 2 ^ 31 := by omega) : (x ≤ y → A) ∧ (¬ x ≤ y → B) := by
  subst hx hy
  rw [nI_leI ha hb]
  exact ⟨f, fun z => g (by omega)⟩
theorem pk_lt {x y : Int32} {A B : Prop} (a b : Nat) (f : a < b → A) (g : b ≤ a → B) (hx : x = nI a := by rfl) (hy : y = nI b := by rfl) (ha : a < 2 ^ 31 := by omega) (hb : b < 2 ^ 31 := by omega) : (x < y → A) ∧ (¬ x < y → B) := by
  subst hx hy
  rw [nI_ltI ha hb]
  exact ⟨f, fun z => g (by omega)⟩
theorem pk_eq {x y : Int32} {A B : Prop} (a b : Nat) (f : a = b → A) (g : a ≠ b → B) (hx : x = nI a := by rfl) (hy : y = nI b := by rfl) (ha : a < 2 ^ 31 := by omega) (hb : b < 2 ^ 31 := by omega) : (x = y → A) ∧ (¬ x = y → B) := by
  subst hx hy
  rw [nI_eq ha hb]
  exact ⟨f, g⟩
theorem pk_in {x : Int32} (n N : Nat) (h : n < N) (hx : x = nI n := by rfl) (hN : N < 2 ^ 31 := by omega) : vp_in x N := by
  subst hx
  exact vp_in_nI h hN
theorem pk_cl {x : Int32} (n : Nat) (hx : x = nI n := by rfl) (h : n < 2 ^ 31 := by omega) : x.toNatClampNeg = n := by
  subst hx
  exact nI_clamp h
theorem nx_and (a b : Nat) : nI a &&& nI b = nI (a &&& b) := by
  apply Int32.toBitVec_inj.1
  show BitVec.ofNat 32 a &&& BitVec.ofNat 32 b = BitVec.ofNat 32 (a &&& b)
  apply BitVec.eq_of_getLsbD_eq
  intro i hi
  simp [hi]
/-! own rows: ints by numbers -/
theorem gn_or (a b : Nat) : nI a ||| nI b = nI (a ||| b) := by
  apply Int32.toBitVec_inj.1
  show BitVec.ofNat 32 a ||| BitVec.ofNat 32 b = BitVec.ofNat 32 (a ||| b)
  apply BitVec.eq_of_getLsbD_eq
  intro i hi
  simp [hi]
theorem gn_of (x : Int32) : x = nI x.toBitVec.toNat := by
  apply Int32.toBitVec_inj.1
  show x.toBitVec = BitVec.ofNat 32 x.toBitVec.toNat
  simp
theorem gn_pow : ∀ v, v < 31 → ((1 : Int32) <<< (nI v &&& 31)) = nI (2 ^ v) := by decide +kernel
theorem gn_tb : ∀ m, m < 64 → ∀ v, v < 6 → ((nI m >>> (nI v &&& 31)) &&& 1) = nI (m.testBit v).toNat := by decide +kernel
/-- a mask without a bit -/
def gn_cl (m v : Nat) : Nat := m &&& (63 - 2 ^ v)
theorem gn_clr : ∀ m, m < 64 → ∀ v, v < 6 → (nI m &&& (((1 : Int32) <<< (nI v &&& 31)) ^^^ (-1))) = nI (gn_cl m v) := by decide +kernel
theorem gn_clb : ∀ m, m < 64 → ∀ v, v < 6 → ∀ w, w < 6 → (gn_cl m v).testBit w = (m.testBit w && !decide (w = v)) := by decide +kernel
theorem gn_cll {m : Nat} (h : m < 64) (v : Nat) : gn_cl m v < 64 := Nat.lt_of_le_of_lt Nat.and_le_left h
theorem gn_b1 (b : Bool) : (nI b.toNat = 1) ↔ b = true := by cases b <;> decide
theorem gn_b0 (b : Bool) : (nI b.toNat = 0) ↔ b = false := by cases b <;> decide
theorem gn_tb1 {m v : Nat} (hm : m < 64) (hv : v < 6) : ((nI m >>> (nI v &&& 31)) &&& 1) = 1 ↔ m.testBit v = true := by
  rw [gn_tb m hm v hv, gn_b1]
theorem gn_tb0 {m v : Nat} (hm : m < 64) (hv : v < 6) : ((nI m >>> (nI v &&& 31)) &&& 1) = 0 ↔ m.testBit v = false := by
  rw [gn_tb m hm v hv, gn_b0]
/-- a branch by an equivalent fact -/
theorem gn_if {c A B : Prop} {b : Bool} (e : c ↔ b = true) (f : b = true → A) (g : b = false → B) : (c → A) ∧ (¬ c → B) :=
  ⟨fun h => f (e.mp h), fun h => g (by cases b with | false => rfl | true => exact absurd (e.mpr rfl) h)⟩
theorem gn_if0 {c A B : Prop} {b : Bool} (e : c ↔ b = false) (f : b = false → A) (g : b = true → B) : (c → A) ∧ (¬ c → B) :=
  ⟨fun h => f (e.mp h), fun h => g (by cases b with | true => rfl | false => exact absurd (e.mpr rfl) h)⟩
theorem gn_g6 (g v : Nat) : nI g * 6 + nI v = nI (g * 6 + v) := by
  show nI g * nI 6 + nI v = _
  rw [pk_mul, nI_add]
theorem gn_g720 (g v : Nat) : nI g * 720 + nI v = nI (g * 720 + v) := by
  show nI g * nI 720 + nI v = _
  rw [pk_mul, nI_add]
theorem gn_g36 (g v : Nat) : nI g * 36 + nI v = nI (g * 36 + v) := by
  show nI g * nI 36 + nI v = _
  rw [pk_mul, nI_add]
theorem gn_e (g u v : Nat) : nI g * 36 + 6 * nI u + nI v = nI (g * 36 + 6 * u + v) := by
  show nI g * nI 36 + nI 6 * nI u + nI v = _
  rw [pk_mul, pk_mul, nI_add, nI_add]
/-! numbers by their bits -/
def gb_nb (f : Nat → Bool) : Nat → Nat
  | 0 => 0
  | n + 1 => 2 ^ n * (f n).toNat + gb_nb f n
theorem gb_lt (f : Nat → Bool) : ∀ n, gb_nb f n < 2 ^ n
  | 0 => Nat.one_pos
  | n + 1 => by
    have h := gb_lt f n
    have h2 : 2 ^ n * (f n).toNat ≤ 2 ^ n * 1 := Nat.mul_le_mul_left _ (Bool.toNat_le _)
    show 2 ^ n * (f n).toNat + gb_nb f n < 2 ^ (n + 1)
    rw [Nat.pow_succ]
    rw [Nat.mul_one] at h2
    omega
theorem gb_bit (f : Nat → Bool) : ∀ n i, (gb_nb f n).testBit i = (decide (i < n) && f i)
  | 0, i => by simp [gb_nb]
  | n + 1, i => by
    show (2 ^ n * (f n).toNat + gb_nb f n).testBit i = _
    rw [Nat.testBit_two_pow_mul_add _ (gb_lt f n), gb_bit f n i]
    by_cases h : i < n
    · have h2 : i < n + 1 := by omega
      simp [h, h2]
    · rw [if_neg h]
      by_cases h2 : i = n
      · subst h2
        cases hf : f i <;> simp
      · have h3 : ¬ i < n + 1 := by omega
        obtain ⟨d, hd⟩ : ∃ d, i - n = d + 1 := ⟨i - n - 1, by omega⟩
        have h4 : (f n).toNat < 2 ^ (d + 1) := by
          have := Nat.one_le_two_pow (n := d)
          have := Bool.toNat_le (f n)
          rw [Nat.pow_succ]
          omega
        rw [hd, Nat.testBit_lt_two_pow h4]
        simp [h3]
theorem gb_ext {f g : Nat → Bool} : ∀ n, (∀ i, i < n → f i = g i) → gb_nb f n = gb_nb g n
  | 0, _ => rfl
  | n + 1, h => by
    show 2 ^ n * (f n).toNat + gb_nb f n = 2 ^ n * (g n).toNat + gb_nb g n
    rw [h n (Nat.lt_succ_self n), gb_ext n (fun i hi => h i (Nat.lt_succ_of_lt hi))]
theorem gb_hi {x n i : Nat} (h : x < 2 ^ n) (hi : n ≤ i) : x.testBit i = false :=
  Nat.testBit_lt_two_pow (Nat.lt_of_lt_of_le h (Nat.pow_le_pow_right (by decide) hi))
theorem gb_eq {x n : Nat} {f : Nat → Bool} (h : x < 2 ^ n) (hb : ∀ i, i < n → x.testBit i = f i) : x = gb_nb f n := by
  apply Nat.eq_of_testBit_eq
  intro i
  rw [gb_bit]
  by_cases hi : i < n
  · rw [hb i hi]; simp [hi]
  · rw [gb_hi h (by omega)]; simp [hi]
theorem gb_x {x y n : Nat} (hx : x < 2 ^ n) (hy : y < 2 ^ n) (hb : ∀ i, i < n → x.testBit i = y.testBit i) : x = y := by
  rw [gb_eq hx hb, ← gb_eq hy (fun i _ => rfl)]
theorem gb_or (f g : Nat → Bool) (n : Nat) : gb_nb f n ||| gb_nb g n = gb_nb (fun i => f i || g i) n := by
  apply Nat.eq_of_testBit_eq
  intro i
  rw [Nat.testBit_or, gb_bit, gb_bit, gb_bit]
  cases decide (i < n) <;> simp
theorem gb_orp (f : Nat → Bool) {n k : Nat} (hk : k < n) : gb_nb f n ||| 2 ^ k = gb_nb (fun i => f i || decide (i = k)) n := by
  apply Nat.eq_of_testBit_eq
  intro i
  rw [Nat.testBit_or, gb_bit, gb_bit, Nat.testBit_two_pow]
  by_cases h : i = k
  · subst h; simp [hk]
  · have h2 : ¬ k = i := fun e => h e.symm
    simp [h, h2]
theorem gb_le {f g : Nat → Bool} {n : Nat} (h : ∀ i, i < n → f i = true → g i = true) : gb_nb f n ≤ gb_nb g n := by
  apply Nat.le_of_testBit
  intro i
  rw [gb_bit, gb_bit]
  by_cases hi : i < n
  · simp only [hi, decide_true, Bool.true_and]
    exact h i hi
  · simp [hi]
theorem gb_inj {f g : Nat → Bool} {n : Nat} (h : gb_nb f n = gb_nb g n) : ∀ i, i < n → f i = g i := by
  intro i hi
  have h1 := gb_bit f n i
  rw [h, gb_bit] at h1
  simpa [hi] using h1.symm
theorem gb_0 (n : Nat) : gb_nb (fun _ => false) n = 0 := by
  induction n with
  | zero => rfl
  | succ n ih => show 2 ^ n * 0 + gb_nb (fun _ => false) n = 0; rw [ih, Nat.mul_zero]
theorem gb_z {f : Nat → Bool} {n : Nat} (h : ∀ i, i < n → f i = false) : gb_nb f n = 0 := by
  rw [gb_ext n h, gb_0]
theorem gb_split (f : Nat → Bool) (n : Nat) : ∀ m, gb_nb f (n + m) = 2 ^ n * gb_nb (fun i => f (n + i)) m + gb_nb f n
  | 0 => by simp [gb_nb]
  | m + 1 => by
    show 2 ^ (n + m) * (f (n + m)).toNat + gb_nb f (n + m) = 2 ^ n * (2 ^ m * (f (n + m)).toNat + gb_nb (fun i => f (n + i)) m) + gb_nb f n
    rw [gb_split f n m, Nat.pow_add, Nat.mul_add, Nat.mul_assoc, Nat.add_assoc]
end
section
/-! the code of a graph whose vertices stand at the places 0 to 5: colours from bit 26 down, pairs from bit 14 down -/
def gc_pi (b : Nat) : Nat := [4, 3, 3, 2, 2, 2, 1, 1, 1, 1, 0, 0, 0, 0, 0].getD b 0
def gc_pj (b : Nat) : Nat := [5, 5, 4, 5, 4, 3, 5, 4, 3, 2, 5, 4, 3, 2, 1].getD b 0
def gc_pb (i j : Nat) : Nat := 14 - (i * (11 - i) / 2 + j - i - 1)
theorem gc_pb1 : ∀ b, b < 15 → gc_pi b < gc_pj b ∧ gc_pj b < 6 ∧ gc_pb (gc_pi b) (gc_pj b) = b := by decide +kernel
theorem gc_pb2 : ∀ j, j < 6 → ∀ i, i < j → gc_pb i j < 15 ∧ gc_pi (gc_pb i j) = i ∧ gc_pj (gc_pb i j) = j := by decide +kernel
def gc_bit (C : Nat → Nat) (E : Nat → Nat → Bool) (b : Nat) : Bool :=
  if b < 15 then E (gc_pi b) (gc_pj b) else (C ((26 - b) / 2)).testBit ((b + 1) % 2)
def gc_code (C : Nat → Nat) (E : Nat → Nat → Bool) : Nat := gb_nb (gc_bit C E) 27
/-- a graph: colours below 4, edges both ways, no loops -/
def gc_G (C : Nat → Nat) (E : Nat → Nat → Bool) : Prop :=
  (∀ v, v < 6 → C v < 4) ∧ (∀ u, u < 6 → ∀ v, v < 6 → E u v = E v u) ∧ (∀ u, u < 6 → E u u = false)
/-- one graph -/
def gc_eq (C : Nat → Nat) (E : Nat → Nat → Bool) (C' : Nat → Nat) (E' : Nat → Nat → Bool) : Prop :=
  (∀ p, p < 6 → C p = C' p) ∧ (∀ i, i < 6 → ∀ j, j < 6 → E i j = E' i j)
theorem gc_code_of {C C' : Nat → Nat} {E E' : Nat → Nat → Bool} (h : gc_eq C E C' E') : gc_code C E = gc_code C' E' := by
  apply gb_ext
  intro b hb
  unfold gc_bit
  by_cases h15 : b < 15
  · rw [if_pos h15, if_pos h15]
    have := gc_pb1 b h15
    exact h.2 _ (by omega) _ (by omega)
  · rw [if_neg h15, if_neg h15, h.1 _ (by omega)]
theorem gc_code_inj {C C' : Nat → Nat} {E E' : Nat → Nat → Bool} (h1 : gc_G C E) (h2 : gc_G C' E') (h : gc_code C E = gc_code C' E') : gc_eq C E C' E' := by
  have hb := gb_inj h
  constructor
  · intro p hp
    have a := hb (25 - 2 * p) (by omega)
    have b := hb (26 - 2 * p) (by omega)
    unfold gc_bit at a b
    rw [if_neg (by omega), if_neg (by omega), show (26 - (25 - 2 * p)) / 2 = p by omega, show (25 - 2 * p + 1) % 2 = 0 by omega] at a
    rw [if_neg (by omega), if_neg (by omega), show (26 - (26 - 2 * p)) / 2 = p by omega, show (26 - 2 * p + 1) % 2 = 1 by omega] at b
    refine gb_x (n := 2) (h1.1 p hp) (h2.1 p hp) ?_
    intro i hi
    obtain rfl | rfl : i = 0 ∨ i = 1 := by omega
    · exact a
    · exact b
  · have key : ∀ i j, i < j → j < 6 → E i j = E' i j := by
      intro i j hij hj
      have p := gc_pb2 j hj i hij
      have a := hb (gc_pb i j) (by omega)
      unfold gc_bit at a
      rw [if_pos p.1, if_pos p.1, p.2.1, p.2.2] at a
      exact a
    intro i hi j hj
    rcases Nat.lt_trichotomy i j with h | h | h
    · exact key i j h hj
    · subst h; rw [h1.2.2 i hi, h2.2.2 i hi]
    · rw [h1.2.1 i hi j hj, h2.2.1 i hi j hj]; exact key j i h hi
theorem gc_code_lt (C : Nat → Nat) (E : Nat → Nat → Bool) : gc_code C E < 134217728 := gb_lt _ 27
/-! the colours' part -/
theorem gc_c4 : ∀ c, c < 4 → 2 * (c.testBit 1).toNat + (c.testBit 0).toNat = c := by decide
def gc_col (C : Nat → Nat) : Nat := C 0 * 1024 + C 1 * 256 + C 2 * 64 + C 3 * 16 + C 4 * 4 + C 5
theorem gc_colb (C : Nat → Nat) (h : ∀ v, v < 6 → C v < 4) : gb_nb (fun i => (C ((11 - i) / 2)).testBit (i % 2)) 12 = gc_col C := by
  have h0 := gc_c4 _ (h 0 (by decide))
  have h1 := gc_c4 _ (h 1 (by decide))
  have h2 := gc_c4 _ (h 2 (by decide))
  have h3 := gc_c4 _ (h 3 (by decide))
  have h4 := gc_c4 _ (h 4 (by decide))
  have h5 := gc_c4 _ (h 5 (by decide))
  show 2048 * ((C 0).testBit 1).toNat + (1024 * ((C 0).testBit 0).toNat + (512 * ((C 1).testBit 1).toNat + (256 * ((C 1).testBit 0).toNat + (128 * ((C 2).testBit 1).toNat + (64 * ((C 2).testBit 0).toNat + (32 * ((C 3).testBit 1).toNat + (16 * ((C 3).testBit 0).toNat + (8 * ((C 4).testBit 1).toNat + (4 * ((C 4).testBit 0).toNat + (2 * ((C 5).testBit 1).toNat + (1 * ((C 5).testBit 0).toNat + 0))))))))))) = gc_col C
  unfold gc_col
  omega
theorem gc_split {C : Nat → Nat} (h : ∀ v, v < 6 → C v < 4) (E : Nat → Nat → Bool) : gc_code C E = 32768 * gc_col C + gb_nb (gc_bit C E) 15 := by
  have e : gc_code C E = 2 ^ 15 * gb_nb (fun i => gc_bit C E (15 + i)) 12 + gb_nb (gc_bit C E) 15 := gb_split (gc_bit C E) 15 12
  have b : gb_nb (fun i => gc_bit C E (15 + i)) 12 = gc_col C := by
    rw [← gc_colb C h]
    apply gb_ext
    intro i hi
    unfold gc_bit
    rw [if_neg (by omega), show (26 - (15 + i)) = 11 - i by omega, show (15 + i + 1) % 2 = i % 2 by omega]
  rw [e, b]
theorem gc_col_lt {C C' : Nat → Nat} (h : ∀ v, v < 6 → C v < 4) (h' : ∀ v, v < 6 → C' v < 4) (E E' : Nat → Nat → Bool) (hl : gc_col C' < gc_col C) : gc_code C' E' < gc_code C E := by
  rw [gc_split h, gc_split h']
  have := gb_lt (gc_bit C' E') 15
  have e : (2 : Nat) ^ 15 = 32768 := by decide
  omega
theorem gc_low (C : Nat → Nat) (E : Nat → Nat → Bool) : gc_code C E &&& 32767 = gc_code (fun _ => 0) E := by
  apply Nat.eq_of_testBit_eq
  intro i
  rw [Nat.testBit_and, show (32767 : Nat) = 2 ^ 15 - 1 from rfl, Nat.testBit_two_pow_sub_one]
  unfold gc_code
  rw [gb_bit, gb_bit]
  unfold gc_bit
  by_cases h : i < 15
  · simp [h]
  · simp [h]
theorem gc_all (C : Nat → Nat) (E : Nat → Nat → Bool) : gc_code C E &&& 134217727 = gc_code C E := by
  rw [show (134217727 : Nat) = 2 ^ 27 - 1 from rfl, Nat.and_two_pow_sub_one_eq_mod]
  exact Nat.mod_eq_of_lt (gb_lt _ 27)
/-! codes by places: π gives the vertex at a place -/
def gc_cd (C : Nat → Nat) (E : Nat → Nat → Bool) (π : Nat → Nat) : Nat := gc_code (fun p => C (π p)) (fun i j => E (π i) (π j))
def gc_kn (k b : Nat) : Bool := if b < 15 then decide (gc_pj b < k) else decide ((26 - b) / 2 < k)
/-- the code so far, of the first k places -/
def gc_pc (C : Nat → Nat) (E : Nat → Nat → Bool) (π : Nat → Nat) (k : Nat) : Nat :=
  gb_nb (fun b => gc_kn k b && gc_bit (fun p => C (π p)) (fun i j => E (π i) (π j)) b) 27
theorem gc_cd_lt (C : Nat → Nat) (E : Nat → Nat → Bool) (π : Nat → Nat) : gc_cd C E π < 134217728 := gb_lt _ 27
theorem gc_pc_lt (C : Nat → Nat) (E : Nat → Nat → Bool) (π : Nat → Nat) (k : Nat) : gc_pc C E π k < 134217728 := gb_lt _ 27
theorem gc_pc_0 (C : Nat → Nat) (E : Nat → Nat → Bool) (π : Nat → Nat) : gc_pc C E π 0 = 0 := by
  apply gb_z
  intro b _
  unfold gc_kn
  by_cases h : b < 15 <;> simp [h]
theorem gc_pc_6 (C : Nat → Nat) (E : Nat → Nat → Bool) (π : Nat → Nat) : gc_pc C E π 6 = gc_cd C E π := by
  apply gb_ext
  intro b hb
  unfold gc_kn
  by_cases h : b < 15
  · have := (gc_pb1 b h).2.1
    simp [h, this]
  · have : (26 - b) / 2 < 6 := by omega
    simp [h, this]
theorem gc_bit_kn {C : Nat → Nat} {E : Nat → Nat → Bool} {π σ : Nat → Nat} {k b : Nat} (h : ∀ i, i < k → π i = σ i) (hk : gc_kn k b = true) :
    gc_bit (fun p => C (π p)) (fun i j => E (π i) (π j)) b = gc_bit (fun p => C (σ p)) (fun i j => E (σ i) (σ j)) b := by
  unfold gc_kn at hk
  unfold gc_bit
  by_cases h15 : b < 15
  · rw [if_pos h15] at hk
    have h1 := of_decide_eq_true hk
    have h2 := gc_pb1 b h15
    rw [if_pos h15, if_pos h15]
    dsimp only
    rw [h _ h1, h _ (Nat.lt_trans h2.1 h1)]
  · rw [if_neg h15] at hk
    rw [if_neg h15, if_neg h15]
    dsimp only
    rw [h _ (of_decide_eq_true hk)]
theorem gc_pc_le {C : Nat → Nat} {E : Nat → Nat → Bool} {π σ : Nat → Nat} {k : Nat} (h : ∀ i, i < k → π i = σ i) : gc_pc C E π k ≤ gc_cd C E σ := by
  apply gb_le
  intro b _ hb
  rw [Bool.and_eq_true] at hb
  rw [← gc_bit_kn h hb.1]
  exact hb.2
theorem gc_pc_congr {C : Nat → Nat} {E : Nat → Nat → Bool} {π σ : Nat → Nat} {k : Nat} (h : ∀ i, i < k → π i = σ i) : gc_pc C E π k = gc_pc C E σ k := by
  apply gb_ext
  intro b _
  cases hk : gc_kn k b
  · rfl
  · rw [gc_bit_kn h hk]
/-- what the vertex v at place k adds -/
def gc_ad (C : Nat → Nat) (E : Nat → Nat → Bool) (π : Nat → Nat) (k v : Nat) : Nat :=
  gb_nb (fun b => if b < 15 then decide (gc_pj b = k) && E (π (gc_pi b)) v else decide ((26 - b) / 2 = k) && (C v).testBit ((b + 1) % 2)) 27
theorem gc_ad_lt (C : Nat → Nat) (E : Nat → Nat → Bool) (π : Nat → Nat) (k v : Nat) : gc_ad C E π k v < 134217728 := gb_lt _ 27
theorem gc_pc_s {C : Nat → Nat} {E : Nat → Nat → Bool} {π : Nat → Nat} {k v : Nat} (h : π k = v) : gc_pc C E π k ||| gc_ad C E π k v = gc_pc C E π (k + 1) := by
  unfold gc_pc gc_ad
  rw [gb_or]
  apply gb_ext
  intro b _
  unfold gc_kn gc_bit
  by_cases h15 : b < 15
  · simp only [h15, if_true]
    by_cases h1 : gc_pj b = k
    · have h2 : ¬ gc_pj b < k := by omega
      have h3 : gc_pj b < k + 1 := by omega
      simp [h1, h]
    · by_cases h2 : gc_pj b < k
      · have h3 : gc_pj b < k + 1 := by omega
        simp [h1, h2, h3]
      · have h3 : ¬ gc_pj b < k + 1 := by omega
        simp [h1, h2, h3]
  · simp only [h15, if_false]
    by_cases h1 : (26 - b) / 2 = k
    · simp [h1, h]
    · by_cases h2 : (26 - b) / 2 < k
      · have h3 : (26 - b) / 2 < k + 1 := by omega
        simp [h1, h2, h3]
      · have h3 : ¬ (26 - b) / 2 < k + 1 := by omega
        simp [h1, h2, h3]
/-- .. when the places below i have been looked at -/
def gc_ai (C : Nat → Nat) (E : Nat → Nat → Bool) (π : Nat → Nat) (k v i : Nat) : Nat :=
  gb_nb (fun b => if b < 15 then (decide (gc_pj b = k) && decide (gc_pi b < i)) && E (π (gc_pi b)) v else decide ((26 - b) / 2 = k) && (C v).testBit ((b + 1) % 2)) 27
def gc_sh (c k : Nat) : Nat := gb_nb (fun b => if b < 15 then false else decide ((26 - b) / 2 = k) && c.testBit ((b + 1) % 2)) 27
theorem gc_shl : ∀ c, c < 4 → ∀ k, k < 6 → nI c <<< ((25 - 2 * nI k) &&& 31) = nI (gc_sh c k) := by decide +kernel
theorem gc_ai_0 (C : Nat → Nat) (E : Nat → Nat → Bool) (π : Nat → Nat) (k v : Nat) : gc_ai C E π k v 0 = gc_sh (C v) k := by
  apply gb_ext
  intro b _
  by_cases h15 : b < 15 <;> simp [h15]
theorem gc_ai_k {C : Nat → Nat} {E : Nat → Nat → Bool} {π : Nat → Nat} {k v : Nat} : gc_ai C E π k v k = gc_ad C E π k v := by
  apply gb_ext
  intro b _
  by_cases h15 : b < 15
  · by_cases h1 : gc_pj b = k
    · have := (gc_pb1 b h15).1
      have h2 : gc_pi b < k := by omega
      simp [h15, h1, h2]
    · simp [h15, h1]
  · simp [h15]
theorem gc_ai_t {C : Nat → Nat} {E : Nat → Nat → Bool} {π : Nat → Nat} {k v i : Nat} (hi : i < k) (hk : k < 6) (he : E (π i) v = true) :
    gc_ai C E π k v i ||| 2 ^ gc_pb i k = gc_ai C E π k v (i + 1) := by
  have p := gc_pb2 k hk i hi
  unfold gc_ai
  rw [gb_orp _ (show gc_pb i k < 27 by omega)]
  apply gb_ext
  intro b _
  by_cases h15 : b < 15
  · by_cases hb : b = gc_pb i k
    · subst hb
      simp [h15, p.2.1, p.2.2, he]
    · by_cases h1 : gc_pj b = k
      · have h2 : gc_pi b ≠ i := fun e => hb (by rw [← (gc_pb1 b h15).2.2, h1, e])
        by_cases h3 : gc_pi b < i
        · have h4 : gc_pi b < i + 1 := by omega
          simp [h15, hb, h1, h3, h4]
        · have h4 : ¬ gc_pi b < i + 1 := by omega
          simp [h15, hb, h3, h4]
      · simp [h15, hb, h1]
  · have hb : b ≠ gc_pb i k := by omega
    simp [h15, hb]
theorem gc_ai_f {C : Nat → Nat} {E : Nat → Nat → Bool} {π : Nat → Nat} {k v i : Nat} (hi : i < k) (hk : k < 6) (he : E (π i) v = false) :
    gc_ai C E π k v i = gc_ai C E π k v (i + 1) := by
  apply gb_ext
  intro b _
  by_cases h15 : b < 15
  · by_cases h1 : gc_pi b = i
    · simp [h15, h1, he]
    · by_cases h3 : gc_pi b < i
      · have h4 : gc_pi b < i + 1 := by omega
        simp [h15, h3, h4]
      · have h4 : ¬ gc_pi b < i + 1 := by omega
        simp [h15, h3, h4]
  · simp [h15]
end
section
/-! renumberings of 0 to 5, as functions that leave all from 6 on -/
def gp_P (f : Nat → Nat) : Prop :=
  (∀ i, i < 6 → f i < 6) ∧ (∀ i, 6 ≤ i → f i = i) ∧ ∃ g : Nat → Nat, (∀ i, g (f i) = i) ∧ (∀ i, f (g i) = i)
theorem gp_id : gp_P (fun i => i) := ⟨fun _ h => h, fun _ _ => rfl, fun i => i, fun _ => rfl, fun _ => rfl⟩
theorem gp_comp {f h : Nat → Nat} (hf : gp_P f) (hh : gp_P h) : gp_P (fun i => f (h i)) := by
  obtain ⟨a1, a2, g1, b1, c1⟩ := hf
  obtain ⟨d1, d2, g2, b2, c2⟩ := hh
  refine ⟨fun i hi => a1 _ (d1 i hi), fun i hi => ?_, fun i => g2 (g1 i), fun i => ?_, fun i => ?_⟩
  · show f (h i) = i
    rw [d2 i hi, a2 i hi]
  · show g2 (g1 (f (h i))) = i
    rw [b1, b2]
  · show f (h (g2 (g1 i))) = i
    rw [c2, c1]
theorem gp_inv {f : Nat → Nat} (hf : gp_P f) : ∃ g : Nat → Nat, gp_P g ∧ (∀ i, g (f i) = i) ∧ (∀ i, f (g i) = i) := by
  obtain ⟨a1, a2, g, b, c⟩ := hf
  refine ⟨g, ⟨fun i hi => ?_, fun i hi => ?_, f, c, b⟩, b, c⟩
  · rcases Nat.lt_or_ge (g i) 6 with h | h
    · exact h
    · have e := a2 _ h
      rw [c] at e
      omega
  · have e := b i
    rw [a2 i hi] at e
    exact e
theorem gp_inj {f : Nat → Nat} (hf : gp_P f) {i j : Nat} (h : f i = f j) : i = j := by
  obtain ⟨_, _, g, b, _⟩ := hf
  rw [← b i, h, b j]
/-- the inverse -/
noncomputable def gp_iv (f : Nat → Nat) (i : Nat) : Nat := Classical.epsilon (fun j => f j = i)
theorem gp_iv_r {f : Nat → Nat} (hf : gp_P f) (i : Nat) : f (gp_iv f i) = i := by
  obtain ⟨g, _, _, c⟩ := gp_inv hf
  exact Classical.epsilon_spec (p := fun j => f j = i) ⟨g i, c i⟩
theorem gp_iv_l {f : Nat → Nat} (hf : gp_P f) (i : Nat) : gp_iv f (f i) = i := gp_inj hf (gp_iv_r hf (f i))
theorem gp_iv_P {f : Nat → Nat} (hf : gp_P f) : gp_P (gp_iv f) := by
  obtain ⟨g, hg, b, c⟩ := gp_inv hf
  have e : gp_iv f = g := funext fun i => gp_inj hf (by rw [gp_iv_r hf, c])
  rw [e]
  exact hg
/-! .. and as lists -/
def gp_fn (l : List Nat) (i : Nat) : Nat := l.getD i i
def gp_L (l : List Nat) : Prop := l.length = 6 ∧ (∀ x ∈ l, x < 6) ∧ l.Nodup
theorem gp_fn_lt {l : List Nat} {i : Nat} (h : i < l.length) : gp_fn l i = l[i] := by
  unfold gp_fn
  rw [List.getD_eq_getElem?_getD, List.getElem?_eq_getElem h]
  rfl
theorem gp_fn_ge {l : List Nat} {i : Nat} (h : l.length ≤ i) : gp_fn l i = i := by
  unfold gp_fn
  rw [List.getD_eq_getElem?_getD, List.getElem?_eq_none h]
  rfl
theorem gp_fn_app {l s : List Nat} {i : Nat} (h : i < l.length) : gp_fn (l ++ s) i = gp_fn l i := by
  unfold gp_fn
  rw [List.getD_eq_getElem?_getD, List.getD_eq_getElem?_getD, List.getElem?_append_left h]
theorem gp_fn_new (l : List Nat) (v : Nat) : gp_fn (l ++ [v]) l.length = v := by
  unfold gp_fn
  rw [List.getD_eq_getElem?_getD]
  simp
theorem gp_full {l : List Nat} (h : gp_L l) : ∀ i, i < 6 → i ∈ l := by
  intro i hi
  apply Classical.byContradiction
  intro hn
  have h1 : (i :: l).Nodup := List.nodup_cons.mpr ⟨hn, h.2.2⟩
  have h2 := List.Nodup.length_le_of_subset (l₂ := List.range 6) h1 (by
    intro x hx
    rcases List.mem_cons.mp hx with e | e
    · subst e; exact List.mem_range.mpr hi
    · exact List.mem_range.mpr (h.2.1 x e))
  rw [List.length_cons, h.1, List.length_range] at h2
  omega
theorem gp_of {l : List Nat} (h : gp_L l) : gp_P (gp_fn l) := by
  have hlt : ∀ i, i < 6 → gp_fn l i < 6 := by
    intro i hi
    rw [gp_fn_lt (by rw [h.1]; exact hi)]
    exact h.2.1 _ (List.getElem_mem _)
  have hge : ∀ i, 6 ≤ i → gp_fn l i = i := fun i hi => gp_fn_ge (by rw [h.1]; exact hi)
  have hinj : ∀ i j, gp_fn l i = gp_fn l j → i = j := by
    intro i j e
    rcases Nat.lt_or_ge i 6 with hi | hi <;> rcases Nat.lt_or_ge j 6 with hj | hj
    · rw [gp_fn_lt (by rw [h.1]; exact hi), gp_fn_lt (by rw [h.1]; exact hj)] at e
      exact (List.getElem_inj h.2.2).mp e
    · have := hlt i hi
      rw [e, hge j hj] at this
      omega
    · have := hlt j hj
      rw [← e, hge i hi] at this
      omega
    · rw [hge i hi, hge j hj] at e
      exact e
  have hsur : ∀ i, ∃ j, gp_fn l j = i := by
    intro i
    rcases Nat.lt_or_ge i 6 with hi | hi
    · obtain ⟨j, hj, e⟩ := List.getElem_of_mem (gp_full h i hi)
      exact ⟨j, by rw [gp_fn_lt hj]; exact e⟩
    · exact ⟨i, hge i hi⟩
  exact ⟨hlt, hge, fun i => Classical.choose (hsur i), fun i => hinj _ _ (Classical.choose_spec (hsur (gp_fn l i))), fun i => Classical.choose_spec (hsur i)⟩
def gp_tl (f : Nat → Nat) : List Nat := (List.range 6).map f
theorem gp_tl_fn {f : Nat → Nat} (hf : gp_P f) : gp_fn (gp_tl f) = f := by
  funext i
  rcases Nat.lt_or_ge i 6 with hi | hi
  · rw [gp_fn_lt (by simp [gp_tl]; exact hi)]
    simp [gp_tl]
  · rw [gp_fn_ge (by simp [gp_tl]; exact hi), hf.2.1 i hi]
theorem gp_tl_L {f : Nat → Nat} (hf : gp_P f) : gp_L (gp_tl f) := by
  refine ⟨by simp [gp_tl], fun x hx => ?_, ?_⟩
  · obtain ⟨i, hi, rfl⟩ := List.mem_map.mp hx
    exact hf.1 i (List.mem_range.mp hi)
  · exact List.Pairwise.map f (fun a b hab e => hab (gp_inj hf e)) List.nodup_range
theorem gp_fn_inj {l s : List Nat} (hl : l.length = 6) (hs : s.length = 6) (h : gp_fn l = gp_fn s) : l = s := by
  apply List.ext_getElem (by rw [hl, hs])
  intro i h1 h2
  rw [← gp_fn_lt h1, ← gp_fn_lt h2, h]
/-! all of them, in the order of a search -/
def gp_ext : Nat → List Nat → List (List Nat)
  | 0, pre => [pre]
  | k + 1, pre => (List.range 6).flatMap (fun v => if v ∈ pre then [] else gp_ext k (pre ++ [v]))
def gp_A : List (List Nat) := gp_ext 6 []
theorem gp_ext_pre : ∀ (k : Nat) (pre l : List Nat), l ∈ gp_ext k pre → ∃ s, l = pre ++ s
  | 0, pre, l, h => ⟨[], by rw [List.append_nil]; exact List.mem_singleton.mp h⟩
  | k + 1, pre, l, h => by
    obtain ⟨v, _, h2⟩ := List.mem_flatMap.mp h
    by_cases hv : v ∈ pre
    · rw [if_pos hv] at h2
      cases h2
    · rw [if_neg hv] at h2
      obtain ⟨s, e⟩ := gp_ext_pre k _ _ h2
      exact ⟨v :: s, by rw [e, List.append_assoc]; rfl⟩
theorem gp_ext_L : ∀ (k : Nat) (pre : List Nat), pre.length + k = 6 → (∀ x ∈ pre, x < 6) → pre.Nodup → ∀ l, l ∈ gp_ext k pre → gp_L l
  | 0, pre, h0, h1, h2, l, h => by
    have e := List.mem_singleton.mp h
    subst e
    exact ⟨h0, h1, h2⟩
  | k + 1, pre, h0, h1, h2, l, h => by
    obtain ⟨v, hv6, h3⟩ := List.mem_flatMap.mp h
    by_cases hv : v ∈ pre
    · rw [if_pos hv] at h3
      cases h3
    · rw [if_neg hv] at h3
      refine gp_ext_L k (pre ++ [v]) (by simp; omega) ?_ ?_ l h3
      · intro x hx
        rcases List.mem_append.mp hx with e | e
        · exact h1 x e
        · rw [List.mem_singleton.mp e]
          exact List.mem_range.mp hv6
      · refine List.nodup_append.mpr ⟨h2, List.nodup_cons.mpr ⟨fun z => (by cases z), List.nodup_nil⟩, ?_⟩
        intro a ha b hb e
        rw [List.mem_singleton.mp hb] at e
        exact hv (e ▸ ha)
theorem gp_ext_all : ∀ (k : Nat) (pre s : List Nat), gp_L (pre ++ s) → s.length = k → pre ++ s ∈ gp_ext k pre
  | 0, pre, s, _, hk => by
    have e := List.length_eq_zero_iff.mp hk
    subst e
    rw [List.append_nil]
    exact List.mem_singleton.mpr rfl
  | k + 1, pre, [], _, hk => by cases hk
  | k + 1, pre, v :: s, h, hk => by
    have e : pre ++ v :: s = (pre ++ [v]) ++ s := by rw [List.append_assoc]; rfl
    have hv : v ∉ pre := by
      intro z
      exact (List.nodup_append.mp h.2.2).2.2 v z v List.mem_cons_self rfl
    refine List.mem_flatMap.mpr ⟨v, List.mem_range.mpr (h.2.1 v (List.mem_append.mpr (Or.inr List.mem_cons_self))), ?_⟩
    rw [if_neg hv, e]
    rw [e] at h
    exact gp_ext_all k (pre ++ [v]) s h (by simpa using hk)
theorem gp_ext_nodup : ∀ (k : Nat) (pre : List Nat), (gp_ext k pre).Nodup
  | 0, pre => List.nodup_cons.mpr ⟨fun z => (by cases z), List.nodup_nil⟩
  | k + 1, pre => by
    refine List.pairwise_flatMap.mpr ⟨fun v _ => ?_, ?_⟩
    · by_cases hv : v ∈ pre
      · rw [if_pos hv]
        exact List.nodup_nil
      · rw [if_neg hv]
        exact gp_ext_nodup k _
    · refine List.Pairwise.imp (R := fun a b => a ≠ b) ?_ List.nodup_range
      intro a b hab x hx y hy e
      by_cases ha : a ∈ pre
      · rw [if_pos ha] at hx
        cases hx
      · by_cases hb : b ∈ pre
        · rw [if_pos hb] at hy
          cases hy
        · rw [if_neg ha] at hx
          rw [if_neg hb] at hy
          obtain ⟨s, e1⟩ := gp_ext_pre _ _ _ hx
          obtain ⟨t, e2⟩ := gp_ext_pre _ _ _ hy
          rw [e1, e2, List.append_assoc, List.append_assoc] at e
          have e3 := List.append_cancel_left e
          exact hab (List.cons.inj e3).1
theorem gp_A_L {l : List Nat} (h : l ∈ gp_A) : gp_L l := gp_ext_L 6 [] rfl (fun x hx => by cases hx) List.nodup_nil l h
theorem gp_A_all {l : List Nat} (h : gp_L l) : l ∈ gp_A := gp_ext_all 6 [] l h h.1
/-- all of them as functions -/
def gp_F : List (Nat → Nat) := gp_A.map gp_fn
theorem gp_F_iff (f : Nat → Nat) : f ∈ gp_F ↔ gp_P f := by
  constructor
  · intro h
    obtain ⟨l, hl, rfl⟩ := List.mem_map.mp h
    exact gp_of (gp_A_L hl)
  · intro h
    exact List.mem_map.mpr ⟨gp_tl f, gp_A_all (gp_tl_L h), gp_tl_fn h⟩
theorem gp_mapnd {α β : Type} {f : α → β} {l : List α} (h : l.Nodup) (hi : ∀ a, a ∈ l → ∀ b, b ∈ l → f a = f b → a = b) : (l.map f).Nodup := by
  induction l with
  | nil => exact List.nodup_nil
  | cons a l ih =>
    have h2 := List.nodup_cons.mp h
    rw [List.map_cons]
    refine List.nodup_cons.mpr ⟨fun z => ?_, ih h2.2 (fun x hx y hy => hi x (List.mem_cons_of_mem a hx) y (List.mem_cons_of_mem a hy))⟩
    obtain ⟨b, hb, e⟩ := List.mem_map.mp z
    have := hi b (List.mem_cons_of_mem a hb) a List.mem_cons_self e
    subst this
    exact h2.1 hb
theorem gp_F_nd : gp_F.Nodup := gp_mapnd (gp_ext_nodup 6 []) (fun a ha b hb e => gp_fn_inj (gp_A_L ha).1 (gp_A_L hb).1 e)
theorem gp_F_mul {τ : Nat → Nat} (hτ : gp_P τ) : (gp_F.map (fun f => fun i => f (τ i))).Perm gp_F := by
  obtain ⟨g, hg, b, c⟩ := gp_inv hτ
  refine (List.perm_ext_iff_of_nodup ?_ gp_F_nd).mpr ?_
  · refine gp_mapnd gp_F_nd ?_
    intro f _ h _ e
    funext i
    have := congrFun e (g i)
    simpa [c] using this
  · intro f
    constructor
    · intro h
      obtain ⟨f', hf', rfl⟩ := List.mem_map.mp h
      exact (gp_F_iff _).mpr (gp_comp ((gp_F_iff _).mp hf') hτ)
    · intro h
      refine List.mem_map.mpr ⟨fun i => f (g i), (gp_F_iff _).mpr (gp_comp ((gp_F_iff _).mp h) hg), ?_⟩
      funext i
      show f (g (τ i)) = f i
      rw [b]
theorem gp_F_len : gp_F.length = 720 := by
  have h : gp_A.length = 720 := by decide +kernel
  show (gp_A.map gp_fn).length = 720
  rw [List.length_map, h]
/-- the number of renumberings with a property -/
def gp_cnt (Q : (Nat → Nat) → Bool) : Nat := gp_F.countP Q
theorem gp_cnt_mul {τ : Nat → Nat} (hτ : gp_P τ) (Q : (Nat → Nat) → Bool) : gp_cnt (fun f => Q (fun i => f (τ i))) = gp_cnt Q := by
  unfold gp_cnt
  rw [← List.Perm.countP_eq Q (gp_F_mul hτ), List.countP_map]
  rfl
theorem gp_cnt_congr {Q Q' : (Nat → Nat) → Bool} (h : ∀ f, gp_P f → Q f = Q' f) : gp_cnt Q = gp_cnt Q' := by
  unfold gp_cnt
  apply List.countP_congr
  intro f hf
  rw [h f ((gp_F_iff f).mp hf)]
/-! the reference's renumberings -/
def gr_pick (U : Nat) : Nat → Nat → Nat → Nat
  | 0, _, n => n
  | k + 1, s, n => if U.testBit n = true then gr_pick U k s (n + 1) else if s = 0 then n else gr_pick U k (s - 1) (n + 1)
def gr_go : Nat → Nat → Nat → List Nat
  | 0, _, _ => []
  | d + 1, rest, U => gr_pick U 6 (rest % (d + 1)) 0 :: gr_go d (rest / (d + 1)) (U ||| 2 ^ gr_pick U 6 (rest % (d + 1)) 0)
def gr_rn (p : Nat) : List Nat := gr_go 6 p 0
def gr_en : List Nat → List Nat → Nat
  | [], _ => 0
  | n :: l, used => (n - used.countP (fun x => decide (x < n))) + (l.length + 1) * gr_en l (n :: used)
def gr_chk (l : List Nat) : Bool := l.length == 6 && l.all (fun x => decide (x < 6)) && decide l.Nodup
theorem gr_all : (List.range 720).all (fun p => gr_chk (gr_rn p)) = true := by decide +kernel
theorem gr_enc : (List.range 720).map (fun p => gr_en (gr_rn p) []) = List.range 720 := by decide +kernel
theorem gr_L {p : Nat} (h : p < 720) : gp_L (gr_rn p) := by
  have h1 := List.all_eq_true.mp gr_all p (List.mem_range.mpr h)
  unfold gr_chk at h1
  simp only [Bool.and_eq_true, beq_iff_eq, List.all_eq_true, decide_eq_true_eq] at h1
  exact ⟨h1.1.1, h1.1.2, h1.2⟩
theorem gr_0 : gr_rn 0 = [0, 1, 2, 3, 4, 5] := by decide +kernel
def gr_f (p : Nat) : Nat → Nat := gp_fn (gr_rn p)
theorem gr_P {p : Nat} (h : p < 720) : gp_P (gr_f p) := gp_of (gr_L h)
theorem gr_f0 : gr_f 0 = fun i => i := by
  funext i
  rcases Nat.lt_or_ge i 6 with h | h
  · show gp_fn (gr_rn 0) i = i
    rw [gr_0]
    obtain rfl | rfl | rfl | rfl | rfl | rfl : i = 0 ∨ i = 1 ∨ i = 2 ∨ i = 3 ∨ i = 4 ∨ i = 5 := by omega
    all_goals rfl
  · exact (gr_P (by decide)).2.1 i h
theorem gr_nd : ((List.range 720).map gr_rn).Nodup := by
  have h : (((List.range 720).map gr_rn).map (fun l => gr_en l [])).Nodup := by
    rw [List.map_map]
    show ((List.range 720).map (fun p => gr_en (gr_rn p) [])).Nodup
    rw [gr_enc]
    exact List.nodup_range
  exact List.Pairwise.of_map (fun l => gr_en l []) (fun a b h e => h (by rw [e])) h
theorem gr_perm : ((List.range 720).map gr_f).Perm gp_F := by
  have h1 : ((List.range 720).map gr_rn).Perm gp_A := by
    refine (List.perm_ext_iff_of_nodup gr_nd (gp_ext_nodup 6 [])).mpr fun l => ⟨fun h => ?_, fun h => ?_⟩
    · obtain ⟨p, hp, rfl⟩ := List.mem_map.mp h
      exact gp_A_all (gr_L (List.mem_range.mp hp))
    · apply Classical.byContradiction
      intro hn
      have h2 : (l :: (List.range 720).map gr_rn).Nodup := List.nodup_cons.mpr ⟨hn, gr_nd⟩
      have h3 := List.Nodup.length_le_of_subset (l₂ := gp_A) h2 (by
        intro x hx
        rcases List.mem_cons.mp hx with e | e
        · rw [e]; exact h
        · obtain ⟨p, hp, rfl⟩ := List.mem_map.mp e
          exact gp_A_all (gr_L (List.mem_range.mp hp)))
      have h4 : gp_A.length = 720 := by
        have := gp_F_len
        unfold gp_F at this
        rw [List.length_map] at this
        exact this
      rw [List.length_cons, List.length_map, List.length_range, h4] at h3
      omega
  have h2 := List.Perm.map gp_fn h1
  rw [List.map_map] at h2
  exact h2
theorem gr_cnt (Q : (Nat → Nat) → Bool) : (List.range 720).countP (fun p => Q (gr_f p)) = gp_cnt Q := by
  unfold gp_cnt
  rw [← List.Perm.countP_eq Q gr_perm, List.countP_map]
  rfl
theorem gr_ex {f : Nat → Nat} (h : gp_P f) : ∃ p, p < 720 ∧ gr_f p = f := by
  have h1 := (List.Perm.mem_iff gr_perm).mpr ((gp_F_iff f).mpr h)
  obtain ⟨p, hp, e⟩ := List.mem_map.mp h1
  exact ⟨p, List.mem_range.mp hp, e⟩
/-- the vertex at each place by renumbering p -/
noncomputable def gr_v (p : Nat) : Nat → Nat := gp_iv (gr_f p)
theorem gr_vP {p : Nat} (h : p < 720) : gp_P (gr_v p) := gp_iv_P (gr_P h)
theorem gr_v0 : gr_v 0 = fun i => i := by
  funext i
  have h := gp_iv_r (gr_P (p := 0) (by decide)) i
  rw [gr_f0] at h
  show gp_iv (gr_f 0) i = i
  rw [gr_f0]
  exact h
theorem gr_vex {f : Nat → Nat} (h : gp_P f) : ∃ p, p < 720 ∧ gr_v p = f := by
  obtain ⟨g, hg, b, c⟩ := gp_inv h
  obtain ⟨p, hp, e⟩ := gr_ex hg
  refine ⟨p, hp, ?_⟩
  funext i
  apply gp_inj hg
  show g (gp_iv (gr_f p) i) = g (f i)
  rw [b, e]
  exact gp_iv_r hg i
end
section
/-! the laws of symmetries -/
theorem gg_G {C : Nat → Nat} {E : Nat → Nat → Bool} (h : gc_G C E) {f : Nat → Nat} (hf : gp_P f) : gc_G (fun p => C (f p)) (fun i j => E (f i) (f j)) :=
  ⟨fun v hv => h.1 _ (hf.1 v hv), fun u hu v hv => h.2.1 _ (hf.1 u hu) _ (hf.1 v hv), fun u hu => h.2.2 _ (hf.1 u hu)⟩
theorem gg_mul {C C' : Nat → Nat} {E E' : Nat → Nat → Bool} (h : gc_G C E) (h' : gc_G C' E') {f k τ : Nat → Nat} (hf : gp_P f) (hk : gp_P k) (hτ : gp_P τ) :
    gc_cd C E (fun i => f (τ i)) = gc_cd C' E' (fun i => k (τ i)) ↔ gc_cd C E f = gc_cd C' E' k := by
  constructor
  · intro e
    have q := gc_code_inj (gg_G h (gp_comp hf hτ)) (gg_G h' (gp_comp hk hτ)) e
    obtain ⟨g, hg, b, c⟩ := gp_inv hτ
    refine gc_code_of ⟨fun p hp => ?_, fun i hi j hj => ?_⟩
    · have z := q.1 (g p) (hg.1 p hp)
      simp only [c] at z
      exact z
    · have z := q.2 (g i) (hg.1 i hi) (g j) (hg.1 j hj)
      simp only [c] at z
      exact z
  · intro e
    have q := gc_code_inj (gg_G h hf) (gg_G h' hk) e
    exact gc_code_of ⟨fun p hp => q.1 _ (hτ.1 p hp), fun i hi j hj => q.2 _ (hτ.1 i hi) _ (hτ.1 j hj)⟩
/-- what a search finds: the smallest code, how many ways lead there, and who stands where in these -/
def gs_R (C : Nat → Nat) (E : Nat → Nat → Bool) (b w : Nat) (S : Nat → Nat) : Prop :=
  (∃ π, gp_P π ∧ gc_cd C E π = b) ∧ (∀ π, gp_P π → b ≤ gc_cd C E π) ∧ w = gp_cnt (fun π => decide (gc_cd C E π = b)) ∧
  (∀ p, p < 6 → ∀ v, (S p).testBit v = true ↔ ∃ π, gp_P π ∧ gc_cd C E π = b ∧ π p = v)
/-- the symmetries' number -/
def gg_k (C : Nat → Nat) (E : Nat → Nat → Bool) : Nat := gp_cnt (fun f => decide (gc_cd C E f = gc_cd C E (fun i => i)))
theorem gg_class {C : Nat → Nat} {E : Nat → Nat → Bool} (h : gc_G C E) {π : Nat → Nat} (hπ : gp_P π) :
    gp_cnt (fun f => decide (gc_cd C E f = gc_cd C E π)) = gg_k C E := by
  rw [← gp_cnt_mul hπ (fun f => decide (gc_cd C E f = gc_cd C E π))]
  apply gp_cnt_congr
  intro f hf
  have e := gg_mul h h hf gp_id hπ
  exact decide_eq_decide.mpr e
theorem gg_ways {C : Nat → Nat} {E : Nat → Nat → Bool} (h : gc_G C E) {b w : Nat} {S : Nat → Nat} (r : gs_R C E b w S) : w = gg_k C E := by
  obtain ⟨⟨π, hπ, rfl⟩, _, hw, _⟩ := r
  rw [hw, gg_class h hπ]
theorem gr_en1 {p : Nat} (h : p < 720) : gr_en (gr_rn p) [] = p := by
  have e := congrArg (fun l => l[p]?) gr_enc
  simp [h] at e
  exact e
theorem gr_vinj {p q : Nat} (hp : p < 720) (hq : q < 720) (h : gr_v p = gr_v q) : p = q := by
  have e : gr_f p = gr_f q := by
    funext i
    apply gp_inj (gr_vP hp)
    show gp_iv (gr_f p) (gr_f p i) = gr_v p (gr_f q i)
    rw [gp_iv_l (gr_P hp), h]
    exact (gp_iv_l (gr_P hq) i).symm
  have e2 := gp_fn_inj (gr_L hp).1 (gr_L hq).1 e
  rw [← gr_en1 hp, ← gr_en1 hq, e2]
theorem gr_vperm : ((List.range 720).map gr_v).Perm gp_F := by
  refine (List.perm_ext_iff_of_nodup ?_ gp_F_nd).mpr fun f => ⟨fun h => ?_, fun h => ?_⟩
  · exact gp_mapnd List.nodup_range (fun a ha b hb e => gr_vinj (List.mem_range.mp ha) (List.mem_range.mp hb) e)
  · obtain ⟨p, hp, rfl⟩ := List.mem_map.mp h
    exact (gp_F_iff _).mpr (gr_vP (List.mem_range.mp hp))
  · obtain ⟨p, hp, e⟩ := gr_vex ((gp_F_iff f).mp h)
    exact List.mem_map.mpr ⟨p, List.mem_range.mpr hp, e⟩
theorem gr_vcnt (Q : (Nat → Nat) → Bool) : (List.range 720).countP (fun p => Q (gr_v p)) = gp_cnt Q := by
  unfold gp_cnt
  rw [← List.Perm.countP_eq Q gr_vperm, List.countP_map]
  rfl
theorem gg_kpos (C : Nat → Nat) (E : Nat → Nat → Bool) : 0 < gg_k C E := by
  unfold gg_k gp_cnt
  apply List.countP_pos_iff.mpr
  exact ⟨fun i => i, (gp_F_iff _).mpr gp_id, decide_eq_true rfl⟩
theorem gg_kle (C : Nat → Nat) (E : Nat → Nat → Bool) : gg_k C E ≤ 720 := by
  unfold gg_k gp_cnt
  rw [← gp_F_len]
  exact List.countP_le_length
/-! counting classes -/
theorem gv_or {α : Type} (P Q : α → Bool) : ∀ l : List α, (∀ x ∈ l, ¬ (P x = true ∧ Q x = true)) → l.countP (fun x => P x || Q x) = l.countP P + l.countP Q
  | [], _ => rfl
  | a :: l, h => by
    have ih := gv_or P Q l (fun x hx => h x (List.mem_cons_of_mem a hx))
    have ha := h a List.mem_cons_self
    rw [List.countP_cons, List.countP_cons, List.countP_cons, ih]
    cases hp : P a <;> cases hq : Q a <;> simp [hp, hq] at ha ⊢ <;> omega
def gv_first (c : Nat → Nat) (p : Nat) : Bool := (List.range p).all (fun q => !decide (c q = c p))
theorem gv_dc (N k : Nat) (c : Nat → Nat) (h : ∀ p, p < N → (List.range N).countP (fun q => decide (c q = c p)) = k) :
    ∀ M, M ≤ N → (List.range N).countP (fun q => (List.range M).any (fun p => decide (c q = c p))) = (List.range M).countP (gv_first c) * k := by
  intro M
  induction M with
  | zero => intro _; simp
  | succ M ih =>
    intro hM
    have ih := ih (by omega)
    rw [List.range_succ, List.countP_append, List.countP_singleton]
    have e : ∀ q, (List.range M ++ [M]).any (fun p => decide (c q = c p)) = ((List.range M).any (fun p => decide (c q = c p)) || decide (c q = c M)) := by
      intro q
      rw [List.any_append]
      simp
    simp only [e]
    cases hf : gv_first c M
    · have hx : ∃ r, r < M ∧ c r = c M := by
        unfold gv_first at hf
        rw [List.all_eq_false] at hf
        obtain ⟨r, hr, z⟩ := hf
        exact ⟨r, List.mem_range.mp hr, by simpa using z⟩
      obtain ⟨r, hr, er⟩ := hx
      have e2 : ∀ q, ((List.range M).any (fun p => decide (c q = c p)) || decide (c q = c M)) = (List.range M).any (fun p => decide (c q = c p)) := by
        intro q
        by_cases hq : c q = c M
        · have : (List.range M).any (fun p => decide (c q = c p)) = true := List.any_eq_true.mpr ⟨r, List.mem_range.mpr hr, by rw [hq, er]; exact decide_eq_true rfl⟩
          rw [this]
          simp
        · simp [hq]
      simp only [e2]
      rw [ih]
      simp
    · have hno : ∀ r, r < M → c r ≠ c M := by
        intro r hr
        unfold gv_first at hf
        have := List.all_eq_true.mp hf r (List.mem_range.mpr hr)
        simpa using this
      rw [gv_or, ih, h M (by omega)]
      · simp [Nat.add_mul]
      · intro x _ z
        obtain ⟨r, hr, er⟩ := List.any_eq_true.mp z.1
        have e1 := of_decide_eq_true er
        have e2 := of_decide_eq_true z.2
        exact hno r (List.mem_range.mp hr) (by rw [← e1, e2])
theorem gv_total (N k : Nat) (c : Nat → Nat) (h : ∀ p, p < N → (List.range N).countP (fun q => decide (c q = c p)) = k) :
    (List.range N).countP (gv_first c) * k = N := by
  rw [← gv_dc N k c h N (Nat.le_refl N)]
  have : ∀ q, q ∈ List.range N → (List.range N).any (fun p => decide (c q = c p)) = true := fun q hq => List.any_eq_true.mpr ⟨q, hq, decide_eq_true rfl⟩
  rw [List.countP_eq_length.mpr this, List.length_range]
theorem gg_variants {C : Nat → Nat} {E : Nat → Nat → Bool} (h : gc_G C E) :
    (List.range 720).countP (gv_first (fun p => gc_cd C E (gr_v p))) = 720 / gg_k C E := by
  have e := gv_total 720 (gg_k C E) (fun p => gc_cd C E (gr_v p)) (by
    intro p hp
    rw [← gg_class h (gr_vP hp)]
    exact gr_vcnt (fun f => decide (gc_cd C E f = gc_cd C E (gr_v p))))
  have hk := gg_kpos C E
  exact (Nat.div_eq_of_eq_mul_left hk e.symm).symm
/-! orbits -/
theorem gg_orbit {C : Nat → Nat} {E : Nat → Nat → Bool} (h : gc_G C E) {b w : Nat} {S : Nat → Nat} (r : gs_R C E b w S) {p v : Nat} (hp : p < 6)
    (hv : (S p).testBit v = true) (x : Nat) : (S p).testBit x = true ↔ ∃ a, gp_P a ∧ gc_cd C E a = gc_cd C E (fun i => i) ∧ a v = x := by
  obtain ⟨_, _, _, hS⟩ := r
  obtain ⟨π, hπ, e, ev⟩ := (hS p hp v).mp hv
  obtain ⟨g, hg, gb, gc⟩ := gp_inv hπ
  rw [hS p hp x]
  constructor
  · rintro ⟨σ, hσ, e2, ex⟩
    refine ⟨fun i => σ (g i), gp_comp hσ hg, ?_, ?_⟩
    · refine (gg_mul h h (gp_comp hσ hg) gp_id hπ).mp ?_
      simp only [gb]
      rw [e2, e]
    · show σ (g v) = x
      rw [← ev, gb, ex]
  · rintro ⟨a, ha, e2, ex⟩
    refine ⟨fun i => a (π i), gp_comp ha hπ, ?_, ?_⟩
    · rw [← e]
      exact (gg_mul h h ha gp_id hπ).mpr e2
    · show a (π p) = x
      rw [ev, ex]
theorem gg_stand {C : Nat → Nat} {E : Nat → Nat → Bool} {b w : Nat} {S : Nat → Nat} (r : gs_R C E b w S) {v : Nat} (hv : v < 6) :
    ∃ p, p < 6 ∧ (S p).testBit v = true := by
  obtain ⟨⟨π, hπ, e⟩, _, _, hS⟩ := r
  obtain ⟨g, hg, gb, gc⟩ := gp_inv hπ
  exact ⟨g v, hg.1 v hv, (hS _ (hg.1 v hv) v).mpr ⟨π, hπ, e, gc v⟩⟩
theorem gg_S64 {C : Nat → Nat} {E : Nat → Nat → Bool} {b w : Nat} {S : Nat → Nat} (r : gs_R C E b w S) {p : Nat} (hp : p < 6) : S p < 64 := by
  refine Nat.lt_pow_two_of_testBit (n := 6) (S p) ?_
  intro i hi
  cases hb : (S p).testBit i
  · rfl
  · obtain ⟨π, hπ, _, e⟩ := (r.2.2.2 p hp i).mp hb
    have := hπ.1 p hp
    omega
theorem gg_inv_id {C : Nat → Nat} {E : Nat → Nat → Bool} (h : gc_G C E) {p : Nat} (hp : p < 720) :
    gc_cd C E (gr_v p) = gc_cd C E (fun i => i) ↔ gc_cd C E (gr_f p) = gc_cd C E (fun i => i) := by
  have e := gg_mul h h (gr_vP hp) gp_id (gr_P hp)
  have e2 : (fun i => gr_v p (gr_f p i)) = fun i => i := funext fun i => gp_iv_l (gr_P hp) i
  rw [e2] at e
  rw [← e]
  exact ⟨fun z => z.symm, fun z => z.symm⟩
/-- the reference's orbit -/
theorem gg_orbY {C : Nat → Nat} {E : Nat → Nat → Bool} (h : gc_G C E) (v x : Nat) :
    (∃ a, gp_P a ∧ gc_cd C E a = gc_cd C E (fun i => i) ∧ a v = x) ↔ ∃ p, p < 720 ∧ gc_cd C E (gr_v p) = gc_cd C E (fun i => i) ∧ gr_f p v = x := by
  constructor
  · rintro ⟨a, ha, e, ex⟩
    obtain ⟨p, hp, rfl⟩ := gr_ex ha
    exact ⟨p, hp, (gg_inv_id h hp).mpr e, ex⟩
  · rintro ⟨p, hp, e, ex⟩
    exact ⟨gr_f p, gr_P hp, (gg_inv_id h hp).mp e, ex⟩
/-! two graphs -/
theorem gg_alike {C C' : Nat → Nat} {E E' : Nat → Nat → Bool} (h : gc_G C E) (h' : gc_G C' E') {b w b' w' : Nat} {S S' : Nat → Nat}
    (r : gs_R C E b w S) (r' : gs_R C' E' b' w' S') : b = b' ↔ ∃ p, p < 720 ∧ gc_cd C E (gr_v p) = gc_cd C' E' (fun i => i) := by
  obtain ⟨⟨π, hπ, e⟩, hm, _, _⟩ := r
  obtain ⟨⟨π', hπ', e'⟩, hm', _, _⟩ := r'
  constructor
  · intro eb
    obtain ⟨g, hg, gb, gc⟩ := gp_inv hπ'
    obtain ⟨p, hp, ep⟩ := gr_vex (gp_comp hπ hg)
    refine ⟨p, hp, ?_⟩
    rw [ep]
    refine (gg_mul h h' (gp_comp hπ hg) gp_id hπ').mp ?_
    simp only [gb]
    rw [e, e', eb]
  · rintro ⟨p, hp, ep⟩
    have hf := gr_vP hp
    obtain ⟨g, hg, gb, gc⟩ := gp_inv hf
    have h1 := hm _ (gp_comp hf hπ')
    rw [(gg_mul h h' hf gp_id hπ').mpr ep, e'] at h1
    have h2 := (gg_mul h h' hf gp_id (gp_comp hg hπ)).mpr ep
    simp only [gc] at h2
    have h3 := hm' _ (gp_comp hg hπ)
    rw [← h2, e] at h3
    omega
end
section
/-! in the smallest code colours ascend -/
def gs_sw (p i : Nat) : Nat := if i = p then p + 1 else if i = p + 1 then p else i
theorem gs_sw_P {p : Nat} (hp : p < 5) : gp_P (gs_sw p) := by
  have hh : ∀ i, gs_sw p (gs_sw p i) = i := by
    intro i
    unfold gs_sw
    by_cases h1 : i = p
    · subst h1; simp
    · by_cases h2 : i = p + 1
      · subst h2; simp
      · simp [h1, h2]
  refine ⟨fun i hi => ?_, fun i hi => ?_, gs_sw p, hh, hh⟩
  · unfold gs_sw
    by_cases h1 : i = p
    · rw [if_pos h1]; omega
    · rw [if_neg h1]
      by_cases h2 : i = p + 1
      · rw [if_pos h2]; omega
      · rw [if_neg h2]; exact hi
  · unfold gs_sw
    rw [if_neg (by omega), if_neg (by omega)]
theorem gs_asc {C : Nat → Nat} {E : Nat → Nat → Bool} (h : gc_G C E) {π : Nat → Nat} (hπ : gp_P π) (hm : ∀ σ, gp_P σ → gc_cd C E π ≤ gc_cd C E σ) :
    ∀ p, p < 5 → C (π p) ≤ C (π (p + 1)) := by
  intro p hp
  apply Classical.byContradiction
  intro hn
  have hs := gs_sw_P hp
  have hc := hm _ (gp_comp hπ hs)
  have hl : gc_cd C E (fun i => π (gs_sw p i)) < gc_cd C E π := by
    refine gc_col_lt (gg_G h hπ).1 (gg_G h (gp_comp hπ hs)).1 _ _ ?_
    have hn' : C (π (p + 1)) < C (π p) := by omega
    have q0 : C (π 0) < 4 := (gg_G h hπ).1 0 (by decide)
    have q1 : C (π 1) < 4 := (gg_G h hπ).1 1 (by decide)
    have q2 : C (π 2) < 4 := (gg_G h hπ).1 2 (by decide)
    have q3 : C (π 3) < 4 := (gg_G h hπ).1 3 (by decide)
    have q4 : C (π 4) < 4 := (gg_G h hπ).1 4 (by decide)
    have q5 : C (π 5) < 4 := (gg_G h hπ).1 5 (by decide)
    obtain rfl | rfl | rfl | rfl | rfl : p = 0 ∨ p = 1 ∨ p = 2 ∨ p = 3 ∨ p = 4 := by omega
    · have hn2 : C (π 1) < C (π 0) := hn'
      show C (π 1) * 1024 + C (π 0) * 256 + C (π 2) * 64 + C (π 3) * 16 + C (π 4) * 4 + C (π 5) < C (π 0) * 1024 + C (π 1) * 256 + C (π 2) * 64 + C (π 3) * 16 + C (π 4) * 4 + C (π 5)
      omega
    · have hn2 : C (π 2) < C (π 1) := hn'
      show C (π 0) * 1024 + C (π 2) * 256 + C (π 1) * 64 + C (π 3) * 16 + C (π 4) * 4 + C (π 5) < C (π 0) * 1024 + C (π 1) * 256 + C (π 2) * 64 + C (π 3) * 16 + C (π 4) * 4 + C (π 5)
      omega
    · have hn2 : C (π 3) < C (π 2) := hn'
      show C (π 0) * 1024 + C (π 1) * 256 + C (π 3) * 64 + C (π 2) * 16 + C (π 4) * 4 + C (π 5) < C (π 0) * 1024 + C (π 1) * 256 + C (π 2) * 64 + C (π 3) * 16 + C (π 4) * 4 + C (π 5)
      omega
    · have hn2 : C (π 4) < C (π 3) := hn'
      show C (π 0) * 1024 + C (π 1) * 256 + C (π 2) * 64 + C (π 4) * 16 + C (π 3) * 4 + C (π 5) < C (π 0) * 1024 + C (π 1) * 256 + C (π 2) * 64 + C (π 3) * 16 + C (π 4) * 4 + C (π 5)
      omega
    · have hn2 : C (π 5) < C (π 4) := hn'
      show C (π 0) * 1024 + C (π 1) * 256 + C (π 2) * 64 + C (π 3) * 16 + C (π 5) * 4 + C (π 4) < C (π 0) * 1024 + C (π 1) * 256 + C (π 2) * 64 + C (π 3) * 16 + C (π 4) * 4 + C (π 5)
      omega
  omega
theorem gs_r6 : List.range 6 = [0, 1, 2, 3, 4, 5] := by decide
theorem gs_W {C : Nat → Nat} {E : Nat → Nat → Bool} (h : gc_G C E) {π : Nat → Nat} (hπ : gp_P π) (hm : ∀ σ, gp_P σ → gc_cd C E π ≤ gc_cd C E σ)
    {Wl : List Nat} (hs : Wl.Pairwise (fun a b => a ≤ b)) (hp : Wl.Perm ((List.range 6).map C)) : Wl = (List.range 6).map (fun p => C (π p)) := by
  have ha := gs_asc h hπ hm
  have a0 : C (π 0) ≤ C (π 1) := ha 0 (by decide)
  have a1 : C (π 1) ≤ C (π 2) := ha 1 (by decide)
  have a2 : C (π 2) ≤ C (π 3) := ha 2 (by decide)
  have a3 : C (π 3) ≤ C (π 4) := ha 3 (by decide)
  have a4 : C (π 4) ≤ C (π 5) := ha 4 (by decide)
  have h2 : ((List.range 6).map (fun p => C (π p))).Pairwise (fun a b => a ≤ b) := by
    rw [gs_r6]
    simp
    omega
  have q : ((List.range 6).map π).Perm (List.range 6) := by
    refine (List.perm_ext_iff_of_nodup (gp_tl_L hπ).2.2 List.nodup_range).mpr fun x => ⟨fun z => ?_, fun z => ?_⟩
    · obtain ⟨i, hi, rfl⟩ := List.mem_map.mp z
      exact List.mem_range.mpr (hπ.1 i (List.mem_range.mp hi))
    · obtain ⟨g, hg, _, gc⟩ := gp_inv hπ
      exact List.mem_map.mpr ⟨g x, List.mem_range.mpr (hg.1 x (List.mem_range.mp z)), gc x⟩
  have q2 := List.Perm.map C q
  rw [List.map_map] at q2
  exact List.Perm.eq_of_pairwise (fun a b _ _ h1 h2 => Nat.le_antisymm h1 h2) hs h2 (hp.trans q2.symm)
/-! a search as a fold over all renumberings: the smallest code so far, the ways to it, who stood where -/
def gs_step (κ : List Nat → Nat) (Vd : List Nat → Bool) (st : Nat × Nat × (Nat → Nat)) (l : List Nat) : Nat × Nat × (Nat → Nat) :=
  if Vd l = true ∧ κ l ≤ st.1 then (κ l, (if κ l < st.1 then 0 else st.2.1) + 1, fun p => (if κ l < st.1 then 0 else st.2.2 p) ||| 2 ^ gp_fn l p) else st
def gs_inv (κ : List Nat → Nat) (Vd : List Nat → Bool) (B : Nat) (L : List (List Nat)) (st : Nat × Nat × (Nat → Nat)) : Prop :=
  (st.1 = B ∧ ∀ l, l ∈ L → Vd l = false) ∨
  ((∃ l, l ∈ L ∧ Vd l = true ∧ κ l = st.1) ∧ (∀ l, l ∈ L → Vd l = true → st.1 ≤ κ l) ∧ st.2.1 = L.countP (fun l => Vd l && decide (κ l = st.1)) ∧
    ∀ p v, (st.2.2 p).testBit v = true ↔ ∃ l, l ∈ L ∧ Vd l = true ∧ κ l = st.1 ∧ gp_fn l p = v)
theorem gs_inv_s {κ : List Nat → Nat} {Vd : List Nat → Bool} {B : Nat} {L : List (List Nat)} {st : Nat × Nat × (Nat → Nat)} {l : List Nat} (hB : κ l < B)
    (h : gs_inv κ Vd B L st) : gs_inv κ Vd B (L ++ [l]) (gs_step κ Vd st l) := by
  obtain ⟨b, w, S⟩ := st
  have hmem : ∀ x, x ∈ L ++ [l] ↔ x ∈ L ∨ x = l := by intro x; simp
  have hinl : l ∈ L ++ [l] := (hmem l).mpr (Or.inr rfl)
  by_cases hv : Vd l = true
  · by_cases hk : κ l ≤ b
    · have es : gs_step κ Vd (b, w, S) l = (κ l, (if κ l < b then 0 else w) + 1, fun p => (if κ l < b then 0 else S p) ||| 2 ^ gp_fn l p) := if_pos ⟨hv, hk⟩
      rw [es]
      refine Or.inr ?_
      by_cases hl : κ l < b
      · have hno : ∀ x, x ∈ L → Vd x = true → κ l < κ x := by
          intro x hx vx
          rcases h with ⟨_, h0⟩ | ⟨_, h1, _, _⟩
          · rw [h0 x hx] at vx
            cases vx
          · have h2 : b ≤ κ x := h1 x hx vx
            omega
        refine ⟨⟨l, hinl, hv, rfl⟩, ?_, ?_, ?_⟩
        · intro x hx vx
          rcases (hmem x).mp hx with hx | hx
          · exact Nat.le_of_lt (hno x hx vx)
          · rw [hx]; exact Nat.le_refl _
        · show (if κ l < b then 0 else w) + 1 = (L ++ [l]).countP (fun x => Vd x && decide (κ x = κ l))
          have z0 : L.countP (fun x => Vd x && decide (κ x = κ l)) = 0 := by
            apply List.countP_eq_zero.mpr
            intro x hx z
            rw [Bool.and_eq_true] at z
            have z1 := hno x hx z.1
            have z2 := of_decide_eq_true z.2
            omega
          rw [if_pos hl, List.countP_append, List.countP_singleton, z0]
          simp [hv]
        · intro p v
          show ((if κ l < b then 0 else S p) ||| 2 ^ gp_fn l p).testBit v = true ↔ _
          rw [if_pos hl, Nat.testBit_or, Nat.zero_testBit, Nat.testBit_two_pow, Bool.false_or, decide_eq_true_eq]
          constructor
          · intro z
            exact ⟨l, hinl, hv, rfl, z⟩
          · rintro ⟨x, hx, vx, kx, e⟩
            rcases (hmem x).mp hx with hx | hx
            · have z1 := hno x hx vx
              have z2 : κ x = κ l := kx
              omega
            · rw [← hx]; exact e
      · have hkb : κ l = b := by omega
        rcases h with ⟨h0, _⟩ | ⟨h1, h2, h3, h4⟩
        · have h0' : b = B := h0
          omega
        · obtain ⟨x, hx, vx, kx⟩ := h1
          refine ⟨⟨l, hinl, hv, rfl⟩, ?_, ?_, ?_⟩
          · intro y hy vy
            show κ l ≤ κ y
            rcases (hmem y).mp hy with hy | hy
            · rw [hkb]; exact h2 y hy vy
            · rw [hy]; exact Nat.le_refl _
          · show (if κ l < b then 0 else w) + 1 = (L ++ [l]).countP (fun x => Vd x && decide (κ x = κ l))
            have h3' : w = L.countP (fun x => Vd x && decide (κ x = b)) := h3
            rw [if_neg hl, List.countP_append, List.countP_singleton, h3', hkb]
            simp [hv, hkb]
          · intro p v
            show ((if κ l < b then 0 else S p) ||| 2 ^ gp_fn l p).testBit v = true ↔ ∃ x, x ∈ L ++ [l] ∧ Vd x = true ∧ κ x = κ l ∧ gp_fn x p = v
            have h4' : (S p).testBit v = true ↔ ∃ x, x ∈ L ∧ Vd x = true ∧ κ x = b ∧ gp_fn x p = v := h4 p v
            rw [if_neg hl, Nat.testBit_or, Nat.testBit_two_pow, Bool.or_eq_true, decide_eq_true_eq, h4', hkb]
            constructor
            · rintro (⟨y, hy, vy, ky, e⟩ | e)
              · exact ⟨y, (hmem y).mpr (Or.inl hy), vy, ky, e⟩
              · exact ⟨l, hinl, hv, hkb, e⟩
            · rintro ⟨y, hy, vy, ky, e⟩
              rcases (hmem y).mp hy with hy | hy
              · exact Or.inl ⟨y, hy, vy, ky, e⟩
              · rw [hy] at e; exact Or.inr e
    · have es : gs_step κ Vd (b, w, S) l = (b, w, S) := if_neg (fun z => hk z.2)
      rw [es]
      rcases h with ⟨h0, _⟩ | ⟨h1, h2, h3, h4⟩
      · have h0' : b = B := h0
        omega
      · obtain ⟨x, hx, vx, kx⟩ := h1
        refine Or.inr ⟨⟨x, (hmem x).mpr (Or.inl hx), vx, kx⟩, ?_, ?_, ?_⟩
        · intro y hy vy
          show b ≤ κ y
          rcases (hmem y).mp hy with hy | hy
          · exact h2 y hy vy
          · rw [hy]; omega
        · show w = (L ++ [l]).countP (fun x => Vd x && decide (κ x = b))
          have h3' : w = L.countP (fun x => Vd x && decide (κ x = b)) := h3
          have hne : ¬ κ l = b := by omega
          rw [List.countP_append, List.countP_singleton, h3']
          simp [hne]
        · intro p v
          show (S p).testBit v = true ↔ ∃ x, x ∈ L ++ [l] ∧ Vd x = true ∧ κ x = b ∧ gp_fn x p = v
          have h4' : (S p).testBit v = true ↔ ∃ x, x ∈ L ∧ Vd x = true ∧ κ x = b ∧ gp_fn x p = v := h4 p v
          rw [h4']
          constructor
          · rintro ⟨y, hy, vy, ky, e⟩
            exact ⟨y, (hmem y).mpr (Or.inl hy), vy, ky, e⟩
          · rintro ⟨y, hy, vy, ky, e⟩
            rcases (hmem y).mp hy with hy | hy
            · exact ⟨y, hy, vy, ky, e⟩
            · rw [hy] at ky; omega
  · have es : gs_step κ Vd (b, w, S) l = (b, w, S) := if_neg (fun z => hv z.1)
    rw [es]
    have hvf : Vd l = false := by cases z : Vd l with | false => rfl | true => exact absurd z hv
    rcases h with ⟨h0, h1⟩ | ⟨h1, h2, h3, h4⟩
    · refine Or.inl ⟨h0, fun x hx => ?_⟩
      rcases (hmem x).mp hx with hx | hx
      · exact h1 x hx
      · rw [hx]; exact hvf
    · obtain ⟨x, hx, vx, kx⟩ := h1
      refine Or.inr ⟨⟨x, (hmem x).mpr (Or.inl hx), vx, kx⟩, ?_, ?_, ?_⟩
      · intro y hy vy
        rcases (hmem y).mp hy with hy | hy
        · exact h2 y hy vy
        · rw [hy] at vy; exact absurd vy hv
      · show w = (L ++ [l]).countP (fun x => Vd x && decide (κ x = b))
        have h3' : w = L.countP (fun x => Vd x && decide (κ x = b)) := h3
        rw [List.countP_append, List.countP_singleton, h3']
        simp [hvf]
      · intro p v
        show (S p).testBit v = true ↔ ∃ x, x ∈ L ++ [l] ∧ Vd x = true ∧ κ x = b ∧ gp_fn x p = v
        have h4' : (S p).testBit v = true ↔ ∃ x, x ∈ L ∧ Vd x = true ∧ κ x = b ∧ gp_fn x p = v := h4 p v
        rw [h4']
        constructor
        · rintro ⟨y, hy, vy, ky, e⟩
          exact ⟨y, (hmem y).mpr (Or.inl hy), vy, ky, e⟩
        · rintro ⟨y, hy, vy, ky, e⟩
          rcases (hmem y).mp hy with hy | hy
          · exact ⟨y, hy, vy, ky, e⟩
          · rw [hy] at vy; exact absurd vy hv
theorem gs_fold {κ : List Nat → Nat} {Vd : List Nat → Bool} {B : Nat} : ∀ (M L : List (List Nat)) (st : Nat × Nat × (Nat → Nat)), (∀ l, κ l < B) →
    gs_inv κ Vd B L st → gs_inv κ Vd B (L ++ M) (M.foldl (gs_step κ Vd) st)
  | [], L, st, _, h => by rw [List.append_nil]; exact h
  | l :: M, L, st, hB, h => by
    have ih := gs_fold M (L ++ [l]) (gs_step κ Vd st l) hB (gs_inv_s (hB l) h)
    rw [List.append_assoc] at ih
    exact ih
theorem gs_min (C : Nat → Nat) (E : Nat → Nat → Bool) : ∀ (n : Nat) (π : Nat → Nat), gp_P π → gc_cd C E π < n → ∃ π', gp_P π' ∧ ∀ σ, gp_P σ → gc_cd C E π' ≤ gc_cd C E σ := by
  intro n
  induction n with
  | zero =>
    intro π _ h
    exact absurd h (Nat.not_lt_zero _)
  | succ n ih =>
    intro π hπ h
    by_cases hx : ∃ σ, gp_P σ ∧ gc_cd C E σ < gc_cd C E π
    · obtain ⟨σ, hσ, hl⟩ := hx
      exact ih σ hσ (by omega)
    · refine ⟨π, hπ, fun σ hσ => ?_⟩
      apply Classical.byContradiction
      intro z
      exact hx ⟨σ, hσ, by omega⟩
def gs_κ (C : Nat → Nat) (E : Nat → Nat → Bool) (l : List Nat) : Nat := gc_cd C E (gp_fn l)
def gs_V (C W : Nat → Nat) (l : List Nat) : Bool := (List.range 6).all (fun p => decide (C (gp_fn l p) = W p))
theorem gs_V_iff {C W : Nat → Nat} {l : List Nat} : gs_V C W l = true ↔ ∀ p, p < 6 → C (gp_fn l p) = W p := by
  unfold gs_V
  rw [List.all_eq_true]
  constructor
  · intro h p hp
    exact of_decide_eq_true (h p (List.mem_range.mpr hp))
  · intro h p hp
    exact decide_eq_true (h p (List.mem_range.mp hp))
theorem gs_final {C : Nat → Nat} {E : Nat → Nat → Bool} (h : gc_G C E) {Wl : List Nat} (hs : Wl.Pairwise (fun a b => a ≤ b)) (hp : Wl.Perm ((List.range 6).map C))
    {W : Nat → Nat} (hW : ∀ p, p < 6 → W p = Wl.getD p 0) (S0 : Nat → Nat) {r : Nat × Nat × (Nat → Nat)}
    (hr : r = gp_A.foldl (gs_step (gs_κ C E) (gs_V C W)) (268435456, 0, S0)) : gs_R C E r.1 r.2.1 r.2.2 := by
  have hi : gs_inv (gs_κ C E) (gs_V C W) 268435456 gp_A r := by
    rw [hr]
    refine gs_fold gp_A [] (268435456, 0, S0) (fun l => ?_) (Or.inl ⟨rfl, fun l hl => by cases hl⟩)
    exact Nat.lt_trans (gc_cd_lt C E (gp_fn l)) (by decide)
  obtain ⟨m, hm, hmin⟩ := gs_min C E _ _ gp_id (Nat.lt_succ_self _)
  have hval : ∀ π, gp_P π → gc_cd C E π = gc_cd C E m → gs_V C W (gp_tl π) = true := by
    intro π hπ e
    have eW := gs_W h hπ (fun σ hσ => by rw [e]; exact hmin σ hσ) hs hp
    apply gs_V_iff.mpr
    intro p hp6
    rw [hW p hp6, gp_tl_fn hπ, eW]
    simp [List.getD_eq_getElem?_getD, hp6]
  have hmA := gp_A_all (gp_tl_L hm)
  have hmk : gs_κ C E (gp_tl m) = gc_cd C E m := by unfold gs_κ; rw [gp_tl_fn hm]
  rcases hi with ⟨_, h0⟩ | ⟨⟨l, hl, vl, kl⟩, h2, h3, h4⟩
  · have := h0 _ hmA
    rw [hval m hm rfl] at this
    cases this
  · have hb : r.1 = gc_cd C E m := by
      have z1 := h2 _ hmA (hval m hm rfl)
      rw [hmk] at z1
      have z2 : gc_cd C E m ≤ gs_κ C E l := hmin _ (gp_of (gp_A_L hl))
      omega
    refine ⟨⟨m, hm, hb.symm⟩, fun π hπ => by rw [hb]; exact hmin π hπ, ?_, ?_⟩
    · rw [h3]
      unfold gp_cnt gp_F
      rw [List.countP_map]
      apply List.countP_congr
      intro x hx
      dsimp only [Function.comp]
      have hxP := gp_of (gp_A_L hx)
      have ex : gp_tl (gp_fn x) = x := gp_fn_inj (gp_tl_L hxP).1 (gp_A_L hx).1 (gp_tl_fn hxP)
      rw [Bool.and_eq_true, decide_eq_true_eq, decide_eq_true_eq]
      constructor
      · intro z; exact z.2
      · intro z
        refine ⟨?_, z⟩
        have := hval _ hxP (by rw [z, hb])
        rw [ex] at this
        exact this
    · intro p _ v
      rw [h4 p v]
      constructor
      · rintro ⟨x, hx, vx, kx, e⟩
        exact ⟨gp_fn x, gp_of (gp_A_L hx), kx, e⟩
      · rintro ⟨π, hπ, e, ev⟩
        refine ⟨gp_tl π, gp_A_all (gp_tl_L hπ), hval π hπ (by rw [e, hb]), ?_, ?_⟩
        · unfold gs_κ; rw [gp_tl_fn hπ]; exact e
        · rw [gp_tl_fn hπ]; exact ev
end
section
/-! the component's small methods -/
def gx_E (R : Nat → Nat) (u w : Nat) : Bool := (R u).testBit w
/-- the colours that a search sees -/
def gx_C (g : Nat) (co : Nat → Int32) (pl : Int32) (C : Nat → Nat) : Prop :=
  (pl = 0 ∧ ∀ v, v < 6 → co (g * 6 + v) = nI (C v)) ∨ (¬ pl = 0 ∧ ∀ v, v < 6 → C v = 0)
def gx_R (g : Nat) (ro : Nat → Int32) (R : Nat → Nat) : Prop := ∀ u, u < 6 → R u < 64 ∧ ro (g * 6 + u) = nI (R u)
section
variable {fg fp fb fw : Int32} {ro co wa aa cs tt sd : Nat → Int32}
theorem gx_colourOf {post : Int32 → Prop} {g v : Nat} {pl : Int32} {C : Nat → Nat} (hg : g < 2) (hv : v < 6) (hC : gx_C g co pl C) (h : post (nI (C v))) :
    wpX_colourOf post (nI g, fp, fb, fw, ro, co, wa, aa, cs, tt, sd) (nI v) pl := by
  unfold wpX_colourOf
  dsimp only
  rw [gn_g6]
  rcases hC with ⟨h0, hc⟩ | ⟨h0, hc⟩
  · refine br_t h0 ⟨vp_in_nI (by omega) (by omega), ?_⟩
    rw [nI_clamp (by omega), hc v hv]
    exact h
  · refine br_f h0 ?_
    rw [hc v hv] at h
    exact h
theorem gx_pbv : ∀ k, k < 6 → ∀ i, i < k → (14 - (((((nI i * (11 - nI i)) / 2) + nI k) - nI i) - 1)) = nI (gc_pb i k) := by decide +kernel
theorem gx_pairBit {post : Int32 → Prop} {i k : Nat} (hi : i < k) (hk : k < 6) (h : post (nI (gc_pb i k))) : wpX_pairBit post (nI i) (nI k) := by
  unfold wpX_pairBit
  rw [gx_pbv k hk i hi]
  exact ⟨by decide, h⟩
theorem gx_add18 {post : Int32 → Prop} {g k v : Nat} {C R π : Nat → Nat} (hg : g < 2) (hk : k < 6) (hv : v < 6) (hR : gx_R g ro R)
    (ha : ∀ i, i < k → π i < 6 ∧ aa i = nI (π i)) (h : post (nI (gc_ad C (gx_E R) π k v))) :
    ∀ d i, i + d = k → wX_addition_18 post (nI k) (nI v) (nI g) fp fb fw ro co wa aa cs tt sd (d + 1) (nI (gc_ai C (gx_E R) π k v i)) (nI i) := by
  intro d
  induction d with
  | zero =>
    intro i hi
    have e : i = k := by omega
    subst e
    refine br_t (nI_le (Nat.le_refl _) (by omega)) ?_
    rw [gc_ai_k]
    exact h
  | succ d ih =>
    intro i hi
    have hik : i < k := by omega
    obtain ⟨hp, hai⟩ := ha i hik
    obtain ⟨hr, hri⟩ := hR (π i) hp
    have hb := gc_pb2 k hk i hik
    refine br_f (nI_ge hik (by omega)) ?_
    refine gx_pairBit hik hk ?_
    rw [nI_clamp (show i < 2 ^ 31 by omega), hai, gn_g6, nI_clamp (show g * 6 + π i < 2 ^ 31 by omega), hri]
    refine ⟨vp_in_nI (by omega) (by omega), vp_in_nI (by omega) (by omega), ?_⟩
    refine gn_if (gn_tb1 hr hv) (fun ht => ?_) (fun hf => ?_)
    · rintro _ rfl _ rfl
      rw [gn_pow _ (by omega), gn_or, gc_ai_t hik hk ht, nI_1]
      exact ih (i + 1) (by omega)
    · rintro _ rfl
      rw [gc_ai_f hik hk hf, nI_1]
      exact ih (i + 1) (by omega)
theorem gx_addition {post : Int32 → Prop} {g k v : Nat} {pl : Int32} {C R π : Nat → Nat} (hg : g < 2) (hk : k < 6) (hv : v < 6) (hC : gx_C g co pl C) (hC4 : ∀ v, v < 6 → C v < 4)
    (hR : gx_R g ro R) (ha : ∀ i, i < k → π i < 6 ∧ aa i = nI (π i)) (h : post (nI (gc_ad C (gx_E R) π k v))) :
    wpX_addition post (nI g, fp, fb, fw, ro, co, wa, aa, cs, tt, sd) (nI k) (nI v) pl := by
  unfold wpX_addition
  dsimp only
  refine gx_colourOf hg hv hC ?_
  rintro _ rfl
  rw [gc_shl _ (hC4 v hv) k hk, ← gc_ai_0 C (gx_E R) π k v]
  exact ⟨k + 1, gx_add18 hg hk hv hR ha h k 0 (by omega)⟩
/-! candidates -/
def gx_cs (M : Nat) (C W : Nat → Nat) (k i : Nat) : Nat := gb_nb (fun v => decide (v < i) && (!M.testBit v && decide (C v = W k))) 6
theorem gx_cs_0 (M : Nat) (C W : Nat → Nat) (k : Nat) : gx_cs M C W k 0 = 0 := gb_z (fun i _ => by simp)
theorem gx_cs_t {M k i : Nat} {C W : Nat → Nat} (hi : i < 6) (h1 : M.testBit i = false) (h2 : C i = W k) : gx_cs M C W k i ||| 2 ^ i = gx_cs M C W k (i + 1) := by
  unfold gx_cs
  rw [gb_orp _ hi]
  apply gb_ext
  intro v _
  by_cases e : v = i
  · subst e
    simp [h1, h2]
  · by_cases l : v < i
    · have l2 : v < i + 1 := by omega
      simp [e, l, l2]
    · have l2 : ¬ v < i + 1 := by omega
      simp [e, l, l2]
theorem gx_cs_f {M k i : Nat} {C W : Nat → Nat} (h : M.testBit i = true ∨ ¬ C i = W k) : gx_cs M C W k i = gx_cs M C W k (i + 1) := by
  apply gb_ext
  intro v _
  by_cases e : v = i
  · subst e
    rcases h with h | h <;> simp [h]
  · by_cases l : v < i
    · have l2 : v < i + 1 := by omega
      simp [l, l2]
    · have l2 : ¬ v < i + 1 := by omega
      simp [l, l2]
theorem gx_cand5 {post : Int32 → Prop} {g k M : Nat} {pl : Int32} {C W : Nat → Nat} (hg : g < 2) (hk : k < 6) (hM : M < 64) (hC : gx_C g co pl C) (hC4 : ∀ v, v < 6 → C v < 4)
    (hW : W k < 4 ∧ wa k = nI (W k)) (h : post (nI (gx_cs M C W k 6))) :
    ∀ d i, i + d = 6 → wX_candidates_5 post (nI k) pl (nI g) (nI M) fb fw ro co wa aa cs tt sd (d + 1) (nI (gx_cs M C W k i)) (nI i) := by
  intro d
  induction d with
  | zero =>
    intro i hi
    have e : i = 6 := by omega
    subst e
    exact br_t (nI_le (b := 6) (Nat.le_refl _) (by omega)) h
  | succ d ih =>
    intro i hi
    have hi6 : i < 6 := by omega
    refine br_f (nI_ge (b := 6) hi6 (by omega)) ?_
    refine gx_colourOf hg hi6 hC ?_
    rw [nI_clamp (show k < 2 ^ 31 by omega), hW.2]
    have h4 := hC4 i hi6
    refine gn_if0 (gn_tb0 hM hi6) (fun hb => ⟨vp_in_nI (by omega) (by omega), ?_⟩) (fun hb => ?_)
    · refine pk_eq (C i) (W k) (fun he => ?_) (fun he => ?_) rfl rfl (by omega) (by omega)
      · rintro _ rfl _ rfl
        rw [gn_pow _ (by omega), gn_or, gx_cs_t hi6 hb he, nI_1]
        exact ih (i + 1) (by omega)
      · rintro _ rfl
        rw [gx_cs_f (Or.inr he), nI_1]
        exact ih (i + 1) (by omega)
    · rintro _ rfl
      rw [gx_cs_f (Or.inl hb), nI_1]
      exact ih (i + 1) (by omega)
theorem gx_candidates {post : Int32 → Prop} {g k M : Nat} {pl : Int32} {C W : Nat → Nat} (hg : g < 2) (hk : k < 6) (hM : M < 64) (hC : gx_C g co pl C) (hC4 : ∀ v, v < 6 → C v < 4)
    (hW : W k < 4 ∧ wa k = nI (W k)) (h : post (nI (gx_cs M C W k 6))) :
    wpX_candidates post (nI g, nI M, fb, fw, ro, co, wa, aa, cs, tt, sd) (nI k) pl := by
  unfold wpX_candidates
  dsimp only
  have z := gx_cand5 (fb := fb) (fw := fw) (ro := ro) (aa := aa) (cs := cs) (tt := tt) (sd := sd) hg hk hM hC hC4 hW h 6 0 (by omega)
  rw [gx_cs_0] at z
  exact ⟨7, z⟩
/-! the lowest of a set -/
theorem gx_low2 {post : Int32 → Prop} {T j : Nat} (hT : T < 64) (hj : j < 6) (hb : T.testBit j = true ∨ j = 5) (hl : ∀ i, i < j → T.testBit i = false) (h : post (nI j)) :
    ∀ d i, i + d = j → wX_lowest_2 post (nI T) (d + 1) (nI i) := by
  intro d
  induction d with
  | zero =>
    intro i hi
    have e : i = j := by omega
    subst e
    refine pk_le 5 i (fun _ => h) (fun hlt => ?_)
    refine gn_if0 (gn_tb0 hT hj) (fun z => ?_) (fun _ => h)
    rcases hb with hb | hb
    · rw [hb] at z; cases z
    · omega
  | succ d ih =>
    intro i hi
    refine br_f (nI_ge (b := 5) (by omega) (by omega)) ?_
    refine br_t ((gn_tb0 hT (by omega)).mpr (hl i (by omega))) ?_
    rintro _ rfl
    rw [nI_1]
    exact ih (i + 1) (by omega)
theorem gx_lowest {post : Int32 → Prop} {T j : Nat} (hT : T < 64) (hj : j < 6) (hb : T.testBit j = true ∨ j = 5) (hl : ∀ i, i < j → T.testBit i = false) (h : post (nI j)) :
    wpX_lowest post (nI T) := ⟨j + 1, gx_low2 hT hj hb hl h j 0 (by omega)⟩
/-! a way that is taken -/
theorem gx_take51 {post : SX → Prop} {S π : Nat → Nat} (ha : ∀ p, p < 6 → π p < 6 ∧ aa p = nI (π p))
    (h : ∀ sd' : Nat → Int32, (∀ p, p < 6 → sd' p = nI (S p ||| 2 ^ π p)) → post (fg, fp, fb, fw, ro, co, wa, aa, cs, tt, sd')) :
    ∀ d i (sd : Nat → Int32), i + d = 6 → (∀ p, p < 6 → sd p = nI (if p < i then S p ||| 2 ^ π p else S p)) →
    wX_take_51 post fg fp fb fw (d + 1) (nI i) ro co wa aa cs tt sd := by
  intro d
  induction d with
  | zero =>
    intro i sd hi hs
    have e : i = 6 := by omega
    subst e
    refine br_t (nI_le (b := 6) (Nat.le_refl _) (by omega)) (h sd fun p hp => ?_)
    rw [hs p hp, if_pos hp]
  | succ d ih =>
    intro i sd hi hs
    have hi6 : i < 6 := by omega
    obtain ⟨hp, hai⟩ := ha i hi6
    have hv : vp_in (nI i) 6 := vp_in_nI hi6 (by omega)
    refine br_f (nI_ge (b := 6) hi6 (by omega)) ⟨hv, hv, hv, ?_⟩
    rintro _ rfl _ rfl
    rw [nI_1]
    refine ih (i + 1) _ (by omega) ?_
    intro p hp6
    rw [nI_clamp (show i < 2 ^ 31 by omega), hai, gn_pow _ (by omega), hs i hi6, if_neg (Nat.lt_irrefl i), gn_or]
    by_cases e : p = i
    · subst e
      rw [pk_us, if_pos (by omega)]
    · rw [pk_un e, hs p hp6]
      by_cases l : p < i
      · rw [if_pos l, if_pos (by omega)]
      · rw [if_neg l, if_neg (by omega)]
theorem gx_take39 {post : SX → Prop} {S π : Nat → Nat} {w : Nat} (ha : ∀ p, p < 6 → π p < 6 ∧ aa p = nI (π p)) (hs : ∀ p, p < 6 → sd p = nI (S p))
    (h : ∀ sd' : Nat → Int32, (∀ p, p < 6 → sd' p = nI (S p ||| 2 ^ π p)) → post (fg, fp, fb, nI (w + 1), ro, co, wa, aa, cs, tt, sd')) :
    wX_take_39 post fg fp fb (nI w) ro co wa aa cs tt sd := by
  unfold wX_take_39
  rintro _ rfl
  rw [nI_1]
  refine ⟨7, gx_take51 ha h 6 0 sd (by omega) (fun p hp => ?_)⟩
  rw [hs p hp, if_neg (Nat.not_lt_zero p)]
theorem gx_take20 {post : SX → Prop} {π : Nat → Nat} (ha : ∀ p, p < 6 → π p < 6 ∧ aa p = nI (π p))
    (h : ∀ sd' : Nat → Int32, (∀ p, p < 6 → sd' p = nI (0 ||| 2 ^ π p)) → post (fg, fp, fb, nI (0 + 1), ro, co, wa, aa, cs, tt, sd')) :
    ∀ d i (sd : Nat → Int32), i + d = 6 → (∀ p, p < i → sd p = nI 0) → wX_take_20 post fg fp fb (nI 0) (d + 1) (nI i) ro co wa aa cs tt sd := by
  intro d
  induction d with
  | zero =>
    intro i sd hi hs
    have e : i = 6 := by omega
    subst e
    exact br_t (nI_le (b := 6) (Nat.le_refl _) (by omega)) (gx_take39 (S := fun _ => 0) ha hs h)
  | succ d ih =>
    intro i sd hi hs
    have hi6 : i < 6 := by omega
    refine br_f (nI_ge (b := 6) hi6 (by omega)) ⟨vp_in_nI hi6 (by omega), ?_⟩
    rintro _ rfl _ rfl
    rw [nI_1]
    refine ih (i + 1) _ (by omega) ?_
    intro p hp
    rw [nI_clamp (show i < 2 ^ 31 by omega)]
    by_cases e : p = i
    · subst e
      rw [pk_us]
      rfl
    · rw [pk_un e]
      exact hs p (by omega)
theorem gx_take {post : SX → Prop} {S π : Nat → Nat} {b w c : Nat} (hb : b < 2 ^ 31) (hcb : c ≤ b) (ha : ∀ p, p < 6 → π p < 6 ∧ aa p = nI (π p)) (hs : ∀ p, p < 6 → sd p = nI (S p))
    (h : ∀ sd' : Nat → Int32, (∀ p, p < 6 → sd' p = nI ((if c < b then 0 else S p) ||| 2 ^ π p)) →
      post (fg, fp, nI c, nI ((if c < b then 0 else w) + 1), ro, co, wa, aa, cs, tt, sd')) :
    wpX_take post (fg, fp, nI b, nI w, ro, co, wa, aa, cs, tt, sd) (nI c) := by
  unfold wpX_take
  dsimp only
  refine pk_le b c (fun hle => ?_) (fun hlt => ?_) rfl rfl hb (by omega)
  · have e : b = c := by omega
    subst e
    refine gx_take39 ha hs fun sd' hs' => ?_
    have z := h sd' (fun p hp => by rw [if_neg (Nat.lt_irrefl b)]; exact hs' p hp)
    rw [if_neg (Nat.lt_irrefl b)] at z
    exact z
  · refine ⟨7, ?_⟩
    refine gx_take20 ha (fun sd' hs' => ?_) 6 0 sd (by omega) (fun p hp => absurd hp (Nat.not_lt_zero p))
    have z := h sd' (fun p hp => by rw [if_pos hlt]; exact hs' p hp)
    rw [if_pos hlt] at z
    exact z
/-! colours in order -/
theorem gx_getl (A : List Nat) (x : Nat) (B : List Nat) (p : Nat) :
    (A ++ x :: B).getD p 0 = if p < A.length then A.getD p 0 else if p = A.length then x else B.getD (p - A.length - 1) 0 := by
  rw [List.getD_eq_getElem?_getD, List.getD_eq_getElem?_getD, List.getD_eq_getElem?_getD, List.getElem?_append]
  by_cases h : p < A.length
  · rw [if_pos h, if_pos h]
  · rw [if_neg h, if_neg h]
    by_cases h2 : p = A.length
    · rw [if_pos h2, h2, Nat.sub_self]
      rfl
    · rw [if_neg h2]
      obtain ⟨q, hq⟩ : ∃ q, p - A.length = q + 1 := ⟨p - A.length - 1, by omega⟩
      rw [hq]
      simp
theorem gx_sort18 {post : SX → Prop} {J2 : Int32 → (Nat → Int32) → (Nat → Int32) → (Nat → Int32) → (Nat → Int32) → (Nat → Int32) → (Nat → Int32) → (Nat → Int32) → Prop} {pl : Int32} {v c : Nat}
    (hv : v < 6) (hc : c < 4) : ∀ (m : Nat) (A B : List Nat) (wa : Nat → Int32), A.length = m → m + B.length = v → (A ++ B).Pairwise (fun a b => a ≤ b) → (∀ x, x ∈ A ++ B → x < 4) →
    (∀ x, x ∈ B → c < x) → (∀ p, p < m → wa p = nI (A.getD p 0)) → (∀ p, p < B.length → wa (m + 1 + p) = nI (B.getD p 0)) →
    (∀ (L' : List Nat) (wa' : Nat → Int32), L'.length = v + 1 → L'.Pairwise (fun a b => a ≤ b) → L'.Perm (c :: (A ++ B)) → (∀ p, p < v + 1 → wa' p = nI (L'.getD p 0)) → J2 (nI (v + 1)) ro co wa' aa cs tt sd) →
    wX_sortColours_18 post J2 pl (nI v) (nI c) fg fp fb fw (m + 1) (nI m) ro co wa aa cs tt sd := by
  intro m
  induction m with
  | zero =>
    intro A B wa hA hB hs h4 hcB h1 h2 K
    have e : A = [] := List.length_eq_zero_iff.mp hA
    subst e
    refine br_t (nI_le (a := 0) (b := 0) (Nat.le_refl _) (by omega)) ⟨vp_in_nI (by omega) (by omega), ?_⟩
    rintro _ rfl _ rfl
    rw [nI_1, nI_clamp (show 0 < 2 ^ 31 by omega)]
    refine K (c :: B) _ (by simp; omega) ?_ (List.Perm.refl _) ?_
    · exact List.pairwise_cons.mpr ⟨fun x hx => Nat.le_of_lt (hcB x hx), hs⟩
    · intro p hp
      cases p with
      | zero => rw [pk_us]; rfl
      | succ p =>
        rw [pk_un (by omega), show p + 1 = 0 + 1 + p by omega, h2 p (by omega), show 0 + 1 + p = p + 1 by omega]
        simp
  | succ m ih =>
    intro A B wa hA hB hs h4 hcB h1 h2 K
    obtain ⟨A', x, rfl⟩ : ∃ A' x, A = A' ++ [x] := by
      rcases List.eq_nil_or_concat A with e | ⟨L, b, e⟩
      · rw [e] at hA; cases hA
      · exact ⟨L, b, by rw [e]; simp⟩
    have hA' : A'.length = m := by simp at hA; exact hA
    have hx4 : x < 4 := h4 x (by simp)
    have hwx : wa m = nI x := by
      rw [h1 m (by omega), gx_getl, if_neg (by omega), if_pos hA'.symm]
    have e2 : A' ++ [x] ++ B = A' ++ x :: B := by rw [List.append_assoc]; rfl
    refine br_f (nI_ge (a := 0) (by omega) (by omega)) ?_
    rw [nI_pred, nI_clamp (show m < 2 ^ 31 by omega), nI_clamp (show m + 1 < 2 ^ 31 by omega), hwx]
    refine ⟨vp_in_nI (by omega) (by omega), ?_⟩
    refine pk_le x c (fun hle => ⟨vp_in_nI (by omega) (by omega), ?_⟩) (fun hlt => ⟨vp_in_nI (by omega) (by omega), vp_in_nI (by omega) (by omega), ?_⟩) rfl rfl (by omega) (by omega)
    · rintro _ rfl _ rfl
      rw [nI_1]
      refine K (A' ++ [x] ++ c :: B) _ (by simp; omega) ?_ List.perm_middle ?_
      · obtain ⟨s1, s2, s3⟩ := List.pairwise_append.mp hs
        refine List.pairwise_append.mpr ⟨s1, List.pairwise_cons.mpr ⟨fun y hy => Nat.le_of_lt (hcB y hy), s2⟩, ?_⟩
        intro a ha b hb
        have hac : a ≤ c := by
          rcases List.mem_append.mp ha with z | z
          · have := (List.pairwise_append.mp s1).2.2 a z x (List.mem_singleton.mpr rfl)
            omega
          · rw [List.mem_singleton.mp z]; exact hle
        rcases List.mem_cons.mp hb with z | z
        · rw [z]; exact hac
        · exact Nat.le_trans hac (Nat.le_of_lt (hcB b z))
      · intro p hp
        rw [gx_getl]
        by_cases l : p < m + 1
        · rw [if_pos (by rw [hA]; exact l), pk_un (by omega), h1 p l]
        · rw [if_neg (by rw [hA]; exact l)]
          by_cases l2 : p = m + 1
          · rw [if_pos (by rw [hA]; exact l2), l2, pk_us]
          · rw [if_neg (by rw [hA]; exact l2), pk_un l2, hA, ← h2 _ (by omega)]
            exact congrArg wa (by omega)
    · rintro _ rfl _ rfl
      rw [pk_m1]
      refine ih A' (x :: B) _ hA' (by simp; omega) (by rw [← e2]; exact hs) (by rw [← e2]; exact h4) ?_ ?_ ?_ ?_
      · intro y hy
        rcases List.mem_cons.mp hy with z | z
        · rw [z]; exact hlt
        · exact hcB y z
      · intro p hp
        rw [pk_un (by omega), h1 p (by omega), gx_getl, if_pos (by omega)]
      · intro p hp
        cases p with
        | zero => rw [show m + 1 + 0 = m + 1 by omega, pk_us]; rfl
        | succ p =>
          rw [pk_un (by omega), show m + 1 + (p + 1) = m + 1 + 1 + p by omega, h2 p (by simp at hp; omega)]
          simp
      · intro L' wa' q1 q2 q3 q4
        refine K L' wa' q1 q2 ?_ q4
        rw [e2]
        exact q3
theorem gx_sort2 {post : SX → Prop} {g : Nat} {pl : Int32} {C : Nat → Nat} (hg : g < 2) (hC : gx_C g co pl C) (hC4 : ∀ v, v < 6 → C v < 4)
    (K : ∀ (L' : List Nat) (wa' : Nat → Int32), L'.length = 6 → L'.Pairwise (fun a b => a ≤ b) → L'.Perm ((List.range 6).map C) → (∀ p, p < 6 → wa' p = nI (L'.getD p 0)) →
      post (nI g, fp, fb, fw, ro, co, wa', aa, cs, tt, sd)) :
    ∀ (d v : Nat) (L : List Nat) (wa : Nat → Int32), v + d = 6 → L.length = v → L.Pairwise (fun a b => a ≤ b) → L.Perm ((List.range v).map C) → (∀ p, p < v → wa p = nI (L.getD p 0)) →
    wX_sortColours_2 post pl (nI g) fp fb fw (d + 1) (nI v) ro co wa aa cs tt sd := by
  intro d
  induction d with
  | zero =>
    intro v L wa hv h1 h2 h3 h4
    have e : v = 6 := by omega
    subst e
    exact br_t (nI_le (b := 6) (Nat.le_refl _) (by omega)) (K L wa h1 h2 h3 h4)
  | succ d ih =>
    intro v L wa hv h1 h2 h3 h4
    have hv6 : v < 6 := by omega
    have hL4 : ∀ x, x ∈ L ++ [] → x < 4 := by
      intro x hx
      rw [List.append_nil] at hx
      obtain ⟨y, hy, rfl⟩ := List.mem_map.mp (h3.mem_iff.mp hx)
      exact hC4 y (by have := List.mem_range.mp hy; omega)
    refine br_f (nI_ge (b := 6) hv6 (by omega)) ?_
    refine gx_colourOf hg hv6 hC ?_
    refine ⟨v + 1, gx_sort18 hv6 (hC4 v hv6) v L [] wa h1 (by simp) (by rw [List.append_nil]; exact h2) hL4 (fun x hx => by cases hx) h4 (fun p hp => by cases hp) ?_⟩
    intro L' wa' q1 q2 q3 q4
    refine ih (v + 1) L' wa' (by omega) q1 q2 ?_ q4
    rw [List.append_nil] at q3
    refine q3.trans ((List.Perm.cons (C v) h3).trans ?_)
    rw [List.range_succ, List.map_append]
    exact (List.perm_append_comm (l₁ := [C v]) (l₂ := (List.range v).map C))
theorem gx_sortColours {post : SX → Prop} {g : Nat} {pl : Int32} {C : Nat → Nat} (hg : g < 2) (hC : gx_C g co pl C) (hC4 : ∀ v, v < 6 → C v < 4)
    (K : ∀ (L' : List Nat) (wa' : Nat → Int32), L'.length = 6 → L'.Pairwise (fun a b => a ≤ b) → L'.Perm ((List.range 6).map C) → (∀ p, p < 6 → wa' p = nI (L'.getD p 0)) →
      post (nI g, fp, fb, fw, ro, co, wa', aa, cs, tt, sd)) :
    wpX_sortColours post (nI g, fp, fb, fw, ro, co, wa, aa, cs, tt, sd) pl :=
  ⟨7, gx_sort2 hg hC hC4 K 6 0 [] wa (by omega) rfl List.Pairwise.nil (List.Perm.refl _) (fun p hp => absurd hp (Nat.not_lt_zero p))⟩
end
end
section
/-! the component's search, node by node -/
/-- the set of the vertices placed -/
def gx_M (pre : List Nat) : Nat := gb_nb (fun v => decide (v ∈ pre)) 6
/-- the vertices from j on that are still to be tried behind pre -/
def gx_T (C W : Nat → Nat) (pre : List Nat) (j : Nat) : Nat := gb_nb (fun v => decide (j ≤ v) && (!decide (v ∈ pre) && decide (C v = W pre.length))) 6
theorem gx_M_lt (pre : List Nat) : gx_M pre < 64 := gb_lt _ 6
theorem gx_T_lt (C W : Nat → Nat) (pre : List Nat) (j : Nat) : gx_T C W pre j < 64 := gb_lt _ 6
theorem gx_M_bit {pre : List Nat} {v : Nat} (hv : v < 6) : (gx_M pre).testBit v = decide (v ∈ pre) := by
  unfold gx_M
  rw [gb_bit]
  simp [hv]
theorem gx_T_bit {C W : Nat → Nat} {pre : List Nat} {j v : Nat} (hv : v < 6) : (gx_T C W pre j).testBit v = (decide (j ≤ v) && (!decide (v ∈ pre) && decide (C v = W pre.length))) := by
  unfold gx_T
  rw [gb_bit]
  simp [hv]
theorem gx_M_nil : gx_M [] = 0 := gb_z (fun i _ => by simp)
theorem gx_M_app {pre : List Nat} {v : Nat} (hv : v < 6) : gx_M pre ||| 2 ^ v = gx_M (pre ++ [v]) := by
  unfold gx_M
  rw [gb_orp _ hv]
  apply gb_ext
  intro i _
  by_cases e : i = v
  · simp [e]
  · simp [e]
theorem gx_M_pop {pre : List Nat} {v : Nat} (hv : v < 6) (hn : v ∉ pre) : gn_cl (gx_M (pre ++ [v])) v = gx_M pre := by
  refine gb_x (n := 6) (gn_cll (gx_M_lt _) v) (gx_M_lt _) ?_
  intro i hi
  rw [gn_clb _ (gx_M_lt _) v hv i hi, gx_M_bit hi, gx_M_bit hi]
  by_cases e : i = v
  · subst e; simp [hn]
  · simp [e]
theorem gx_cs_T {C W : Nat → Nat} {pre : List Nat} : gx_cs (gx_M pre) C W pre.length 6 = gx_T C W pre 0 := by
  apply gb_ext
  intro v hv
  rw [gx_M_bit hv]
  simp [hv]
theorem gx_T_6 (C W : Nat → Nat) (pre : List Nat) : gx_T C W pre 6 = 0 := gb_z (fun i hi => by
  have : ¬ 6 ≤ i := by omega
  simp [this])
theorem gx_T_s {C W : Nat → Nat} {pre : List Nat} {j : Nat} (h : j ∈ pre ∨ ¬ C j = W pre.length) : gx_T C W pre j = gx_T C W pre (j + 1) := by
  apply gb_ext
  intro v _
  by_cases e : v = j
  · subst e
    rcases h with h | h <;> simp [h]
  · by_cases l : j ≤ v
    · have l2 : j + 1 ≤ v := by omega
      simp [l, l2]
    · have l2 : ¬ j + 1 ≤ v := by omega
      simp [l, l2]
theorem gx_T_c {C W : Nat → Nat} {pre : List Nat} {j : Nat} (hj : j < 6) : gn_cl (gx_T C W pre j) j = gx_T C W pre (j + 1) := by
  refine gb_x (n := 6) (gn_cll (gx_T_lt _ _ _ _) j) (gx_T_lt _ _ _ _) ?_
  intro i hi
  rw [gn_clb _ (gx_T_lt _ _ _ _) j hj i hi, gx_T_bit hi, gx_T_bit hi]
  by_cases e : i = j
  · have l2 : ¬ j + 1 ≤ j := by omega
    simp [e, l2]
  · by_cases l : j ≤ i
    · have l2 : j + 1 ≤ i := by omega
      simp [e, l, l2]
    · have l2 : ¬ j + 1 ≤ i := by omega
      simp [l, l2]
/-- how many of the last d vertices aren't placed -/
def gx_rm (pre : List Nat) : Nat → Nat
  | 0 => 0
  | d + 1 => gx_rm pre d + (if 5 - d ∈ pre then 0 else 1)
theorem gx_rm6 (pre : List Nat) : gx_rm pre 6 = ((((((0 + (if 5 ∈ pre then 0 else 1)) + (if 4 ∈ pre then 0 else 1)) + (if 3 ∈ pre then 0 else 1)) + (if 2 ∈ pre then 0 else 1)) + (if 1 ∈ pre then 0 else 1)) + (if 0 ∈ pre then 0 else 1)) := rfl
theorem gx_rm_app {pre : List Nat} {v : Nat} (hv : v < 6) (hn : v ∉ pre) : gx_rm (pre ++ [v]) 6 + 1 = gx_rm pre 6 := by
  have hm : ∀ w, (w ∈ pre ++ [v]) = (w ∈ pre ∨ w = v) := fun w => by simp
  rw [gx_rm6, gx_rm6]
  simp only [hm]
  obtain rfl | rfl | rfl | rfl | rfl | rfl : v = 0 ∨ v = 1 ∨ v = 2 ∨ v = 3 ∨ v = 4 ∨ v = 5 := by omega
  all_goals (simp [hn] <;> omega)
/-- steps for one vertex with q places left -/
def gx_pv : Nat → Nat
  | 0 => 0
  | q + 1 => 2 + q * gx_pv q
def gx_vs : Nat → List Nat
  | 0 => []
  | d + 1 => (5 - d) :: gx_vs d
/-- what one vertex does at a node -/
def gx_F (C W R : Nat → Nat) (q : Nat) (pre : List Nat) (st : Nat × Nat × (Nat → Nat)) (v : Nat) : Nat × Nat × (Nat → Nat) :=
  (if v ∈ pre then [] else gp_ext q (pre ++ [v])).foldl (gs_step (gs_κ C (gx_E R)) (gs_V C W)) st
theorem gx_F_all (C W R : Nat → Nat) (q : Nat) (pre : List Nat) (st : Nat × Nat × (Nat → Nat)) :
    (gx_vs 6).foldl (gx_F C W R q pre) st = (gp_ext (q + 1) pre).foldl (gs_step (gs_κ C (gx_E R)) (gs_V C W)) st := by
  show (List.range 6).foldl (gx_F C W R q pre) st = ((List.range 6).flatMap (fun v => if v ∈ pre then [] else gp_ext q (pre ++ [v]))).foldl _ st
  rw [List.foldl_flatMap]
  rfl
theorem gx_noop {κ : List Nat → Nat} {Vd : List Nat → Bool} {st : Nat × Nat × (Nat → Nat)} : ∀ M : List (List Nat), (∀ l, l ∈ M → ¬ (Vd l = true ∧ κ l ≤ st.1)) → M.foldl (gs_step κ Vd) st = st
  | [], _ => rfl
  | l :: M, h => by
    show M.foldl (gs_step κ Vd) (gs_step κ Vd st l) = st
    have e : gs_step κ Vd st l = st := if_neg (h l List.mem_cons_self)
    rw [e]
    exact gx_noop M (fun x hx => h x (List.mem_cons_of_mem l hx))
section
variable {fg fp fb fw : Int32} {ro co wa aa cs tt sd : Nat → Int32}
theorem gx_try {post : Int32 → SX → Prop} {g v T b w : Nat} {pl : Int32} {C W R S : Nat → Nat} {pre : List Nat} (hg : g < 2) (hk : pre.length < 6) (hv : v < 6) (hvp : v ∉ pre)
    (hp6 : ∀ x, x ∈ pre → x < 6) (hC : gx_C g co pl C) (hC4 : ∀ v, v < 6 → C v < 4) (hR : gx_R g ro R) (hW : ∀ p, p < 6 → W p < 4 ∧ wa p = nI (W p))
    (hT : T < 64) (hb : b < 2 ^ 31) (ha : ∀ i, i < pre.length → aa i = nI (gp_fn pre i)) (hcs : cs pre.length = nI (gc_pc C (gx_E R) (gp_fn pre) pre.length)) (htt : tt pre.length = nI T)
    (hs : ∀ p, p < 6 → sd p = nI (S p))
    (hA : b < gc_pc C (gx_E R) (gp_fn (pre ++ [v])) (pre.length + 1) → post (nI pre.length) (nI g, nI (gx_M pre), nI b, nI w, ro, co, wa, aa, cs, upd tt pre.length (nI (gn_cl T v)), sd))
    (hB : gc_pc C (gx_E R) (gp_fn (pre ++ [v])) (pre.length + 1) ≤ b → pre.length = 5 → ∀ sd' : Nat → Int32,
      (∀ p, p < 6 → sd' p = nI ((if gc_pc C (gx_E R) (gp_fn (pre ++ [v])) (pre.length + 1) < b then 0 else S p) ||| 2 ^ gp_fn (pre ++ [v]) p)) →
      post (nI pre.length) (nI g, nI (gx_M pre), nI (gc_pc C (gx_E R) (gp_fn (pre ++ [v])) (pre.length + 1)), nI ((if gc_pc C (gx_E R) (gp_fn (pre ++ [v])) (pre.length + 1) < b then 0 else w) + 1),
        ro, co, wa, upd aa pre.length (nI v), cs, upd tt pre.length (nI (gn_cl T v)), sd'))
    (hD : gc_pc C (gx_E R) (gp_fn (pre ++ [v])) (pre.length + 1) ≤ b → pre.length < 5 →
      post (nI (pre.length + 1)) (nI g, nI (gx_M (pre ++ [v])), nI b, nI w, ro, co, wa, upd aa pre.length (nI v), upd cs (pre.length + 1) (nI (gc_pc C (gx_E R) (gp_fn (pre ++ [v])) (pre.length + 1))),
        upd (upd tt pre.length (nI (gn_cl T v))) (pre.length + 1) (nI (gx_T C W (pre ++ [v]) 0)), sd)) :
    wpX_tryVertex post (nI g, nI (gx_M pre), nI b, nI w, ro, co, wa, aa, cs, tt, sd) (nI pre.length) (nI v) pl := by
  have hlen : (pre ++ [v]).length = pre.length + 1 := by simp
  have hfn : ∀ i, i < pre.length → gp_fn pre i < 6 := by
    intro i hi
    rw [gp_fn_lt hi]
    exact hp6 _ (List.getElem_mem _)
  have hpc : gc_pc C (gx_E R) (gp_fn pre) pre.length ||| gc_ad C (gx_E R) (gp_fn pre) pre.length v = gc_pc C (gx_E R) (gp_fn (pre ++ [v])) (pre.length + 1) := by
    have e1 : gc_pc C (gx_E R) (gp_fn pre) pre.length = gc_pc C (gx_E R) (gp_fn (pre ++ [v])) pre.length := gc_pc_congr (fun i hi => (gp_fn_app hi).symm)
    have e2 : gc_ad C (gx_E R) (gp_fn pre) pre.length v = gc_ad C (gx_E R) (gp_fn (pre ++ [v])) pre.length v := by
      apply gb_ext
      intro i _
      by_cases h15 : i < 15
      · by_cases hj : gc_pj i = pre.length
        · have := (gc_pb1 i h15).1
          have e3 : gp_fn (pre ++ [v]) (gc_pi i) = gp_fn pre (gc_pi i) := gp_fn_app (by omega)
          simp [h15, hj, e3]
        · simp [h15, hj]
      · simp [h15]
    rw [e1, e2]
    exact gc_pc_s (gp_fn_new pre v)
  have hclt := gc_pc_lt C (gx_E R) (gp_fn (pre ++ [v])) (pre.length + 1)
  have hk31 : pre.length < 2 ^ 31 := by omega
  have hv6 : vp_in (nI pre.length) 6 := vp_in_nI hk (by omega)
  unfold wpX_tryVertex
  dsimp only
  rw [nI_clamp hk31, htt, gn_clr T hT v hv, hcs]
  refine ⟨hv6, hv6, ?_⟩
  rintro _ rfl
  refine ⟨vp_in_nI (by omega) (by omega), ?_⟩
  refine gx_addition hg hk hv hC hC4 hR (π := gp_fn pre) (fun i hi => ⟨hfn i hi, ha i hi⟩) ?_
  rintro _ rfl
  rw [gn_or, hpc]
  refine pk_le _ b (fun hle => ⟨hv6, ?_⟩) (fun hlt => hA hlt) rfl rfl (by omega) hb
  rintro _ rfl
  rw [nI_1]
  refine pk_eq (pre.length + 1) 6 (fun h5 => ?_) (fun h5 => ?_)
  · refine gx_take (π := gp_fn (pre ++ [v])) hb hle ?_ hs ?_
    · intro p hp
      by_cases e : p = pre.length
      · subst e
        rw [gp_fn_new, pk_us]
        exact ⟨hv, rfl⟩
      · have hp' : p < pre.length := by omega
        rw [gp_fn_app hp', pk_un e]
        exact ⟨hfn p hp', ha p hp'⟩
    · intro sd' hs'
      exact hB hle (by omega) sd' hs'
  · rintro _ rfl
    refine ⟨vp_in_nI (by omega) (by omega), ?_⟩
    rintro _ rfl
    rw [gn_pow v (by omega), gn_or, gx_M_app hv, nI_clamp (show pre.length + 1 < 2 ^ 31 by omega)]
    refine gx_candidates hg (by omega) (gx_M_lt _) hC hC4 (hW _ (by omega)) ?_
    refine ⟨vp_in_nI (by omega) (by omega), ?_⟩
    rintro _ rfl
    rw [← hlen, gx_cs_T, hlen]
    exact hD hle (by omega)
/-- a node: what a search at the node does, for one more place than q -/
def gx_Nd (post : SX → Prop) (pl : Int32) (g : Nat) (C W R : Nat → Nat) (ro co wa : Nat → Int32) (q : Nat) : Prop :=
  ∀ pre : List Nat, pre.length + (q + 1) = 6 → pre.Nodup → (∀ x, x ∈ pre → x < 6) → gx_rm pre 6 = q + 1 → (∀ i, i < pre.length → C (gp_fn pre i) = W i) →
  ∀ (d s : Nat) (aa cs tt sd : Nat → Int32) (b w : Nat) (S : Nat → Nat), d ≤ 6 → s + gx_rm pre d * gx_pv (q + 1) ≤ 4990 →
    (∀ i, i < pre.length → aa i = nI (gp_fn pre i)) → cs pre.length = nI (gc_pc C (gx_E R) (gp_fn pre) pre.length) → tt pre.length = nI (gx_T C W pre (6 - d)) →
    b ≤ 268435456 → (∀ p, p < 6 → sd p = nI (S p)) →
    (∀ (s' : Nat) (aa' cs' tt' sd' : Nat → Int32) (b' w' : Nat) (S' : Nat → Nat), s' ≤ s + gx_rm pre d * gx_pv (q + 1) → (∀ i, i < pre.length → aa' i = aa i) →
      (∀ i, i ≤ pre.length → cs' i = cs i) → (∀ i, i < pre.length → tt' i = tt i) → tt' pre.length = 0 → (b', w', S') = (gx_vs d).foldl (gx_F C W R q pre) (b, w, S) →
      b' ≤ 268435456 → (∀ p, p < 6 → sd' p = nI (S' p)) →
      wX_search_50 post pl (6000 - s') (nI pre.length) (nI s') (nI g) (nI (gx_M pre)) (nI b') (nI w') ro co wa aa' cs' tt' sd') →
    wX_search_50 post pl (6000 - s) (nI pre.length) (nI s) (nI g) (nI (gx_M pre)) (nI b) (nI w) ro co wa aa cs tt sd
theorem gx_nd {post : SX → Prop} {g : Nat} {pl : Int32} {C W R : Nat → Nat} (hg : g < 2)
    (hC : gx_C g co pl C) (hC4 : ∀ v, v < 6 → C v < 4) (hR : gx_R g ro R) (hW : ∀ p, p < 6 → W p < 4 ∧ wa p = nI (W p)) (q : Nat)
    (hq : q = 0 ∨ ∃ q', q = q' + 1 ∧ gx_Nd post pl g C W R ro co wa q') : gx_Nd post pl g C W R ro co wa q := by
  intro pre hlen hnd hp6 hrm hval d
  induction d with
  | zero =>
    intro s aa cs tt sd b w S _ hs ha hcs htt hb hS K
    refine K s aa cs tt sd b w S (by omega) (fun _ _ => rfl) (fun _ _ => rfl) (fun _ _ => rfl) ?_ rfl hb hS
    rw [htt, gx_T_6]
    rfl
  | succ d ih =>
    intro s aa cs tt sd b w S hd hs ha hcs htt hb hS K
    have e65 : 6 - (d + 1) = 5 - d := by omega
    have e6 : 5 - d + 1 = 6 - d := by omega
    have hv : 5 - d < 6 := by omega
    have hpv : 2 ≤ gx_pv (q + 1) := Nat.le_add_right 2 _
    rw [e65] at htt
    by_cases hm : 5 - d ∈ pre
    · have er : gx_rm pre (d + 1) = gx_rm pre d := by show gx_rm pre d + (if 5 - d ∈ pre then 0 else 1) = _; rw [if_pos hm, Nat.add_zero]
      have eF : gx_F C W R q pre (b, w, S) (5 - d) = (b, w, S) := by unfold gx_F; rw [if_pos hm]; rfl
      rw [gx_T_s (Or.inl hm), e6] at htt
      rw [er] at hs K
      refine ih s aa cs tt sd b w S (by omega) hs ha hcs htt hb hS ?_
      intro s' aa' cs' tt' sd' b' w' S' k1 k2 k3 k4 k5 k6 k7 k8
      refine K s' aa' cs' tt' sd' b' w' S' k1 k2 k3 k4 k5 ?_ k7 k8
      show _ = (gx_vs d).foldl (gx_F C W R q pre) (gx_F C W R q pre (b, w, S) (5 - d))
      rw [eF]
      exact k6
    · have er : gx_rm pre (d + 1) = gx_rm pre d + 1 := by show gx_rm pre d + (if 5 - d ∈ pre then 0 else 1) = _; rw [if_neg hm]
      have hF : gx_F C W R q pre (b, w, S) (5 - d) = (gp_ext q (pre ++ [5 - d])).foldl (gs_step (gs_κ C (gx_E R)) (gs_V C W)) (b, w, S) := by unfold gx_F; rw [if_neg hm]
      rw [er, Nat.add_mul, Nat.one_mul] at hs K
      by_cases hc : C (5 - d) = W pre.length
      · -- the vertex is tried
        have hTb : (gx_T C W pre (5 - d)).testBit (5 - d) = true := by
          rw [gx_T_bit hv]
          simp [hm, hc]
        have hTl : ∀ i, i < 5 - d → (gx_T C W pre (5 - d)).testBit i = false := by
          intro i hi
          rw [gx_T_bit (by omega)]
          have : ¬ 5 - d ≤ i := by omega
          simp [this]
        have hT0 : gx_T C W pre (5 - d) ≠ 0 := by
          intro z
          rw [z, Nat.zero_testBit] at hTb
          cases hTb
        have hTlt := gx_T_lt C W pre (5 - d)
        have hlen' : (pre ++ [5 - d]).length = pre.length + 1 := by simp
        have hpre : ∀ l, l ∈ gp_ext q (pre ++ [5 - d]) → gc_pc C (gx_E R) (gp_fn (pre ++ [5 - d])) (pre.length + 1) ≤ gs_κ C (gx_E R) l := by
          intro l hl
          obtain ⟨t, rfl⟩ := gp_ext_pre _ _ _ hl
          exact gc_pc_le (fun i hi => (gp_fn_app (by rw [hlen']; exact hi)).symm)
        have hn : 6000 - s = (6000 - (s + 1)) + 1 := by omega
        have httn : tt (nI pre.length).toNatClampNeg = nI (gx_T C W pre (5 - d)) := by rw [nI_clamp (by omega)]; exact htt
        have hne : ¬ tt (nI pre.length).toNatClampNeg = 0 := by
          rw [httn]
          exact nI_ne0 (by omega) (by omega)
        rw [hn]
        refine br_f (nI_ge (b := 5000) (by omega) (by omega)) (br_f (nI_pos (by omega)) (And.intro (vp_in_nI (by omega) (by omega)) (br_f hne (And.intro (vp_in_nI (by omega) (by omega)) ?_))))
        rw [httn]
        refine gx_lowest hTlt hv (Or.inl hTb) hTl ?_
        refine gx_try (T := gx_T C W pre (5 - d)) (S := S) hg (by omega) hv hm hp6 hC hC4 hR hW hTlt (by omega) ha hcs htt hS ?_ ?_ ?_
        · -- bounded
          intro hlt
          rintro _ rfl
          rw [nI_1]
          have eF : gx_F C W R q pre (b, w, S) (5 - d) = (b, w, S) := by
            rw [hF]
            apply gx_noop
            intro l hl z
            have z1 := hpre l hl
            have z2 : gs_κ C (gx_E R) l ≤ b := z.2
            omega
          refine ih (s + 1) aa cs _ sd b w S (by omega) (by omega) ha hcs ?_ hb hS ?_
          · rw [pk_us, gx_T_c hv, e6]
          · intro s' aa' cs' tt' sd' b' w' S' k1 k2 k3 k4 k5 k6 k7 k8
            refine K s' aa' cs' tt' sd' b' w' S' (by omega) k2 k3 (fun i hi => ?_) k5 ?_ k7 k8
            · rw [k4 i hi, pk_un (by omega)]
            · show _ = (gx_vs d).foldl (gx_F C W R q pre) (gx_F C W R q pre (b, w, S) (5 - d))
              rw [eF]
              exact k6
        · -- the last place
          intro hle h5 sd' hs'
          rintro _ rfl
          rw [nI_1]
          have q0 : q = 0 := by omega
          have e6' : gc_pc C (gx_E R) (gp_fn (pre ++ [5 - d])) (pre.length + 1) = gs_κ C (gx_E R) (pre ++ [5 - d]) := by
            rw [h5]
            exact gc_pc_6 _ _ _
          have hV : gs_V C W (pre ++ [5 - d]) = true := by
            apply gs_V_iff.mpr
            intro p hp
            by_cases e : p = pre.length
            · rw [e, gp_fn_new]; exact hc
            · rw [gp_fn_app (by omega)]; exact hval p (by omega)
          rw [e6'] at hs' hle ⊢
          have eF : gx_F C W R q pre (b, w, S) (5 - d) = (gs_κ C (gx_E R) (pre ++ [5 - d]), (if gs_κ C (gx_E R) (pre ++ [5 - d]) < b then 0 else w) + 1,
              fun p => (if gs_κ C (gx_E R) (pre ++ [5 - d]) < b then 0 else S p) ||| 2 ^ gp_fn (pre ++ [5 - d]) p) := by
            rw [hF, q0]
            show gs_step _ _ (b, w, S) (pre ++ [5 - d]) = _
            exact if_pos ⟨hV, hle⟩
          refine ih (s + 1) _ cs _ sd' _ _ _ (by omega) (by omega) ?_ hcs ?_ (by omega) hs' ?_
          · intro i hi
            rw [pk_un (by omega)]
            exact ha i hi
          · rw [pk_us, gx_T_c hv, e6]
          · intro s' aa' cs' tt' sd'' b' w' S' k1 k2 k3 k4 k5 k6 k7 k8
            refine K s' aa' cs' tt' sd'' b' w' S' (by omega) (fun i hi => ?_) k3 (fun i hi => ?_) k5 ?_ k7 k8
            · rw [k2 i hi, pk_un (by omega)]
            · rw [k4 i hi, pk_un (by omega)]
            · show _ = (gx_vs d).foldl (gx_F C W R q pre) (gx_F C W R q pre (b, w, S) (5 - d))
              rw [eF]
              exact k6
        · -- one place further
          intro hle h5
          rintro _ rfl
          rw [nI_1]
          obtain ⟨q', rfl, hN⟩ : ∃ q', q = q' + 1 ∧ gx_Nd post pl g C W R ro co wa q' := by
            rcases hq with h | h
            · omega
            · exact h
          have hrm' := gx_rm_app hv hm
          have hpq : gx_pv (q' + 1 + 1) = 2 + (q' + 1) * gx_pv (q' + 1) := rfl
          have hrq : gx_rm (pre ++ [5 - d]) 6 = q' + 1 := by omega
          have hnd' : (pre ++ [5 - d]).Nodup := by
            refine List.nodup_append.mpr ⟨hnd, List.nodup_cons.mpr ⟨fun z => (by cases z), List.nodup_nil⟩, ?_⟩
            intro a ha b hb e
            rw [List.mem_singleton.mp hb] at e
            exact hm (e ▸ ha)
          have hp6' : ∀ x, x ∈ pre ++ [5 - d] → x < 6 := by
            intro x hx
            rcases List.mem_append.mp hx with z | z
            · exact hp6 x z
            · rw [List.mem_singleton.mp z]; exact hv
          have hval' : ∀ i, i < (pre ++ [5 - d]).length → C (gp_fn (pre ++ [5 - d]) i) = W i := by
            intro i hi
            by_cases e : i = pre.length
            · rw [e, gp_fn_new]; exact hc
            · rw [gp_fn_app (by omega)]; exact hval i (by omega)
          have hN2 := hN (pre ++ [5 - d]) (by omega) hnd' hp6' hrq hval' 6 (s + 1) (upd aa pre.length (nI (5 - d)))
            (upd cs (pre.length + 1) (nI (gc_pc C (gx_E R) (gp_fn (pre ++ [5 - d])) (pre.length + 1))))
            (upd (upd tt pre.length (nI (gn_cl (gx_T C W pre (5 - d)) (5 - d)))) (pre.length + 1) (nI (gx_T C W (pre ++ [5 - d]) 0))) sd b w S (Nat.le_refl 6)
          rw [hlen', hrq] at hN2
          refine hN2 (by omega) ?_ (by rw [pk_us]) (by rw [pk_us]) hb hS ?_
          · intro i hi
            by_cases e : i = pre.length
            · rw [e, gp_fn_new, pk_us]
            · rw [gp_fn_app (by omega), pk_un e]; exact ha i (by omega)
          · intro s1 aa1 cs1 tt1 sd1 b1 w1 S1 k1 k2 k3 k4 k5 k6 k7 k8
            have hn1 : 6000 - s1 = (6000 - (s1 + 1)) + 1 := by omega
            have haa : aa1 pre.length = nI (5 - d) := by rw [k2 _ (by omega), pk_us]
            rw [hn1]
            refine br_f (nI_ge (b := 5000) (by omega) (by omega)) (br_f (nI_pos (by omega)) (And.intro (vp_in_nI (by omega) (by omega)) (br_t (by rw [nI_clamp (by omega)]; exact k5) ?_)))
            rintro _ rfl
            rw [pk_m1]
            refine br_f (nI_pos (by omega)) (And.intro (vp_in_nI (by omega) (by omega)) ?_)
            rintro _ rfl _ rfl
            rw [nI_clamp (show pre.length < 2 ^ 31 by omega), haa, gn_clr _ (gx_M_lt _) _ hv, gx_M_pop hv hm, nI_1]
            refine ih (s1 + 1) aa1 cs1 tt1 sd1 b1 w1 S1 (by omega) (by omega) ?_ ?_ ?_ k7 k8 ?_
            · intro i hi
              rw [k2 i (by omega), pk_un (by omega)]
              exact ha i hi
            · rw [k3 _ (by omega), pk_un (by omega)]
              exact hcs
            · rw [k4 _ (by omega), pk_un (by omega), pk_us, gx_T_c hv, e6]
            · intro s' aa' cs' tt' sd' b' w' S' m1 m2 m3 m4 m5 m6 m7 m8
              refine K s' aa' cs' tt' sd' b' w' S' (by omega) (fun i hi => ?_) (fun i hi => ?_) (fun i hi => ?_) m5 ?_ m7 m8
              · rw [m2 i hi, k2 i (by omega), pk_un (by omega)]
              · rw [m3 i hi, k3 i (by omega), pk_un (by omega)]
              · rw [m4 i hi, k4 i (by omega), pk_un (by omega), pk_un (by omega)]
              · show _ = (gx_vs d).foldl (gx_F C W R (q' + 1) pre) (gx_F C W R (q' + 1) pre (b, w, S) (5 - d))
                rw [hF, ← gx_F_all, ← k6]
                exact m6
      · -- another colour
        have eF : gx_F C W R q pre (b, w, S) (5 - d) = (b, w, S) := by
          rw [hF]
          apply gx_noop
          intro l hl z
          obtain ⟨t, rfl⟩ := gp_ext_pre _ _ _ hl
          have z1 := gs_V_iff.mp z.1 pre.length (by omega)
          rw [gp_fn_app (by simp), gp_fn_new] at z1
          exact hc z1
        rw [gx_T_s (Or.inr hc), e6] at htt
        refine ih s aa cs tt sd b w S (by omega) (by omega) ha hcs htt hb hS ?_
        intro s' aa' cs' tt' sd' b' w' S' k1 k2 k3 k4 k5 k6 k7 k8
        refine K s' aa' cs' tt' sd' b' w' S' (by omega) k2 k3 k4 k5 ?_ k7 k8
        show _ = (gx_vs d).foldl (gx_F C W R q pre) (gx_F C W R q pre (b, w, S) (5 - d))
        rw [eF]
        exact k6
theorem gx_ndall {post : SX → Prop} {g : Nat} {pl : Int32} {C W R : Nat → Nat} (hg : g < 2)
    (hC : gx_C g co pl C) (hC4 : ∀ v, v < 6 → C v < 4) (hR : gx_R g ro R) (hW : ∀ p, p < 6 → W p < 4 ∧ wa p = nI (W p)) : ∀ q, gx_Nd post pl g C W R ro co wa q
  | 0 => gx_nd hg hC hC4 hR hW 0 (Or.inl rfl)
  | q + 1 => gx_nd hg hC hC4 hR hW (q + 1) (Or.inr ⟨q, rfl, gx_ndall hg hC hC4 hR hW q⟩)
/-- a search finds the smallest code, the number of ways and who stands where -/
theorem gx_search {post : SX → Prop} {g : Nat} {pl : Int32} {C R : Nat → Nat} (hg : g < 2) (hC : gx_C g co pl C) (hG : gc_G C (gx_E R)) (hR : gx_R g ro R)
    (K : ∀ (b w : Nat) (S : Nat → Nat) (fp' : Int32) (wa' aa' cs' tt' sd' : Nat → Int32), gs_R C (gx_E R) b w S → (∀ p, p < 6 → sd' p = nI (S p)) →
      post (nI g, fp', nI b, nI w, ro, co, wa', aa', cs', tt', sd')) :
    wpX_search post (fg, fp, fb, fw, ro, co, wa, aa, cs, tt, sd) (nI g) pl := by
  unfold wpX_search
  dsimp only
  refine gx_sortColours hg hC hG.1 ?_
  intro L wa' h1 h2 h3 h4
  rintro _ rfl
  have hW : ∀ p, p < 6 → L.getD p 0 < 4 ∧ wa' p = nI (L.getD p 0) := by
    intro p hp
    refine ⟨?_, h4 p hp⟩
    rw [List.getD_eq_getElem?_getD, List.getElem?_eq_getElem (by omega)]
    obtain ⟨y, hy, e⟩ := List.mem_map.mp (h3.mem_iff.mp (List.getElem_mem (l := L) (n := p) (by omega)))
    show L[p] < 4
    rw [← e]
    exact hG.1 y (List.mem_range.mp hy)
  refine gx_candidates (k := 0) (M := 0) (W := fun p => L.getD p 0) hg (by omega) (by omega) hC hG.1 (hW 0 (by omega)) ?_
  rintro _ rfl
  have eT : gx_cs 0 C (fun p => L.getD p 0) 0 6 = gx_T C (fun p => L.getD p 0) [] 0 := by
    rw [← gx_M_nil]
    exact gx_cs_T (pre := [])
  rw [eT]
  have hN := gx_ndall (post := post) hg hC hG.1 hR hW 5 [] rfl List.nodup_nil (fun x hx => by cases hx) (by decide) (fun i hi => absurd hi (Nat.not_lt_zero i)) 6 0 aa (upd cs 0 0)
    (upd tt 0 (nI (gx_T C (fun p => L.getD p 0) [] 0))) sd 268435456 0 (fun p => (sd p).toBitVec.toNat) (Nat.le_refl 6) (by decide) (fun i hi => absurd hi (Nat.not_lt_zero i))
    (by show upd cs 0 0 0 = _; rw [pk_us, show ([] : List Nat).length = 0 from rfl, gc_pc_0]; rfl)
    (by show upd tt 0 _ 0 = _; rw [pk_us]) (Nat.le_refl _) (fun p _ => gn_of _)
  rw [gx_M_nil] at hN
  refine ⟨6000, hN ?_⟩
  intro s' aa' cs' tt' sd' b' w' S' k1 k2 k3 k4 k5 k6 k7 k8
  have hpv : gx_rm [] 6 * gx_pv (5 + 1) = 3912 := by decide
  rw [hpv] at k1
  have hr : gs_R C (gx_E R) b' w' S' := by
    have e : (b', w', S') = gp_A.foldl (gs_step (gs_κ C (gx_E R)) (gs_V C (fun p => L.getD p 0))) (268435456, 0, fun p => (sd p).toBitVec.toNat) := by
      rw [k6, gx_F_all]
      rfl
    exact gs_final hG h2 h3 (fun p _ => rfl) _ e
  have hn1 : 6000 - s' = ((6000 - (s' + 2)) + 1) + 1 := by omega
  rw [hn1]
  refine br_f (nI_ge (b := 5000) (by omega) (by omega)) (br_f (nI_pos (n := 0) (by omega)) (And.intro (vp_in_nI (n := 0) (by omega) (by omega)) (br_t k5 ?_)))
  rintro _ rfl
  refine br_t (by decide) ?_
  rintro _ rfl
  rw [nI_1]
  exact br_f (nI_ge (b := 5000) (by omega) (by omega)) (br_t (by decide) (K b' w' S' _ _ _ _ _ _ hr k8))
end
end
section
/-! the relation's parts: R the rows of both graphs as sets, C the colours -/
def gz_ok (R C : Nat → Nat) : Prop :=
  (∀ i, i < 12 → R i < 64 ∧ C i < 4) ∧ (∀ g, g < 2 → ∀ u, u < 6 → ∀ v, v < 6 → (R (g * 6 + u)).testBit v = (R (g * 6 + v)).testBit u) ∧
  (∀ g, g < 2 → ∀ u, u < 6 → (R (g * 6 + u)).testBit u = false)
def gz_Rg (R : Nat → Nat) (g u : Nat) : Nat := R (g * 6 + u)
noncomputable def gz_code (R C : Nat → Nat) (g p : Nat) : Nat := gc_cd (gz_Rg C g) (gx_E (gz_Rg R g)) (gr_v p)
def gz_X (R C : Nat → Nat) (ro co : Nat → Int32) : Prop := ∀ i, i < 12 → ro i = nI (R i) ∧ co i = nI (C i)
def gy_co (C : Nat → Nat) (co : Nat → Int32) : Prop := ∀ i, i < 12 → co i = nI (C i)
def gy_ed (R : Nat → Nat) (ed : Nat → Int32) : Prop := ∀ g, g < 2 → ∀ u, u < 6 → ∀ v, v < 6 → ed (g * 36 + 6 * u + v) = nI ((R (g * 6 + u)).testBit v).toNat
def gy_kn (R C : Nat → Nat) (cd kn : Nat → Int32) : Prop := ∀ g, g < 2 → kn g = 0 ∨ ∀ p, p < 720 → cd (g * 720 + p) = nI (gz_code R C g p)
theorem gz_G {R C : Nat → Nat} (h : gz_ok R C) {g : Nat} (hg : g < 2) : gc_G (gz_Rg C g) (gx_E (gz_Rg R g)) :=
  ⟨fun v hv => (h.1 (g * 6 + v) (by omega)).2, fun u hu v hv => h.2.1 g hg u hu v hv, fun u hu => h.2.2 g hg u hu⟩
theorem gz_G0 {R C : Nat → Nat} (h : gz_ok R C) {g : Nat} (hg : g < 2) : gc_G (fun _ => 0) (gx_E (gz_Rg R g)) :=
  ⟨fun _ _ => (show (0 : Nat) < 4 by decide), fun u hu v hv => h.2.1 g hg u hu v hv, fun u hu => h.2.2 g hg u hu⟩
theorem gz_xR {R C : Nat → Nat} (h : gz_ok R C) {ro co : Nat → Int32} (hX : gz_X R C ro co) {g : Nat} (hg : g < 2) : gx_R g ro (gz_Rg R g) :=
  fun u hu => ⟨(h.1 (g * 6 + u) (by omega)).1, (hX (g * 6 + u) (by omega)).1⟩
theorem gz_xC {R C : Nat → Nat} {ro co : Nat → Int32} (hX : gz_X R C ro co) {g : Nat} (hg : g < 2) : gx_C g co 0 (gz_Rg C g) :=
  Or.inl ⟨rfl, fun v hv => (hX (g * 6 + v) (by omega)).2⟩
theorem gz_xC1 {co : Nat → Int32} {g : Nat} : gx_C g co 1 (fun _ => 0) := Or.inr ⟨by decide, fun _ _ => rfl⟩
/-- the other graph's codes last -/
theorem gz_code_congr {R C R' C' : Nat → Nat} {g p : Nat} (hp : p < 720) (hR : ∀ u, u < 6 → R' (g * 6 + u) = R (g * 6 + u)) (hC : ∀ u, u < 6 → C' (g * 6 + u) = C (g * 6 + u)) :
    gz_code R' C' g p = gz_code R C g p := by
  have h := (gr_vP hp).1
  refine gc_code_of ⟨fun q hq => hC _ (h q hq), fun i hi j hj => ?_⟩
  show (R' (g * 6 + gr_v p i)).testBit (gr_v p j) = (R (g * 6 + gr_v p i)).testBit (gr_v p j)
  rw [hR _ (h i hi)]
theorem gz_kn_edit {R C R' C' : Nat → Nat} {cd kn : Nat → Int32} {g : Nat} (h : gy_kn R C cd kn)
    (hR : ∀ g', g' < 2 → g' ≠ g → ∀ u, u < 6 → R' (g' * 6 + u) = R (g' * 6 + u)) (hC : ∀ g', g' < 2 → g' ≠ g → ∀ u, u < 6 → C' (g' * 6 + u) = C (g' * 6 + u)) :
    gy_kn R' C' cd (upd kn g 0) := by
  intro g' hg'
  by_cases e : g' = g
  · subst e
    exact Or.inl pk_us
  · rw [pk_un e]
    rcases h g' hg' with z | z
    · exact Or.inl z
    · exact Or.inr fun p hp => by rw [z p hp, gz_code_congr hp (hR g' hg' e) (hC g' hg' e)]
/-! arguments that are refused -/
def gx_bad (x : Int32) (n : Nat) : Prop := x < 0 ∨ nI n ≤ x
theorem gz_spl (x : Int32) {n : Nat} (hn : n < 2 ^ 31) : gx_bad x n ∨ ∃ j, j < n ∧ x = nI j := by
  rcases pk_ix x hn with h | h | h
  · exact Or.inl (Or.inl h)
  · exact Or.inl (Or.inr h)
  · exact Or.inr h
theorem gz_big {x : Int32} {n : Nat} (h : nI n ≤ x) (hn : n < 2 ^ 31) : ∃ j, n ≤ j ∧ j < 2 ^ 31 ∧ x = nI j := by
  have h0 : ¬ x < 0 := by
    intro z
    have h1 : (0 : Int32) ≤ nI n := nI_pos' hn
    exact absurd (Int32.le_trans h1 h) (Int32.not_le.mpr z)
  obtain ⟨j, hj, rfl⟩ := nI_of h0
  exact ⟨j, (nI_leI hn hj).mp h, hj, rfl⟩
theorem gz_bg1 {post : Int32 → Prop} {x : Int32} (h : gx_bad x 2) (hp : post 1) : wpX_badGraph post x := by
  rcases h with h | h
  · exact br_t h hp
  · obtain ⟨j, h1, h2, rfl⟩ := gz_big h (by decide)
    exact br_f (nI_pos h2) (br_f (nI_ge (a := 1) (by omega) h2) hp)
theorem gz_bg0 {post : Int32 → Prop} {g : Nat} (hg : g < 2) (hp : post 0) : wpX_badGraph post (nI g) :=
  br_f (nI_pos (by omega)) (br_t (nI_le (b := 1) (by omega) (by omega)) hp)
theorem gz_bv1 {post : Int32 → Prop} {x : Int32} (h : gx_bad x 6) (hp : post 1) : wpX_badVertex post x := by
  rcases h with h | h
  · exact br_t h hp
  · obtain ⟨j, h1, h2, rfl⟩ := gz_big h (by decide)
    exact br_f (nI_pos h2) (br_f (nI_nlt (b := 6) h1 h2) hp)
theorem gz_bv0 {post : Int32 → Prop} {v : Nat} (hv : v < 6) (hp : post 0) : wpX_badVertex post (nI v) :=
  br_f (nI_pos (by omega)) (br_t (nI_lt (b := 6) hv (by omega)) hp)
section
variable {yc ye yr yk yn : Nat → Int32}
theorem gz_ig0 {post : Int32 → Prop} {x : Int32} (h : gx_bad x 2) (hp : post 0) : wpY_isGraph post (yc, ye, yr, yk, yn) x := by
  rcases h with h | h
  · have h0 : ¬ x = 0 := by rintro rfl; exact absurd h (by decide)
    have h1 : ¬ x = 1 := by rintro rfl; exact absurd h (by decide)
    exact br_f h0 (br_f h1 hp)
  · obtain ⟨j, h1, h2, rfl⟩ := gz_big h (by decide)
    refine br_f (nI_ne0 (by omega) h2) (br_f ?_ hp)
    intro z
    have := (nI_eq (b := 1) h2 (by decide)).mp z
    omega
theorem gz_ig1 {post : Int32 → Prop} {g : Nat} (hg : g < 2) (hp : post 1) : wpY_isGraph post (yc, ye, yr, yk, yn) (nI g) := by
  obtain rfl | rfl : g = 0 ∨ g = 1 := by omega
  · exact br_t rfl hp
  · exact br_f (by decide) (br_t rfl hp)
theorem gz_iv0 {post : Int32 → Prop} {x : Int32} (h : gx_bad x 6) (hp : post 0) : wpY_isVertex post (yc, ye, yr, yk, yn) x := by
  rcases h with h | h
  · exact br_t h hp
  · obtain ⟨j, h1, h2, rfl⟩ := gz_big h (by decide)
    exact br_f (nI_pos h2) (br_t (nI_le (a := 6) h1 h2) hp)
theorem gz_iv1 {post : Int32 → Prop} {v : Nat} (hv : v < 6) (hp : post 1) : wpY_isVertex post (yc, ye, yr, yk, yn) (nI v) :=
  br_f (nI_pos (by omega)) (br_f (nI_ge (b := 6) hv (by omega)) hp)
end
/-! one edge set or taken away -/
def gn_set (m v : Nat) (b : Bool) : Nat := if b = true then gn_cl m v ||| 2 ^ v else gn_cl m v
theorem gn_set_lt {m v : Nat} (hm : m < 64) (hv : v < 6) (b : Bool) : gn_set m v b < 64 := by
  have h := gn_cll hm v
  unfold gn_set
  cases b
  · exact h
  · exact Nat.or_lt_two_pow (n := 6) h (Nat.pow_lt_pow_right (by decide) hv)
theorem gn_set_bit {m v w : Nat} (hm : m < 64) (hv : v < 6) (hw : w < 6) (b : Bool) : (gn_set m v b).testBit w = if w = v then b else m.testBit w := by
  have h := gn_clb m hm v hv w hw
  unfold gn_set
  by_cases e : w = v
  · subst e
    cases b
    · simp [h]
    · simp
  · have e2 : ¬ v = w := fun z => e z.symm
    cases b
    · simp [h, e]
    · simp [h, e, Nat.testBit_two_pow, e2]
def gz_se (R : Nat → Nat) (g u v : Nat) (b : Bool) (i : Nat) : Nat :=
  if i = g * 6 + u then gn_set (R i) v b else if i = g * 6 + v then gn_set (R i) u b else R i
theorem gz_se_lt {R : Nat → Nat} {g u v : Nat} {b : Bool} (hu : u < 6) (hv : v < 6) (h : ∀ i, i < 12 → R i < 64) : ∀ i, i < 12 → gz_se R g u v b i < 64 := by
  intro i hi
  unfold gz_se
  by_cases h1 : i = g * 6 + u
  · rw [if_pos h1]; exact gn_set_lt (h i hi) hv b
  · rw [if_neg h1]
    by_cases h2 : i = g * 6 + v
    · rw [if_pos h2]; exact gn_set_lt (h i hi) hu b
    · rw [if_neg h2]; exact h i hi
theorem gz_se_bit {R : Nat → Nat} {g u v : Nat} {b : Bool} (hg : g < 2) (hu : u < 6) (hv : v < 6) (huv : u ≠ v) (h : ∀ i, i < 12 → R i < 64) {g' x y : Nat} (hg' : g' < 2) (hx : x < 6) (hy : y < 6) :
    (gz_se R g u v b (g' * 6 + x)).testBit y = if g' = g ∧ ((x = u ∧ y = v) ∨ (x = v ∧ y = u)) then b else (R (g' * 6 + x)).testBit y := by
  have hi : g' * 6 + x < 12 := by omega
  unfold gz_se
  by_cases h1 : g' * 6 + x = g * 6 + u
  · have e1 : g' = g := by omega
    have e2 : x = u := by omega
    rw [if_pos h1, gn_set_bit (h _ hi) hv hy]
    subst e1 e2
    by_cases e3 : y = v
    · simp [e3]
    · have : ¬ (x = v ∧ y = x) := fun z => huv z.1
      simp [e3, this]
  · rw [if_neg h1]
    by_cases h2 : g' * 6 + x = g * 6 + v
    · have e1 : g' = g := by omega
      have e2 : x = v := by omega
      rw [if_pos h2, gn_set_bit (h _ hi) hu hy]
      subst e1 e2
      by_cases e3 : y = u
      · simp [e3]
      · have : ¬ (x = u ∧ y = x) := fun z => huv z.1.symm
        simp [e3, this]
    · rw [if_neg h2]
      have : ¬ (g' = g ∧ ((x = u ∧ y = v) ∨ (x = v ∧ y = u))) := by
        rintro ⟨rfl, ⟨rfl, _⟩ | ⟨rfl, _⟩⟩
        · exact h1 rfl
        · exact h2 rfl
      rw [if_neg this]
theorem gz_se_ok {R C : Nat → Nat} {g u v : Nat} {b : Bool} (h : gz_ok R C) (hg : g < 2) (hu : u < 6) (hv : v < 6) (huv : u ≠ v) : gz_ok (gz_se R g u v b) C := by
  have h64 : ∀ i, i < 12 → R i < 64 := fun i hi => (h.1 i hi).1
  refine ⟨fun i hi => ⟨gz_se_lt hu hv h64 i hi, (h.1 i hi).2⟩, fun g' hg' x hx y hy => ?_, fun g' hg' x hx => ?_⟩
  · rw [gz_se_bit hg hu hv huv h64 hg' hx hy, gz_se_bit hg hu hv huv h64 hg' hy hx, h.2.1 g' hg' x hx y hy]
    by_cases c : g' = g ∧ ((x = u ∧ y = v) ∨ (x = v ∧ y = u))
    · have c2 : g' = g ∧ ((y = u ∧ x = v) ∨ (y = v ∧ x = u)) := ⟨c.1, by rcases c.2 with z | z; exact Or.inr ⟨z.2, z.1⟩; exact Or.inl ⟨z.2, z.1⟩⟩
      rw [if_pos c, if_pos c2]
    · have c2 : ¬ (g' = g ∧ ((y = u ∧ x = v) ∨ (y = v ∧ x = u))) := fun z => c ⟨z.1, by rcases z.2 with z | z; exact Or.inr ⟨z.2, z.1⟩; exact Or.inl ⟨z.2, z.1⟩⟩
      rw [if_neg c, if_neg c2]
  · rw [gz_se_bit hg hu hv huv h64 hg' hx hx, if_neg, h.2.2 g' hg' x hx]
    rintro ⟨_, ⟨rfl, z⟩ | ⟨rfl, z⟩⟩
    · exact huv z
    · exact huv z.symm
theorem gz_se_o {R : Nat → Nat} {g u v : Nat} {b : Bool} (hu : u < 6) (hv : v < 6) {g' : Nat} (hne : g' ≠ g) {x : Nat} (hx : x < 6) : gz_se R g u v b (g' * 6 + x) = R (g' * 6 + x) := by
  unfold gz_se
  rw [if_neg (by omega), if_neg (by omega)]
section
variable {fg fp fb fw : Int32} {ro co wa aa cs tt sd : Nat → Int32}
theorem gx_joined {post : Int32 → Prop} {R : Nat → Nat} {g u v : Nat} (hg : g < 2) (hu : u < 6) (hv : v < 6) (hR : ∀ i, i < 12 → R i < 64 ∧ ro i = nI (R i))
    (h : post (nI ((R (g * 6 + u)).testBit v).toNat)) : wpX_joined post (fg, fp, fb, fw, ro, co, wa, aa, cs, tt, sd) (nI g) (nI u) (nI v) := by
  have hi : g * 6 + u < 12 := by omega
  unfold wpX_joined
  dsimp only
  rw [gn_g6, nI_clamp (by omega), (hR _ hi).2]
  refine ⟨vp_in_nI hi (by omega), gn_if (gn_tb1 (hR _ hi).1 hv) (fun z => ?_) (fun z => ?_)⟩
  · rw [z] at h; exact h
  · rw [z] at h; exact h
theorem gx_setEdge {post : SX → Prop} {R : Nat → Nat} {g u v : Nat} {b : Bool} {p3 : Int32} (hp3 : p3 = nI b.toNat) (hg : g < 2) (hu : u < 6) (hv : v < 6) (huv : u ≠ v) (hR : ∀ i, i < 12 → R i < 64 ∧ ro i = nI (R i))
    (h : ∀ ro' : Nat → Int32, (∀ i, i < 12 → ro' i = nI (gz_se R g u v b i)) → post (fg, fp, fb, fw, ro', co, wa, aa, cs, tt, sd)) :
    wpX_setEdge post (fg, fp, fb, fw, ro, co, wa, aa, cs, tt, sd) (nI g) (nI u) (nI v) p3 := by
  have hi : g * 6 + u < 12 := by omega
  have hj : g * 6 + v < 12 := by omega
  have hij : g * 6 + v ≠ g * 6 + u := by omega
  have hji : g * 6 + u ≠ g * 6 + v := by omega
  have vi : vp_in (nI (g * 6 + u)) 12 := vp_in_nI hi (by omega)
  have vj : vp_in (nI (g * 6 + v)) 12 := vp_in_nI hj (by omega)
  subst hp3
  unfold wpX_setEdge
  dsimp only
  rw [gn_g6, gn_g6, nI_clamp (show g * 6 + u < 2 ^ 31 by omega), nI_clamp (show g * 6 + v < 2 ^ 31 by omega), (hR _ hi).2, gn_clr _ (hR _ hi).1 v hv]
  refine ⟨vi, vi, ?_⟩
  rintro _ rfl
  rw [pk_un hij, (hR _ hj).2, gn_clr _ (hR _ hj).1 u hu]
  refine ⟨vj, vj, ?_⟩
  rintro _ rfl
  refine gn_if0 (gn_b0 b) (fun hb => ?_) (fun hb => ⟨vi, vi, ?_⟩)
  · refine h _ (fun i h12 => ?_)
    unfold gz_se gn_set
    subst hb
    by_cases e1 : i = g * 6 + u
    · subst e1
      rw [pk_un hji, pk_us, if_pos rfl]
      rfl
    · rw [if_neg e1]
      by_cases e2 : i = g * 6 + v
      · subst e2
        rw [pk_us, if_pos rfl]
        rfl
      · rw [if_neg e2, pk_un e2, pk_un e1]
        exact (hR i h12).2
  · rintro _ rfl
    refine ⟨vj, vj, ?_⟩
    rintro _ rfl
    refine h _ (fun i h12 => ?_)
    unfold gz_se gn_set
    subst hb
    rw [gn_pow v (by omega), gn_pow u (by omega)]
    by_cases e1 : i = g * 6 + u
    · subst e1
      rw [pk_un hji, pk_us, pk_un hji, pk_us, gn_or, if_pos rfl]
      rfl
    · rw [if_neg e1]
      by_cases e2 : i = g * 6 + v
      · subst e2
        rw [pk_us, pk_un hij, pk_us, gn_or, if_pos rfl]
        rfl
      · rw [if_neg e2, pk_un e2, pk_un e1, pk_un e2, pk_un e1]
        exact (hR i h12).2
end
end
section
/-! the component's public methods that change a graph, and their pure pictures -/
/-- exchange, when the vertices below i have been looked at -/
def gz_ex (R : Nat → Nat) (g u v : Nat) : Nat → Nat → Nat
  | 0 => R
  | i + 1 => if i = u ∨ i = v then gz_ex R g u v i else
      gz_se (gz_se (gz_ex R g u v i) g u i ((gz_ex R g u v i (g * 6 + v)).testBit i)) g v i ((gz_ex R g u v i (g * 6 + u)).testBit i)
theorem gz_ex_s {R : Nat → Nat} {g u v i : Nat} (h : i = u ∨ i = v) : gz_ex R g u v (i + 1) = gz_ex R g u v i := if_pos h
theorem gz_ex_n {R : Nat → Nat} {g u v i : Nat} (h : ¬ (i = u ∨ i = v)) : gz_ex R g u v (i + 1) =
    gz_se (gz_se (gz_ex R g u v i) g u i ((gz_ex R g u v i (g * 6 + v)).testBit i)) g v i ((gz_ex R g u v i (g * 6 + u)).testBit i) := if_neg h
theorem gz_ex_ok {R C : Nat → Nat} {g u v : Nat} (h : gz_ok R C) (hg : g < 2) (hu : u < 6) (hv : v < 6) : ∀ i, i ≤ 6 → gz_ok (gz_ex R g u v i) C
  | 0, _ => h
  | i + 1, hi => by
    have ih := gz_ex_ok h hg hu hv i (by omega)
    by_cases c : i = u ∨ i = v
    · rw [gz_ex_s c]; exact ih
    · rw [gz_ex_n c]
      exact gz_se_ok (gz_se_ok ih hg hu (by omega) (fun z => c (Or.inl z.symm))) hg hv (by omega) (fun z => c (Or.inr z.symm))
theorem gz_ex_o {R : Nat → Nat} {g u v : Nat} (hu : u < 6) (hv : v < 6) {g' x : Nat} (hne : g' ≠ g) (hx : x < 6) : ∀ i, i ≤ 6 → gz_ex R g u v i (g' * 6 + x) = R (g' * 6 + x)
  | 0, _ => rfl
  | i + 1, hi => by
    have ih := gz_ex_o (R := R) hu hv hne hx i (by omega)
    by_cases c : i = u ∨ i = v
    · rw [gz_ex_s c]; exact ih
    · rw [gz_ex_n c, gz_se_o hv (by omega) hne hx, gz_se_o hu (by omega) hne hx, ih]
/-- an exchange of a vertex with itself changes nothing -/
theorem gz_se_id {R C : Nat → Nat} {g u w : Nat} {b : Bool} (h : gz_ok R C) (hg : g < 2) (hu : u < 6) (hw : w < 6) (hb : b = (R (g * 6 + u)).testBit w) :
    ∀ i, i < 12 → gz_se R g u w b i = R i := by
  intro i hi
  have h64 := (h.1 i hi).1
  unfold gz_se
  by_cases e1 : i = g * 6 + u
  · rw [if_pos e1]
    refine gb_x (n := 6) (gn_set_lt h64 hw b) h64 fun y hy => ?_
    rw [gn_set_bit h64 hw hy]
    by_cases e : y = w
    · rw [if_pos e, e, hb, e1]
    · rw [if_neg e]
  · rw [if_neg e1]
    by_cases e2 : i = g * 6 + w
    · rw [if_pos e2]
      refine gb_x (n := 6) (gn_set_lt h64 hu b) h64 fun y hy => ?_
      rw [gn_set_bit h64 hu hy]
      by_cases e : y = u
      · rw [if_pos e, e, hb, e2, h.2.1 g hg u hu w hw]
      · rw [if_neg e]
    · rw [if_neg e2]
theorem gz_ex_id {R C : Nat → Nat} {g u : Nat} (h : gz_ok R C) (hg : g < 2) (hu : u < 6) : ∀ i, i ≤ 6 → ∀ j, j < 12 → gz_ex R g u u i j = R j
  | 0, _ => fun _ _ => rfl
  | i + 1, hi => by
    intro j hj
    have ih := gz_ex_id h hg hu i (by omega)
    have ok := gz_ex_ok h hg hu hu i (by omega)
    by_cases c : i = u ∨ i = u
    · rw [gz_ex_s c]; exact ih j hj
    · have hui : u ≠ i := fun z => c (Or.inl z.symm)
      have e1 := gz_se_id ok hg hu (show i < 6 by omega) rfl
      have ok2 := gz_se_ok (b := (gz_ex R g u u i (g * 6 + u)).testBit i) ok hg hu (show i < 6 by omega) hui
      rw [gz_ex_n c, gz_se_id ok2 hg hu (by omega) (by rw [e1 _ (by omega)]) j hj, e1 j hj, ih j hj]
def gz_sw (C : Nat → Nat) (g u v i : Nat) : Nat := if i = g * 6 + v then C (g * 6 + u) else if i = g * 6 + u then C (g * 6 + v) else C i
theorem gz_sw_4 {C : Nat → Nat} {g u v : Nat} (hg : g < 2) (hu : u < 6) (hv : v < 6) (h : ∀ i, i < 12 → C i < 4) : ∀ i, i < 12 → gz_sw C g u v i < 4 := by
  intro i hi
  unfold gz_sw
  by_cases h1 : i = g * 6 + v
  · rw [if_pos h1]; exact h _ (by omega)
  · rw [if_neg h1]
    by_cases h2 : i = g * 6 + u
    · rw [if_pos h2]; exact h _ (by omega)
    · rw [if_neg h2]; exact h i hi
theorem gz_sw_o {C : Nat → Nat} {g u v : Nat} (hu : u < 6) (hv : v < 6) {g' x : Nat} (hne : g' ≠ g) (hx : x < 6) : gz_sw C g u v (g' * 6 + x) = C (g' * 6 + x) := by
  unfold gz_sw
  rw [if_neg (by omega), if_neg (by omega)]
theorem gz_sw_id (C : Nat → Nat) (g u i : Nat) : gz_sw C g u u i = C i := by
  unfold gz_sw
  by_cases h : i = g * 6 + u
  · rw [if_pos h, h]
  · rw [if_neg h, if_neg h]
theorem gz_sw_upd {C : Nat → Nat} {co : Nat → Int32} {g u v : Nat} (hg : g < 2) (hu : u < 6) (hv : v < 6) (h : ∀ i, i < 12 → co i = nI (C i)) :
    ∀ i, i < 12 → upd (upd co (g * 6 + u) (co (g * 6 + v))) (g * 6 + v) (co (g * 6 + u)) i = nI (gz_sw C g u v i) := by
  intro i hi
  unfold gz_sw
  by_cases h1 : i = g * 6 + v
  · rw [if_pos h1, h1, pk_us, h _ (by omega)]
  · rw [if_neg h1, pk_un h1]
    by_cases h2 : i = g * 6 + u
    · rw [if_pos h2, h2, pk_us, h _ (by omega)]
    · rw [if_neg h2, pk_un h2, h i hi]
theorem gz_ok_C {R C C' : Nat → Nat} (h : gz_ok R C) (hC : ∀ i, i < 12 → C' i < 4) : gz_ok R C' := ⟨fun i hi => ⟨(h.1 i hi).1, hC i hi⟩, h.2.1, h.2.2⟩
/-! complement -/
def gn_cp (m u : Nat) : Nat := gn_cl (63 - m) u
theorem gn_cpv : ∀ m, m < 64 → ∀ u, u < 6 → (63 &&& (nI m ^^^ (-1))) &&& (((1 : Int32) <<< (nI u &&& 31)) ^^^ (-1)) = nI (gn_cp m u) := by decide +kernel
theorem gn_cpb : ∀ m, m < 64 → ∀ u, u < 6 → ∀ w, w < 6 → (gn_cp m u).testBit w = (!decide (u = w) && !m.testBit w) := by decide +kernel
theorem gn_cp_lt {m : Nat} (u : Nat) : gn_cp m u < 64 := gn_cll (by omega) u
def gz_cp (R : Nat → Nat) (g n i : Nat) : Nat := if g * 6 ≤ i ∧ i < g * 6 + n then gn_cp (R i) (i - g * 6) else R i
theorem gz_cp_in {R : Nat → Nat} {g u : Nat} (hu : u < 6) : gz_cp R g 6 (g * 6 + u) = gn_cp (R (g * 6 + u)) u := by
  unfold gz_cp
  rw [if_pos ⟨by omega, by omega⟩, show g * 6 + u - g * 6 = u by omega]
theorem gz_cp_o {R : Nat → Nat} {g g' x n : Nat} (hne : g' ≠ g) (hx : x < 6) (hn : n ≤ 6) : gz_cp R g n (g' * 6 + x) = R (g' * 6 + x) := by
  unfold gz_cp
  rw [if_neg (by omega)]
theorem gz_cp_ok {R C : Nat → Nat} {g : Nat} (h : gz_ok R C) (hg : g < 2) : gz_ok (gz_cp R g 6) C := by
  have h64 : ∀ i, i < 12 → R i < 64 := fun i hi => (h.1 i hi).1
  refine ⟨fun i hi => ⟨?_, (h.1 i hi).2⟩, fun g' hg' x hx y hy => ?_, fun g' hg' x hx => ?_⟩
  · unfold gz_cp
    by_cases c : g * 6 ≤ i ∧ i < g * 6 + 6
    · rw [if_pos c]; exact gn_cp_lt _
    · rw [if_neg c]; exact h64 i hi
  · by_cases e : g' = g
    · subst e
      rw [gz_cp_in hx, gz_cp_in hy, gn_cpb _ (h64 _ (by omega)) x hx y hy, gn_cpb _ (h64 _ (by omega)) y hy x hx, h.2.1 g' hg' x hx y hy]
      by_cases e : x = y
      · subst e; rfl
      · have e2 : ¬ y = x := fun z => e z.symm
        simp [e, e2]
    · rw [gz_cp_o e hx (Nat.le_refl 6), gz_cp_o e hy (Nat.le_refl 6)]
      exact h.2.1 g' hg' x hx y hy
  · by_cases e : g' = g
    · subst e
      rw [gz_cp_in hx, gn_cpb _ (h64 _ (by omega)) x hx x hx]
      simp
    · rw [gz_cp_o e hx (Nat.le_refl 6)]
      exact h.2.2 g' hg' x hx
/-- how many are true -/
def gz_sm (f : Nat → Bool) : Nat → Nat
  | 0 => 0
  | n + 1 => gz_sm f n + (f n).toNat
def gz_tot (f : Nat → Nat → Bool) : Nat → Nat
  | 0 => 0
  | n + 1 => gz_tot f n + gz_sm (f n) 6
theorem gz_sm_ext {f h : Nat → Bool} : ∀ n, (∀ i, i < n → f i = h i) → gz_sm f n = gz_sm h n
  | 0, _ => rfl
  | n + 1, e => by
    show gz_sm f n + (f n).toNat = gz_sm h n + (h n).toNat
    rw [e n (Nat.lt_succ_self n), gz_sm_ext n (fun i hi => e i (Nat.lt_succ_of_lt hi))]
theorem gz_tot_ext {f h : Nat → Nat → Bool} : ∀ n, (∀ i, i < n → ∀ j, j < 6 → f i j = h i j) → gz_tot f n = gz_tot h n
  | 0, _ => rfl
  | n + 1, e => by
    show gz_tot f n + gz_sm (f n) 6 = gz_tot h n + gz_sm (h n) 6
    rw [gz_sm_ext 6 (e n (Nat.lt_succ_self n)), gz_tot_ext n (fun i hi => e i (Nat.lt_succ_of_lt hi))]
theorem gz_sm_row (f : Nat → Nat → Bool) (u : Nat) (h : gz_sm (fun i => f (i / 6) (i % 6)) (6 * u) = gz_tot f u) : ∀ v, v ≤ 6 → gz_sm (fun i => f (i / 6) (i % 6)) (6 * u + v) = gz_tot f u + gz_sm (f u) v
  | 0, _ => h
  | v + 1, hv => by
    have ih := gz_sm_row f u h v (by omega)
    show gz_sm (fun i => f (i / 6) (i % 6)) (6 * u + v) + (f ((6 * u + v) / 6) ((6 * u + v) % 6)).toNat = gz_tot f u + (gz_sm (f u) v + (f u v).toNat)
    rw [ih, show (6 * u + v) / 6 = u by omega, show (6 * u + v) % 6 = v by omega, Nat.add_assoc]
theorem gz_sm_tot (f : Nat → Nat → Bool) : ∀ u, gz_sm (fun i => f (i / 6) (i % 6)) (6 * u) = gz_tot f u
  | 0 => rfl
  | u + 1 => gz_sm_row f u (gz_sm_tot f u) 6 (Nat.le_refl 6)
theorem gz_sm_le (f : Nat → Bool) : ∀ n, gz_sm f n ≤ n
  | 0 => Nat.le_refl 0
  | n + 1 => by
    have := gz_sm_le f n
    have := Bool.toNat_le (f n)
    show gz_sm f n + (f n).toNat ≤ n + 1
    omega
/-! copy -/
def gz_cy (R : Nat → Nat) (n i : Nat) : Nat := if 6 ≤ i ∧ i < 6 + n then R (i - 6) else R i
theorem gz_cy_0 {R : Nat → Nat} {n u : Nat} (hu : u < 6) : gz_cy R n u = R u := by unfold gz_cy; rw [if_neg (by omega)]
theorem gz_cy_1 {R : Nat → Nat} {u : Nat} (hu : u < 6) : gz_cy R 6 (6 + u) = R u := by
  unfold gz_cy
  rw [if_pos ⟨by omega, by omega⟩, show 6 + u - 6 = u by omega]
theorem gz_cy_g {R : Nat → Nat} {g u : Nat} (hg : g < 2) (hu : u < 6) : gz_cy R 6 (g * 6 + u) = R u := by
  obtain rfl | rfl : g = 0 ∨ g = 1 := by omega
  · rw [show 0 * 6 + u = u by omega]; exact gz_cy_0 hu
  · exact gz_cy_1 hu
theorem gz_cy_ok {R C : Nat → Nat} (h : gz_ok R C) : gz_ok (gz_cy R 6) (gz_cy C 6) := by
  have h0 : ∀ u, u < 6 → ∀ v, v < 6 → (R u).testBit v = (R v).testBit u := by
    intro u hu v hv
    have := h.2.1 0 (by decide) u hu v hv
    rw [show 0 * 6 + u = u by omega, show 0 * 6 + v = v by omega] at this
    exact this
  refine ⟨fun i hi => ?_, fun g hg u hu v hv => ?_, fun g hg u hu => ?_⟩
  · unfold gz_cy
    by_cases c : 6 ≤ i ∧ i < 6 + 6
    · rw [if_pos c, if_pos c]; exact h.1 _ (by omega)
    · rw [if_neg c, if_neg c]; exact h.1 i hi
  · rw [gz_cy_g hg hu, gz_cy_g hg hv]
    exact h0 u hu v hv
  · rw [gz_cy_g hg hu]
    have := h.2.2 0 (by decide) u hu
    rw [show 0 * 6 + u = u by omega] at this
    exact this
theorem gz_cy_upd {R : Nat → Nat} {ro : Nat → Int32} {n : Nat} (hn : n < 6) (h : ∀ i, i < 12 → ro i = nI (gz_cy R n i)) : ∀ i, i < 12 → upd ro (6 + n) (ro n) i = nI (gz_cy R (n + 1) i) := by
  intro i hi
  by_cases e : i = 6 + n
  · rw [e, pk_us, h n (by omega), gz_cy_0 hn]
    unfold gz_cy
    rw [if_pos ⟨by omega, by omega⟩, show 6 + n - 6 = n by omega]
  · rw [pk_un e, h i hi]
    unfold gz_cy
    by_cases c : 6 ≤ i ∧ i < 6 + n
    · rw [if_pos c, if_pos ⟨c.1, by omega⟩]
    · rw [if_neg c, if_neg (by omega)]
section
variable {fg fp fb fw : Int32} {ro co wa aa cs tt sd : Nat → Int32}
theorem gx_ex84 {post : Int32 → SX → Prop} {R C : Nat → Nat} {g u v : Nat} (h : gz_ok R C) (hg : g < 2) (hu : u < 6) (hv : v < 6)
    (K : ∀ ro' : Nat → Int32, (∀ i, i < 12 → ro' i = nI (gz_ex R g u v 6 i)) → post 0 (fg, fp, fb, fw, ro', co, wa, aa, cs, tt, sd)) :
    ∀ (d i : Nat) (ro : Nat → Int32), i + d = 6 → (∀ j, j < 12 → ro j = nI (gz_ex R g u v i j)) →
    wX_exchange_84 post (nI g) (nI u) (nI v) (d + 1) (nI i) fg fp fb fw ro co wa aa cs tt sd := by
  intro d
  induction d with
  | zero =>
    intro i ro hi hr
    have e : i = 6 := by omega
    subst e
    exact br_t (nI_le (b := 6) (Nat.le_refl _) (by omega)) (K ro hr)
  | succ d ih =>
    intro i ro hi hr
    have hi6 : i < 6 := by omega
    have ok := gz_ex_ok h hg hu hv i (by omega)
    have hR : ∀ j, j < 12 → gz_ex R g u v i j < 64 ∧ ro j = nI (gz_ex R g u v i j) := fun j hj => ⟨(ok.1 j hj).1, hr j hj⟩
    refine br_f (nI_ge (b := 6) hi6 (by omega)) ?_
    refine pk_eq i u (fun e => ?_) (fun ne => ?_)
    · rintro _ rfl
      rw [nI_1]
      exact ih (i + 1) ro (by omega) (by rw [gz_ex_s (Or.inl e)]; exact hr)
    · refine pk_eq i v (fun e => ?_) (fun ne2 => ?_)
      · rintro _ rfl
        rw [nI_1]
        exact ih (i + 1) ro (by omega) (by rw [gz_ex_s (Or.inr e)]; exact hr)
      · refine gx_joined hg hu hi6 hR ?_
        refine gx_joined hg hv hi6 hR ?_
        refine gx_setEdge rfl hg hu hi6 (fun z => ne z.symm) hR ?_
        intro ro1 h1
        have ok1 := gz_se_ok (b := (gz_ex R g u v i (g * 6 + v)).testBit i) ok hg hu hi6 (fun z => ne z.symm)
        refine gx_setEdge rfl hg hv hi6 (fun z => ne2 z.symm) (fun j hj => ⟨(ok1.1 j hj).1, h1 j hj⟩) ?_
        intro ro2 h2
        rintro _ rfl
        rw [nI_1]
        refine ih (i + 1) ro2 (by omega) ?_
        rw [gz_ex_n (by rintro (z | z); exact ne z; exact ne2 z)]
        exact h2
theorem gx_bits4 {post : Int32 → Prop} {m : Nat} (hm : m < 64) (h : post (nI (gz_sm (fun v => m.testBit v) 6))) :
    ∀ d i, i + d = 6 → wX_bits_4 post (nI m) (d + 1) (nI (gz_sm (fun v => m.testBit v) i)) (nI i) := by
  intro d
  induction d with
  | zero =>
    intro i hi
    have e : i = 6 := by omega
    subst e
    exact br_t (nI_le (b := 6) (Nat.le_refl _) (by omega)) h
  | succ d ih =>
    intro i hi
    have hi6 : i < 6 := by omega
    refine br_f (nI_ge (b := 6) hi6 (by omega)) ?_
    rintro _ rfl _ rfl
    rw [gn_tb m hm i hi6, nI_add, nI_1]
    exact ih (i + 1) (by omega)
theorem gx_bits {post : Int32 → Prop} {m : Nat} (hm : m < 64) (h : post (nI (gz_sm (fun v => m.testBit v) 6))) : wpX_bits post (nI m) := ⟨7, gx_bits4 hm h 6 0 (by omega)⟩
theorem gx_cp13 {post : Int32 → SX → Prop} {R C : Nat → Nat} {g : Nat} (h : gz_ok R C) (hg : g < 2)
    (K : ∀ ro' : Nat → Int32, (∀ i, i < 12 → ro' i = nI (gz_cp R g 6 i)) → post (nI (gz_tot (fun u v => (gz_cp R g 6 (g * 6 + u)).testBit v) 6 / 2)) (fg, fp, fb, fw, ro', co, wa, aa, cs, tt, sd)) :
    ∀ (d i : Nat) (ro : Nat → Int32), i + d = 6 → (∀ j, j < 12 → ro j = nI (gz_cp R g i j)) →
    wX_complement_13 post (nI g) fg fp fb fw (d + 1) (nI (gz_tot (fun u v => (gz_cp R g 6 (g * 6 + u)).testBit v) i)) (nI i) ro co wa aa cs tt sd := by
  intro d
  induction d with
  | zero =>
    intro i ro hi hr
    have e : i = 6 := by omega
    subst e
    refine br_t (nI_le (b := 6) (Nat.le_refl _) (by omega)) (And.intro (by decide) ?_)
    have z := K ro hr
    have hb : gz_tot (fun u v => (gz_cp R g 6 (g * 6 + u)).testBit v) 6 ≤ 36 := by
      rw [← gz_sm_tot]
      exact gz_sm_le _ _
    rw [← pk_div (d := 2) (by omega) (by decide) (by decide)] at z
    exact z
  | succ d ih =>
    intro i ro hi hr
    have hi6 : i < 6 := by omega
    have hgi : g * 6 + i < 12 := by omega
    have h64 := (h.1 (g * 6 + i) hgi).1
    have hri : ro (g * 6 + i) = nI (R (g * 6 + i)) := by
      rw [hr _ hgi]
      unfold gz_cp
      rw [if_neg (by omega)]
    have vi : vp_in (nI (g * 6 + i)) 12 := vp_in_nI hgi (by omega)
    refine br_f (nI_ge (b := 6) hi6 (by omega)) ?_
    rintro _ rfl
    rw [gn_g6, nI_clamp (show g * 6 + i < 2 ^ 31 by omega), hri, gn_cpv _ h64 i hi6]
    refine And.intro vi (And.intro vi ?_)
    rintro _ rfl
    rw [pk_us]
    refine And.intro vi (gx_bits (gn_cp_lt i) ?_)
    rintro _ rfl _ rfl
    rw [nI_add, nI_1]
    have e : gz_tot (fun u v => (gz_cp R g 6 (g * 6 + u)).testBit v) i + gz_sm (fun v => (gn_cp (R (g * 6 + i)) i).testBit v) 6 = gz_tot (fun u v => (gz_cp R g 6 (g * 6 + u)).testBit v) (i + 1) := by
      rw [← gz_cp_in hi6]
      rfl
    rw [e]
    refine ih (i + 1) _ (by omega) ?_
    intro j hj
    by_cases ej : j = g * 6 + i
    · rw [ej, pk_us]
      unfold gz_cp
      rw [if_pos ⟨by omega, by omega⟩, show g * 6 + i - g * 6 = i by omega]
    · rw [pk_un ej, hr j hj]
      unfold gz_cp
      by_cases c : g * 6 ≤ j ∧ j < g * 6 + i
      · rw [if_pos c, if_pos ⟨c.1, by omega⟩]
      · rw [if_neg c, if_neg (by omega)]
theorem gx_cy2 {post : SX → Prop} {R C : Nat → Nat}
    (K : ∀ ro' co' : Nat → Int32, gz_X (gz_cy R 6) (gz_cy C 6) ro' co' → post (fg, fp, fb, fw, ro', co', wa, aa, cs, tt, sd)) :
    ∀ (d i : Nat) (ro co : Nat → Int32), i + d = 6 → gz_X (gz_cy R i) (gz_cy C i) ro co → wX_copy_2 post fg fp fb fw (d + 1) (nI i) ro co wa aa cs tt sd := by
  intro d
  induction d with
  | zero =>
    intro i ro co hi hr
    have e : i = 6 := by omega
    subst e
    exact br_t (nI_le (b := 6) (Nat.le_refl _) (by omega)) (K ro co hr)
  | succ d ih =>
    intro i ro co hi hr
    have hi6 : i < 6 := by omega
    have e6 : (6 : Int32) + nI i = nI (6 + i) := nI_add 6 i
    have v1 : vp_in (nI i) 12 := vp_in_nI (by omega) (by omega)
    have v2 : vp_in (nI (6 + i)) 12 := vp_in_nI (by omega) (by omega)
    refine br_f (nI_ge (b := 6) hi6 (by omega)) ?_
    rw [e6, nI_clamp (show i < 2 ^ 31 by omega), nI_clamp (show 6 + i < 2 ^ 31 by omega)]
    refine And.intro v1 (And.intro v2 ?_)
    rintro _ rfl
    refine And.intro v1 (And.intro v2 ?_)
    rintro _ rfl _ rfl
    rw [nI_1]
    refine ih (i + 1) _ _ (by omega) (fun j hj => ⟨?_, ?_⟩)
    · exact gz_cy_upd hi6 (fun j hj => (hr j hj).1) j hj
    · exact gz_cy_upd hi6 (fun j hj => (hr j hj).2) j hj
/-! questions -/
theorem gx_code18 {post : Int32 → SX → Prop} {g : Nat} {C R : Nat → Nat} (hg : g < 2) (hC : gx_C g co 0 C) (hC4 : ∀ v, v < 6 → C v < 4) (hR : gx_R g ro R)
    (K : ∀ aa' : Nat → Int32, post (nI (gc_cd C (gx_E R) (fun i => i))) (nI g, fp, fb, fw, ro, co, wa, aa', cs, tt, sd)) :
    ∀ (d i : Nat) (aa : Nat → Int32), i + d = 6 → (∀ j, j < i → aa j = nI j) → wX_code_18 post (nI g) fp fb fw (d + 1) (nI (gc_pc C (gx_E R) (fun i => i) i)) (nI i) ro co wa aa cs tt sd := by
  intro d
  induction d with
  | zero =>
    intro i aa hi ha
    have e : i = 6 := by omega
    subst e
    refine br_t (nI_le (b := 6) (Nat.le_refl _) (by omega)) ?_
    rw [gc_pc_6]
    exact K aa
  | succ d ih =>
    intro i aa hi ha
    have hi6 : i < 6 := by omega
    refine br_f (nI_ge (b := 6) hi6 (by omega)) (And.intro (vp_in_nI hi6 (by omega)) ?_)
    rintro _ rfl
    rw [nI_clamp (show i < 2 ^ 31 by omega)]
    refine gx_addition hg hi6 hi6 hC hC4 hR (π := fun i => i) (fun j hj => ⟨by omega, ?_⟩) ?_
    · rw [pk_un (by omega)]
      exact ha j hj
    · rintro _ rfl _ rfl
      rw [gn_or, gc_pc_s rfl, nI_1]
      refine ih (i + 1) _ (by omega) (fun j hj => ?_)
      by_cases e : j = i
      · rw [e, pk_us]
      · rw [pk_un e]; exact ha j (by omega)
theorem gx_orbitOf2 {post : Int32 → Prop} {S : Nat → Nat} {v p : Nat} (hS : ∀ q, q < 6 → S q < 64 ∧ sd q = nI (S q)) (hv : v < 6) (hp : p < 6) (hb : (S p).testBit v = true)
    (h : ∀ q, q < 6 → (S q).testBit v = true → post (nI (S q))) :
    ∀ d i, i + d = p → wX_orbitOf_2 post (nI v) fg fp fb fw ro co wa aa cs tt sd (d + 1) (nI i) := by
  intro d
  induction d with
  | zero =>
    intro i hi
    have e : i = p := by omega
    subst e
    have vi : vp_in (nI i) 6 := vp_in_nI hp (by omega)
    refine br_f (nI_ge (b := 6) hp (by omega)) (And.intro vi ?_)
    rw [nI_clamp (show i < 2 ^ 31 by omega), (hS i hp).2]
    exact br_t ((gn_tb1 (hS i hp).1 hv).mpr hb) (And.intro vi (h i hp hb))
  | succ d ih =>
    intro i hi
    have hi6 : i < 6 := by omega
    have vi : vp_in (nI i) 6 := vp_in_nI hi6 (by omega)
    refine br_f (nI_ge (b := 6) hi6 (by omega)) (And.intro vi ?_)
    rw [nI_clamp (show i < 2 ^ 31 by omega), (hS i hi6).2]
    refine gn_if (gn_tb1 (hS i hi6).1 hv) (fun z => And.intro vi (h i hi6 z)) (fun _ => ?_)
    rintro _ rfl
    rw [nI_1]
    exact ih (i + 1) (by omega)
theorem gx_orbitOf {post : Int32 → Prop} {S : Nat → Nat} {v p : Nat} (hS : ∀ q, q < 6 → S q < 64 ∧ sd q = nI (S q)) (hv : v < 6) (hp : p < 6) (hb : (S p).testBit v = true)
    (h : ∀ q, q < 6 → (S q).testBit v = true → post (nI (S q))) : wpX_orbitOf post (fg, fp, fb, fw, ro, co, wa, aa, cs, tt, sd) (nI v) :=
  ⟨p + 1, gx_orbitOf2 hS hv hp hb h p 0 (by omega)⟩
/-- the sets O answer for the orbits: how many of them begin with their own vertex -/
def gz_lo (O : Nat → Nat) (v : Nat) : Bool := (List.range v).all (fun i => !(O v).testBit i)
theorem gz_lo_iff {O : Nat → Nat} {v : Nat} : gz_lo O v = true ↔ ∀ i, i < v → (O v).testBit i = false := by
  unfold gz_lo
  rw [List.all_eq_true]
  constructor
  · intro h i hi
    have := h i (List.mem_range.mpr hi)
    simpa using this
  · intro h i hi
    rw [h i (List.mem_range.mp hi)]
    rfl
theorem gz_lowest_ex {T v : Nat} (h : T.testBit v = true) : ∃ j, j ≤ v ∧ T.testBit j = true ∧ ∀ i, i < j → T.testBit i = false := by
  induction v using Nat.strongRecOn with
  | _ v ih =>
    by_cases c : ∃ i, i < v ∧ T.testBit i = true
    · obtain ⟨i, hi, hb⟩ := c
      obtain ⟨j, h1, h2, h3⟩ := ih i hi hb
      exact ⟨j, by omega, h2, h3⟩
    · refine ⟨v, Nat.le_refl v, h, fun i hi => ?_⟩
      cases z : T.testBit i
      · rfl
      · exact absurd ⟨i, hi, z⟩ c
theorem gx_orb19 {post : Int32 → SX → Prop} {O : Nat → Nat} (hO : ∀ v, v < 6 → O v < 64 ∧ (O v).testBit v = true)
    (hof : ∀ v, v < 6 → ∀ P : Int32 → Prop, P (nI (O v)) → wpX_orbitOf P (fg, fp, fb, fw, ro, co, wa, aa, cs, tt, sd) (nI v))
    (K : post (nI (gz_sm (gz_lo O) 6)) (fg, fp, fb, fw, ro, co, wa, aa, cs, tt, sd)) :
    ∀ d i, i + d = 6 → wX_orbits_19 post fg fp fb fw ro co wa aa cs tt sd (d + 1) (nI (gz_sm (gz_lo O) i)) (nI i) := by
  intro d
  induction d with
  | zero =>
    intro i hi
    have e : i = 6 := by omega
    subst e
    exact br_t (nI_le (b := 6) (Nat.le_refl _) (by omega)) K
  | succ d ih =>
    intro i hi
    have hi6 : i < 6 := by omega
    obtain ⟨j, h1, h2, h3⟩ := gz_lowest_ex (hO i hi6).2
    refine br_f (nI_ge (b := 6) hi6 (by omega)) ?_
    refine hof i hi6 _ ?_
    refine gx_lowest (hO i hi6).1 (by omega) (Or.inl h2) h3 ?_
    refine pk_eq j i (fun e => ?_) (fun ne => ?_)
    · subst e
      have e1 : gz_lo O j = true := gz_lo_iff.mpr h3
      rintro _ rfl _ rfl
      rw [nI_1, nI_1]
      have z := ih (j + 1) (by omega)
      have e2 : gz_sm (gz_lo O) (j + 1) = gz_sm (gz_lo O) j + 1 := by
        show gz_sm (gz_lo O) j + (gz_lo O j).toNat = _
        rw [e1]; rfl
      rw [e2] at z
      exact z
    · have e1 : gz_lo O i = false := by
        cases z : gz_lo O i
        · rfl
        · have := gz_lo_iff.mp z j (by omega)
          rw [h2] at this
          cases this
      rintro _ rfl
      rw [nI_1]
      have z := ih (i + 1) (by omega)
      have e2 : gz_sm (gz_lo O) (i + 1) = gz_sm (gz_lo O) i := by
        show gz_sm (gz_lo O) i + (gz_lo O i).toNat = _
        rw [e1]; rfl
      rw [e2] at z
      exact z
end
end
section
/-! the reference's small methods -/
section
variable {yc ye yr yk yn : Nat → Int32}
theorem gy_pick {post : SY → Prop} {J7 : Int32 → Int32 → Int32 → (Nat → Int32) → (Nat → Int32) → (Nat → Int32) → (Nat → Int32) → (Nat → Int32) → Prop} {x2 x4 : Int32} {U : Nat} (hU : U < 64) :
    ∀ k s n, n + k = 6 → s < 2 ^ 31 → wY_rename_73 post J7 x2 (nI U) x4 (nI (gr_pick U k s n)) yc ye yr yk yn →
    wY_rename_34 post J7 x2 (nI U) x4 yc ye yr yk yn (k + 1) (nI s) (nI n) := by
  intro k
  induction k with
  | zero =>
    intro s n hn hs h
    exact br_t (nI_le (a := 6) (by omega) (by omega)) h
  | succ k ih =>
    intro s n hn hs h
    have hn6 : n < 6 := by omega
    refine br_f (nI_ge (b := 6) hn6 (by omega)) ?_
    refine gn_if0 (gn_tb0 hU hn6) (fun hb => ?_) (fun hb => ?_)
    · have hbn : ¬ U.testBit n = true := by rw [hb]; decide
      refine pk_le s 0 (fun h0 => ?_) (fun h0 => ?_) rfl rfl hs (by omega)
      · have e : gr_pick U (k + 1) s n = n := by
          show (if U.testBit n = true then _ else if s = 0 then n else _) = n
          rw [if_neg hbn, if_pos (by omega)]
        rw [e] at h
        exact h
      · have e : gr_pick U (k + 1) s n = gr_pick U k (s - 1) (n + 1) := by
          show (if U.testBit n = true then _ else if s = 0 then n else gr_pick U k (s - 1) (n + 1)) = _
          rw [if_neg hbn, if_neg (by omega)]
        rw [e] at h
        unfold wY_rename_55
        refine br_t ((gn_tb0 hU hn6).mpr hb) ?_
        rintro _ rfl _ rfl
        obtain ⟨t, rfl⟩ : ∃ t, s = t + 1 := ⟨s - 1, by omega⟩
        rw [pk_m1, nI_1]
        exact ih t (n + 1) (by omega) (by omega) h
    · have e : gr_pick U (k + 1) s n = gr_pick U k s (n + 1) := by
        show (if U.testBit n = true then gr_pick U k s (n + 1) else _) = _
        rw [if_pos hb]
      rw [e] at h
      unfold wY_rename_55
      refine br_f (fun z => ?_) ?_
      · have := (gn_tb0 hU hn6).mp z
        rw [hb] at this
        cases this
      · rintro _ rfl
        rw [nI_1]
        exact ih s (n + 1) (by omega) hs h
theorem gy_ren7 {post : SY → Prop} : ∀ (d v rest U : Nat) (yr : Nat → Int32), v + d = 6 → rest < 2 ^ 31 → U < 64 → (∀ x, x ∈ gr_go d rest U → x < 6) →
    (∀ yr' : Nat → Int32, (∀ i, i < v → yr' i = yr i) → (∀ i, i < d → yr' (v + i) = nI ((gr_go d rest U).getD i 0)) → post (yc, ye, yr', yk, yn)) →
    wY_rename_7 post (d + 1) (nI rest) (nI U) (nI v) yc ye yr yk yn := by
  intro d
  induction d with
  | zero =>
    intro v rest U yr hv hr hU hx K
    exact br_t (nI_le (a := 6) (by omega) (by omega)) (K yr (fun _ _ => rfl) (fun i hi => absurd hi (Nat.not_lt_zero i)))
  | succ d ih =>
    intro v rest U yr hv hr hU hx K
    have e6 : (6 : Int32) - nI v = nI (d + 1) := by
      show nI 6 - nI v = _
      rw [pk_sub (by omega)]
      exact congrArg nI (by omega)
    have hne : ¬ nI (d + 1) = 0 := nI_ne0 (by omega) (by omega)
    have hq : rest / (d + 1) < 2 ^ 31 := Nat.lt_of_le_of_lt (Nat.div_le_self _ _) hr
    have hm : rest % (d + 1) < 2 ^ 31 := Nat.lt_of_le_of_lt (Nat.mod_le _ _) hr
    have hn6 : gr_pick U 6 (rest % (d + 1)) 0 < 6 := hx _ List.mem_cons_self
    refine br_f (nI_ge (b := 6) (by omega) (by omega)) ?_
    rw [e6, pk_rem hr (by omega) (by omega), pk_div hr (by omega) (by omega)]
    refine And.intro hne ?_
    rintro _ rfl
    refine And.intro hne ?_
    rintro _ rfl
    refine ⟨7, gy_pick hU 6 _ 0 (by omega) hm ?_⟩
    unfold wY_rename_73
    refine And.intro (vp_in_nI (by omega) (by omega)) ?_
    rintro _ rfl _ rfl _ rfl
    rw [gn_pow _ (by omega), gn_or, nI_1, nI_clamp (show v < 2 ^ 31 by omega)]
    refine ih (v + 1) _ _ _ (by omega) hq (Nat.or_lt_two_pow (n := 6) hU (Nat.pow_lt_pow_right (by decide) hn6)) (fun x hx' => hx x (List.mem_cons_of_mem _ hx')) ?_
    intro yr' k1 k2
    refine K yr' (fun i hi => ?_) (fun i hi => ?_)
    · rw [k1 i (by omega), pk_un (by omega)]
    · cases i with
      | zero =>
        rw [Nat.add_zero, k1 v (by omega), pk_us]
        rfl
      | succ i =>
        rw [show v + (i + 1) = v + 1 + i by omega, k2 i (by omega)]
        rfl
theorem gy_rename {post : SY → Prop} {p : Nat} (hp : p < 720) (K : ∀ yr' : Nat → Int32, (∀ v, v < 6 → yr' v = nI (gr_f p v)) → post (yc, ye, yr', yk, yn)) :
    wpY_rename post (yc, ye, yr, yk, yn) (nI p) := by
  refine ⟨7, gy_ren7 6 0 p 0 yr (by omega) (by omega) (by omega) (gr_L hp).2.1 ?_⟩
  intro yr' _ k2
  refine K yr' fun v hv => ?_
  have z := k2 v hv
  rw [Nat.zero_add] at z
  rw [z]
  have hl : v < (gr_rn p).length := by rw [(gr_L hp).1]; exact hv
  show nI ((gr_rn p).getD v 0) = nI (gp_fn (gr_rn p) v)
  rw [gp_fn_lt hl, List.getD_eq_getElem?_getD, List.getElem?_eq_getElem hl]
  rfl
/-! the bit of a pair -/
theorem gy_bf : ∀ k, k < 6 → nI (k * (11 - k) / 2) + (5 - nI k) = nI ((k + 1) * (11 - (k + 1)) / 2) := by decide +kernel
theorem gy_be : ∀ hi, hi < 6 → ∀ lo, lo < hi → (14 - nI (lo * (11 - lo) / 2)) - ((nI hi - nI lo) - 1) = nI (gc_pb lo hi) := by decide +kernel
theorem gy_bit29 {post : Int32 → Prop} {lo hi : Nat} (hh : hi < 6) (hl : lo < hi) (h : post (nI (gc_pb lo hi))) :
    ∀ d k, k + d = lo → wY_bitOf_29 post (nI lo) (nI hi) yc ye yr yk yn (d + 1) (nI (k * (11 - k) / 2)) (nI k) := by
  intro d
  induction d with
  | zero =>
    intro k hk
    have e : k = lo := by omega
    subst e
    refine br_t (nI_le (Nat.le_refl _) (by omega)) ?_
    rw [gy_be hi hh k hl]
    exact h
  | succ d ih =>
    intro k hk
    refine br_f (nI_ge (by omega) (by omega)) ?_
    rintro _ rfl _ rfl
    rw [gy_bf k (by omega), nI_1]
    exact ih (k + 1) (by omega)
def gy_B (a b : Nat) : Nat := if a < b then gc_pb a b else gc_pb b a
theorem gy_bitOf {post : Int32 → Prop} {a b : Nat} (ha : a < 6) (hb : b < 6) (hab : a ≠ b) (h : post (nI (gy_B a b))) : wpY_bitOf post (yc, ye, yr, yk, yn) (nI a) (nI b) := by
  unfold wpY_bitOf
  dsimp only
  unfold wY_bitOf_10
  unfold gy_B at h
  by_cases hl : a < b
  · rw [if_pos hl] at h
    have n1 : ¬ nI b ≤ nI a := nI_ge hl (by omega)
    exact br_f n1 (br_f n1 ⟨a + 1, gy_bit29 hb hl h a 0 (by omega)⟩)
  · rw [if_neg hl] at h
    have n1 : nI b ≤ nI a := nI_le (by omega) (by omega)
    exact br_t n1 (br_t n1 ⟨b + 1, gy_bit29 ha (by omega) h b 0 (by omega)⟩)
end
/-! a code by a renumbering: ρ gives a vertex its number, π a place its vertex -/
def gy_a (C π : Nat → Nat) (v : Nat) : Nat := gb_nb (fun b => !decide (b < 15) && (decide (π ((26 - b) / 2) < v) && (C (π ((26 - b) / 2))).testBit ((b + 1) % 2))) 27
theorem gy_a_0 (C π : Nat → Nat) : gy_a C π 0 = 0 := gb_z (fun i _ => by simp)
theorem gy_a_s {C π ρ : Nat → Nat} {v : Nat} (h1 : ∀ i, π (ρ i) = i) (h2 : ∀ i, ρ (π i) = i) : gy_a C π v ||| gc_sh (C v) (ρ v) = gy_a C π (v + 1) := by
  unfold gy_a gc_sh
  rw [gb_or]
  apply gb_ext
  intro b _
  by_cases h15 : b < 15
  · simp [h15]
  · by_cases e : (26 - b) / 2 = ρ v
    · have e2 : π ((26 - b) / 2) = v := by rw [e, h1]
      simp [h15, e, h1]
    · have e2 : π ((26 - b) / 2) ≠ v := fun z => e (by rw [← z, h2])
      by_cases l : π ((26 - b) / 2) < v
      · have l2 : π ((26 - b) / 2) < v + 1 := by omega
        simp [h15, e, l, l2]
      · have l2 : ¬ π ((26 - b) / 2) < v + 1 := by omega
        simp [h15, e, l, l2]
/-- where the pair of bit b stands among the reference's edges -/
def gy_ix (π : Nat → Nat) (b : Nat) : Nat := if π (gc_pi b) < π (gc_pj b) then 6 * π (gc_pi b) + π (gc_pj b) else 6 * π (gc_pj b) + π (gc_pi b)
def gy_e (C : Nat → Nat) (E : Nat → Nat → Bool) (π : Nat → Nat) (i : Nat) : Nat :=
  gb_nb (fun b => if b < 15 then decide (gy_ix π b < i) && E (π (gc_pi b)) (π (gc_pj b)) else (C (π ((26 - b) / 2))).testBit ((b + 1) % 2)) 27
theorem gy_e_0 {C π : Nat → Nat} {E : Nat → Nat → Bool} (hπ : gp_P π) : gy_a C π 6 = gy_e C E π 0 := by
  apply gb_ext
  intro b hb
  by_cases h15 : b < 15
  · simp [h15]
  · have := hπ.1 ((26 - b) / 2) (by omega)
    simp [h15, this]
theorem gy_ix_ne {π : Nat → Nat} (hπ : gp_P π) {b : Nat} (hb : b < 15) : π (gc_pi b) < 6 ∧ π (gc_pj b) < 6 ∧ π (gc_pi b) ≠ π (gc_pj b) := by
  have h := gc_pb1 b hb
  exact ⟨hπ.1 _ (by omega), hπ.1 _ (by omega), fun z => by have := gp_inj hπ z; omega⟩
theorem gy_e_36 {C π : Nat → Nat} {E : Nat → Nat → Bool} (hπ : gp_P π) : gy_e C E π 36 = gc_cd C E π := by
  apply gb_ext
  intro b hb
  unfold gc_bit
  by_cases h15 : b < 15
  · have h := gy_ix_ne hπ h15
    have hl : gy_ix π b < 36 := by
      unfold gy_ix
      by_cases c : π (gc_pi b) < π (gc_pj b)
      · rw [if_pos c]; omega
      · rw [if_neg c]; omega
    simp [h15, hl]
  · simp [h15]
theorem gy_ix_iff {π ρ : Nat → Nat} (hπ : gp_P π) (hρ : gp_P ρ) (h1 : ∀ i, π (ρ i) = i) (h2 : ∀ i, ρ (π i) = i) {u v b : Nat} (huv : u < v) (hv : v < 6) (hb : b < 15) :
    gy_ix π b = 6 * u + v ↔ b = gy_B (ρ u) (ρ v) := by
  have hn := gy_ix_ne hπ hb
  have hp := gc_pb1 b hb
  have hu6 := hρ.1 u (by omega)
  have hv6 := hρ.1 v hv
  have hne : ρ u ≠ ρ v := fun z => by have := gp_inj hρ z; omega
  unfold gy_ix gy_B
  constructor
  · intro h
    by_cases c : π (gc_pi b) < π (gc_pj b)
    · rw [if_pos c] at h
      have e1 : π (gc_pi b) = u := by omega
      have e2 : π (gc_pj b) = v := by omega
      have e3 : ρ u = gc_pi b := by rw [← e1, h2]
      have e4 : ρ v = gc_pj b := by rw [← e2, h2]
      rw [e3, e4, if_pos hp.1, hp.2.2]
    · rw [if_neg c] at h
      have e1 : π (gc_pj b) = u := by omega
      have e2 : π (gc_pi b) = v := by omega
      have e3 : ρ u = gc_pj b := by rw [← e1, h2]
      have e4 : ρ v = gc_pi b := by rw [← e2, h2]
      rw [e3, e4, if_neg (by omega), hp.2.2]
  · intro h
    by_cases c : ρ u < ρ v
    · rw [if_pos c] at h
      have q := gc_pb2 (ρ v) hv6 (ρ u) c
      rw [h, q.2.1, q.2.2, h1, h1, if_pos huv]
    · rw [if_neg c] at h
      have q := gc_pb2 (ρ u) hu6 (ρ v) (by omega)
      rw [h, q.2.1, q.2.2, h1, h1, if_neg (by omega)]
theorem gy_B_lt {a b : Nat} (ha : a < 6) (hb : b < 6) (hab : a ≠ b) : gy_B a b < 15 := by
  unfold gy_B
  by_cases c : a < b
  · rw [if_pos c]; exact (gc_pb2 b hb a c).1
  · rw [if_neg c]; exact (gc_pb2 a ha b (by omega)).1
theorem gy_e_f {C π : Nat → Nat} {E : Nat → Nat → Bool} {i : Nat} (h : ∀ b, b < 15 → gy_ix π b = i → E (π (gc_pi b)) (π (gc_pj b)) = false) : gy_e C E π i = gy_e C E π (i + 1) := by
  apply gb_ext
  intro b _
  by_cases h15 : b < 15
  · by_cases e : gy_ix π b = i
    · simp [h15, h b h15 e]
    · by_cases l : gy_ix π b < i
      · have l2 : gy_ix π b < i + 1 := by omega
        simp [h15, l, l2]
      · have l2 : ¬ gy_ix π b < i + 1 := by omega
        simp [h15, l, l2]
  · simp [h15]
theorem gy_ix_E {C π : Nat → Nat} {E : Nat → Nat → Bool} (hG : gc_G C E) (hπ : gp_P π) {u v b : Nat} (huv : u < v) (hv : v < 6) (hb : b < 15) (h : gy_ix π b = 6 * u + v) :
    E (π (gc_pi b)) (π (gc_pj b)) = E u v := by
  have hn := gy_ix_ne hπ hb
  unfold gy_ix at h
  by_cases c : π (gc_pi b) < π (gc_pj b)
  · rw [if_pos c] at h
    have e1 : π (gc_pi b) = u := by omega
    have e2 : π (gc_pj b) = v := by omega
    rw [e1, e2]
  · rw [if_neg c] at h
    have e1 : π (gc_pj b) = u := by omega
    have e2 : π (gc_pi b) = v := by omega
    rw [e1, e2]
    exact hG.2.1 v hv u (by omega)
theorem gy_ix_up {π : Nat → Nat} (hπ : gp_P π) {i b : Nat} (hb : b < 15) (h : gy_ix π b = i) : i / 6 < i % 6 := by
  have hn := gy_ix_ne hπ hb
  unfold gy_ix at h
  by_cases c : π (gc_pi b) < π (gc_pj b)
  · rw [if_pos c] at h; omega
  · rw [if_neg c] at h; omega
theorem gy_e_t {C π ρ : Nat → Nat} {E : Nat → Nat → Bool} (hG : gc_G C E) (hπ : gp_P π) (hρ : gp_P ρ) (h1 : ∀ i, π (ρ i) = i) (h2 : ∀ i, ρ (π i) = i) {u v : Nat} (huv : u < v) (hv : v < 6) (he : E u v = true) :
    gy_e C E π (6 * u + v) ||| 2 ^ gy_B (ρ u) (ρ v) = gy_e C E π (6 * u + v + 1) := by
  have hne : ρ u ≠ ρ v := fun z => by have := gp_inj hρ z; omega
  have hB := gy_B_lt (hρ.1 u (by omega)) (hρ.1 v hv) hne
  unfold gy_e
  rw [gb_orp _ (show gy_B (ρ u) (ρ v) < 27 by omega)]
  apply gb_ext
  intro b _
  by_cases h15 : b < 15
  · have hi := gy_ix_iff hπ hρ h1 h2 huv hv h15
    by_cases e : b = gy_B (ρ u) (ρ v)
    · have ei := hi.mpr e
      have ee := gy_ix_E hG hπ huv hv h15 ei
      rw [he] at ee
      have l2 : gy_ix π b < 6 * u + v + 1 := by omega
      simp only [h15, if_true, ee, l2, e.symm]
      simp
    · have ei : gy_ix π b ≠ 6 * u + v := fun z => e (hi.mp z)
      by_cases l : gy_ix π b < 6 * u + v
      · have l2 : gy_ix π b < 6 * u + v + 1 := by omega
        simp [h15, e, l, l2]
      · have l2 : ¬ gy_ix π b < 6 * u + v + 1 := by omega
        simp [h15, e, l, l2]
  · have e : b ≠ gy_B (ρ u) (ρ v) := by omega
    simp [h15, e]
section
variable {yc ye yr yk yn : Nat → Int32}
theorem gy_cb44 {post : Int32 → Prop} {R C π ρ : Nat → Nat} {g : Nat} (hG : gc_G (gz_Rg C g) (gx_E (gz_Rg R g))) (hg : g < 2) (hE : gy_ed R ye) (hπ : gp_P π) (hρ : gp_P ρ) (h1 : ∀ i, π (ρ i) = i) (h2 : ∀ i, ρ (π i) = i)
    (hr : ∀ v, v < 6 → yr v = nI (ρ v)) (h : post (nI (gc_cd (gz_Rg C g) (gx_E (gz_Rg R g)) π))) :
    ∀ d i, i + d = 36 → wY_codeBy_44 post (nI g) yc ye yr yk yn (d + 1) (nI (gy_e (gz_Rg C g) (gx_E (gz_Rg R g)) π i)) (nI i) := by
  intro d
  induction d with
  | zero =>
    intro i hi
    have e : i = 36 := by omega
    subst e
    refine br_t (nI_le (b := 36) (Nat.le_refl _) (by omega)) ?_
    rw [gy_e_36 hπ]
    exact h
  | succ d ih =>
    intro i hi
    have hi36 : i < 36 := by omega
    have ed : nI i / 6 = nI (i / 6) := pk_div (d := 6) (by omega) (by decide) (by decide)
    have em : nI i - nI i / 6 * 6 = nI (i % 6) := pk_rem (d := 6) (by omega) (by decide) (by decide)
    have hu : i / 6 < 6 := by omega
    have hv : i % 6 < 6 := by omega
    have hi2 : 6 * (i / 6) + i % 6 = i := Nat.div_add_mod i 6
    have heg : ye (g * 36 + i) = nI (gx_E (gz_Rg R g) (i / 6) (i % 6)).toNat := by
      have z := hE g hg (i / 6) hu (i % 6) hv
      rw [Nat.add_assoc, hi2] at z
      exact z
    refine br_f (nI_ge (b := 36) hi36 (by omega)) (And.intro (by decide) ?_)
    rw [em]
    refine nm_r ed (And.intro (by decide) ?_)
    rintro _ rfl
    refine pk_le (i % 6) (i / 6) (fun hle => ?_) (fun hlt => ?_)
    · rintro _ rfl
      rw [nI_1, gy_e_f (fun b hb z => by have := gy_ix_up hπ hb z; omega)]
      exact ih (i + 1) (by omega)
    · rw [gn_g36, nI_clamp (show g * 36 + i < 2 ^ 31 by omega), heg]
      refine And.intro (vp_in_nI (by omega) (by omega)) ?_
      refine gn_if0 (gn_b0 _) (fun hb => ?_) (fun hb => ?_)
      · rintro _ rfl
        rw [nI_1, gy_e_f (fun b hb15 z => by rw [gy_ix_E hG hπ hlt hv hb15 (by rw [hi2]; exact z)]; exact hb)]
        exact ih (i + 1) (by omega)
      · refine And.intro (vp_in_nI hu (by omega)) (And.intro (vp_in_nI hv (by omega)) ?_)
        rw [nI_clamp (show i / 6 < 2 ^ 31 by omega), nI_clamp (show i % 6 < 2 ^ 31 by omega), hr _ hu, hr _ hv]
        have hne : ρ (i / 6) ≠ ρ (i % 6) := fun z => by have := gp_inj hρ z; omega
        refine gy_bitOf (hρ.1 _ hu) (hρ.1 _ hv) hne ?_
        rintro _ rfl _ rfl
        have hB := gy_B_lt (hρ.1 _ hu) (hρ.1 _ hv) hne
        have et := gy_e_t (C := gz_Rg C g) hG hπ hρ h1 h2 hlt hv hb
        rw [hi2] at et
        rw [gn_pow _ (by omega), gn_or, et, nI_1]
        exact ih (i + 1) (by omega)
theorem gy_cb4 {post : Int32 → Prop} {R C π ρ : Nat → Nat} {g : Nat} (hG : gc_G (gz_Rg C g) (gx_E (gz_Rg R g))) (hg : g < 2) (hE : gy_ed R ye) (hC : gy_co C yc) (hπ : gp_P π) (hρ : gp_P ρ) (h1 : ∀ i, π (ρ i) = i) (h2 : ∀ i, ρ (π i) = i)
    (hr : ∀ v, v < 6 → yr v = nI (ρ v)) (h : post (nI (gc_cd (gz_Rg C g) (gx_E (gz_Rg R g)) π))) :
    ∀ d i, i + d = 6 → wY_codeBy_4 post (nI g) yc ye yr yk yn (d + 1) (nI (gy_a (gz_Rg C g) π i)) (nI i) := by
  intro d
  induction d with
  | zero =>
    intro i hi
    have e : i = 6 := by omega
    subst e
    refine br_t (nI_le (b := 6) (Nat.le_refl _) (by omega)) ⟨37, ?_⟩
    rw [gy_e_0 (E := gx_E (gz_Rg R g)) hπ]
    exact gy_cb44 hG hg hE hπ hρ h1 h2 hr h 36 0 (by omega)
  | succ d ih =>
    intro i hi
    have hi6 : i < 6 := by omega
    have hci : yc (g * 6 + i) = nI (gz_Rg C g i) := hC (g * 6 + i) (by omega)
    refine br_f (nI_ge (b := 6) hi6 (by omega)) ?_
    rw [gn_g6, nI_clamp (show g * 6 + i < 2 ^ 31 by omega), nI_clamp (show i < 2 ^ 31 by omega), hci, hr i hi6, gc_shl _ (hG.1 i hi6) _ (hρ.1 i hi6)]
    refine And.intro (vp_in_nI (by omega) (by omega)) (And.intro (vp_in_nI (by omega) (by omega)) ?_)
    rintro _ rfl _ rfl
    rw [gn_or, gy_a_s h1 h2, nI_1]
    exact ih (i + 1) (by omega)
theorem gy_codeBy {post : Int32 → Prop} {R C π ρ : Nat → Nat} {g : Nat} (hG : gc_G (gz_Rg C g) (gx_E (gz_Rg R g))) (hg : g < 2) (hE : gy_ed R ye) (hC : gy_co C yc) (hπ : gp_P π) (hρ : gp_P ρ) (h1 : ∀ i, π (ρ i) = i) (h2 : ∀ i, ρ (π i) = i)
    (hr : ∀ v, v < 6 → yr v = nI (ρ v)) (h : post (nI (gc_cd (gz_Rg C g) (gx_E (gz_Rg R g)) π))) : wpY_codeBy post (yc, ye, yr, yk, yn) (nI g) := by
  have z := gy_cb4 (yk := yk) (yn := yn) hG hg hE hC hπ hρ h1 h2 hr h 6 0 (by omega)
  rw [gy_a_0] at z
  exact ⟨7, z⟩
/-- rename, then the code -/
theorem gy_rc {post : Int32 → Prop} {R C : Nat → Nat} {g p : Nat} (ok : gz_ok R C) (hg : g < 2) (hp : p < 720) (hE : gy_ed R ye) (hC : gy_co C yc) (hr : ∀ v, v < 6 → yr v = nI (gr_f p v))
    (h : post (nI (gz_code R C g p))) : wpY_codeBy post (yc, ye, yr, yk, yn) (nI g) :=
  gy_codeBy (gz_G ok hg) hg hE hC (gr_vP hp) (gr_P hp) (gp_iv_l (gr_P hp)) (gp_iv_r (gr_P hp)) hr h
theorem gy_work12 {post : SY → Prop} {R C : Nat → Nat} {g : Nat} (ok : gz_ok R C) (hg : g < 2) (hE : gy_ed R ye) (hC : gy_co C yc)
    (K : ∀ yr' yk' yn' : Nat → Int32, (∀ p, p < 720 → yk' (g * 720 + p) = nI (gz_code R C g p)) → gy_kn R C yk' yn' → post (yc, ye, yr', yk', yn')) :
    ∀ (d i : Nat) (yr yk : Nat → Int32), i + d = 720 → (∀ p, p < i → yk (g * 720 + p) = nI (gz_code R C g p)) →
    (∀ g', g' < 2 → g' ≠ g → yn g' = 0 ∨ ∀ p, p < 720 → yk (g' * 720 + p) = nI (gz_code R C g' p)) → wY_work_12 post (nI g) (d + 1) (nI i) yc ye yr yk yn := by
  intro d
  induction d with
  | zero =>
    intro i yr yk hi hk ho
    have e : i = 720 := by omega
    subst e
    refine br_t (nI_le (b := 720) (Nat.le_refl _) (by omega)) (And.intro (vp_in_nI (by omega) (by omega)) ?_)
    rintro _ rfl
    rw [nI_clamp (show g < 2 ^ 31 by omega)]
    refine K yr yk _ hk ?_
    intro g' hg'
    by_cases e : g' = g
    · subst e
      exact Or.inr hk
    · rw [pk_un e]
      exact ho g' hg' e
  | succ d ih =>
    intro i yr yk hi hk ho
    have hi720 : i < 720 := by omega
    refine br_f (nI_ge (b := 720) hi720 (by omega)) ?_
    refine gy_rename hi720 ?_
    intro yr' hr'
    refine gy_rc ok hg hi720 hE hC hr' ?_
    rw [gn_g720]
    refine And.intro (vp_in_nI (by omega) (by omega)) ?_
    rintro _ rfl _ rfl
    rw [nI_1, nI_clamp (show g * 720 + i < 2 ^ 31 by omega)]
    refine ih (i + 1) yr' _ (by omega) (fun p hp => ?_) (fun g' hg' hne => ?_)
    · by_cases e : p = i
      · rw [e, pk_us]
      · rw [pk_un (by omega)]
        exact hk p (by omega)
    · rcases ho g' hg' hne with z | z
      · exact Or.inl z
      · refine Or.inr fun p hp => ?_
        rw [pk_un (by omega)]
        exact z p hp
theorem gy_work {post : SY → Prop} {R C : Nat → Nat} {g : Nat} (ok : gz_ok R C) (hg : g < 2) (hE : gy_ed R ye) (hC : gy_co C yc) (hK : gy_kn R C yk yn)
    (K : ∀ yr' yk' yn' : Nat → Int32, (∀ p, p < 720 → yk' (g * 720 + p) = nI (gz_code R C g p)) → gy_kn R C yk' yn' → post (yc, ye, yr', yk', yn')) :
    wpY_work post (yc, ye, yr, yk, yn) (nI g) := by
  unfold wpY_work
  dsimp only
  rw [nI_clamp (show g < 2 ^ 31 by omega)]
  refine And.intro (vp_in_nI hg (by omega)) (br_c (fun _ => ?_) (fun hn => ?_))
  · exact ⟨721, gy_work12 ok hg hE hC K 720 0 yr yk (by omega) (fun p hp => absurd hp (Nat.not_lt_zero p)) (fun g' hg' _ => hK g' hg')⟩
  · rcases hK g hg with z | z
    · exact absurd z hn
    · exact K yr yk yn z hK
theorem gy_code {post : Int32 → SY → Prop} {R C : Nat → Nat} {g : Nat} (ok : gz_ok R C) (hg : g < 2) (hE : gy_ed R ye) (hC : gy_co C yc)
    (K : ∀ yr' : Nat → Int32, post (nI (gc_cd (gz_Rg C g) (gx_E (gz_Rg R g)) (fun i => i))) (yc, ye, yr', yk, yn)) : wpY_code post (yc, ye, yr, yk, yn) (nI g) := by
  unfold wpY_code
  dsimp only
  refine gz_ig1 hg (br_f (by decide) ?_)
  refine gy_rename (p := 0) (by decide) ?_
  intro yr' hr'
  refine gy_rc (p := 0) ok hg (by decide) hE hC hr' ?_
  have z := K yr'
  unfold gz_code
  rw [gr_v0]
  exact z
end
end
section
/-! the reference's public methods -/
theorem gy_nar (b : Bool) : vp_nar .boolean (nI b.toNat) = nI b.toNat := by cases b <;> rfl
section
variable {yc ye yr yk yn : Nat → Int32}
theorem gy_edge {post : Int32 → SY → Prop} {R C : Nat → Nat} {g u v : Nat} {b : Bool} {p3 : Int32} (hp3 : p3 = nI b.toNat) (ok : gz_ok R C) (hg : g < 2) (hu : u < 6) (hv : v < 6) (huv : u ≠ v) (hE : gy_ed R ye)
    (K : ∀ ye' : Nat → Int32, gy_ed (gz_se R g u v b) ye' → post (nI ((R (g * 6 + u)).testBit v).toNat) (yc, ye', yr, yk, upd yn g 0)) :
    wpY_edge post (yc, ye, yr, yk, yn) (nI g) (nI u) (nI v) p3 := by
  subst hp3
  have h64 : ∀ i, i < 12 → R i < 64 := fun i hi => (ok.1 i hi).1
  have i1 : g * 36 + 6 * u + v < 72 := by omega
  have i2 : g * 36 + 6 * v + u < 72 := by omega
  have v1 : vp_in (nI (g * 36 + 6 * u + v)) 72 := vp_in_nI i1 (by omega)
  have v2 : vp_in (nI (g * 36 + 6 * v + u)) 72 := vp_in_nI i2 (by omega)
  have hpost : ∀ z : Int32, z = nI ((R (g * 6 + u)).testBit v).toNat → wY_edge_58 post (nI g) (nI u) (nI v) (nI b.toNat) z yc ye yr yk yn := by
    rintro _ rfl
    unfold wY_edge_58
    rw [gn_e, gn_e, gy_nar, nI_clamp (show g * 36 + 6 * u + v < 2 ^ 31 by omega), nI_clamp (show g * 36 + 6 * v + u < 2 ^ 31 by omega), nI_clamp (show g < 2 ^ 31 by omega)]
    refine And.intro v1 ?_
    rintro _ rfl
    refine And.intro v2 ?_
    rintro _ rfl
    refine And.intro (vp_in_nI hg (by omega)) ?_
    rintro _ rfl
    refine K _ ?_
    intro g' hg' x hx y hy
    rw [gz_se_bit hg hu hv huv h64 hg' hx hy]
    by_cases c : g' = g ∧ ((x = u ∧ y = v) ∨ (x = v ∧ y = u))
    · rw [if_pos c]
      obtain ⟨rfl, ⟨rfl, rfl⟩ | ⟨rfl, rfl⟩⟩ := c
      · rw [pk_un (by omega), pk_us]
      · rw [pk_us]
    · rw [if_neg c, pk_un, pk_un]
      · exact hE g' hg' x hx y hy
      · intro z
        exact c ⟨by omega, Or.inl ⟨by omega, by omega⟩⟩
      · intro z
        exact c ⟨by omega, Or.inr ⟨by omega, by omega⟩⟩
  unfold wpY_edge
  dsimp only
  refine gz_ig1 hg (br_f (by decide) (gz_iv1 hu (br_f (by decide) (gz_iv1 hv (br_f (by decide) ?_)))))
  refine pk_eq u v (fun z => absurd z huv) (fun _ => ?_)
  rw [gn_e, nI_clamp (show g * 36 + 6 * u + v < 2 ^ 31 by omega), hE g hg u hu v hv]
  refine And.intro v1 (gn_if0 (gn_b0 _) (fun z => hpost 0 ?_) (fun z => hpost 1 ?_))
  · rw [z]; rfl
  · rw [z]; rfl
theorem gy_ex80 {post : Int32 → SY → Prop} {R C : Nat → Nat} {g u v : Nat} (h : gz_ok R C) (hg : g < 2) (hu : u < 6) (hv : v < 6)
    (K : ∀ ye' yn' : Nat → Int32, gy_ed (gz_ex R g u v 6) ye' → (∀ g', g' ≠ g → yn' g' = yn g') → post 0 (yc, ye', yr, yk, upd yn' g 0)) :
    ∀ (d i : Nat) (ye yn' : Nat → Int32), i + d = 6 → gy_ed (gz_ex R g u v i) ye → (∀ g', g' ≠ g → yn' g' = yn g') →
    wY_exchange_80 post (nI g) (nI u) (nI v) (d + 1) (nI i) yc ye yr yk yn' := by
  intro d
  induction d with
  | zero =>
    intro i ye yn' hi he hn
    have e : i = 6 := by omega
    subst e
    refine br_t (nI_le (b := 6) (Nat.le_refl _) (by omega)) (And.intro (vp_in_nI hg (by omega)) ?_)
    rintro _ rfl
    rw [nI_clamp (show g < 2 ^ 31 by omega)]
    exact K ye yn' he hn
  | succ d ih =>
    intro i ye yn' hi he hn
    have hi6 : i < 6 := by omega
    have ok := gz_ex_ok h hg hu hv i (by omega)
    refine br_f (nI_ge (b := 6) hi6 (by omega)) ?_
    rw [gn_e, gn_e, nI_clamp (show g * 36 + 6 * u + i < 2 ^ 31 by omega), nI_clamp (show g * 36 + 6 * v + i < 2 ^ 31 by omega), he g hg u hu i hi6, he g hg v hv i hi6]
    refine And.intro (vp_in_nI (by omega) (by omega)) ?_
    rintro _ rfl
    refine And.intro (vp_in_nI (by omega) (by omega)) ?_
    rintro _ rfl
    refine pk_eq i u (fun e => ?_) (fun ne => ?_)
    · rintro _ rfl
      rw [nI_1]
      exact ih (i + 1) ye yn' (by omega) (by rw [gz_ex_s (Or.inl e)]; exact he) hn
    · refine pk_eq i v (fun e => ?_) (fun ne2 => ?_)
      · rintro _ rfl
        rw [nI_1]
        exact ih (i + 1) ye yn' (by omega) (by rw [gz_ex_s (Or.inr e)]; exact he) hn
      · refine gy_edge rfl ok hg hu hi6 (fun z => ne z.symm) he ?_
        intro ye1 h1
        have ok1 := gz_se_ok (b := (gz_ex R g u v i (g * 6 + v)).testBit i) ok hg hu hi6 (fun z => ne z.symm)
        refine gy_edge rfl ok1 hg hv hi6 (fun z => ne2 z.symm) h1 ?_
        intro ye2 h2
        rintro _ rfl
        rw [nI_1]
        refine ih (i + 1) ye2 _ (by omega) ?_ (fun g' hg' => ?_)
        · rw [gz_ex_n (by rintro (z | z); exact ne z; exact ne2 z)]
          exact h2
        · rw [pk_un hg', pk_un hg']
          exact hn g' hg'
/-! complement -/
def gy_f (R : Nat → Nat) (g u v : Nat) : Bool := !decide (u = v) && !(R (g * 6 + u)).testBit v
/-- the edges when the first n have been turned -/
def gy_cpe (R : Nat → Nat) (g n : Nat) (ye : Nat → Int32) : Prop :=
  ∀ g', g' < 2 → ∀ i, i < 36 → ye (g' * 36 + i) = nI (if g' = g ∧ i < n then gy_f R g (i / 6) (i % 6) else (R (g' * 6 + i / 6)).testBit (i % 6)).toNat
theorem gy_cp60 {post : Int32 → SY → Prop} {J14 : Int32 → Int32 → (Nat → Int32) → (Nat → Int32) → (Nat → Int32) → (Nat → Int32) → (Nat → Int32) → Prop} {R : Nat → Nat} {g i : Nat} {z0 : Int32}
    (hg : g < 2) (hi : i < 36) (he : gy_cpe R g i ye) (hz : z0 = nI (gy_f R g (i / 6) (i % 6)).toNat)
    (K : ∀ ye' : Nat → Int32, gy_cpe R g (i + 1) ye' → J14 (nI (gz_sm (fun i => gy_f R g (i / 6) (i % 6)) (i + 1))) (nI (i + 1)) yc ye' yr yk yn) :
    wY_complement_60 post J14 (nI g) (nI (gz_sm (fun i => gy_f R g (i / 6) (i % 6)) i)) (nI i) z0 (nI (g * 36 + i)) yc ye yr yk yn := by
  subst hz
  have vi : vp_in (nI (g * 36 + i)) 72 := vp_in_nI (by omega) (by omega)
  unfold wY_complement_60
  rw [gn_g36, gy_nar, nI_clamp (show g * 36 + i < 2 ^ 31 by omega)]
  refine And.intro vi ?_
  rintro _ rfl
  rw [pk_us]
  have hk : gy_cpe R g (i + 1) (upd ye (g * 36 + i) (nI (gy_f R g (i / 6) (i % 6)).toNat)) := by
    intro g' hg' j hj
    by_cases c : g' * 36 + j = g * 36 + i
    · have e1 : g' = g := by omega
      have e2 : j = i := by omega
      subst e1 e2
      rw [pk_us, if_pos ⟨rfl, by omega⟩]
    · rw [pk_un c, he g' hg' j hj]
      by_cases c2 : g' = g ∧ j < i
      · rw [if_pos c2, if_pos ⟨c2.1, by omega⟩]
      · rw [if_neg c2, if_neg (fun z => c (by omega))]
  have z := K _ hk
  have es : gz_sm (fun i => gy_f R g (i / 6) (i % 6)) (i + 1) = gz_sm (fun i => gy_f R g (i / 6) (i % 6)) i + (gy_f R g (i / 6) (i % 6)).toNat := rfl
  refine And.intro vi (gn_if0 (gn_b0 _) (fun hb => ?_) (fun hb => ?_))
  · rintro _ rfl
    rw [nI_1]
    have es2 : gz_sm (fun i => gy_f R g (i / 6) (i % 6)) (i + 1) = gz_sm (fun i => gy_f R g (i / 6) (i % 6)) i := by rw [es, hb]; rfl
    rw [es2] at z
    exact z
  · rintro _ rfl _ rfl
    rw [nI_1, nI_1]
    have es2 : gz_sm (fun i => gy_f R g (i / 6) (i % 6)) (i + 1) = gz_sm (fun i => gy_f R g (i / 6) (i % 6)) i + 1 := by rw [es, hb]; rfl
    rw [es2] at z
    exact z
theorem gy_cp14 {post : Int32 → SY → Prop} {R : Nat → Nat} {g : Nat} (hg : g < 2)
    (K : ∀ ye' : Nat → Int32, gy_cpe R g 36 ye' → post (nI (gz_sm (fun i => gy_f R g (i / 6) (i % 6)) 36 / 2)) (yc, ye', yr, yk, upd yn g 0)) :
    ∀ (d i : Nat) (ye : Nat → Int32), i + d = 36 → gy_cpe R g i ye →
    wY_complement_14 post (nI g) (d + 1) (nI (gz_sm (fun i => gy_f R g (i / 6) (i % 6)) i)) (nI i) yc ye yr yk yn := by
  intro d
  induction d with
  | zero =>
    intro i ye hi he
    have e : i = 36 := by omega
    subst e
    refine br_t (nI_le (b := 36) (Nat.le_refl _) (by omega)) (And.intro (vp_in_nI hg (by omega)) ?_)
    rintro _ rfl
    refine And.intro (by decide) ?_
    rw [nI_clamp (show g < 2 ^ 31 by omega)]
    have z := K ye he
    have hb := gz_sm_le (fun i => gy_f R g (i / 6) (i % 6)) 36
    rw [← pk_div (d := 2) (by omega) (by decide) (by decide)] at z
    exact z
  | succ d ih =>
    intro i ye hi he
    have hi36 : i < 36 := by omega
    have ed : nI i / 6 = nI (i / 6) := pk_div (d := 6) (by omega) (by decide) (by decide)
    have em : nI i - nI i / 6 * 6 = nI (i % 6) := pk_rem (d := 6) (by omega) (by decide) (by decide)
    have hei : ye (g * 36 + i) = nI ((R (g * 6 + i / 6)).testBit (i % 6)).toNat := by
      rw [he g hg i hi36, if_neg (by omega)]
    refine br_f (nI_ge (b := 36) hi36 (by omega)) (And.intro (by decide) (And.intro (by decide) ?_))
    rw [em, ed, gn_g36, nI_clamp (show g * 36 + i < 2 ^ 31 by omega), hei]
    refine pk_eq (i / 6) (i % 6) (fun e => ?_) (fun ne => And.intro (vp_in_nI (by omega) (by omega)) ?_)
    · unfold wY_complement_59
      refine gy_cp60 hg hi36 he ?_ (fun ye' h' => ih (i + 1) ye' (by omega) h')
      unfold gy_f
      rw [decide_eq_true e]
      rfl
    · refine gn_if0 (gn_b0 _) (fun hb => ?_) (fun hb => ?_)
      · refine gy_cp60 hg hi36 he ?_ (fun ye' h' => ih (i + 1) ye' (by omega) h')
        unfold gy_f
        rw [decide_eq_false ne, hb]
        rfl
      · unfold wY_complement_59
        refine gy_cp60 hg hi36 he ?_ (fun ye' h' => ih (i + 1) ye' (by omega) h')
        unfold gy_f
        rw [hb, Bool.not_true, Bool.and_false]
        rfl
theorem gy_cpe_0 {R : Nat → Nat} {g : Nat} (h : gy_ed R ye) : gy_cpe R g 0 ye := by
  intro g' hg' i hi
  rw [if_neg (by omega)]
  have z := h g' hg' (i / 6) (by omega) (i % 6) (by omega)
  rw [Nat.add_assoc, Nat.div_add_mod i 6] at z
  exact z
theorem gy_cpe_36 {R C : Nat → Nat} {g : Nat} (ok : gz_ok R C) (h : gy_cpe R g 36 ye) : gy_ed (gz_cp R g 6) ye := by
  intro g' hg' u hu v hv
  have z := h g' hg' (6 * u + v) (by omega)
  rw [← Nat.add_assoc, show (6 * u + v) / 6 = u by omega, show (6 * u + v) % 6 = v by omega] at z
  rw [z]
  by_cases e : g' = g
  · subst e
    rw [if_pos ⟨rfl, by omega⟩, gz_cp_in hu, gn_cpb _ (ok.1 _ (by omega)).1 u hu v hv]
    rfl
  · rw [if_neg (fun q => e q.1), gz_cp_o e hu (Nat.le_refl 6)]
/-! copy -/
def gy_cye (R : Nat → Nat) (n : Nat) (ye : Nat → Int32) : Prop :=
  (∀ i, i < 36 → ye i = nI ((R (i / 6)).testBit (i % 6)).toNat) ∧ ∀ i, i < n → ye (36 + i) = nI ((R (i / 6)).testBit (i % 6)).toNat
theorem gy_cy31 {post : SY → Prop} {R : Nat → Nat} (K : ∀ ye' : Nat → Int32, gy_cye R 36 ye' → post (yc, ye', yr, yk, upd yn 1 0)) :
    ∀ (d i : Nat) (ye : Nat → Int32), i + d = 36 → gy_cye R i ye → wY_copy_31 post (d + 1) (nI i) yc ye yr yk yn := by
  intro d
  induction d with
  | zero =>
    intro i ye hi he
    have e : i = 36 := by omega
    subst e
    refine br_t (nI_le (b := 36) (Nat.le_refl _) (by omega)) ?_
    rintro _ rfl
    exact K ye he
  | succ d ih =>
    intro i ye hi he
    have hi36 : i < 36 := by omega
    have e6 : (36 : Int32) + nI i = nI (36 + i) := nI_add 36 i
    refine br_f (nI_ge (b := 36) hi36 (by omega)) ?_
    rw [e6, nI_clamp (show i < 2 ^ 31 by omega), nI_clamp (show 36 + i < 2 ^ 31 by omega), he.1 i hi36, gy_nar]
    refine And.intro (vp_in_nI (by omega) (by omega)) (And.intro (vp_in_nI (by omega) (by omega)) ?_)
    rintro _ rfl _ rfl
    rw [nI_1]
    refine ih (i + 1) _ (by omega) ⟨fun j hj => ?_, fun j hj => ?_⟩
    · rw [pk_un (by omega)]
      exact he.1 j hj
    · by_cases e : j = i
      · rw [e, pk_us]
      · rw [pk_un (by omega)]
        exact he.2 j (by omega)
theorem gy_cy2 {post : SY → Prop} {R C : Nat → Nat} (he : gy_cye R 0 ye)
    (K : ∀ yc' ye' : Nat → Int32, gy_co (gz_cy C 6) yc' → gy_cye R 36 ye' → post (yc', ye', yr, yk, upd yn 1 0)) :
    ∀ (d i : Nat) (yc : Nat → Int32), i + d = 6 → gy_co (gz_cy C i) yc → wY_copy_2 post (d + 1) (nI i) yc ye yr yk yn := by
  intro d
  induction d with
  | zero =>
    intro i yc hi hc
    have e : i = 6 := by omega
    subst e
    exact br_t (nI_le (b := 6) (Nat.le_refl _) (by omega)) ⟨37, gy_cy31 (fun ye' h' => K yc ye' hc h') 36 0 ye (by omega) he⟩
  | succ d ih =>
    intro i yc hi hc
    have hi6 : i < 6 := by omega
    have e6 : (6 : Int32) + nI i = nI (6 + i) := nI_add 6 i
    refine br_f (nI_ge (b := 6) hi6 (by omega)) ?_
    rw [e6, nI_clamp (show i < 2 ^ 31 by omega), nI_clamp (show 6 + i < 2 ^ 31 by omega)]
    refine And.intro (vp_in_nI (by omega) (by omega)) (And.intro (vp_in_nI (by omega) (by omega)) ?_)
    rintro _ rfl _ rfl
    rw [nI_1]
    exact ih (i + 1) _ (by omega) (gz_cy_upd hi6 hc)
theorem gy_cye_0 {R : Nat → Nat} (h : gy_ed R ye) : gy_cye R 0 ye := by
  refine ⟨fun i hi => ?_, fun i hi => absurd hi (Nat.not_lt_zero i)⟩
  have z := h 0 (by decide) (i / 6) (by omega) (i % 6) (by omega)
  simp only [Nat.zero_mul, Nat.zero_add, Nat.div_add_mod] at z
  exact z
theorem gy_cye_36 {R : Nat → Nat} (h : gy_cye R 36 ye) : gy_ed (gz_cy R 6) ye := by
  intro g hg u hu v hv
  rw [gz_cy_g hg hu]
  obtain rfl | rfl : g = 0 ∨ g = 1 := by omega
  · have z := h.1 (6 * u + v) (by omega)
    rw [show (6 * u + v) / 6 = u by omega, show (6 * u + v) % 6 = v by omega] at z
    rw [Nat.zero_mul, Nat.zero_add]
    exact z
  · have z := h.2 (6 * u + v) (by omega)
    rw [show (6 * u + v) / 6 = u by omega, show (6 * u + v) % 6 = v by omega, ← Nat.add_assoc] at z
    exact z
/-! questions; c are the codes of the graph -/
theorem gy_can28 {post : Int32 → SY → Prop} {c : Nat → Nat} {g : Nat} (hg : g < 2) (hc : ∀ p, p < 720 → c p < 2 ^ 31 ∧ yk (g * 720 + p) = nI (c p))
    (K : ∀ m, (∃ p, p < 720 ∧ c p = m) → (∀ p, p < 720 → m ≤ c p) → post (nI m) (yc, ye, yr, yk, yn)) :
    ∀ d i m, i + d = 720 → (∃ p, p < 720 ∧ c p = m) → (∀ p, p < i → m ≤ c p) → wY_canonical_28 post (nI g) yc ye yr yk yn (d + 1) (nI m) (nI i) := by
  intro d
  induction d with
  | zero =>
    intro i m hi he hm
    have e : i = 720 := by omega
    subst e
    exact br_t (nI_le (b := 720) (Nat.le_refl _) (by omega)) (K m he hm)
  | succ d ih =>
    intro i m hi he hm
    have hi720 : i < 720 := by omega
    have hm31 : m < 2 ^ 31 := by
      obtain ⟨p, hp, e⟩ := he
      rw [← e]
      exact (hc p hp).1
    have vi : vp_in (nI (g * 720 + i)) 1440 := vp_in_nI (by omega) (by omega)
    refine br_f (nI_ge (b := 720) hi720 (by omega)) ?_
    rw [gn_g720, nI_clamp (show g * 720 + i < 2 ^ 31 by omega), (hc i hi720).2]
    refine And.intro vi (pk_le m (c i) (fun hle => ?_) (fun hlt => And.intro vi ?_) rfl rfl hm31 (hc i hi720).1)
    · rintro _ rfl
      rw [nI_1]
      refine ih (i + 1) m (by omega) he (fun p hp => ?_)
      by_cases e : p = i
      · rw [e]; exact hle
      · exact hm p (by omega)
    · rintro _ rfl _ rfl
      rw [nI_1]
      refine ih (i + 1) (c i) (by omega) ⟨i, hi720, rfl⟩ (fun p hp => ?_)
      by_cases e : p = i
      · rw [e]; exact Nat.le_refl _
      · have := hm p (by omega)
        omega
theorem gy_sym26 {post : Int32 → SY → Prop} {c : Nat → Nat} {g w : Nat} (hg : g < 2) (hw : w < 2 ^ 31) (hc : ∀ p, p < 720 → c p < 2 ^ 31 ∧ yk (g * 720 + p) = nI (c p))
    (K : post (nI ((List.range 720).countP (fun p => decide (c p = w)))) (yc, ye, yr, yk, yn)) :
    ∀ d i, i + d = 720 → wY_symmetries_26 post (nI g) (nI w) yc ye yr yk yn (d + 1) (nI ((List.range i).countP (fun p => decide (c p = w)))) (nI i) := by
  intro d
  induction d with
  | zero =>
    intro i hi
    have e : i = 720 := by omega
    subst e
    exact br_t (nI_le (b := 720) (Nat.le_refl _) (by omega)) K
  | succ d ih =>
    intro i hi
    have hi720 : i < 720 := by omega
    have z := ih (i + 1) (by omega)
    rw [List.range_succ, List.countP_append, List.countP_singleton] at z
    refine br_f (nI_ge (b := 720) hi720 (by omega)) ?_
    rw [gn_g720, nI_clamp (show g * 720 + i < 2 ^ 31 by omega), (hc i hi720).2]
    refine And.intro (vp_in_nI (by omega) (by omega)) (pk_eq (c i) w (fun e => ?_) (fun ne => ?_) rfl rfl (hc i hi720).1 hw)
    · rintro _ rfl _ rfl
      rw [nI_1, nI_1]
      rw [if_pos (decide_eq_true e)] at z
      exact z
    · rintro _ rfl
      rw [nI_1]
      rw [if_neg (by rw [decide_eq_true_eq]; exact ne)] at z
      exact z
/-- an orbit by the renumberings below i -/
def gy_O (c : Nat → Nat) (w v i : Nat) : Nat := gb_nb (fun x => (List.range i).any (fun p => decide (c p = w) && decide (gr_f p v = x))) 6
theorem gy_O_0 (c : Nat → Nat) (w v : Nat) : gy_O c w v 0 = 0 := gb_z (fun i _ => by simp)
theorem gy_O_t {c : Nat → Nat} {w v i : Nat} (h : c i = w) (hx : gr_f i v < 6) : gy_O c w v i ||| 2 ^ gr_f i v = gy_O c w v (i + 1) := by
  unfold gy_O
  rw [gb_orp _ hx]
  apply gb_ext
  intro x _
  rw [List.range_succ, List.any_append]
  by_cases e : x = gr_f i v
  · simp [h, e]
  · have e2 : ¬ gr_f i v = x := fun z => e z.symm
    simp [e, e2]
theorem gy_O_f {c : Nat → Nat} {w v i : Nat} (h : ¬ c i = w) : gy_O c w v i = gy_O c w v (i + 1) := by
  apply gb_ext
  intro x _
  rw [List.range_succ, List.any_append]
  simp [h]
theorem gy_O_bit {c : Nat → Nat} {w v x : Nat} (hx : x < 6) : (gy_O c w v 720).testBit x = true ↔ ∃ p, p < 720 ∧ c p = w ∧ gr_f p v = x := by
  unfold gy_O
  rw [gb_bit, decide_eq_true hx, Bool.true_and, List.any_eq_true]
  constructor
  · rintro ⟨p, hp, h⟩
    rw [Bool.and_eq_true, decide_eq_true_eq, decide_eq_true_eq] at h
    exact ⟨p, List.mem_range.mp hp, h⟩
  · rintro ⟨p, hp, h⟩
    refine ⟨p, List.mem_range.mpr hp, ?_⟩
    rw [Bool.and_eq_true, decide_eq_true_eq, decide_eq_true_eq]
    exact h
theorem gy_orb38 {post : Int32 → SY → Prop} {c : Nat → Nat} {g w v : Nat} (hg : g < 2) (hv : v < 6) (hw : w < 2 ^ 31) (hc : ∀ p, p < 720 → c p < 2 ^ 31 ∧ yk (g * 720 + p) = nI (c p))
    (K : ∀ yr' : Nat → Int32, post (nI (gy_O c w v 720)) (yc, ye, yr', yk, yn)) :
    ∀ (d i : Nat) (yr : Nat → Int32), i + d = 720 → wY_orbit_38 post (nI g) (nI v) (nI w) (d + 1) (nI (gy_O c w v i)) (nI i) yc ye yr yk yn := by
  intro d
  induction d with
  | zero =>
    intro i yr hi
    have e : i = 720 := by omega
    subst e
    exact br_t (nI_le (b := 720) (Nat.le_refl _) (by omega)) (K yr)
  | succ d ih =>
    intro i yr hi
    have hi720 : i < 720 := by omega
    refine br_f (nI_ge (b := 720) hi720 (by omega)) ?_
    rw [gn_g720, nI_clamp (show g * 720 + i < 2 ^ 31 by omega), (hc i hi720).2]
    refine And.intro (vp_in_nI (by omega) (by omega)) (pk_eq (c i) w (fun e => ?_) (fun ne => ?_) rfl rfl (hc i hi720).1 hw)
    · refine gy_rename hi720 ?_
      intro yr' hr'
      refine And.intro (vp_in_nI hv (by omega)) ?_
      rintro _ rfl _ rfl
      have hx := (gr_P hi720).1 v hv
      rw [nI_clamp (show v < 2 ^ 31 by omega), hr' v hv, gn_pow _ (by omega), gn_or, gy_O_t e hx, nI_1]
      exact ih (i + 1) yr' (by omega)
    · rintro _ rfl
      rw [nI_1, gy_O_f ne]
      exact ih (i + 1) yr (by omega)
theorem gy_var29 {post : Int32 → SY → Prop} {J19 : Int32 → Int32 → Prop} {c : Nat → Nat} {g n p : Nat} (hg : g < 2) (hp : p < 720) (hc : ∀ p, p < 720 → c p < 2 ^ 31 ∧ yk (g * 720 + p) = nI (c p))
    (K : J19 (nI (n + (if gv_first c p = true then 1 else 0))) (nI (p + 1))) :
    ∀ d q, q + d = p → (∀ r, r < q → ¬ c r = c p) → wY_variants_29 post J19 (nI g) (nI n) (nI p) yc ye yr yk yn (d + 1) (nI q) := by
  intro d
  induction d with
  | zero =>
    intro q hq h
    have e : q = p := by omega
    subst e
    refine br_t (nI_le (Nat.le_refl _) (by omega)) ?_
    unfold wY_variants_69
    refine br_t rfl ?_
    rintro _ rfl _ rfl
    have hf : gv_first c q = true := by
      unfold gv_first
      rw [List.all_eq_true]
      intro r hr
      rw [decide_eq_false (h r (List.mem_range.mp hr))]
      rfl
    rw [if_pos hf] at K
    rw [nI_1, nI_1]
    exact K
  | succ d ih =>
    intro q hq h
    have hq720 : q < 720 := by omega
    refine br_f (nI_ge (by omega) (by omega)) ?_
    rw [gn_g720, gn_g720, nI_clamp (show g * 720 + q < 2 ^ 31 by omega), nI_clamp (show g * 720 + p < 2 ^ 31 by omega), (hc q hq720).2, (hc p hp).2]
    refine And.intro (vp_in_nI (by omega) (by omega)) (And.intro (vp_in_nI (by omega) (by omega)) ?_)
    refine pk_eq (c q) (c p) (fun e => ?_) (fun ne => ?_) rfl rfl (hc q hq720).1 (hc p hp).1
    · have hf : ¬ gv_first c p = true := by
        intro z
        unfold gv_first at z
        have := List.all_eq_true.mp z q (List.mem_range.mpr (by omega))
        rw [decide_eq_true e] at this
        cases this
      rw [if_neg hf] at K
      unfold wY_variants_69
      refine br_f (fun z => ?_) ?_
      · have := (nI_eq (by omega) (by omega)).mp z
        omega
      · rintro _ rfl
        rw [nI_1]
        exact K
    · rintro _ rfl
      rw [nI_1]
      refine ih (q + 1) (by omega) (fun r hr => ?_)
      by_cases e : r = q
      · rw [e]; exact ne
      · exact h r (by omega)
theorem gy_var19 {post : Int32 → SY → Prop} {c : Nat → Nat} {g : Nat} (hg : g < 2) (hc : ∀ p, p < 720 → c p < 2 ^ 31 ∧ yk (g * 720 + p) = nI (c p))
    (K : post (nI ((List.range 720).countP (gv_first c))) (yc, ye, yr, yk, yn)) :
    ∀ d i, i + d = 720 → wY_variants_19 post (nI g) yc ye yr yk yn (d + 1) (nI ((List.range i).countP (gv_first c))) (nI i) := by
  intro d
  induction d with
  | zero =>
    intro i hi
    have e : i = 720 := by omega
    subst e
    exact br_t (nI_le (b := 720) (Nat.le_refl _) (by omega)) K
  | succ d ih =>
    intro i hi
    have hi720 : i < 720 := by omega
    have z := ih (i + 1) (by omega)
    rw [List.range_succ, List.countP_append, List.countP_singleton] at z
    exact br_f (nI_ge (b := 720) hi720 (by omega)) ⟨i + 1, gy_var29 hg hi720 hc z i 0 (by omega) (fun r hr => absurd hr (Nat.not_lt_zero r))⟩
theorem gy_comes15 {post : Int32 → SY → Prop} {m : Nat → Nat} {w : Nat} {x1 : Int32} (hw : w < 2 ^ 31) (hm : ∀ p, p < 720 → m p < 2 ^ 31 ∧ yk p &&& x1 = nI (m p))
    (K1 : (∃ p, p < 720 ∧ m p = w) → post 1 (yc, ye, yr, yk, yn)) (K0 : (¬ ∃ p, p < 720 ∧ m p = w) → post 0 (yc, ye, yr, yk, yn)) :
    ∀ d i, i + d = 720 → (∀ p, p < i → ¬ m p = w) → wY_comes_15 post x1 (nI w) yc ye yr yk yn (d + 1) (nI i) := by
  intro d
  induction d with
  | zero =>
    intro i hi h
    have e : i = 720 := by omega
    subst e
    exact br_t (nI_le (b := 720) (Nat.le_refl _) (by omega)) (K0 (fun ⟨p, hp, e⟩ => h p hp e))
  | succ d ih =>
    intro i hi h
    have hi720 : i < 720 := by omega
    refine br_f (nI_ge (b := 720) hi720 (by omega)) ?_
    rw [nI_clamp (show i < 2 ^ 31 by omega), (hm i hi720).2]
    refine And.intro (vp_in_nI (by omega) (by omega)) (pk_eq (m i) w (fun e => K1 ⟨i, hi720, e⟩) (fun ne => ?_) rfl rfl (hm i hi720).1 hw)
    rintro _ rfl
    rw [nI_1]
    refine ih (i + 1) (by omega) (fun p hp => ?_)
    by_cases e : p = i
    · rw [e]; exact ne
    · exact h p (by omega)
end
end
section
/-! what both sides need for the owed statements -/
def i_Rel (k : Nat) (u : SX) (v : SY) : Prop :=
  ∃ R C : Nat → Nat, gz_ok R C ∧ gz_X R C u.2.2.2.2.1 u.2.2.2.2.2.1 ∧ gy_co C v.1 ∧ gy_ed R v.2.1 ∧ gy_kn R C v.2.2.2.1 v.2.2.2.2
theorem gz_kn_edit2 {R C R' C' : Nat → Nat} {cd kn kn' : Nat → Int32} {g : Nat} (h : gy_kn R C cd kn) (hn : ∀ g', g' ≠ g → kn' g' = kn g')
    (hR : ∀ g', g' < 2 → g' ≠ g → ∀ u, u < 6 → R' (g' * 6 + u) = R (g' * 6 + u)) (hC : ∀ g', g' < 2 → g' ≠ g → ∀ u, u < 6 → C' (g' * 6 + u) = C (g' * 6 + u)) :
    gy_kn R' C' cd (upd kn' g 0) := by
  intro g' hg'
  have z := gz_kn_edit h hR hC g' hg'
  by_cases e : g' = g
  · subst e
    exact Or.inl pk_us
  · rw [pk_un e] at z ⊢
    rw [hn g' e]
    exact z
section
variable {fg fp fb fw : Int32} {ro co wa aa cs tt sd yc ye yr yk yn : Nat → Int32}
theorem gz_mk {k : Nat} {R C : Nat → Nat} (ok : gz_ok R C) (hX : gz_X R C ro co) (hC : gy_co C yc) (hE : gy_ed R ye) (hK : gy_kn R C yk yn) :
    i_Rel k (fg, fp, fb, fw, ro, co, wa, aa, cs, tt, sd) (yc, ye, yr, yk, yn) := ⟨R, C, ok, hX, hC, hE, hK⟩
theorem gz_cc {R C : Nat → Nat} {g : Nat} (h : ∀ p, p < 720 → yk (g * 720 + p) = nI (gz_code R C g p)) : ∀ p, p < 720 → gz_code R C g p < 2 ^ 31 ∧ yk (g * 720 + p) = nI (gz_code R C g p) :=
  fun p hp => ⟨Nat.lt_trans (gc_cd_lt _ _ _) (by decide), h p hp⟩
def gz_own (R C : Nat → Nat) (g : Nat) : Nat := gc_cd (gz_Rg C g) (gx_E (gz_Rg R g)) (fun i => i)
theorem gz_own_lt (R C : Nat → Nat) (g : Nat) : gz_own R C g < 2 ^ 31 := Nat.lt_trans (gc_cd_lt _ _ _) (by decide)
noncomputable def gz_O (R C : Nat → Nat) (g v : Nat) : Nat := gy_O (gz_code R C g) (gz_own R C g) v 720
theorem gz_O_lt (R C : Nat → Nat) (g v : Nat) : gz_O R C g v < 64 := by
  unfold gz_O gy_O
  exact gb_lt _ 6
theorem gz_O_S {R C : Nat → Nat} {g : Nat} (ok : gz_ok R C) (hg : g < 2) {b w : Nat} {S : Nat → Nat} (r : gs_R (gz_Rg C g) (gx_E (gz_Rg R g)) b w S) {q v : Nat} (hq : q < 6) (hb : (S q).testBit v = true) :
    S q = gz_O R C g v := by
  refine gb_x (n := 6) (gg_S64 r hq) (gz_O_lt R C g v) fun x hx => ?_
  have h1 := gg_orbit (gz_G ok hg) r hq hb x
  rw [gg_orbY (gz_G ok hg) v x] at h1
  have h2 := gy_O_bit (c := gz_code R C g) (w := gz_own R C g) (v := v) hx
  have h3 : (S q).testBit x = true ↔ (gz_O R C g v).testBit x = true := h1.trans h2.symm
  cases z1 : (S q).testBit x
  · cases z2 : (gz_O R C g v).testBit x
    · rfl
    · rw [h3.mpr z2] at z1; cases z1
  · rw [h3.mp z1]
theorem gz_O_self {R C : Nat → Nat} {g v : Nat} (hv : v < 6) : (gz_O R C g v).testBit v = true := by
  refine (gy_O_bit hv).mpr ⟨0, by decide, ?_, ?_⟩
  · show gc_cd (gz_Rg C g) (gx_E (gz_Rg R g)) (gr_v 0) = gz_own R C g
    rw [gr_v0]
    rfl
  · rw [gr_f0]
/-! the reference's questions -/
theorem gy_orbit {post : Int32 → SY → Prop} {R C : Nat → Nat} {g v : Nat} (ok : gz_ok R C) (hg : g < 2) (hv : v < 6) (hC : gy_co C yc) (hE : gy_ed R ye) (hK : gy_kn R C yk yn)
    (K : ∀ yr' yk' yn' : Nat → Int32, gy_kn R C yk' yn' → post (nI (gz_O R C g v)) (yc, ye, yr', yk', yn')) : wpY_orbit post (yc, ye, yr, yk, yn) (nI g) (nI v) := by
  unfold wpY_orbit
  dsimp only
  refine gz_ig1 hg (br_f (by decide) (gz_iv1 hv (br_f (by decide) ?_)))
  refine gy_work ok hg hE hC hK ?_
  intro yr' yk' yn' hc hk
  refine gy_code ok hg hE hC ?_
  intro yr''
  have z := gy_orb38 (yc := yc) (ye := ye) (yn := yn') (post := post) (w := gz_own R C g) hg hv (gz_own_lt R C g) (gz_cc hc) (fun yr3 => K yr3 yk' yn' hk) 720 0 yr'' (by omega)
  rw [gy_O_0] at z
  exact ⟨721, z⟩
theorem gy_lom : ∀ m, m < 64 → ∀ i, i < 6 → ((nI m &&& (((1 : Int32) <<< (nI i &&& 31)) - 1)) = 0 ↔ (List.range i).all (fun j => !m.testBit j) = true) := by decide +kernel
theorem gy_orb14 {post : Int32 → SY → Prop} {R C : Nat → Nat} {g : Nat} (ok : gz_ok R C) (hg : g < 2) (hC : gy_co C yc) (hE : gy_ed R ye)
    (K : ∀ yr' yk' yn' : Nat → Int32, gy_kn R C yk' yn' → post (nI (gz_sm (gz_lo (gz_O R C g)) 6)) (yc, ye, yr', yk', yn')) :
    ∀ (d i : Nat) (yr yk yn : Nat → Int32), i + d = 6 → gy_kn R C yk yn → wY_orbits_14 post (nI g) (d + 1) (nI (gz_sm (gz_lo (gz_O R C g)) i)) (nI i) yc ye yr yk yn := by
  intro d
  induction d with
  | zero =>
    intro i yr yk yn hi hk
    have e : i = 6 := by omega
    subst e
    exact br_t (nI_le (b := 6) (Nat.le_refl _) (by omega)) (K yr yk yn hk)
  | succ d ih =>
    intro i yr yk yn hi hk
    have hi6 : i < 6 := by omega
    refine br_f (nI_ge (b := 6) hi6 (by omega)) ?_
    refine gy_orbit ok hg hi6 hC hE hk ?_
    intro yr' yk' yn' hk'
    have z := ih (i + 1) yr' yk' yn' (by omega) hk'
    refine gn_if (b := gz_lo (gz_O R C g) i) (gy_lom _ (gz_O_lt R C g i) i hi6) (fun hb => ?_) (fun hb => ?_)
    · have es : gz_sm (gz_lo (gz_O R C g)) (i + 1) = gz_sm (gz_lo (gz_O R C g)) i + 1 := by
        show gz_sm (gz_lo (gz_O R C g)) i + (gz_lo (gz_O R C g) i).toNat = _
        rw [hb]; rfl
      rw [es] at z
      unfold wY_orbits_40
      refine br_f (by decide) ?_
      rintro _ rfl _ rfl
      rw [nI_1, nI_1]
      exact z
    · have es : gz_sm (gz_lo (gz_O R C g)) (i + 1) = gz_sm (gz_lo (gz_O R C g)) i := by
        show gz_sm (gz_lo (gz_O R C g)) i + (gz_lo (gz_O R C g) i).toNat = _
        rw [hb]; rfl
      rw [es] at z
      unfold wY_orbits_40
      refine br_t rfl ?_
      rintro _ rfl
      rw [nI_1]
      exact z
theorem gy_comes {post : Int32 → SY → Prop} {R C : Nat → Nat} {x1 : Int32} {m : Nat → Nat} {w : Nat} (ok : gz_ok R C) (hC : gy_co C yc) (hE : gy_ed R ye) (hK : gy_kn R C yk yn)
    (hm : ∀ p, p < 720 → m p < 2 ^ 31 ∧ nI (gz_code R C 0 p) &&& x1 = nI (m p)) (hw : w < 2 ^ 31) (hw1 : nI (gz_own R C 1) &&& x1 = nI w)
    (K1 : (∃ p, p < 720 ∧ m p = w) → ∀ yr' yk' yn' : Nat → Int32, gy_kn R C yk' yn' → post 1 (yc, ye, yr', yk', yn'))
    (K0 : (¬ ∃ p, p < 720 ∧ m p = w) → ∀ yr' yk' yn' : Nat → Int32, gy_kn R C yk' yn' → post 0 (yc, ye, yr', yk', yn')) :
    wpY_comes post (yc, ye, yr, yk, yn) x1 := by
  unfold wpY_comes
  dsimp only
  refine gy_work (g := 0) ok (by decide) hE hC hK ?_
  intro yr' yk' yn' hc hk
  refine gy_code (g := 1) ok (by decide) hE hC ?_
  intro yr''
  refine nm_r hw1 ⟨721, gy_comes15 hw (fun p hp => ?_) (fun z => K1 z yr'' yk' yn' hk) (fun z => K0 z yr'' yk' yn' hk) 720 0 (by omega) (fun p hp => absurd hp (Nat.not_lt_zero p))⟩
  have e := hc p hp
  rw [Nat.zero_mul, Nat.zero_add] at e
  rw [e]
  exact hm p hp
/-! the component's two searches -/
theorem gx_same {post : Int32 → SX → Prop} {pl : Int32} {C0 C1 R0 R1 : Nat → Nat} (hC0 : gx_C 0 co pl C0) (hC1 : gx_C 1 co pl C1) (hG0 : gc_G C0 (gx_E R0)) (hG1 : gc_G C1 (gx_E R1)) (hR0 : gx_R 0 ro R0) (hR1 : gx_R 1 ro R1)
    (K : ∀ (r : Int32) (b0 w0 b1 w1 : Nat) (S0 S1 : Nat → Nat) (fp' : Int32) (wa' aa' cs' tt' sd' : Nat → Int32), gs_R C0 (gx_E R0) b0 w0 S0 → gs_R C1 (gx_E R1) b1 w1 S1 →
      ((r = 1 ∧ b0 = b1) ∨ (r = 0 ∧ ¬ b0 = b1)) → post r (nI 1, fp', nI b1, nI w1, ro, co, wa', aa', cs', tt', sd')) :
    wpX_sameCanonical post (fg, fp, fb, fw, ro, co, wa, aa, cs, tt, sd) pl := by
  unfold wpX_sameCanonical
  dsimp only
  refine gx_search (g := 0) (by decide) hC0 hG0 hR0 ?_
  intro b0 w0 S0 fp0 wa0 aa0 cs0 tt0 sd0 r0 _
  refine gx_search (g := 1) (by decide) hC1 hG1 hR1 ?_
  intro b1 w1 S1 fp1 wa1 aa1 cs1 tt1 sd1 r1 _
  have l0 : b0 < 2 ^ 31 := by
    obtain ⟨π, _, e⟩ := r0.1
    rw [← e]
    exact Nat.lt_trans (gc_cd_lt _ _ _) (by decide)
  have l1 : b1 < 2 ^ 31 := by
    obtain ⟨π, _, e⟩ := r1.1
    rw [← e]
    exact Nat.lt_trans (gc_cd_lt _ _ _) (by decide)
  exact pk_eq b0 b1 (fun e => K 1 b0 w0 b1 w1 S0 S1 _ _ _ _ _ _ r0 r1 (Or.inl ⟨rfl, e⟩)) (fun e => K 0 b0 w0 b1 w1 S0 S1 _ _ _ _ _ _ r0 r1 (Or.inr ⟨rfl, e⟩)) rfl rfl l0 l1
end
end
section
/-! the owed statements -/
theorem i_up {k : Nat} {u : SX} {v : SY} (h : i_Rel k u v) : i_Rel (k + 5) u v := h
theorem i_vc0 : wpX_init (fun u => wpY_init (fun v => i_Rel 0 u v)) := by
  refine ⟨fun _ => 0, fun _ => 0, ⟨fun _ _ => ⟨show (0 : Nat) < 64 by decide, show (0 : Nat) < 4 by decide⟩, fun _ _ _ _ _ _ => ?_, fun _ _ _ _ => ?_⟩, fun _ _ => ⟨rfl, rfl⟩, fun _ _ => rfl, fun _ _ _ _ _ _ => ?_, fun _ _ => Or.inl rfl⟩
  · simp
  · simp
  · simp only [Nat.zero_testBit]
    rfl
theorem gz_bz (v : Int32) : ∃ b : Bool, lw_bz v = nI b.toNat := by
  rcases lw_bz_01 v with h | h
  · exact ⟨false, h⟩
  · exact ⟨true, h⟩
theorem i_vc_edge {k : Nat} {u : SX} {v : SY} (I : i_Rel k u v) (hk : k + 5 ≤ 2560) (v1 : Int32) (v2 : Int32) (v3 : Int32) (v4 : Int32) : wpX_edge (fun r u' => wpY_edge (fun r' v' => r' = r ∧ i_Rel (k + 5) u' v') v v1 v2 v3 (lw_bz v4)) u v1 v2 v3 (lw_bz v4) := by
  obtain ⟨fg, fp, fb, fw, ro, co, wa, aa, cs, tt, sd⟩ := u
  obtain ⟨yc, ye, yr, yk, yn⟩ := v
  obtain ⟨R, C, ok, hX, hC, hE, hK⟩ := I
  dsimp only at hX hC hE hK
  have IR : i_Rel (k + 5) (fg, fp, fb, fw, ro, co, wa, aa, cs, tt, sd) (yc, ye, yr, yk, yn) := gz_mk ok hX hC hE hK
  obtain ⟨b, hb⟩ := gz_bz v4
  rw [hb]
  unfold wpX_edge
  dsimp only
  rcases gz_spl v1 (n := 2) (by decide) with h1 | ⟨g, hg, rfl⟩
  · refine gz_bg1 h1 (br_f (by decide) ?_)
    unfold wpY_edge
    exact gz_ig0 h1 (br_t rfl ⟨rfl, IR⟩)
  · refine gz_bg0 hg (br_t rfl ?_)
    rcases gz_spl v2 (n := 6) (by decide) with h2 | ⟨x, hx, rfl⟩
    · refine gz_bv1 h2 (br_f (by decide) ?_)
      unfold wpY_edge
      exact gz_ig1 hg (br_f (by decide) (gz_iv0 h2 (br_t rfl ⟨rfl, IR⟩)))
    · refine gz_bv0 hx (br_t rfl ?_)
      rcases gz_spl v3 (n := 6) (by decide) with h3 | ⟨y, hy, rfl⟩
      · refine gz_bv1 h3 (br_f (by decide) ?_)
        unfold wpY_edge
        exact gz_ig1 hg (br_f (by decide) (gz_iv1 hx (br_f (by decide) (gz_iv0 h3 (br_t rfl ⟨rfl, IR⟩)))))
      · refine gz_bv0 hy (br_t rfl ?_)
        refine pk_eq x y (fun e => ?_) (fun ne => ?_)
        · subst e
          unfold wpY_edge
          exact gz_ig1 hg (br_f (by decide) (gz_iv1 hx (br_f (by decide) (gz_iv1 hx (br_f (by decide) (br_t rfl ⟨rfl, IR⟩))))))
        · have hR : ∀ i, i < 12 → R i < 64 ∧ ro i = nI (R i) := fun i hi => ⟨(ok.1 i hi).1, (hX i hi).1⟩
          have main : ∀ z : Int32, nI ((R (g * 6 + x)).testBit y).toNat = z →
              wX_edge_46 (fun r u' => wpY_edge (fun r' v' => r' = r ∧ i_Rel (k + 5) u' v') (yc, ye, yr, yk, yn) (nI g) (nI x) (nI y) (nI b.toNat)) (nI g) (nI x) (nI y) (nI b.toNat) z fg fp fb fw ro co wa aa cs tt sd := by
            intro z hz
            unfold wX_edge_46
            refine gx_setEdge rfl hg hx hy ne hR ?_
            intro ro' h'
            refine gy_edge rfl ok hg hx hy ne hE ?_
            intro ye' hE'
            refine ⟨hz, gz_mk (gz_se_ok ok hg hx hy ne) (fun i hi => ⟨h' i hi, (hX i hi).2⟩) hC hE' (gz_kn_edit hK (fun g' _ hne w hw => gz_se_o hx hy hne hw) (fun _ _ _ _ _ => rfl))⟩
          refine gx_joined hg hx hy hR (gn_if0 (gn_b0 _) (fun hz => ?_) (fun hz => ?_))
          · exact main 0 (by rw [hz]; rfl)
          · exact main 1 (by rw [hz]; rfl)
theorem i_vc_colour {k : Nat} {u : SX} {v : SY} (I : i_Rel k u v) (hk : k + 5 ≤ 2560) (v1 : Int32) (v2 : Int32) (v3 : Int32) : wpX_colour (fun r u' => wpY_colour (fun r' v' => r' = r ∧ i_Rel (k + 5) u' v') v v1 v2 v3) u v1 v2 v3 := by
  obtain ⟨fg, fp, fb, fw, ro, co, wa, aa, cs, tt, sd⟩ := u
  obtain ⟨yc, ye, yr, yk, yn⟩ := v
  obtain ⟨R, C, ok, hX, hC, hE, hK⟩ := I
  dsimp only at hX hC hE hK
  have IR : i_Rel (k + 5) (fg, fp, fb, fw, ro, co, wa, aa, cs, tt, sd) (yc, ye, yr, yk, yn) := gz_mk ok hX hC hE hK
  unfold wpX_colour
  dsimp only
  rcases gz_spl v1 (n := 2) (by decide) with h1 | ⟨g, hg, rfl⟩
  · refine gz_bg1 h1 (br_f (by decide) ?_)
    unfold wpY_colour
    exact gz_ig0 h1 (br_t rfl ⟨rfl, IR⟩)
  · refine gz_bg0 hg (br_t rfl ?_)
    rcases gz_spl v2 (n := 6) (by decide) with h2 | ⟨x, hx, rfl⟩
    · refine gz_bv1 h2 (br_f (by decide) ?_)
      unfold wpY_colour
      exact gz_ig1 hg (br_f (by decide) (gz_iv0 h2 (br_t rfl ⟨rfl, IR⟩)))
    · refine gz_bv0 hx (br_t rfl ?_)
      have bad : (v3 < 0 ∨ ¬ v3 < 0 ∧ ¬ v3 ≤ 3) → wpY_colour (fun r' v' => r' = (-3) ∧ i_Rel (k + 5) (fg, fp, fb, fw, ro, co, wa, aa, cs, tt, sd) v') (yc, ye, yr, yk, yn) (nI g) (nI x) v3 := by
        intro h
        unfold wpY_colour
        refine gz_ig1 hg (br_f (by decide) (gz_iv1 hx (br_f (by decide) ?_)))
        rcases h with h | ⟨h, h'⟩
        · exact br_t h ⟨rfl, IR⟩
        · exact br_f h (br_f h' ⟨rfl, IR⟩)
      refine br_c (fun h => bad (Or.inl h)) (fun h => br_c (fun h' => ?_) (fun h' => bad (Or.inr ⟨h, h'⟩)))
      obtain ⟨c, hc4, rfl⟩ := nI_of2 (M := 3) (n := 3) (by decide) h h'
      have hi : g * 6 + x < 12 := by omega
      have vi : vp_in (nI (g * 6 + x)) 12 := vp_in_nI hi (by omega)
      rw [gn_g6, nI_clamp (show g * 6 + x < 2 ^ 31 by omega)]
      refine And.intro vi ?_
      rintro _ rfl
      refine And.intro vi ?_
      rintro _ rfl
      unfold wpY_colour
      refine gz_ig1 hg (br_f (by decide) (gz_iv1 hx (br_f (by decide) (br_f h (br_t h' ?_)))))
      rw [gn_g6, nI_clamp (show g * 6 + x < 2 ^ 31 by omega), nI_clamp (show g < 2 ^ 31 by omega)]
      refine And.intro vi ?_
      rintro _ rfl
      refine And.intro vi ?_
      rintro _ rfl
      refine And.intro (vp_in_nI hg (by omega)) ?_
      rintro _ rfl
      have hu : ∀ a : Nat → Int32, (∀ i, i < 12 → a i = nI (C i)) → ∀ i, i < 12 → upd a (g * 6 + x) (nI c) i = nI (if i = g * 6 + x then c else C i) := by
        intro a ha i hi
        by_cases e : i = g * 6 + x
        · rw [if_pos e, e, pk_us]
        · rw [if_neg e, pk_un e, ha i hi]
      refine ⟨by rw [hC _ hi, (hX _ hi).2], gz_mk (C := fun i => if i = g * 6 + x then c else C i) (gz_ok_C ok fun i hi => ?_) (fun i hi => ⟨(hX i hi).1, hu co (fun i hi => (hX i hi).2) i hi⟩) (hu yc hC) hE ?_⟩
      · by_cases e : i = g * 6 + x
        · rw [if_pos e]; omega
        · rw [if_neg e]; exact (ok.1 i hi).2
      · refine gz_kn_edit hK (fun _ _ _ _ _ => rfl) (fun g' _ hne w hw => ?_)
        exact if_neg (by omega)
theorem i_vc_exchange {k : Nat} {u : SX} {v : SY} (I : i_Rel k u v) (hk : k + 5 ≤ 2560) (v1 : Int32) (v2 : Int32) (v3 : Int32) : wpX_exchange (fun r u' => wpY_exchange (fun r' v' => r' = r ∧ i_Rel (k + 5) u' v') v v1 v2 v3) u v1 v2 v3 := by
  obtain ⟨fg, fp, fb, fw, ro, co, wa, aa, cs, tt, sd⟩ := u
  obtain ⟨yc, ye, yr, yk, yn⟩ := v
  obtain ⟨R, C, ok, hX, hC, hE, hK⟩ := I
  dsimp only at hX hC hE hK
  have IR : i_Rel (k + 5) (fg, fp, fb, fw, ro, co, wa, aa, cs, tt, sd) (yc, ye, yr, yk, yn) := gz_mk ok hX hC hE hK
  unfold wpX_exchange
  dsimp only
  rcases gz_spl v1 (n := 2) (by decide) with h1 | ⟨g, hg, rfl⟩
  · refine gz_bg1 h1 (br_f (by decide) ?_)
    unfold wpY_exchange
    exact gz_ig0 h1 (br_t rfl ⟨rfl, IR⟩)
  · refine gz_bg0 hg (br_t rfl ?_)
    rcases gz_spl v2 (n := 6) (by decide) with h2 | ⟨x, hx, rfl⟩
    · refine gz_bv1 h2 (br_f (by decide) ?_)
      unfold wpY_exchange
      exact gz_ig1 hg (br_f (by decide) (gz_iv0 h2 (br_t rfl ⟨rfl, IR⟩)))
    · refine gz_bv0 hx (br_t rfl ?_)
      rcases gz_spl v3 (n := 6) (by decide) with h3 | ⟨y, hy, rfl⟩
      · refine gz_bv1 h3 (br_f (by decide) ?_)
        unfold wpY_exchange
        exact gz_ig1 hg (br_f (by decide) (gz_iv1 hx (br_f (by decide) (gz_iv0 h3 (br_t rfl ⟨rfl, IR⟩)))))
      · refine gz_bv0 hy (br_t rfl ?_)
        have hC4 : ∀ i, i < 12 → gz_sw C g x y i < 4 := gz_sw_4 hg hx hy (fun i hi => (ok.1 i hi).2)
        have vx : vp_in (nI (g * 6 + x)) 12 := vp_in_nI (by omega) (by omega)
        have vy : vp_in (nI (g * 6 + y)) 12 := vp_in_nI (by omega) (by omega)
        have main : ∀ U : SX, (∀ (yc' ye' yn' : Nat → Int32), gy_co (gz_sw C g x y) yc' → gy_ed (gz_ex R g x y 6) ye' → gy_kn (gz_ex R g x y 6) (gz_sw C g x y) yk yn' → i_Rel (k + 5) U (yc', ye', yr, yk, yn')) →
            wpY_exchange (fun r' v' => r' = 0 ∧ i_Rel (k + 5) U v') (yc, ye, yr, yk, yn) (nI g) (nI x) (nI y) := by
          intro U hU
          unfold wpY_exchange
          dsimp only
          refine gz_ig1 hg (br_f (by decide) (gz_iv1 hx (br_f (by decide) (gz_iv1 hy (br_f (by decide) ?_)))))
          rw [gn_g6, gn_g6, nI_clamp (show g * 6 + x < 2 ^ 31 by omega), nI_clamp (show g * 6 + y < 2 ^ 31 by omega)]
          refine And.intro vx ?_
          rintro _ rfl
          refine And.intro vy (And.intro vx ?_)
          rintro _ rfl
          refine And.intro vy ?_
          rintro _ rfl
          refine ⟨7, gy_ex80 (yn := yn) ok hg hx hy ?_ 6 0 ye yn (by omega) hE (fun _ _ => rfl)⟩
          intro ye' yn' hE' hn'
          refine ⟨rfl, hU _ _ _ (gz_sw_upd hg hx hy hC) hE' ?_⟩
          exact gz_kn_edit2 hK hn' (fun g' _ hne w hw => gz_ex_o hx hy hne hw 6 (Nat.le_refl 6)) (fun g' _ hne w hw => gz_sw_o hx hy hne hw)
        refine pk_eq x y (fun e => ?_) (fun ne => ?_)
        · subst e
          refine main _ (fun yc' ye' yn' q1 q2 q3 => ?_)
          refine gz_mk ok hX (fun i hi => by rw [q1 i hi, gz_sw_id]) (fun g' hg' a ha b hb => ?_) (fun g' hg' => ?_)
          · rw [q2 g' hg' a ha b hb, gz_ex_id ok hg hx 6 (Nat.le_refl 6) _ (by omega)]
          · rcases q3 g' hg' with z | z
            · exact Or.inl z
            · refine Or.inr fun p hp => ?_
              rw [z p hp]
              exact congrArg nI (gz_code_congr hp (fun w hw => gz_ex_id ok hg hx 6 (Nat.le_refl 6) _ (by omega)) (fun w hw => gz_sw_id C g x _))
        · rintro _ rfl _ rfl
          rw [gn_g6, gn_g6, nI_clamp (show g * 6 + x < 2 ^ 31 by omega), nI_clamp (show g * 6 + y < 2 ^ 31 by omega)]
          refine And.intro vx ?_
          rintro _ rfl
          refine And.intro vy (And.intro vx ?_)
          rintro _ rfl
          refine And.intro vy ?_
          rintro _ rfl
          refine ⟨7, gx_ex84 ok hg hx hy ?_ 6 0 ro (by omega) (fun i hi => (hX i hi).1)⟩
          intro ro' h'
          refine main _ (fun yc' ye' yn' q1 q2 q3 => ?_)
          exact gz_mk (gz_ok_C (gz_ex_ok ok hg hx hy 6 (Nat.le_refl 6)) hC4) (fun i hi => ⟨h' i hi, gz_sw_upd hg hx hy (fun i hi => (hX i hi).2) i hi⟩) q1 q2 q3
end
section
/-! the owed statements, continued -/
theorem i_vc_complement {k : Nat} {u : SX} {v : SY} (I : i_Rel k u v) (hk : k + 5 ≤ 2560) (v1 : Int32) : wpX_complement (fun r u' => wpY_complement (fun r' v' => r' = r ∧ i_Rel (k + 5) u' v') v v1) u v1 := by
  obtain ⟨fg, fp, fb, fw, ro, co, wa, aa, cs, tt, sd⟩ := u
  obtain ⟨yc, ye, yr, yk, yn⟩ := v
  obtain ⟨R, C, ok, hX, hC, hE, hK⟩ := I
  dsimp only at hX hC hE hK
  have IR : i_Rel (k + 5) (fg, fp, fb, fw, ro, co, wa, aa, cs, tt, sd) (yc, ye, yr, yk, yn) := gz_mk ok hX hC hE hK
  unfold wpX_complement
  dsimp only
  rcases gz_spl v1 (n := 2) (by decide) with h1 | ⟨g, hg, rfl⟩
  · refine gz_bg1 h1 (br_f (by decide) ?_)
    unfold wpY_complement
    exact gz_ig0 h1 (br_t rfl ⟨rfl, IR⟩)
  · refine gz_bg0 hg (br_t rfl ⟨7, gx_cp13 ok hg ?_ 6 0 ro (by omega) ?_⟩)
    · intro ro' h'
      unfold wpY_complement
      refine gz_ig1 hg (br_f (by decide) ⟨37, gy_cp14 (R := R) hg ?_ 36 0 ye (by omega) (gy_cpe_0 hE)⟩)
      intro ye' he'
      refine ⟨?_, gz_mk (gz_cp_ok ok hg) (fun i hi => ⟨h' i hi, (hX i hi).2⟩) hC (gy_cpe_36 ok he') (gz_kn_edit hK (fun g' _ hne w hw => gz_cp_o hne hw (Nat.le_refl 6)) (fun _ _ _ _ _ => rfl))⟩
      have e1 : gz_sm (fun i => gy_f R g (i / 6) (i % 6)) 36 = gz_tot (gy_f R g) 6 := gz_sm_tot (gy_f R g) 6
      have e2 : gz_tot (fun u v => (gz_cp R g 6 (g * 6 + u)).testBit v) 6 = gz_tot (gy_f R g) 6 := by
        apply gz_tot_ext
        intro a ha b hb
        rw [gz_cp_in ha, gn_cpb _ (ok.1 _ (by omega)).1 a ha b hb]
        rfl
      rw [e1, e2]
    · intro j hj
      rw [(hX j hj).1]
      unfold gz_cp
      rw [if_neg (by omega)]
theorem i_vc_copy {k : Nat} {u : SX} {v : SY} (I : i_Rel k u v) (hk : k + 5 ≤ 2560) : wpX_copy (fun u' => wpY_copy (fun v' => i_Rel (k + 5) u' v') v) u := by
  obtain ⟨fg, fp, fb, fw, ro, co, wa, aa, cs, tt, sd⟩ := u
  obtain ⟨yc, ye, yr, yk, yn⟩ := v
  obtain ⟨R, C, ok, hX, hC, hE, hK⟩ := I
  dsimp only at hX hC hE hK
  have e0 : ∀ (A : Nat → Nat) (i : Nat), gz_cy A 0 i = A i := by
    intro A i
    unfold gz_cy
    rw [if_neg (by omega)]
  unfold wpX_copy
  dsimp only
  refine ⟨7, gx_cy2 (R := R) (C := C) ?_ 6 0 ro co (by omega) (fun i hi => ?_)⟩
  · intro ro' co' h'
    unfold wpY_copy
    dsimp only
    refine ⟨7, gy_cy2 (R := R) (C := C) (gy_cye_0 hE) ?_ 6 0 yc (by omega) (fun i hi => ?_)⟩
    · intro yc' ye' hC' hE'
      refine gz_mk (gz_cy_ok ok) h' hC' (gy_cye_36 hE') (gz_kn_edit hK (fun g' hg' hne w hw => ?_) (fun g' hg' hne w hw => ?_))
      · have : g' = 0 := by omega
        subst this
        rw [Nat.zero_mul, Nat.zero_add]
        exact gz_cy_0 hw
      · have : g' = 0 := by omega
        subst this
        rw [Nat.zero_mul, Nat.zero_add]
        exact gz_cy_0 hw
    · rw [e0]; exact hC i hi
  · rw [e0, e0]; exact hX i hi
theorem i_vc_code {k : Nat} {u : SX} {v : SY} (I : i_Rel k u v) (hk : k + 5 ≤ 2560) (v1 : Int32) : wpX_code (fun r u' => wpY_code (fun r' v' => r' = r ∧ i_Rel (k + 5) u' v') v v1) u v1 := by
  obtain ⟨fg, fp, fb, fw, ro, co, wa, aa, cs, tt, sd⟩ := u
  obtain ⟨yc, ye, yr, yk, yn⟩ := v
  obtain ⟨R, C, ok, hX, hC, hE, hK⟩ := I
  dsimp only at hX hC hE hK
  have IR : i_Rel (k + 5) (fg, fp, fb, fw, ro, co, wa, aa, cs, tt, sd) (yc, ye, yr, yk, yn) := gz_mk ok hX hC hE hK
  unfold wpX_code
  dsimp only
  rcases gz_spl v1 (n := 2) (by decide) with h1 | ⟨g, hg, rfl⟩
  · refine gz_bg1 h1 (br_f (by decide) ?_)
    unfold wpY_code
    exact gz_ig0 h1 (br_t rfl ⟨rfl, IR⟩)
  · refine gz_bg0 hg (br_t rfl ⟨7, ?_⟩)
    have z := gx_code18 (fp := fp) (fb := fb) (fw := fw) (wa := wa) (cs := cs) (tt := tt) (sd := sd) (post := fun r u' => wpY_code (fun r' v' => r' = r ∧ i_Rel (k + 5) u' v') (yc, ye, yr, yk, yn) (nI g))
      hg (gz_xC hX hg) (gz_G ok hg).1 (gz_xR ok hX hg) (fun aa' => gy_code ok hg hE hC (fun yr' => ⟨rfl, gz_mk ok hX hC hE hK⟩)) 6 0 aa (by omega) (fun j hj => absurd hj (Nat.not_lt_zero j))
    rw [gc_pc_0] at z
    exact z
theorem i_vc_canonical {k : Nat} {u : SX} {v : SY} (I : i_Rel k u v) (hk : k + 5 ≤ 2560) (v1 : Int32) : wpX_canonical (fun r u' => wpY_canonical (fun r' v' => r' = r ∧ i_Rel (k + 5) u' v') v v1) u v1 := by
  obtain ⟨fg, fp, fb, fw, ro, co, wa, aa, cs, tt, sd⟩ := u
  obtain ⟨yc, ye, yr, yk, yn⟩ := v
  obtain ⟨R, C, ok, hX, hC, hE, hK⟩ := I
  dsimp only at hX hC hE hK
  have IR : i_Rel (k + 5) (fg, fp, fb, fw, ro, co, wa, aa, cs, tt, sd) (yc, ye, yr, yk, yn) := gz_mk ok hX hC hE hK
  unfold wpX_canonical
  dsimp only
  rcases gz_spl v1 (n := 2) (by decide) with h1 | ⟨g, hg, rfl⟩
  · refine gz_bg1 h1 (br_f (by decide) ?_)
    unfold wpY_canonical
    exact gz_ig0 h1 (br_t rfl ⟨rfl, IR⟩)
  · refine gz_bg0 hg (br_t rfl ?_)
    refine gx_search hg (gz_xC hX hg) (gz_G ok hg) (gz_xR ok hX hg) ?_
    intro b w S fp' wa' aa' cs' tt' sd' hr hs
    dsimp only
    unfold wpY_canonical
    refine gz_ig1 hg (br_f (by decide) ?_)
    refine gy_work ok hg hE hC hK ?_
    intro yr' yk' yn' hc hk'
    have e720 : nI g * 720 = nI (g * 720) := pk_mul g 720
    have hc0 := hc 0 (by decide)
    rw [Nat.add_zero] at hc0
    dsimp only
    rw [e720, nI_clamp (show g * 720 < 2 ^ 31 by omega), hc0]
    refine And.intro (vp_in_nI (by omega) (by omega)) ?_
    rintro _ rfl
    refine ⟨720, gy_can28 hg (gz_cc hc) ?_ 719 1 _ (by omega) ⟨0, by decide, rfl⟩ (fun p hp => ?_)⟩
    · intro m he hm
      refine ⟨congrArg nI ?_, gz_mk ok hX hC hE hk'⟩
      obtain ⟨p, hp, e⟩ := he
      have l1 : b ≤ gz_code R C g p := hr.2.1 _ (gr_vP hp)
      obtain ⟨π, hπ, e2⟩ := hr.1
      obtain ⟨q, hq, e3⟩ := gr_vex hπ
      have l2 := hm q hq
      unfold gz_code at l2
      rw [e3, e2] at l2
      omega
    · have e : p = 0 := by omega
      rw [e]
      exact Nat.le_refl _
theorem i_vc_symmetries {k : Nat} {u : SX} {v : SY} (I : i_Rel k u v) (hk : k + 5 ≤ 2560) (v1 : Int32) : wpX_symmetries (fun r u' => wpY_symmetries (fun r' v' => r' = r ∧ i_Rel (k + 5) u' v') v v1) u v1 := by
  obtain ⟨fg, fp, fb, fw, ro, co, wa, aa, cs, tt, sd⟩ := u
  obtain ⟨yc, ye, yr, yk, yn⟩ := v
  obtain ⟨R, C, ok, hX, hC, hE, hK⟩ := I
  dsimp only at hX hC hE hK
  have IR : i_Rel (k + 5) (fg, fp, fb, fw, ro, co, wa, aa, cs, tt, sd) (yc, ye, yr, yk, yn) := gz_mk ok hX hC hE hK
  unfold wpX_symmetries
  dsimp only
  rcases gz_spl v1 (n := 2) (by decide) with h1 | ⟨g, hg, rfl⟩
  · refine gz_bg1 h1 (br_f (by decide) ?_)
    unfold wpY_symmetries
    exact gz_ig0 h1 (br_t rfl ⟨rfl, IR⟩)
  · refine gz_bg0 hg (br_t rfl ?_)
    refine gx_search hg (gz_xC hX hg) (gz_G ok hg) (gz_xR ok hX hg) ?_
    intro b w S fp' wa' aa' cs' tt' sd' hr hs
    dsimp only
    unfold wpY_symmetries
    refine gz_ig1 hg (br_f (by decide) ?_)
    refine gy_work ok hg hE hC hK ?_
    intro yr' yk' yn' hc hk'
    refine gy_code ok hg hE hC ?_
    intro yr''
    refine ⟨721, gy_sym26 (w := gz_own R C g) hg (gz_own_lt R C g) (gz_cc hc) ?_ 720 0 (by omega)⟩
    refine ⟨congrArg nI ?_, gz_mk ok hX hC hE hk'⟩
    rw [gg_ways (gz_G ok hg) hr]
    exact gr_vcnt (fun f => decide (gc_cd (gz_Rg C g) (gx_E (gz_Rg R g)) f = gz_own R C g))
theorem i_vc_orbit {k : Nat} {u : SX} {v : SY} (I : i_Rel k u v) (hk : k + 5 ≤ 2560) (v1 : Int32) (v2 : Int32) : wpX_orbit (fun r u' => wpY_orbit (fun r' v' => r' = r ∧ i_Rel (k + 5) u' v') v v1 v2) u v1 v2 := by
  obtain ⟨fg, fp, fb, fw, ro, co, wa, aa, cs, tt, sd⟩ := u
  obtain ⟨yc, ye, yr, yk, yn⟩ := v
  obtain ⟨R, C, ok, hX, hC, hE, hK⟩ := I
  dsimp only at hX hC hE hK
  have IR : i_Rel (k + 5) (fg, fp, fb, fw, ro, co, wa, aa, cs, tt, sd) (yc, ye, yr, yk, yn) := gz_mk ok hX hC hE hK
  unfold wpX_orbit
  dsimp only
  rcases gz_spl v1 (n := 2) (by decide) with h1 | ⟨g, hg, rfl⟩
  · refine gz_bg1 h1 (br_f (by decide) ?_)
    unfold wpY_orbit
    exact gz_ig0 h1 (br_t rfl ⟨rfl, IR⟩)
  · refine gz_bg0 hg (br_t rfl ?_)
    rcases gz_spl v2 (n := 6) (by decide) with h2 | ⟨x, hx, rfl⟩
    · refine gz_bv1 h2 (br_f (by decide) ?_)
      unfold wpY_orbit
      exact gz_ig1 hg (br_f (by decide) (gz_iv0 h2 (br_t rfl ⟨rfl, IR⟩)))
    · refine gz_bv0 hx (br_t rfl ?_)
      refine gx_search hg (gz_xC hX hg) (gz_G ok hg) (gz_xR ok hX hg) ?_
      intro b w S fp' wa' aa' cs' tt' sd' hr hs
      obtain ⟨p, hp, hb⟩ := gg_stand hr hx
      dsimp only
      refine gx_orbitOf (S := S) (fun q hq => ⟨gg_S64 hr hq, hs q hq⟩) hx hp hb ?_
      intro q hq hqb
      rw [gz_O_S ok hg hr hq hqb]
      refine gy_orbit ok hg hx hC hE hK ?_
      intro yr' yk' yn' hk'
      exact ⟨rfl, gz_mk ok hX hC hE hk'⟩
theorem i_vc_orbits {k : Nat} {u : SX} {v : SY} (I : i_Rel k u v) (hk : k + 5 ≤ 2560) (v1 : Int32) : wpX_orbits (fun r u' => wpY_orbits (fun r' v' => r' = r ∧ i_Rel (k + 5) u' v') v v1) u v1 := by
  obtain ⟨fg, fp, fb, fw, ro, co, wa, aa, cs, tt, sd⟩ := u
  obtain ⟨yc, ye, yr, yk, yn⟩ := v
  obtain ⟨R, C, ok, hX, hC, hE, hK⟩ := I
  dsimp only at hX hC hE hK
  have IR : i_Rel (k + 5) (fg, fp, fb, fw, ro, co, wa, aa, cs, tt, sd) (yc, ye, yr, yk, yn) := gz_mk ok hX hC hE hK
  unfold wpX_orbits
  dsimp only
  rcases gz_spl v1 (n := 2) (by decide) with h1 | ⟨g, hg, rfl⟩
  · refine gz_bg1 h1 (br_f (by decide) ?_)
    unfold wpY_orbits
    exact gz_ig0 h1 (br_t rfl ⟨rfl, IR⟩)
  · refine gz_bg0 hg (br_t rfl ?_)
    refine gx_search hg (gz_xC hX hg) (gz_G ok hg) (gz_xR ok hX hg) ?_
    intro b w S fp' wa' aa' cs' tt' sd' hr hs
    dsimp only
    refine ⟨7, gx_orb19 (O := gz_O R C g) (fun v hv => ⟨gz_O_lt R C g v, gz_O_self hv⟩) ?_ ?_ 6 0 (by omega)⟩
    · intro v hv P hP
      obtain ⟨p, hp, hb⟩ := gg_stand hr hv
      refine gx_orbitOf (S := S) (fun q hq => ⟨gg_S64 hr hq, hs q hq⟩) hv hp hb ?_
      intro q hq hqb
      rw [gz_O_S ok hg hr hq hqb]
      exact hP
    · unfold wpY_orbits
      refine gz_ig1 hg (br_f (by decide) ⟨7, gy_orb14 ok hg hC hE ?_ 6 0 yr yk yn (by omega) hK⟩)
      intro yr' yk' yn' hk'
      exact ⟨rfl, gz_mk ok hX hC hE hk'⟩
theorem i_vc_variants {k : Nat} {u : SX} {v : SY} (I : i_Rel k u v) (hk : k + 5 ≤ 2560) (v1 : Int32) : wpX_variants (fun r u' => wpY_variants (fun r' v' => r' = r ∧ i_Rel (k + 5) u' v') v v1) u v1 := by
  obtain ⟨fg, fp, fb, fw, ro, co, wa, aa, cs, tt, sd⟩ := u
  obtain ⟨yc, ye, yr, yk, yn⟩ := v
  obtain ⟨R, C, ok, hX, hC, hE, hK⟩ := I
  dsimp only at hX hC hE hK
  have IR : i_Rel (k + 5) (fg, fp, fb, fw, ro, co, wa, aa, cs, tt, sd) (yc, ye, yr, yk, yn) := gz_mk ok hX hC hE hK
  unfold wpX_variants
  dsimp only
  rcases gz_spl v1 (n := 2) (by decide) with h1 | ⟨g, hg, rfl⟩
  · refine gz_bg1 h1 (br_f (by decide) ?_)
    unfold wpY_variants
    exact gz_ig0 h1 (br_t rfl ⟨rfl, IR⟩)
  · refine gz_bg0 hg (br_t rfl ?_)
    refine gx_search hg (gz_xC hX hg) (gz_G ok hg) (gz_xR ok hX hg) ?_
    intro b w S fp' wa' aa' cs' tt' sd' hr hs
    have hw := gg_ways (gz_G ok hg) hr
    have hpos := gg_kpos (gz_Rg C g) (gx_E (gz_Rg R g))
    have hle := gg_kle (gz_Rg C g) (gx_E (gz_Rg R g))
    dsimp only
    refine br_f (nI_nle (by omega) (by omega)) (And.intro (nI_ne0 (by omega) (by omega)) ?_)
    have e720 : (720 : Int32) / nI w = nI (720 / w) := pk_div (a := 720) (by decide) (by omega) (by omega)
    rw [e720]
    unfold wpY_variants
    refine gz_ig1 hg (br_f (by decide) ?_)
    refine gy_work ok hg hE hC hK ?_
    intro yr' yk' yn' hc hk'
    refine ⟨721, gy_var19 hg (gz_cc hc) ?_ 720 0 (by omega)⟩
    refine ⟨congrArg nI ?_, gz_mk ok hX hC hE hk'⟩
    rw [hw]
    exact gg_variants (gz_G ok hg)
theorem i_vc_alike {k : Nat} {u : SX} {v : SY} (I : i_Rel k u v) (hk : k + 5 ≤ 2560) : wpX_alike (fun r u' => wpY_alike (fun r' v' => r' = r ∧ i_Rel (k + 5) u' v') v) u := by
  obtain ⟨fg, fp, fb, fw, ro, co, wa, aa, cs, tt, sd⟩ := u
  obtain ⟨yc, ye, yr, yk, yn⟩ := v
  obtain ⟨R, C, ok, hX, hC, hE, hK⟩ := I
  dsimp only at hX hC hE hK
  have g0 : (0 : Nat) < 2 := by decide
  have g1 : (1 : Nat) < 2 := by decide
  unfold wpX_alike
  dsimp only
  refine gx_same (gz_xC hX g0) (gz_xC hX g1) (gz_G ok g0) (gz_G ok g1) (gz_xR ok hX g0) (gz_xR ok hX g1) ?_
  intro r b0 w0 b1 w1 S0 S1 fp' wa' aa' cs' tt' sd' r0 r1 hb
  have ha := gg_alike (gz_G ok g0) (gz_G ok g1) r0 r1
  dsimp only
  have hY : wpY_alike (fun r' v' => r' = r ∧ i_Rel (k + 5) (nI 1, fp', nI b1, nI w1, ro, co, wa', aa', cs', tt', sd') v') (yc, ye, yr, yk, yn) := by
    unfold wpY_alike
    dsimp only
    refine gy_comes (m := gz_code R C 0) (w := gz_own R C 1) ok hC hE hK (fun p hp => ⟨Nat.lt_trans (gc_cd_lt _ _ _) (by decide), ?_⟩) (gz_own_lt R C 1) ?_ ?_ ?_
    · show nI (gz_code R C 0 p) &&& nI 134217727 = _
      rw [nx_and]
      exact congrArg nI (gc_all _ _)
    · show nI (gz_own R C 1) &&& nI 134217727 = _
      rw [nx_and]
      exact congrArg nI (gc_all _ _)
    · intro hx yr' yk' yn' hk'
      refine ⟨rfl, ?_, gz_mk ok hX hC hE hk'⟩
      rcases hb with ⟨e, _⟩ | ⟨_, e⟩
      · exact e.symm
      · exact absurd (ha.mpr hx) e
    · intro hx yr' yk' yn' hk'
      refine ⟨rfl, ?_, gz_mk ok hX hC hE hk'⟩
      rcases hb with ⟨_, e⟩ | ⟨e, _⟩
      · exact absurd (ha.mp e) hx
      · exact e.symm
  refine ⟨?_, hY⟩
  rcases hb with ⟨e, _⟩ | ⟨e, _⟩
  · rw [e]; rfl
  · rw [e]; rfl
theorem i_vc_alikeWithoutColours {k : Nat} {u : SX} {v : SY} (I : i_Rel k u v) (hk : k + 5 ≤ 2560) : wpX_alikeWithoutColours (fun r u' => wpY_alikeWithoutColours (fun r' v' => r' = r ∧ i_Rel (k + 5) u' v') v) u := by
  obtain ⟨fg, fp, fb, fw, ro, co, wa, aa, cs, tt, sd⟩ := u
  obtain ⟨yc, ye, yr, yk, yn⟩ := v
  obtain ⟨R, C, ok, hX, hC, hE, hK⟩ := I
  dsimp only at hX hC hE hK
  have g0 : (0 : Nat) < 2 := by decide
  have g1 : (1 : Nat) < 2 := by decide
  unfold wpX_alikeWithoutColours
  dsimp only
  refine gx_same gz_xC1 gz_xC1 (gz_G0 ok g0) (gz_G0 ok g1) (gz_xR ok hX g0) (gz_xR ok hX g1) ?_
  intro r b0 w0 b1 w1 S0 S1 fp' wa' aa' cs' tt' sd' r0 r1 hb
  have ha := gg_alike (gz_G0 ok g0) (gz_G0 ok g1) r0 r1
  dsimp only
  have hY : wpY_alikeWithoutColours (fun r' v' => r' = r ∧ i_Rel (k + 5) (nI 1, fp', nI b1, nI w1, ro, co, wa', aa', cs', tt', sd') v') (yc, ye, yr, yk, yn) := by
    unfold wpY_alikeWithoutColours
    dsimp only
    refine gy_comes (m := fun p => gc_cd (fun _ => 0) (gx_E (gz_Rg R 0)) (gr_v p)) (w := gc_cd (fun _ => 0) (gx_E (gz_Rg R 1)) (fun i => i)) ok hC hE hK (fun p hp => ⟨Nat.lt_trans (gc_cd_lt _ _ _) (by decide), ?_⟩) (Nat.lt_trans (gc_cd_lt _ _ _) (by decide)) ?_ ?_ ?_
    · show nI (gz_code R C 0 p) &&& nI 32767 = _
      rw [nx_and]
      exact congrArg nI (gc_low _ _)
    · show nI (gz_own R C 1) &&& nI 32767 = _
      rw [nx_and]
      exact congrArg nI (gc_low _ _)
    · intro hx yr' yk' yn' hk'
      refine ⟨rfl, ?_, gz_mk ok hX hC hE hk'⟩
      rcases hb with ⟨e, _⟩ | ⟨_, e⟩
      · exact e.symm
      · exact absurd (ha.mpr hx) e
    · intro hx yr' yk' yn' hk'
      refine ⟨rfl, ?_, gz_mk ok hX hC hE hk'⟩
      rcases hb with ⟨_, e⟩ | ⟨e, _⟩
      · exact absurd (ha.mp e) hx
      · exact e.symm
  refine ⟨?_, hY⟩
  rcases hb with ⟨e, _⟩ | ⟨e, _⟩
  · rw [e]; rfl
  · rw [e]; rfl
end
