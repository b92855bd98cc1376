section
/-! rows of kit/rows, pasted -/
theorem pk_us {f : Nat → Int32} {k : Nat} {x : Int32} : upd f k x k = x := if_pos rfl
theorem pk_un {f : Nat → Int32} {k j : Nat} {x : Int32} (h : j ≠ k) : upd f k x j = f j := if_neg h
theorem pk_sub {a b : Nat} (h : b ≤ a) : nI a - nI b = nI (a - b) := by
  obtain ⟨c, rfl⟩ : ∃ c, a = c + b := ⟨a - b, by omega⟩
  rw [← nI_add, Int32.add_sub_cancel, Nat.add_sub_cancel]
theorem pk_m1 (n : Nat) : nI (n + 1) + (-1) = nI n := by
  rw [← nI_1, Int32.add_assoc, show (1 : Int32) + (-1) = 0 from rfl, Int32.add_zero]
theorem pk_mul (a b : Nat) : nI a * nI b = nI (a * b) := (Int32.ofNat_mul a b).symm
theorem pk_ix (x : Int32) {n : Nat} (hn : n < 2 ^ 31) : x < 0 ∨ nI n ≤ x ∨ ∃ j : Nat, j < n ∧ x = nI j := by
  by_cases h : x < 0
  · exact Or.inl h
  · obtain ⟨j, hj, rfl⟩ := nI_of h
    by_cases h2 : j < n
    · exact Or.inr (Or.inr ⟨j, h2, rfl⟩)
    · exact Or.inr (Or.inl (nI_le (by omega) hj))
theorem pk_le {x y : Int32} {A B : Prop} (a b : Nat) (f : a ≤ b → A) (g : b < a → B) (hx : x = nI a := by rfl) (hy : y = nI b := by rfl) (ha : a < 2 ^ 31 := by omega) (hb : b < 2 ^ 31 := by omega) : (x ≤ y → A) ∧ (¬ x ≤ y → B) := by
  subst hx hy
  rw [nI_leI ha hb]
  exact ⟨f, fun z => g (by omega)⟩
theorem pk_lt {x y : Int32} {A B : Prop} (a b : Nat) (f : a < b → A) (g : b ≤ a → B) (hx : x = nI a := by rfl) (hy : y = nI b := by rfl) (ha : a < 2 ^ 31 := by omega) (hb : b < 2 ^ 31 := by omega) : (x < y → A) ∧ (¬ x < y → B) := by
  subst hx hy
  rw [nI_ltI ha hb]
  exact ⟨f, fun z => g (by omega)⟩
theorem pk_eq {x y : Int32} {A B : Prop} (a b : Nat) (f : a = b → A) (g : a ≠ b → B) (hx : x = nI a := by rfl) (hy : y = nI b := by rfl) (ha : a < 2 ^ 31 := by omega) (hb : b < 2 ^ 31 := by omega) : (x = y → A) ∧ (¬ x = y → B) := by
  subst hx hy
  rw [nI_eq ha hb]
  exact ⟨f, g⟩
theorem pk_in {x : Int32} (n N : Nat) (h : n < N) (hx : x = nI n := by rfl) (hN : N < 2 ^ 31 := by omega) : vp_in x N := by
  subst hx
  exact vp_in_nI h hN
theorem pk_cl {x : Int32} (n : Nat) (hx : x = nI n := by rfl) (h : n < 2 ^ 31 := by omega) : x.toNatClampNeg = n := by
  subst hx
  exact nI_clamp h
/-! ===== Int32 by its bits: bt x i ===== -/
def bt (x : Int32) (i : Nat) : Bool := x.toBitVec.getLsbD i
theorem b_ext {x y : Int32} (h : ∀ i, i < 32 → bt x i = bt y i) : x = y := Int32.toBitVec_inj.mp (BitVec.eq_of_getLsbD_eq (fun i hi => h i hi))
theorem b_or (x y : Int32) (i : Nat) : bt (x ||| y) i = (bt x i || bt y i) := by unfold bt; rw [Int32.toBitVec_or, BitVec.getLsbD_or]
theorem b_and (x y : Int32) (i : Nat) : bt (x &&& y) i = (bt x i && bt y i) := by unfold bt; rw [Int32.toBitVec_and, BitVec.getLsbD_and]
theorem b_xor (x y : Int32) (i : Nat) : bt (x ^^^ y) i = (bt x i ^^ bt y i) := by unfold bt; rw [Int32.toBitVec_xor, BitVec.getLsbD_xor]
theorem b_big {x : Int32} {i : Nat} (h : 32 ≤ i) : bt x i = false := BitVec.getLsbD_of_ge _ _ h
theorem b_255 (i : Nat) : bt 255 i = decide (i < 8) := by
  rcases Nat.lt_or_ge i 32 with h | h
  · exact (by decide +kernel : ∀ i, i < 32 → bt 255 i = decide (i < 8)) i h
  · rw [b_big h, decide_eq_false (by omega)]
theorem b_65535 (i : Nat) : bt 65535 i = decide (i < 16) := by
  rcases Nat.lt_or_ge i 32 with h | h
  · exact (by decide +kernel : ∀ i, i < 32 → bt 65535 i = decide (i < 16)) i h
  · rw [b_big h, decide_eq_false (by omega)]
theorem b_m1 : ∀ i, i < 32 → bt (-1) i = true := by decide +kernel
theorem b_0 (i : Nat) : bt 0 i = false := BitVec.getLsbD_zero
theorem s_l : ∀ n, n < 32 → ((nI n &&& 31).toBitVec.smod 32).toNat = n := by decide +kernel
theorem s_u : ∀ n, n < 32 → (((nI n).toUInt32 &&& Int32.toUInt32 31).toBitVec % 32).toNat = n := by decide +kernel
theorem b_shl (n : Nat) (hn : n < 32) (x : Int32) {i : Nat} (hi : i < 32) : bt (x <<< (nI n &&& 31)) i = (decide (n ≤ i) && bt x (i - n)) := by
  unfold bt
  rw [Int32.toBitVec_shiftLeft]
  show (x.toBitVec <<< ((nI n &&& 31).toBitVec.smod 32).toNat).getLsbD i = _
  rw [s_l n hn, BitVec.getLsbD_shiftLeft]
  rcases Nat.lt_or_ge i n with h | h
  · simp [h, Nat.not_le.mpr h]
  · simp [hi, h, Nat.not_lt.mpr h]
theorem b_ushr (n : Nat) (hn : n < 32) (x : Int32) (i : Nat) : bt ((x.toUInt32 >>> ((nI n).toUInt32 &&& Int32.toUInt32 31)).toInt32) i = bt x (n + i) := by
  show (x.toUInt32 >>> ((nI n).toUInt32 &&& Int32.toUInt32 31)).toBitVec.getLsbD i = x.toUInt32.toBitVec.getLsbD (n + i)
  rw [UInt32.toBitVec_shiftRight]
  show (x.toUInt32.toBitVec >>> (((nI n).toUInt32 &&& Int32.toUInt32 31).toBitVec % 32).toNat).getLsbD i = _
  rw [s_u n hn, BitVec.getLsbD_ushiftRight]
theorem b_sshr (n : Nat) (hn : n < 32) (x : Int32) {i : Nat} (hi : i < 32) : bt (x >>> (nI n &&& 31)) i = if n + i < 32 then bt x (n + i) else bt x 31 := by
  unfold bt
  rw [Int32.toBitVec_shiftRight]
  show (x.toBitVec.sshiftRight ((nI n &&& 31).toBitVec.smod 32).toNat).getLsbD i = _
  rw [s_l n hn, BitVec.getLsbD_sshiftRight, BitVec.msb_eq_getLsbD_last]
  simp [hi]
theorem b_shl8 (x : Int32) {i : Nat} (hi : i < 32) : bt (x <<< ((8 : Int32) &&& 31)) i = (decide (8 ≤ i) && bt x (i - 8)) := b_shl 8 (by omega) x hi
theorem b_shl16 (x : Int32) {i : Nat} (hi : i < 32) : bt (x <<< ((16 : Int32) &&& 31)) i = (decide (16 ≤ i) && bt x (i - 16)) := b_shl 16 (by omega) x hi
theorem b_shl24 (x : Int32) {i : Nat} (hi : i < 32) : bt (x <<< ((24 : Int32) &&& 31)) i = (decide (24 ≤ i) && bt x (i - 24)) := b_shl 24 (by omega) x hi
theorem b_sshr8 (x : Int32) {i : Nat} (hi : i < 32) : bt (x >>> ((8 : Int32) &&& 31)) i = if 8 + i < 32 then bt x (8 + i) else bt x 31 := b_sshr 8 (by omega) x hi
end
section
/-! numbers, bits, states as functions of field and index -/
abbrev sd_T : Type := Nat → Nat → Int32
def sd_s (d : sd_T) (f : Nat) (a : Nat → Int32) : sd_T := fun g => bif Nat.beq g f then a else d g
theorem sd_se (d : sd_T) (f : Nat) (a : Nat → Int32) : sd_s d f a f = a := by
  unfold sd_s
  rw [Nat.beq_refl]
  rfl
theorem sd_sn (d : sd_T) (f g : Nat) (a : Nat → Int32) (h : Nat.beq g f = false) : sd_s d f a g = d g := by
  unfold sd_s
  rw [h]
  rfl
abbrev sd_x (d : sd_T) : SX := (d 0 0, d 1 0, d 2 0, d 3 0, d 4 0, d 5 0, d 6 0, d 7, d 8, d 9, d 10, d 11, d 12, d 13, d 14, d 15, d 16, d 17, d 18, d 19, d 20, d 21, d 22, d 23, d 24, d 25, d 26, d 27, d 28, d 29, d 30)
abbrev sd_y (c : sd_T) : SY := (c 0 0, c 1 0, c 2, c 3, c 4, c 5, c 6, c 7, c 8, c 9, c 10, c 11, c 12, c 13, c 14, c 15, c 16, c 17)
def sd_b (b : Bool) : Int32 := bif b then 1 else 0
theorem sd_b0 {b : Bool} : sd_b b = 0 ↔ b = false := by cases b <;> decide
theorem sd_b1 {b : Bool} : sd_b b = 1 ↔ b = true := by cases b <;> decide
theorem sd_bi {a b : Bool} (h : sd_b a = sd_b b) : a = b := by revert h; cases a <;> cases b <;> decide
theorem sd_nb (b : Bool) : vp_nar .boolean (sd_b b) = sd_b b := by cases b <;> decide
theorem sd_nb0 : vp_nar .boolean 0 = 0 := by decide
theorem sd_nb1 : vp_nar .boolean 1 = 1 := by decide
theorem sd_nrb (b : Bool) : narrow .boolean (.int (sd_b b)) = .int (sd_b b) := by cases b <;> rfl
theorem sd_bt1 : ∀ i, i < 32 → bt 1 i = decide (i = 0) := by decide +kernel
theorem sd_sh (x : Int32) (k : Nat) (hk : k < 32) : (x >>> (nI k &&& 31)) &&& 1 = sd_b (bt x k) := by
  apply b_ext
  intro i hi
  rw [b_and, b_sshr k hk x hi, sd_bt1 i hi]
  by_cases h : i = 0
  · subst h
    rw [Nat.add_zero, if_pos hk, decide_eq_true rfl, Bool.and_true]
    cases bt x k <;> decide
  · rw [decide_eq_false h, Bool.and_false]
    cases bt x k
    · exact (b_0 i).symm
    · exact ((sd_bt1 i hi).trans (decide_eq_false h)).symm
theorem sd_mk {r i : Nat} (hr : r < 32) (hi : i < 32) : bt ((1 : Int32) <<< (nI r &&& 31)) i = decide (i = r) := by
  rw [b_shl r hr 1 hi, sd_bt1 (i - r) (by omega), Bool.eq_iff_iff]
  simp only [Bool.and_eq_true, decide_eq_true_eq]
  omega
theorem sd_nt (x : Int32) {i : Nat} (hi : i < 32) : bt (x ^^^ (-1)) i = !bt x i := by
  rw [b_xor, b_m1 i hi]
  cases bt x i <;> rfl
theorem sd_cl (x : Int32) {r i : Nat} (hr : r < 32) (hi : i < 32) : bt (x &&& (((1 : Int32) <<< (nI r &&& 31)) ^^^ (-1))) i = (bt x i && !decide (i = r)) := by
  rw [b_and, sd_nt _ hi, sd_mk hr hi]
theorem sd_st (x : Int32) {r i : Nat} (hr : r < 32) (hi : i < 32) : bt (x ||| ((1 : Int32) <<< (nI r &&& 31))) i = (bt x i || decide (i = r)) := by
  rw [b_or, sd_mk hr hi]
theorem sd_z {x : Int32} (h : ∀ i, i < 32 → bt x i = false) : x = 0 := b_ext (fun i hi => (h i hi).trans (b_0 i).symm)
theorem sd_nz {x : Int32} {i : Nat} (h : bt x i = true) : ¬ x = 0 := by
  intro e
  rw [e, b_0] at h
  exact absurd h (by decide)
theorem sd_ao {a b : Int32} (h : ∀ i, i < 32 → (bt a i && bt b i) = false) : a + b = a ||| b := by
  apply Int32.toBitVec_inj.mp
  rw [Int32.toBitVec_add, Int32.toBitVec_or]
  apply BitVec.add_eq_or_of_and_eq_zero
  apply BitVec.eq_of_getLsbD_eq
  intro i hi
  rw [BitVec.getLsbD_and, BitVec.getLsbD_zero]
  exact h i hi
theorem sd_m1t : ∀ l, l < 32 → ∀ i, i < 32 → bt (((1 : Int32) <<< (nI l &&& 31)) - 1) i = decide (i < l) := by decide +kernel
/-- the lowest bit is taken out -/
theorem sd_pop {x : Int32} {l i : Nat} (hl : l < 32) (ht : bt x l = true) (hf : ∀ j, j < l → bt x j = false) (hi : i < 32) : bt (x &&& (x - 1)) i = (bt x i && !decide (i = l)) := by
  have e1 : x = (x &&& (((1 : Int32) <<< (nI l &&& 31)) ^^^ (-1))) + ((1 : Int32) <<< (nI l &&& 31)) := by
    rw [sd_ao (fun j hj => by rw [sd_cl x hl hj, sd_mk hl hj]; cases bt x j <;> cases decide (j = l) <;> rfl)]
    apply b_ext
    intro j hj
    rw [b_or, sd_cl x hl hj, sd_mk hl hj]
    by_cases e : j = l
    · subst e; rw [ht, decide_eq_true rfl]; rfl
    · rw [decide_eq_false e]; cases bt x j <;> rfl
  have e2 : x - 1 = (x &&& (((1 : Int32) <<< (nI l &&& 31)) ^^^ (-1))) ||| (((1 : Int32) <<< (nI l &&& 31)) - 1) := by
    rw [← sd_ao (fun j hj => ?_)]
    · generalize hm : ((1 : Int32) <<< (nI l &&& 31)) = m at e1 ⊢
      generalize hy : x &&& (m ^^^ (-1)) = y at e1 ⊢
      rw [e1]
      grind
    · rw [sd_cl x hl hj, sd_m1t l hl j hj]
      by_cases e : j < l
      · rw [hf j e]; rfl
      · rw [decide_eq_false e, Bool.and_false]
  rw [b_and, e2, b_or, sd_cl x hl hi, sd_m1t l hl i hi]
  by_cases e : i < l
  · rw [hf i e]; rfl
  · rw [decide_eq_false e, Bool.or_false]; cases bt x i <;> rfl
/-- the least below n, or n -/
def sd_l (p : Nat → Bool) : Nat → Nat
  | 0 => 0
  | n + 1 => if sd_l p n < n then sd_l p n else if p n then n else n + 1
theorem sd_l_le (p : Nat → Bool) (n : Nat) : sd_l p n ≤ n := by
  induction n with
  | zero => exact Nat.le_refl 0
  | succ n ih =>
    show (if sd_l p n < n then sd_l p n else if p n then n else n + 1) ≤ n + 1
    split
    · omega
    · split <;> omega
theorem sd_l_t (p : Nat → Bool) (n : Nat) (h : sd_l p n < n) : p (sd_l p n) = true := by
  induction n with
  | zero => omega
  | succ n ih =>
    have e : sd_l p (n + 1) = (if sd_l p n < n then sd_l p n else if p n then n else n + 1) := rfl
    by_cases h1 : sd_l p n < n
    · rw [if_pos h1] at e; rw [e]; exact ih h1
    · rw [if_neg h1] at e
      by_cases h2 : p n = true
      · rw [if_pos h2] at e; rw [e]; exact h2
      · rw [if_neg h2] at e; omega
theorem sd_l_f (p : Nat → Bool) (n i : Nat) (h : i < sd_l p n) : p i = false := by
  induction n with
  | zero => exact absurd h (Nat.not_lt_zero i)
  | succ n ih =>
    have e : sd_l p (n + 1) = (if sd_l p n < n then sd_l p n else if p n then n else n + 1) := rfl
    have le := sd_l_le p n
    by_cases h1 : sd_l p n < n
    · rw [if_pos h1] at e; exact ih (by omega)
    · rw [if_neg h1] at e
      by_cases h2 : p n = true
      · rw [if_pos h2] at e; exact ih (by omega)
      · rw [if_neg h2] at e
        by_cases h3 : i = n
        · rw [h3]; exact Bool.eq_false_iff.mpr h2
        · exact ih (by omega)
theorem sd_l_u {p : Nat → Bool} {n l : Nat} (hl : l < n) (ht : p l = true) (hf : ∀ i, i < l → p i = false) : sd_l p n = l := by
  rcases Nat.lt_trichotomy (sd_l p n) l with h | h | h
  · have a := sd_l_t p n (by omega)
    rw [hf _ h] at a
    exact absurd a (by decide)
  · exact h
  · have a := sd_l_f p n l h
    rw [ht] at a
    exact absurd a (by decide)
theorem sd_l_n {p : Nat → Bool} {n : Nat} (hf : ∀ i, i < n → p i = false) : sd_l p n = n := by
  have le := sd_l_le p n
  rcases Nat.lt_or_eq_of_le le with h | h
  · have a := sd_l_t p n h
    rw [hf _ h] at a
    exact absurd a (by decide)
  · exact h
/-- how many below n -/
def sd_c (p : Nat → Bool) : Nat → Nat
  | 0 => 0
  | n + 1 => sd_c p n + (if p n then 1 else 0)
theorem sd_c_s (p : Nat → Bool) (n : Nat) : sd_c p (n + 1) = sd_c p n + (if p n then 1 else 0) := rfl
theorem sd_c_le (p : Nat → Bool) (n : Nat) : sd_c p n ≤ n := by
  induction n with
  | zero => exact Nat.le_refl 0
  | succ n ih => rw [sd_c_s]; split <;> omega
theorem sd_c_eq {p q : Nat → Bool} {n : Nat} (h : ∀ i, i < n → p i = q i) : sd_c p n = sd_c q n := by
  induction n with
  | zero => rfl
  | succ n ih => rw [sd_c_s, sd_c_s, ih (fun i hi => h i (by omega)), h n (by omega)]
/-- one taken out -/
theorem sd_c_out {p q : Nat → Bool} {n l : Nat} (hl : l < n) (ht : p l = true) (h : ∀ i, i < n → q i = (p i && !decide (i = l))) : sd_c p n = sd_c q n + 1 := by
  induction n with
  | zero => omega
  | succ n ih =>
    rw [sd_c_s, sd_c_s]
    by_cases e : n = l
    · subst e
      have e2 : q n = false := by rw [h n (by omega), decide_eq_true rfl]; cases p n <;> rfl
      rw [ht, e2, sd_c_eq (p := q) (q := p) (fun i hi => by rw [h i (by omega), decide_eq_false (by omega)]; cases p i <;> rfl)]
      simp
    · have e2 : q n = p n := by rw [h n (by omega), decide_eq_false e]; cases p n <;> rfl
      rw [e2, ih (by omega) (fun i hi => h i (by omega))]
      omega
theorem sd_c_2 {p q : Nat → Bool} {n : Nat} (h : ∀ i, i < n → (p i && q i) = false) : sd_c p n + sd_c q n ≤ n := by
  induction n with
  | zero => exact Nat.le_refl 0
  | succ n ih =>
    rw [sd_c_s, sd_c_s]
    have a := ih (fun i hi => h i (by omega))
    have b := h n (by omega)
    cases hp : p n <;> cases hq : q n
    · simp; omega
    · simp; omega
    · simp; omega
    · rw [hp, hq] at b; exact absurd b (by decide)
theorem sd_c_0 {p : Nat → Bool} {n : Nat} (h : sd_c p n = 0) : ∀ i, i < n → p i = false := by
  induction n with
  | zero => intro i hi; omega
  | succ n ih =>
    rw [sd_c_s] at h
    intro i hi
    by_cases e : i = n
    · subst e
      cases hp : p i
      · rfl
      · rw [hp] at h; simp at h
    · exact ih (by omega) i (by omega)
/-- some below n -/
def sd_e (p : Nat → Bool) : Nat → Bool
  | 0 => false
  | n + 1 => sd_e p n || p n
theorem sd_e_t {p : Nat → Bool} {n : Nat} : sd_e p n = true ↔ ∃ i, i < n ∧ p i = true := by
  induction n with
  | zero => exact ⟨fun h => absurd (show false = true from h) (by decide), fun ⟨i, hi, _⟩ => absurd hi (Nat.not_lt_zero i)⟩
  | succ n ih =>
    show (sd_e p n || p n) = true ↔ _
    rw [Bool.or_eq_true, ih]
    constructor
    · rintro (⟨i, hi, h⟩ | h)
      · exact ⟨i, by omega, h⟩
      · exact ⟨n, by omega, h⟩
    · rintro ⟨i, hi, h⟩
      by_cases e : i = n
      · subst e; exact Or.inr h
      · exact Or.inl ⟨i, by omega, h⟩
theorem sd_e_f {p : Nat → Bool} {n : Nat} (h : sd_e p n = false) : ∀ i, i < n → p i = false := by
  intro i hi
  cases hp : p i
  · rfl
  · rw [sd_e_t.mpr ⟨i, hi, hp⟩] at h; exact absurd h (by decide)
/-! index terms -/
theorem sd_m2 (e : Nat) : (2 : Int32) * nI e = nI (2 * e) := pk_mul 2 e
theorem sd_m3 (e : Nat) : (3 : Int32) * nI e = nI (3 * e) := pk_mul 3 e
theorem sd_m4 (e : Nat) : (4 : Int32) * nI e = nI (4 * e) := pk_mul 4 e
theorem sd_m6 (e : Nat) : (6 : Int32) * nI e = nI (6 * e) := pk_mul 6 e
theorem sd_m16 (e : Nat) : (16 : Int32) * nI e = nI (16 * e) := pk_mul 16 e
theorem sd_a1 (e : Nat) : nI e + 1 = nI (e + 1) := nI_add e 1
theorem sd_a2 (e : Nat) : nI e + 2 = nI (e + 2) := nI_add e 2
theorem sd_a3 (e : Nat) : nI e + 3 = nI (e + 3) := nI_add e 3
theorem sd_a4 (e : Nat) : nI e + 4 = nI (e + 4) := nI_add e 4
theorem sd_a5 (e : Nat) : nI e + 5 = nI (e + 5) := nI_add e 5
theorem sd_a16 (e : Nat) : nI e + 16 = nI (e + 16) := nI_add e 16
theorem sd_p16 (e : Nat) : (16 : Int32) + nI e = nI (16 + e) := nI_add 16 e
theorem sd_p2 (e : Nat) : (2 : Int32) + nI e = nI (2 + e) := nI_add 2 e
theorem sd_i16 (s r : Nat) : (16 : Int32) * nI s + nI r = nI (16 * s + r) := by rw [sd_m16, nI_add]
theorem sd_i6 (s r : Nat) : (6 : Int32) * nI s + nI r = nI (6 * s + r) := by rw [sd_m6, nI_add]
theorem sd_i3 (s r : Nat) : (3 : Int32) * nI s + nI r = nI (3 * s + r) := by rw [sd_m3, nI_add]
theorem sd_i4 (s r : Nat) : (4 : Int32) * nI s + nI r = nI (4 * s + r) := by rw [sd_m4, nI_add]
theorem sd_in {n N : Nat} (h : n < N) (hN : N < 1000 := by decide) : vp_in (nI n) N := vp_in_nI h (by omega)
theorem sd_ch {n : Nat} (h : n < 1000) : (nI n).toNatClampNeg = n := nI_clamp (by omega)
theorem sd_ne {a b : Nat} (h : a ≠ b) (ha : a < 1000) (hb : b < 1000) : ¬ nI a = nI b := by rw [nI_eq (by omega) (by omega)]; exact h
theorem sd_nm1 {a : Nat} (ha : a < 1000) : ¬ nI a = -1 := by
  intro e
  have := nI_pos (n := a) (by omega)
  rw [e] at this
  exact this (by decide)
/-! small methods without a state -/
theorem sd_Xhas {post : Int32 → Prop} {x : Int32} {k : Nat} (hk : k < 32) (h : post (sd_b (bt x k))) : wpX_has post x (nI k) := by
  have e := sd_sh x k hk
  cases hb : bt x k
  · rw [hb] at e h
    exact br_f (by rw [e]; decide) h
  · rw [hb] at e h
    exact br_t (by rw [e]; decide) h
theorem sd_Xh1 {post : Int32 → Prop} {x : Int32} {k : Nat} (hk : k < 32) (hb : bt x k = true) (h : post 1) : wpX_has post x (nI k) := sd_Xhas hk (by rw [hb]; exact h)
theorem sd_Xh0 {post : Int32 → Prop} {x : Int32} {k : Nat} (hk : k < 32) (hb : bt x k = false) (h : post 0) : wpX_has post x (nI k) := sd_Xhas hk (by rw [hb]; exact h)
theorem sd_Xleast2 {post : Int32 → Prop} {x : Int32} (h : post (nI (sd_l (bt x) 31))) : ∀ m k n, k + m = 31 → m < n → (∀ i, i < k → bt x i = false) → wX_least_2 post x n (nI k) := by
  intro m
  induction m with
  | zero =>
    intro k n hk hn hf
    obtain ⟨n', rfl⟩ : ∃ n', n = n' + 1 := ⟨n - 1, by omega⟩
    have e : sd_l (bt x) 31 = k := by rw [sd_l_n (fun i hi => hf i (by omega))]; omega
    rw [e] at h
    exact br_t (nI_le (a := 31) (b := k) (by omega) (by omega)) h
  | succ m ih =>
    intro k n hk hn hf
    obtain ⟨n', rfl⟩ : ∃ n', n = n' + 1 := ⟨n - 1, by omega⟩
    refine br_f (nI_ge (a := k) (b := 31) (by omega) (by decide)) ?_
    cases hb : bt x k
    · refine sd_Xh0 (by omega) hb (br_t rfl (nm_r (nI_1 k) (ih (k + 1) n' (by omega) (by omega) ?_)))
      intro i hi
      by_cases e : i = k
      · rw [e]; exact hb
      · exact hf i (by omega)
    · refine sd_Xh1 (by omega) hb (br_f (by decide) ?_)
      rw [sd_l_u (p := bt x) (n := 31) (l := k) (by omega) hb hf] at h
      exact h
theorem sd_Xleast {post : Int32 → Prop} {x : Int32} {l : Nat} (hl : l < 31) (ht : bt x l = true) (hf : ∀ i, i < l → bt x i = false) (h : post (nI l)) : wpX_least post x :=
  ⟨32, sd_Xleast2 (by rw [sd_l_u (p := bt x) (n := 31) hl ht hf]; exact h) 31 0 32 (by omega) (by omega) (fun i hi => absurd hi (Nat.not_lt_zero i))⟩
theorem sd_Xw1 {post : Int32 → Prop} {j n : Nat} (hj : j < n) (hn : n < 1000) (h : post 1) : wpX_within post (nI j) (nI n) := br_f (nI_pos (by omega)) (br_f (nI_ge hj (by omega)) h)
theorem sd_Xw0 {post : Int32 → Prop} {x y : Int32} (hx : x < 0 ∨ y ≤ x) (h : post 0) : wpX_within post x y := br_c (fun _ => h) (fun hn => br_t (hx.resolve_left hn) h)
theorem sd_Yw1 {post : Int32 → Prop} {j n : Nat} (hj : j < n) (hn : n < 1000) (h : post 1) : wpY_in post (nI j) (nI n) := br_f (nI_pos (by omega)) (br_f (nI_ge hj (by omega)) h)
theorem sd_Yw0 {post : Int32 → Prop} {x y : Int32} (hx : x < 0 ∨ y ≤ x) (h : post 0) : wpY_in post x y := br_c (fun _ => h) (fun hn => br_t (hx.resolve_left hn) h)
theorem sd_ix (x : Int32) (n : Nat) (hn : n < 1000) : (x < 0 ∨ nI n ≤ x) ∨ ∃ j, j < n ∧ x = nI j := by
  rcases pk_ix x (n := n) (by omega) with h | h | h
  · exact Or.inl (Or.inl h)
  · exact Or.inl (Or.inr h)
  · exact Or.inr h
/-- a link: -1 or a row -/
def sd_lr (x : Int32) : Prop := x = -1 ∨ ∃ n, n < 16 ∧ x = nI n
theorem sd_link (x : Int32) : (sd_lr x ∧ (∀ post : Int32 → Prop, post 1 → wpX_isLink post x) ∧ (∀ post : Int32 → Prop, post 1 → wpY_isLink post x)) ∨ ((∀ post : Int32 → Prop, post 0 → wpX_isLink post x) ∧ (∀ post : Int32 → Prop, post 0 → wpY_isLink post x)) := by
  by_cases h1 : x < -1
  · exact Or.inr ⟨fun _ h => br_t h1 h, fun _ h => br_t h1 h⟩
  · by_cases h2 : (16 : Int32) ≤ x
    · exact Or.inr ⟨fun _ h => br_f h1 (br_t h2 h), fun _ h => br_f h1 (br_t h2 h)⟩
    · refine Or.inl ⟨?_, fun _ h => br_f h1 (br_f h2 h), fun _ h => br_f h1 (br_f h2 h)⟩
      rcases sd_ix x 16 (by decide) with (h | h) | ⟨j, hj, e⟩
      · left
        apply Int32.toInt_inj.mp
        rw [Int32.lt_iff_toInt_lt] at h h1
        have e1 : (-1 : Int32).toInt = -1 := by decide
        have e0 : (0 : Int32).toInt = 0 := by decide
        omega
      · exact absurd h h2
      · exact Or.inr ⟨j, hj, e⟩
theorem sd_lrb {x : Int32} (h : sd_lr x) : x.toInt8.toInt32 = x := by
  rcases h with rfl | ⟨n, hn, rfl⟩
  · decide
  · exact (by decide +kernel : ∀ n, n < 16 → (nI n).toInt8.toInt32 = nI n) n hn
theorem sd_lrn {x : Int32} (h : sd_lr x) : vp_nar .byte x = x := by rw [vp_nar_byte]; exact sd_lrb h
theorem sd_lrs {x : Int32} (h : sd_lr x) : vp_nar .byte x.toInt8.toInt32 = x := by rw [sd_lrb h]; exact sd_lrn h
theorem sd_lr1 : sd_lr (-1) := Or.inl rfl
theorem sd_lrI {n : Nat} (h : n < 16) : sd_lr (nI n) := Or.inr ⟨n, h, rfl⟩
theorem sd_lr0 : sd_lr 0 := sd_lrI (n := 0) (by decide)
end
section
/-! the relation -/
/-- an entity is dirty -/
def sd_dy (y6 y7 y8 : Nat → Int32) (e : Nat) : Bool := decide (y6 e = 4) && (decide (¬ y7 (3 * e) = y8 (3 * e)) || decide (¬ y7 (3 * e + 1) = y8 (3 * e + 1)) || decide (¬ y7 (3 * e + 2) = y8 (3 * e + 2)))
/-- where a row is for a session -/
def sd_sg (y5 : Nat → Int32) (s r : Nat) : Nat := if y5 r = nI s then 16 + r else r
theorem sd_sg_lt {y5 : Nat → Int32} {s r : Nat} (hr : r < 16) : sd_sg y5 s r < 32 := by unfold sd_sg; split <;> omega
/-- the values of an entity are alike -/
def sd_V (x19 x20 x21 x22 x23 x24 x25 y6 y7 y8 y9 : Nat → Int32) (e : Nat) : Prop :=
  (¬ y6 e = 0 → ¬ y6 e = 3 → x19 e = y7 (3 * e) ∧ x20 e = y7 (3 * e + 1) ∧ x21 e = y7 (3 * e + 2)) ∧
  (y6 e = 4 ∨ y6 e = 5 → x22 e = y8 (3 * e) ∧ x23 e = y8 (3 * e + 1) ∧ x24 e = y8 (3 * e + 2) ∧ x25 e = y9 e)
/-- the store -/
def sd_RS (x0 x1 x2 : Int32) (x7 x8 x9 x10 x11 x12 x13 x14 x15 y2 y3 y4 y5 : Nat → Int32) : Prop :=
  (∀ r, r < 16 → y2 r = sd_b (bt x0 r) ∧ y2 (16 + r) = sd_b (bt x1 r) ∧ y3 r = sd_b (bt x2 r)) ∧
  (∀ r, r < 16 → y4 (4 * r) = x7 r ∧ y4 (4 * r + 1) = x8 r ∧ y4 (4 * r + 2) = x9 r ∧ y4 (4 * r + 3) = x10 r) ∧
  (∀ r, r < 16 → y4 (4 * (16 + r)) = x11 r ∧ y4 (4 * (16 + r) + 1) = x12 r ∧ y4 (4 * (16 + r) + 2) = x13 r ∧ y4 (4 * (16 + r) + 3) = x14 r) ∧
  (∀ q, q < 32 → sd_lr (y4 (4 * q + 2))) ∧
  (∀ r, r < 16 → (y5 r = -1 ∨ y5 r = 0 ∨ y5 r = 1 ∨ y5 r = 2) ∧ ∀ s, s < 3 → bt (x15 s) r = decide (y5 r = nI s)) ∧
  (∀ r, r < 16 → y3 r = 1 → y2 r = 1 ∧ y5 r = -1)
/-- the entities: sorts and values where A says so, dirty bits where B says so -/
def sd_RE (A B : Nat → Prop) (x16 x17 x19 x20 x21 x22 x23 x24 x25 y6 y7 y8 y9 : Nat → Int32) : Prop :=
  (∀ s r, s < 3 → r < 16 → ∃ k, k ≤ 5 ∧ y6 (16 * s + r) = nI k) ∧
  (∀ s r k, s < 3 → r < 16 → 1 ≤ k → k ≤ 5 → A (16 * s + r) → bt (x16 (6 * s + k)) r = decide (y6 (16 * s + r) = nI k)) ∧
  (∀ j i, j < 18 → 16 ≤ i → bt (x16 j) i = false) ∧
  (∀ s r, s < 3 → r < 16 → B (16 * s + r) → bt (x17 s) r = sd_dy y6 y7 y8 (16 * s + r)) ∧
  (∀ e, e < 48 → A e → sd_V x19 x20 x21 x22 x23 x24 x25 y6 y7 y8 y9 e) ∧
  (∀ e, e < 48 → sd_lr (y7 (3 * e + 2)) ∧ sd_lr (y8 (3 * e + 2)) ∧ sd_lr (x21 e))
/-- the rest; g18, g19: the component's late and later -/
def sd_RM (x3 x4 x5 x6 : Int32) (x18 x26 x27 x28 x29 x30 : Nat → Int32) (y0 y1 : Int32) (y10 y11 y15 y16 y17 : Nat → Int32) (g18 : Int32) (g19 : Nat → Int32) : Prop :=
  (∀ i, i < 3 → y11 i = sd_b (bt x3 i)) ∧ x4 = y0 ∧ (∃ m, m ≤ 48 ∧ y0 = nI m) ∧ (∀ k, x26 k = y15 (2 * k) ∧ x27 k = y15 (2 * k + 1)) ∧
  x6 = y1 ∧ (∃ f, f ≤ 16 ∧ y1 = nI f) ∧ x29 = y16 ∧ x18 = y10 ∧ x30 = y17 ∧ x5 = g18 ∧ x28 = g19
def sd_R (A B : Nat → Prop) (c d : sd_T) : Prop :=
  sd_RS (d 0 0) (d 1 0) (d 2 0) (d 7) (d 8) (d 9) (d 10) (d 11) (d 12) (d 13) (d 14) (d 15) (c 2) (c 3) (c 4) (c 5) ∧
  sd_RE A B (d 16) (d 17) (d 19) (d 20) (d 21) (d 22) (d 23) (d 24) (d 25) (c 6) (c 7) (c 8) (c 9) ∧
  sd_RM (d 3 0) (d 4 0) (d 5 0) (d 6 0) (d 18) (d 26) (d 27) (d 28) (d 29) (d 30) (c 0 0) (c 1 0) (c 10) (c 11) (c 15) (c 16) (c 17) (c 18 0) (c 19)
def sd_tt (_ : Nat) : Prop := True
def sd_ex (e0 e : Nat) : Prop := ¬ e = e0
abbrev sd_L (c d : sd_T) : Prop := sd_R sd_tt sd_tt c d
/-! what the store's part says -/
theorem sd_st0 {A B : Nat → Prop} {c d : sd_T} (h : sd_R A B c d) {r : Nat} (hr : r < 16) : c 2 r = sd_b (bt (d 0 0) r) := (h.1.1 r hr).1
theorem sd_st1 {A B : Nat → Prop} {c d : sd_T} (h : sd_R A B c d) {r : Nat} (hr : r < 16) : c 2 (16 + r) = sd_b (bt (d 1 0) r) := (h.1.1 r hr).2.1
theorem sd_st2 {A B : Nat → Prop} {c d : sd_T} (h : sd_R A B c d) {r : Nat} (hr : r < 16) : c 3 r = sd_b (bt (d 2 0) r) := (h.1.1 r hr).2.2
theorem sd_lkr {A B : Nat → Prop} {c d : sd_T} (h : sd_R A B c d) {r : Nat} (hr : r < 16) : c 5 r = -1 ∨ c 5 r = 0 ∨ c 5 r = 1 ∨ c 5 r = 2 := (h.1.2.2.2.2.1 r hr).1
theorem sd_lkb {A B : Nat → Prop} {c d : sd_T} (h : sd_R A B c d) {s r : Nat} (hs : s < 3) (hr : r < 16) : bt (d 15 s) r = decide (c 5 r = nI s) := (h.1.2.2.2.2.1 r hr).2 s hs
theorem sd_cch {A B : Nat → Prop} {c d : sd_T} (h : sd_R A B c d) {r : Nat} (hr : r < 16) (h3 : c 3 r = 1) : c 2 r = 1 ∧ c 5 r = -1 := h.1.2.2.2.2.2 r hr h3
theorem sd_rlr {A B : Nat → Prop} {c d : sd_T} (h : sd_R A B c d) {q : Nat} (hq : q < 32) : sd_lr (c 4 (4 * q + 2)) := h.1.2.2.2.1 q hq
/-- there, as a session sees it: 0 or 1 -/
theorem sd_th01 {A B : Nat → Prop} {c d : sd_T} (h : sd_R A B c d) {q : Nat} (hq : q < 32) : c 2 q = 0 ∨ c 2 q = 1 := by
  by_cases h1 : q < 16
  · rw [sd_st0 h h1]; cases bt (d 0 0) q
    · exact Or.inl rfl
    · exact Or.inr rfl
  · obtain ⟨r, rfl⟩ : ∃ r, q = 16 + r := ⟨q - 16, by omega⟩
    rw [sd_st1 h (r := r) (by omega)]; cases bt (d 1 0) r
    · exact Or.inl rfl
    · exact Or.inr rfl
theorem sd_kd {A B : Nat → Prop} {c d : sd_T} (h : sd_R A B c d) {s r : Nat} (hs : s < 3) (hr : r < 16) : c 6 (16 * s + r) = 0 ∨ c 6 (16 * s + r) = 1 ∨ c 6 (16 * s + r) = 2 ∨ c 6 (16 * s + r) = 3 ∨ c 6 (16 * s + r) = 4 ∨ c 6 (16 * s + r) = 5 := by
  obtain ⟨k, hk, e⟩ := h.2.1.1 s r hs hr
  rw [e]
  match k, hk with
  | 0, _ => exact Or.inl rfl
  | 1, _ => exact Or.inr (Or.inl rfl)
  | 2, _ => exact Or.inr (Or.inr (Or.inl rfl))
  | 3, _ => exact Or.inr (Or.inr (Or.inr (Or.inl rfl)))
  | 4, _ => exact Or.inr (Or.inr (Or.inr (Or.inr (Or.inl rfl))))
  | 5, _ => exact Or.inr (Or.inr (Or.inr (Or.inr (Or.inr rfl))))
  | n + 6, hn => omega
theorem sd_kb {c d : sd_T} (h : sd_L c d) {s r : Nat} (k : Nat) (hs : s < 3) (hr : r < 16) (h1 : 1 ≤ k) (h5 : k ≤ 5) : bt (d 16 (6 * s + k)) r = decide (c 6 (16 * s + r) = nI k) := h.2.1.2.1 s r k hs hr h1 h5 trivial
theorem sd_kh {A B : Nat → Prop} {c d : sd_T} (h : sd_R A B c d) {j i : Nat} (hj : j < 18) (hi : 16 ≤ i) : bt (d 16 j) i = false := h.2.1.2.2.1 j i hj hi
theorem sd_db {c d : sd_T} (h : sd_L c d) {s r : Nat} (hs : s < 3) (hr : r < 16) : bt (d 17 s) r = sd_dy (c 6) (c 7) (c 8) (16 * s + r) := h.2.1.2.2.2.1 s r hs hr trivial
theorem sd_va {c d : sd_T} (h : sd_L c d) {e : Nat} (he : e < 48) : sd_V (d 19) (d 20) (d 21) (d 22) (d 23) (d 24) (d 25) (c 6) (c 7) (c 8) (c 9) e := h.2.1.2.2.2.2.1 e he trivial
theorem sd_elr {A B : Nat → Prop} {c d : sd_T} (h : sd_R A B c d) {e : Nat} (he : e < 48) : sd_lr (c 7 (3 * e + 2)) ∧ sd_lr (c 8 (3 * e + 2)) ∧ sd_lr (d 21 e) := h.2.1.2.2.2.2.2 e he
theorem sd_mo {A B : Nat → Prop} {c d : sd_T} (h : sd_R A B c d) {i : Nat} (hi : i < 3) : c 11 i = sd_b (bt (d 3 0) i) := h.2.2.1 i hi
theorem sd_mo01 {A B : Nat → Prop} {c d : sd_T} (h : sd_R A B c d) {i : Nat} (hi : i < 3) : c 11 i = 0 ∨ c 11 i = 1 := by
  rw [sd_mo h hi]; cases bt (d 3 0) i
  · exact Or.inl rfl
  · exact Or.inr rfl
/-! weaker forms; changes of one entity -/
theorem sd_RE_w {A B A' B' : Nat → Prop} {x16 x17 x19 x20 x21 x22 x23 x24 x25 y6 y7 y8 y9 : Nat → Int32} (h : sd_RE A B x16 x17 x19 x20 x21 x22 x23 x24 x25 y6 y7 y8 y9) (ha : ∀ e, A' e → A e) (hb : ∀ e, B' e → B e) : sd_RE A' B' x16 x17 x19 x20 x21 x22 x23 x24 x25 y6 y7 y8 y9 :=
  ⟨h.1, fun s r k hs hr h1 h5 a => h.2.1 s r k hs hr h1 h5 (ha _ a), h.2.2.1, fun s r hs hr b => h.2.2.2.1 s r hs hr (hb _ b), fun e he a => h.2.2.2.2.1 e he (ha _ a), h.2.2.2.2.2⟩
theorem sd_R_w {A B A' B' : Nat → Prop} {c d : sd_T} (h : sd_R A B c d) (ha : ∀ e, A' e → A e) (hb : ∀ e, B' e → B e) : sd_R A' B' c d := ⟨h.1, sd_RE_w h.2.1 ha hb, h.2.2⟩
/-- arrays alike but at one entity -/
def sd_al (e0 : Nat) (f g : Nat → Int32) : Prop := ∀ e, ¬ e = e0 → g e = f e
def sd_al3 (e0 : Nat) (f g : Nat → Int32) : Prop := ∀ e, ¬ e = e0 → g (3 * e) = f (3 * e) ∧ g (3 * e + 1) = f (3 * e + 1) ∧ g (3 * e + 2) = f (3 * e + 2)
theorem sd_al_r (e0 : Nat) (f : Nat → Int32) : sd_al e0 f f := fun _ _ => rfl
theorem sd_al_u (e0 : Nat) (f : Nat → Int32) (v : Int32) : sd_al e0 f (upd f e0 v) := fun _ he => pk_un he
theorem sd_al3_r (e0 : Nat) (f : Nat → Int32) : sd_al3 e0 f f := fun _ _ => ⟨rfl, rfl, rfl⟩
def sd_u3 (f : Nat → Int32) (i : Nat) (a b c : Int32) : Nat → Int32 := upd (upd (upd f i a) (i + 1) b) (i + 2) c
theorem sd_u3_0 {f : Nat → Int32} {i : Nat} {a b c : Int32} : sd_u3 f i a b c i = a := by
  unfold sd_u3; rw [pk_un (by omega), pk_un (by omega), pk_us]
theorem sd_u3_1 {f : Nat → Int32} {i : Nat} {a b c : Int32} : sd_u3 f i a b c (i + 1) = b := by
  unfold sd_u3; rw [pk_un (by omega), pk_us]
theorem sd_u3_2 {f : Nat → Int32} {i : Nat} {a b c : Int32} : sd_u3 f i a b c (i + 2) = c := by
  unfold sd_u3; rw [pk_us]
theorem sd_u3_n {f : Nat → Int32} {i j : Nat} {a b c : Int32} (h : j < i ∨ i + 2 < j) : sd_u3 f i a b c j = f j := by
  unfold sd_u3; rw [pk_un (by omega), pk_un (by omega), pk_un (by omega)]
theorem sd_al3_u (e0 : Nat) (f : Nat → Int32) (a b c : Int32) : sd_al3 e0 f (sd_u3 f (3 * e0) a b c) := fun e he => ⟨sd_u3_n (by omega), sd_u3_n (by omega), sd_u3_n (by omega)⟩
theorem sd_al3_1 (e0 k : Nat) (hk : k < 3) (f : Nat → Int32) (a : Int32) : sd_al3 e0 f (upd f (3 * e0 + k) a) := fun e he => ⟨pk_un (by omega), pk_un (by omega), pk_un (by omega)⟩
theorem sd_V_al {e0 e : Nat} {x19 x20 x21 x22 x23 x24 x25 y6 y7 y8 y9 z19 z20 z21 z22 z23 z24 z25 w6 w7 w8 w9 : Nat → Int32} (he : ¬ e = e0) (h : sd_V x19 x20 x21 x22 x23 x24 x25 y6 y7 y8 y9 e)
    (a19 : sd_al e0 x19 z19) (a20 : sd_al e0 x20 z20) (a21 : sd_al e0 x21 z21) (a22 : sd_al e0 x22 z22) (a23 : sd_al e0 x23 z23) (a24 : sd_al e0 x24 z24) (a25 : sd_al e0 x25 z25)
    (a6 : sd_al e0 y6 w6) (a7 : sd_al3 e0 y7 w7) (a8 : sd_al3 e0 y8 w8) (a9 : sd_al e0 y9 w9) : sd_V z19 z20 z21 z22 z23 z24 z25 w6 w7 w8 w9 e := by
  unfold sd_V at h ⊢
  rw [a19 e he, a20 e he, a21 e he, a22 e he, a23 e he, a24 e he, a25 e he, a6 e he, a9 e he, (a7 e he).1, (a7 e he).2.1, (a7 e he).2.2, (a8 e he).1, (a8 e he).2.1, (a8 e he).2.2]
  exact h
theorem sd_dy_al {e0 e : Nat} {y6 y7 y8 w6 w7 w8 : Nat → Int32} (he : ¬ e = e0) (a6 : sd_al e0 y6 w6) (a7 : sd_al3 e0 y7 w7) (a8 : sd_al3 e0 y8 w8) : sd_dy w6 w7 w8 e = sd_dy y6 y7 y8 e := by
  unfold sd_dy
  rw [a6 e he, (a7 e he).1, (a7 e he).2.1, (a7 e he).2.2, (a8 e he).1, (a8 e he).2.1, (a8 e he).2.2]
/-- one entity changes on both sides: the others stay related -/
theorem sd_RE_al {A B : Nat → Prop} {e0 : Nat} {x16 x17 x19 x20 x21 x22 x23 x24 x25 y6 y7 y8 y9 z19 z20 z21 z22 z23 z24 z25 w6 w7 w8 w9 : Nat → Int32} (h : sd_RE A B x16 x17 x19 x20 x21 x22 x23 x24 x25 y6 y7 y8 y9)
    (hA : ∀ e, sd_ex e0 e → A e) (hB : ∀ e, sd_ex e0 e → B e) (hk : ∃ k, k ≤ 5 ∧ w6 e0 = nI k) (hl : sd_lr (w7 (3 * e0 + 2)) ∧ sd_lr (w8 (3 * e0 + 2)) ∧ sd_lr (z21 e0))
    (a19 : sd_al e0 x19 z19) (a20 : sd_al e0 x20 z20) (a21 : sd_al e0 x21 z21) (a22 : sd_al e0 x22 z22) (a23 : sd_al e0 x23 z23) (a24 : sd_al e0 x24 z24) (a25 : sd_al e0 x25 z25)
    (a6 : sd_al e0 y6 w6) (a7 : sd_al3 e0 y7 w7) (a8 : sd_al3 e0 y8 w8) (a9 : sd_al e0 y9 w9) : sd_RE (sd_ex e0) (sd_ex e0) x16 x17 z19 z20 z21 z22 z23 z24 z25 w6 w7 w8 w9 := by
  refine ⟨?_, ?_, h.2.2.1, ?_, ?_, ?_⟩
  · intro s r hs hr
    by_cases e : 16 * s + r = e0
    · rw [e]; exact hk
    · rw [a6 _ e]; exact h.1 s r hs hr
  · intro s r k hs hr h1 h5 a
    rw [a6 _ a]
    exact h.2.1 s r k hs hr h1 h5 (hA _ a)
  · intro s r hs hr b
    rw [sd_dy_al b a6 a7 a8]
    exact h.2.2.2.1 s r hs hr (hB _ b)
  · intro e he a
    exact sd_V_al a (h.2.2.2.2.1 e he (hA _ a)) a19 a20 a21 a22 a23 a24 a25 a6 a7 a8 a9
  · intro e he
    by_cases e1 : e = e0
    · rw [e1]; exact hl
    · rw [(a7 e e1).2.2, (a8 e e1).2.2, a21 e e1]; exact h.2.2.2.2.2 e he
/-- the entity's own sort and values come back -/
theorem sd_RE_so {s r k : Nat} (hs : s < 3) (hr : r < 16) (hk : k ≤ 5) {x16 a16 x17 x19 x20 x21 x22 x23 x24 x25 y6 y7 y8 y9 : Nat → Int32} (h : sd_RE (sd_ex (16 * s + r)) (sd_ex (16 * s + r)) x16 x17 x19 x20 x21 x22 x23 x24 x25 y6 y7 y8 y9)
    (hv : sd_V x19 x20 x21 x22 x23 x24 x25 y6 y7 y8 y9 (16 * s + r)) (h6 : y6 (16 * s + r) = nI k)
    (ha : ∀ j i, j < 18 → i < 32 → bt (a16 j) i = if i = r ∧ 6 * s + 1 ≤ j ∧ j ≤ 6 * s + 5 then decide (j = 6 * s + k) else bt (x16 j) i) :
    sd_RE sd_tt (sd_ex (16 * s + r)) a16 x17 x19 x20 x21 x22 x23 x24 x25 y6 y7 y8 y9 := by
  refine ⟨h.1, ?_, ?_, h.2.2.2.1, ?_, h.2.2.2.2.2⟩
  · intro s' r' k' hs' hr' h1 h5 _
    rw [ha _ _ (by omega) (by omega)]
    by_cases e : r' = r ∧ 6 * s + 1 ≤ 6 * s' + k' ∧ 6 * s' + k' ≤ 6 * s + 5
    · have e1 : s' = s := by omega
      obtain ⟨e2, -, -⟩ := e
      subst e1 e2
      rw [if_pos (by omega), h6, Bool.eq_iff_iff, decide_eq_true_eq, decide_eq_true_eq, nI_eq (by omega) (by omega)]
      omega
    · rw [if_neg e]
      refine h.2.1 s' r' k' hs' hr' h1 h5 ?_
      intro e2
      exact e (by omega)
  · intro j i hj hi
    by_cases h32 : i < 32
    · rw [ha j i hj h32, if_neg (by omega)]; exact h.2.2.1 j i hj hi
    · exact b_big (by omega)
  · intro e he _
    by_cases e1 : e = 16 * s + r
    · rw [e1]; exact hv
    · exact h.2.2.2.2.1 e he e1
/-- the dirty bit comes back -/
theorem sd_RE_di {s r : Nat} (hs : s < 3) (hr : r < 16) {x16 x17 x19 x20 x21 x22 x23 x24 x25 y6 y7 y8 y9 : Nat → Int32} {v : Int32} (h : sd_RE sd_tt (sd_ex (16 * s + r)) x16 x17 x19 x20 x21 x22 x23 x24 x25 y6 y7 y8 y9)
    (hv : ∀ i, i < 16 → bt v i = if i = r then sd_dy y6 y7 y8 (16 * s + r) else bt (x17 s) i) : sd_RE sd_tt sd_tt x16 (upd x17 s v) x19 x20 x21 x22 x23 x24 x25 y6 y7 y8 y9 := by
  refine ⟨h.1, h.2.1, h.2.2.1, ?_, h.2.2.2.2⟩
  intro s' r' hs' hr' _
  by_cases e : s' = s
  · subst e
    rw [pk_us, hv r' hr']
    by_cases e2 : r' = r
    · rw [if_pos e2, e2]
    · rw [if_neg e2]
      refine h.2.2.2.1 s' r' hs hr' ?_
      intro z
      exact e2 (by omega)
  · rw [pk_un e]
    refine h.2.2.2.1 s' r' hs' hr' ?_
    intro z
    exact e (by omega)
end
section
/-! the component's small methods -/
theorem sd_Xcmp57 {c d : sd_T} {s r : Nat} (o : Bool) (hs : s < 3) (hr : r < 16) (h : sd_R sd_tt (sd_ex (16 * s + r)) c d)
    (ho : c 6 (16 * s + r) = 4 → o = (decide (¬ c 7 (3 * (16 * s + r)) = c 8 (3 * (16 * s + r))) || decide (¬ c 7 (3 * (16 * s + r) + 1) = c 8 (3 * (16 * s + r) + 1)) || decide (¬ c 7 (3 * (16 * s + r) + 2) = c 8 (3 * (16 * s + r) + 2)))) :
    ∃ d', sd_L c d' ∧ ∀ post : SX → Prop, post (sd_x d') → wX_compare_57 post (nI s) (nI r) (sd_b o) (d 0 0) (d 1 0) (d 2 0) (d 3 0) (d 4 0) (d 5 0) (d 6 0) (d 7) (d 8) (d 9) (d 10) (d 11) (d 12) (d 13) (d 14) (d 15) (d 16) (d 17) (d 18) (d 19) (d 20) (d 21) (d 22) (d 23) (d 24) (d 25) (d 26) (d 27) (d 28) (d 29) (d 30) := by
  have hin : vp_in (nI s) 3 := sd_in hs
  have hdy : sd_dy (c 6) (c 7) (c 8) (16 * s + r) = (decide (c 6 (16 * s + r) = 4) && o) := by
    unfold sd_dy
    by_cases z : c 6 (16 * s + r) = 4
    · rw [ho z]
    · rw [decide_eq_false z]; rfl
  have h4 : bt (d 16 (6 * s + 4)) r = decide (c 6 (16 * s + r) = 4) := h.2.1.2.1 s r 4 hs hr (by decide) (by decide) trivial
  have e64 : (6 : Int32) * nI s + 4 = nI (6 * s + 4) := by rw [sd_m6, sd_a4]
  have hcl : c 6 (16 * s + r) ≠ 4 ∨ o = false → sd_L c (sd_s d 17 (upd (d 17) s (d 17 s &&& (((1 : Int32) <<< (nI r &&& 31)) ^^^ (-1))))) := by
    intro hz
    refine ⟨h.1, sd_RE_di hs hr h.2.1 ?_, h.2.2⟩
    intro i hi
    rw [sd_cl _ (by omega) (by omega)]
    by_cases e : i = r
    · rw [if_pos e, decide_eq_true e, hdy]
      rcases hz with hz | hz
      · rw [decide_eq_false hz]; cases bt (d 17 s) i <;> rfl
      · rw [hz]; cases bt (d 17 s) i <;> cases decide (c 6 (16 * s + r) = 4) <;> rfl
    · rw [if_neg e, decide_eq_false e]; cases bt (d 17 s) i <;> rfl
  cases o
  · refine ⟨_, hcl (Or.inr rfl), fun post hp => ?_⟩
    unfold wX_compare_57
    rw [sd_ch (n := s) (by omega)]
    exact ⟨hin, hin, nm_e (br_t rfl hp)⟩
  · by_cases z : c 6 (16 * s + r) = 4
    · refine ⟨sd_s d 17 (upd (d 17) s ((d 17 s &&& (((1 : Int32) <<< (nI r &&& 31)) ^^^ (-1))) ||| ((1 : Int32) <<< (nI r &&& 31)))), ⟨h.1, sd_RE_di hs hr h.2.1 ?_, h.2.2⟩, fun post hp => ?_⟩
      · intro i hi
        rw [sd_st _ (by omega) (by omega), sd_cl _ (by omega) (by omega)]
        by_cases e : i = r
        · rw [if_pos e, decide_eq_true e, hdy, decide_eq_true z]; cases bt (d 17 s) i <;> rfl
        · rw [if_neg e, decide_eq_false e]; cases bt (d 17 s) i <;> rfl
      · unfold wX_compare_57
        rw [sd_ch (n := s) (by omega), e64, sd_ch (n := 6 * s + 4) (by omega)]
        refine ⟨hin, hin, nm_e (br_f (by decide) ⟨sd_in (by omega), sd_Xh1 (by omega) (by rw [h4, decide_eq_true z]) (br_f (by decide) ⟨hin, hin, nm_r (e' := upd (d 17) s ((d 17 s &&& (((1 : Int32) <<< (nI r &&& 31)) ^^^ (-1))) ||| ((1 : Int32) <<< (nI r &&& 31)))) ?_ hp⟩)⟩)⟩
        funext j
        by_cases e : j = s
        · subst e; rw [pk_us, pk_us, pk_us]
        · rw [pk_un e, pk_un e, pk_un e]
    · refine ⟨_, hcl (Or.inl z), fun post hp => ?_⟩
      unfold wX_compare_57
      rw [sd_ch (n := s) (by omega), e64, sd_ch (n := 6 * s + 4) (by omega)]
      exact ⟨hin, hin, nm_e (br_f (by decide) ⟨sd_in (by omega), sd_Xh0 (by omega) (by rw [h4, decide_eq_false z]) (br_t rfl hp)⟩)⟩
theorem sd_Xcmp {c d : sd_T} {s r : Nat} (hs : s < 3) (hr : r < 16) (h : sd_R sd_tt (sd_ex (16 * s + r)) c d) :
    ∃ d', sd_L c d' ∧ ∀ post : SX → Prop, post (sd_x d') → wpX_compare post (sd_x d) (nI s) (nI r) := by
  have hin : vp_in (nI (16 * s + r)) 48 := sd_in (by omega)
  have hv := h.2.1.2.2.2.2.1 (16 * s + r) (by omega) trivial
  have h4 : c 6 (16 * s + r) = 4 → d 19 (16 * s + r) = c 7 (3 * (16 * s + r)) ∧ d 20 (16 * s + r) = c 7 (3 * (16 * s + r) + 1) ∧ d 21 (16 * s + r) = c 7 (3 * (16 * s + r) + 2) ∧ d 22 (16 * s + r) = c 8 (3 * (16 * s + r)) ∧ d 23 (16 * s + r) = c 8 (3 * (16 * s + r) + 1) ∧ d 24 (16 * s + r) = c 8 (3 * (16 * s + r) + 2) := by
    intro z
    obtain ⟨a, b, e⟩ := hv.1 (by rw [z]; decide) (by rw [z]; decide)
    obtain ⟨a2, b2, e2, _⟩ := hv.2 (Or.inl z)
    exact ⟨a, b, e, a2, b2, e2⟩
  by_cases h1 : d 19 (16 * s + r) = d 22 (16 * s + r)
  · by_cases h2 : d 20 (16 * s + r) = d 23 (16 * s + r)
    · by_cases h3 : d 21 (16 * s + r) = d 24 (16 * s + r)
      · obtain ⟨d', hd, w⟩ := sd_Xcmp57 false hs hr h (by
          intro z
          obtain ⟨a, b, e, a2, b2, e2⟩ := h4 z
          rw [← a, ← b, ← e, ← a2, ← b2, ← e2, h1, h2, h3]
          simp)
        refine ⟨d', hd, fun post hp => ?_⟩
        unfold wpX_compare
        refine nm_r (e' := nI (16 * s + r)) (sd_i16 s r) ?_
        rw [sd_ch (n := 16 * s + r) (by omega)]
        exact ⟨hin, hin, br_t h1 ⟨hin, hin, br_t h2 ⟨hin, hin, br_t h3 (w post hp)⟩⟩⟩
      · obtain ⟨d', hd, w⟩ := sd_Xcmp57 true hs hr h (by
          intro z
          obtain ⟨a, b, e, a2, b2, e2⟩ := h4 z
          rw [← e, ← e2, decide_eq_true h3, Bool.or_true])
        refine ⟨d', hd, fun post hp => ?_⟩
        unfold wpX_compare
        refine nm_r (e' := nI (16 * s + r)) (sd_i16 s r) ?_
        rw [sd_ch (n := 16 * s + r) (by omega)]
        exact ⟨hin, hin, br_t h1 ⟨hin, hin, br_t h2 ⟨hin, hin, br_f h3 (w post hp)⟩⟩⟩
    · obtain ⟨d', hd, w⟩ := sd_Xcmp57 true hs hr h (by
        intro z
        obtain ⟨a, b, e, a2, b2, e2⟩ := h4 z
        rw [← b, ← b2, decide_eq_true h2, Bool.or_true, Bool.true_or])
      refine ⟨d', hd, fun post hp => ?_⟩
      unfold wpX_compare
      refine nm_r (e' := nI (16 * s + r)) (sd_i16 s r) ?_
      rw [sd_ch (n := 16 * s + r) (by omega)]
      exact ⟨hin, hin, br_t h1 ⟨hin, hin, br_f h2 (w post hp)⟩⟩
  · obtain ⟨d', hd, w⟩ := sd_Xcmp57 true hs hr h (by
      intro z
      obtain ⟨a, b, e, a2, b2, e2⟩ := h4 z
      rw [← a, ← a2, decide_eq_true h1, Bool.true_or, Bool.true_or])
    refine ⟨d', hd, fun post hp => ?_⟩
    unfold wpX_compare
    refine nm_r (e' := nI (16 * s + r)) (sd_i16 s r) ?_
    rw [sd_ch (n := 16 * s + r) (by omega)]
    exact ⟨hin, hin, br_f h1 (w post hp)⟩
theorem sd_Xbec3 {c d : sd_T} {s r k : Nat} (hs : s < 3) (hr : r < 16) (hk : k ≤ 5) (h : sd_R (sd_ex (16 * s + r)) (sd_ex (16 * s + r)) c d)
    (hv : sd_V (d 19) (d 20) (d 21) (d 22) (d 23) (d 24) (d 25) (c 6) (c 7) (c 8) (c 9) (16 * s + r)) (h6 : c 6 (16 * s + r) = nI k) :
    ∀ m j, j + m = 6 → 1 ≤ j → ∀ a : Nat → Int32, (∀ q i, q < 18 → i < 32 → bt (a q) i = if i = r ∧ 6 * s + 1 ≤ q ∧ q < 6 * s + j then false else bt (d 16 q) i) →
    ∃ d', sd_L c d' ∧ ∀ (n : Nat) (post : SX → Prop), m < n → post (sd_x d') → wX_become_3 post (nI s) (nI r) (nI k) (d 0 0) (d 1 0) (d 2 0) (d 3 0) (d 4 0) (d 5 0) (d 6 0) n (nI j) (d 7) (d 8) (d 9) (d 10) (d 11) (d 12) (d 13) (d 14) (d 15) a (d 17) (d 18) (d 19) (d 20) (d 21) (d 22) (d 23) (d 24) (d 25) (d 26) (d 27) (d 28) (d 29) (d 30) := by
  intro m
  induction m with
  | zero =>
    intro j hj h1 a ha
    by_cases hk0 : k = 0
    · subst hk0
      obtain ⟨d', hd, w⟩ := sd_Xcmp (c := c) (d := sd_s d 16 a) hs hr ⟨h.1, sd_RE_so hs hr hk h.2.1 hv h6 (by
        intro q i hq hi
        rw [sd_se, ha q i hq hi]
        by_cases e : i = r ∧ 6 * s + 1 ≤ q ∧ q ≤ 6 * s + 5
        · rw [if_pos (by omega), if_pos e, decide_eq_false (by omega)]
        · rw [if_neg (by omega), if_neg e]), h.2.2⟩
      refine ⟨d', hd, fun n post hn hp => ?_⟩
      obtain ⟨n', rfl⟩ : ∃ n', n = n' + 1 := ⟨n - 1, by omega⟩
      refine br_t (nI_lt (a := 5) (b := j) (by omega) (by omega)) (br_t (by decide) ?_)
      unfold wX_become_56
      exact w _ hp
    · obtain ⟨d', hd, w⟩ := sd_Xcmp (c := c) (d := sd_s d 16 (upd a (6 * s + k) (a (6 * s + k) ||| ((1 : Int32) <<< (nI r &&& 31))))) hs hr ⟨h.1, sd_RE_so hs hr hk h.2.1 hv h6 (by
        intro q i hq hi
        rw [sd_se]
        by_cases eq : q = 6 * s + k
        · subst eq
          rw [pk_us, sd_st _ (by omega) hi, ha _ i hq hi]
          by_cases e : i = r
          · rw [if_pos (by omega), if_pos (by omega), decide_eq_true e, decide_eq_true rfl]; rfl
          · rw [if_neg (by omega), if_neg (by omega), decide_eq_false e, Bool.or_false]
        · rw [pk_un eq, ha q i hq hi]
          by_cases e : i = r ∧ 6 * s + 1 ≤ q ∧ q ≤ 6 * s + 5
          · rw [if_pos (by omega), if_pos e, decide_eq_false eq]
          · rw [if_neg (by omega), if_neg e]), h.2.2⟩
      refine ⟨d', hd, fun n post hn hp => ?_⟩
      obtain ⟨n', rfl⟩ : ∃ n', n = n' + 1 := ⟨n - 1, by omega⟩
      refine br_t (nI_lt (a := 5) (b := j) (by omega) (by omega)) (br_f (nI_nle (by omega) (by omega)) ?_)
      rw [sd_i6, sd_ch (n := 6 * s + k) (by omega)]
      refine ⟨sd_in (by omega), sd_in (by omega), nm_e ?_⟩
      unfold wX_become_56
      exact w _ hp
  | succ m ih =>
    intro j hj h1 a ha
    obtain ⟨d', hd, w⟩ := ih (j + 1) (by omega) (by omega) (upd a (6 * s + j) (a (6 * s + j) &&& (((1 : Int32) <<< (nI r &&& 31)) ^^^ (-1)))) (by
      intro q i hq hi
      by_cases eq : q = 6 * s + j
      · subst eq
        rw [pk_us, sd_cl _ (by omega) hi, ha _ i hq hi, if_neg (by omega)]
        by_cases e : i = r
        · rw [if_pos (by omega), decide_eq_true e]; cases bt (d 16 (6 * s + j)) i <;> rfl
        · rw [if_neg (by omega), decide_eq_false e]; cases bt (d 16 (6 * s + j)) i <;> rfl
      · rw [pk_un eq, ha q i hq hi]
        by_cases e : i = r ∧ 6 * s + 1 ≤ q ∧ q < 6 * s + j
        · rw [if_pos e, if_pos (by omega)]
        · rw [if_neg e, if_neg (by omega)])
    refine ⟨d', hd, fun n post hn hp => ?_⟩
    obtain ⟨n', rfl⟩ : ∃ n', n = n' + 1 := ⟨n - 1, by omega⟩
    refine br_f (nI_nlt (a := 5) (b := j) (by omega) (by omega)) ?_
    rw [sd_i6, sd_ch (n := 6 * s + j) (by omega)]
    exact ⟨sd_in (by omega), sd_in (by omega), nm_e (nm_r (nI_1 j) (w n' post (by omega) hp))⟩
/-- become: the relation but for the entity's sort and dirty bit, its values as they should be -/
theorem sd_Xbec {c d : sd_T} {s r : Nat} (k : Nat) (hs : s < 3) (hr : r < 16) (hk : k ≤ 5) (h : sd_R (sd_ex (16 * s + r)) (sd_ex (16 * s + r)) c d)
    (hv : sd_V (d 19) (d 20) (d 21) (d 22) (d 23) (d 24) (d 25) (c 6) (c 7) (c 8) (c 9) (16 * s + r)) (h6 : c 6 (16 * s + r) = nI k) :
    ∃ d', sd_L c d' ∧ ∀ post : SX → Prop, post (sd_x d') → wpX_become post (sd_x d) (nI s) (nI r) (nI k) := by
  obtain ⟨d', hd, w⟩ := sd_Xbec3 hs hr hk h hv h6 5 1 (by decide) (by decide) (d 16) (fun q i _ _ => by rw [if_neg (by omega)])
  refine ⟨d', hd, fun post hp => ?_⟩
  unfold wpX_become
  exact ⟨6, w 6 post (by decide) hp⟩
end
section
/-! questions -/
abbrev sd_Rs (c d : sd_T) : Prop := sd_RS (d 0 0) (d 1 0) (d 2 0) (d 7) (d 8) (d 9) (d 10) (d 11) (d 12) (d 13) (d 14) (d 15) (c 2) (c 3) (c 4) (c 5)
theorem sd_Xsort2 {post : Int32 → Prop} {c d : sd_T} {s r : Nat} (hs : s < 3) (hr : r < 16) (h : sd_L c d) (hp : post (c 6 (16 * s + r))) : ∀ m j n, j + m = 6 → m < n → 1 ≤ j → (∀ k, 1 ≤ k → k < j → ¬ c 6 (16 * s + r) = nI k) → wX_sort_2 post (nI s) (nI r) (d 0 0) (d 1 0) (d 2 0) (d 3 0) (d 4 0) (d 5 0) (d 6 0) (d 7) (d 8) (d 9) (d 10) (d 11) (d 12) (d 13) (d 14) (d 15) (d 16) (d 17) (d 18) (d 19) (d 20) (d 21) (d 22) (d 23) (d 24) (d 25) (d 26) (d 27) (d 28) (d 29) (d 30) n (nI j) := by
  intro m
  induction m with
  | zero =>
    intro j n hj hn h1 hk
    obtain ⟨n', rfl⟩ : ∃ n', n = n' + 1 := ⟨n - 1, by omega⟩
    refine br_t (nI_lt (a := 5) (b := j) (by omega) (by omega)) ?_
    unfold wX_sort_31
    refine br_f (nI_ge (a := 5) (b := j) (by omega) (by omega)) ?_
    obtain ⟨k, hk5, e⟩ := h.2.1.1 s r hs hr
    by_cases k0 : k = 0
    · subst k0; rw [e] at hp; exact hp
    · exact absurd e (hk k (by omega) (by omega))
  | succ m ih =>
    intro j n hj hn h1 hk
    obtain ⟨n', rfl⟩ : ∃ n', n = n' + 1 := ⟨n - 1, by omega⟩
    refine br_f (nI_nlt (a := 5) (b := j) (by omega) (by omega)) ?_
    rw [sd_i6, sd_ch (n := 6 * s + j) (by omega)]
    refine ⟨sd_in (by omega), ?_⟩
    have hb := sd_kb h j hs hr h1 (by omega)
    by_cases z : c 6 (16 * s + r) = nI j
    · refine sd_Xh1 (by omega) (by rw [hb, decide_eq_true z]) (br_f (by decide) ?_)
      unfold wX_sort_31
      rw [z] at hp
      exact br_t (nI_le (a := j) (b := 5) (by omega) (by omega)) hp
    · refine sd_Xh0 (by omega) (by rw [hb, decide_eq_false z]) (br_t rfl (nm_r (nI_1 j) (ih (j + 1) n' (by omega) (by omega) (by omega) ?_)))
      intro k k1 kj
      by_cases e : k = j
      · rw [e]; exact z
      · exact hk k k1 (by omega)
theorem sd_Xsort {post : Int32 → Prop} {c d : sd_T} {s r : Nat} (hs : s < 3) (hr : r < 16) (h : sd_L c d) (hp : post (c 6 (16 * s + r))) : wpX_sort post (sd_x d) (nI s) (nI r) := by
  unfold wpX_sort
  exact ⟨6, sd_Xsort2 hs hr h hp 5 1 6 (by decide) (by decide) (by decide) (fun k k1 k2 => by omega)⟩
theorem sd_Xon {post : Int32 → Prop} {A B : Nat → Prop} {c d : sd_T} {i : Nat} (hi : i < 3) (h : sd_R A B c d) (hp : post (c 11 i)) : wpX_isOn post (sd_x d) (nI i) := by
  unfold wpX_isOn
  rw [sd_mo h hi] at hp
  exact sd_Xhas (by omega) ⟨sd_nrb _, hp⟩
/-- the rows that a session sees -/
def sd_si (d : sd_T) (s : Nat) : Int32 := (d 0 0 &&& (d 15 s ^^^ (-1))) ||| (d 1 0 &&& d 15 s)
theorem sd_si_b {c d : sd_T} {s r : Nat} (hs : s < 3) (hr : r < 16) (h : sd_Rs c d) : c 2 (sd_sg (c 5) s r) = sd_b (bt (sd_si d s) r) := by
  have h0 := h.1 r hr
  have hl := (h.2.2.2.2.1 r hr).2 s hs
  unfold sd_si sd_sg
  rw [b_or, b_and, b_and, sd_nt _ (by omega), hl]
  by_cases z : c 5 r = nI s
  · rw [if_pos z, decide_eq_true z, h0.2.1]; cases bt (d 0 0) r <;> cases bt (d 1 0) r <;> rfl
  · rw [if_neg z, decide_eq_false z, h0.1]; cases bt (d 0 0) r <;> cases bt (d 1 0) r <;> rfl
theorem sd_Xsi {post : Int32 → Prop} {d : sd_T} {s : Nat} (hs : s < 3) (hp : post (sd_si d s)) : wpX_sight post (sd_x d) (nI s) := by
  unfold wpX_sight
  rw [sd_ch (n := s) (by omega)]
  exact ⟨sd_in hs, sd_in hs, hp⟩
theorem sd_Xseen {post : Int32 → Prop} {c d : sd_T} {s r : Nat} (hs : s < 3) (hr : r < 16) (h : sd_Rs c d) (hp : post (c 2 (sd_sg (c 5) s r))) : wpX_isSeen post (sd_x d) (nI s) (nI r) := by
  rw [sd_si_b hs hr h] at hp
  unfold wpX_isSeen
  refine sd_Xsi (d := d) hs ?_
  exact sd_Xhas (by omega) ⟨sd_nrb _, hp⟩
theorem sd_Xlk {post : Int32 → Prop} {c d : sd_T} {s r : Nat} (hs : s < 3) (hr : r < 16) (h : sd_Rs c d) (hp : post (c 4 (4 * sd_sg (c 5) s r + 2))) : wpX_linkOf post (sd_x d) (nI s) (nI r) := by
  have hl := (h.2.2.2.2.1 r hr).2 s hs
  unfold wpX_linkOf
  rw [sd_ch (n := s) (by omega), sd_ch (n := r) (by omega)]
  refine ⟨sd_in hs, ?_⟩
  unfold sd_sg at hp
  by_cases z : c 5 r = nI s
  · rw [if_pos z, (h.2.2.1 r hr).2.2.1] at hp
    exact sd_Xh1 (by omega) (by rw [hl, decide_eq_true z]) (br_f (by decide) ⟨sd_in hr, hp⟩)
  · rw [if_neg z, (h.2.1 r hr).2.2.1] at hp
    exact sd_Xh0 (by omega) (by rw [hl, decide_eq_false z]) (br_t rfl ⟨sd_in hr, hp⟩)
theorem sd_Xve {post : Int32 → Prop} {c d : sd_T} {s r : Nat} (hs : s < 3) (hr : r < 16) (h : sd_Rs c d) (hp : post (c 4 (4 * sd_sg (c 5) s r + 3))) : wpX_versionOf post (sd_x d) (nI s) (nI r) := by
  have hl := (h.2.2.2.2.1 r hr).2 s hs
  unfold wpX_versionOf
  rw [sd_ch (n := s) (by omega), sd_ch (n := r) (by omega)]
  refine ⟨sd_in hs, ?_⟩
  unfold sd_sg at hp
  by_cases z : c 5 r = nI s
  · rw [if_pos z, (h.2.2.1 r hr).2.2.2] at hp
    exact sd_Xh1 (by omega) (by rw [hl, decide_eq_true z]) (br_f (by decide) ⟨sd_in hr, hp⟩)
  · rw [if_neg z, (h.2.1 r hr).2.2.2] at hp
    exact sd_Xh0 (by omega) (by rw [hl, decide_eq_false z]) (br_t rfl ⟨sd_in hr, hp⟩)
/-- a row is locked by another -/
def sd_bu (y5 : Nat → Int32) (s r : Nat) : Bool := !decide (y5 r = -1) && !decide (y5 r = nI s)
theorem sd_or0 (x : Int32) : (0 : Int32) ||| x = x := by apply b_ext; intro i hi; rw [b_or, b_0]; rfl
theorem sd_Xbu {post : Int32 → Prop} {c d : sd_T} {s r : Nat} (hs : s < 3) (hr : r < 16) (h : sd_Rs c d) (hp : post (sd_b (sd_bu (c 5) s r))) : wpX_isBusy post (sd_x d) (nI s) (nI r) := by
  have hl := fun t ht => (h.2.2.2.2.1 r hr).2 t ht
  have hr4 := (h.2.2.2.2.1 r hr).1
  have l0 : bt (d 15 0) r = decide (c 5 r = 0) := hl 0 (by decide)
  have l1 : bt (d 15 1) r = decide (c 5 r = 1) := hl 1 (by decide)
  have l2 : bt (d 15 2) r = decide (c 5 r = 2) := hl 2 (by decide)
  unfold wpX_isBusy
  match s, hs with
  | 0, _ =>
    refine ⟨4, br_f (by decide) (br_t rfl (nm_r (e' := 1) (by decide) (br_f (by decide) (br_f (by decide) ⟨sd_in (n := 1) (by decide), nm_r (e' := d 15 1) (sd_or0 _) (nm_r (e' := 2) (by decide) (br_f (by decide) (br_f (by decide) ⟨sd_in (n := 2) (by decide), nm_e (nm_r (e' := 3) (by decide) (br_t (by decide) ?_))⟩)))⟩))))⟩
    have e : bt (d 15 1 ||| d 15 2) r = sd_bu (c 5) 0 r := by
      rw [b_or, l1, l2]; unfold sd_bu
      rcases hr4 with z | z | z | z <;> rw [z] <;> decide
    rw [← e] at hp
    exact sd_Xhas (by omega) ⟨sd_nrb _, hp⟩
  | 1, _ =>
    refine ⟨4, br_f (by decide) (br_f (by decide) ⟨sd_in (n := 0) (by decide), nm_r (e' := d 15 0) (sd_or0 _) (nm_r (e' := 1) (by decide) (br_f (by decide) (br_t rfl (nm_r (e' := 2) (by decide) (br_f (by decide) (br_f (by decide) ⟨sd_in (n := 2) (by decide), nm_e (nm_r (e' := 3) (by decide) (br_t (by decide) ?_))⟩))))))⟩)⟩
    have e : bt (d 15 0 ||| d 15 2) r = sd_bu (c 5) 1 r := by
      rw [b_or, l0, l2]; unfold sd_bu
      rcases hr4 with z | z | z | z <;> rw [z] <;> decide
    rw [← e] at hp
    exact sd_Xhas (by omega) ⟨sd_nrb _, hp⟩
  | 2, _ =>
    refine ⟨4, br_f (by decide) (br_f (by decide) ⟨sd_in (n := 0) (by decide), nm_r (e' := d 15 0) (sd_or0 _) (nm_r (e' := 1) (by decide) (br_f (by decide) (br_f (by decide) ⟨sd_in (n := 1) (by decide), nm_e (nm_r (e' := 2) (by decide) (br_f (by decide) (br_t rfl (nm_r (e' := 3) (by decide) (br_t (by decide) ?_)))))⟩)))⟩)⟩
    have e : bt (d 15 0 ||| d 15 1) r = sd_bu (c 5) 2 r := by
      rw [b_or, l0, l1]; unfold sd_bu
      rcases hr4 with z | z | z | z <;> rw [z] <;> decide
    rw [← e] at hp
    exact sd_Xhas (by omega) ⟨sd_nrb _, hp⟩
  | n + 3, hn => omega
/-- wrong and state answer alike -/
theorem sd_wr {A B : Nat → Prop} {c d : sd_T} (h : sd_R A B c d) (x y : Int32) :
    (∃ r : Int32, (r = -1 ∨ r = -2) ∧ (∀ post : Int32 → Prop, post r → wpX_wrong post (sd_x d) x y) ∧ (∀ post : Int32 → Prop, post r → wpY_state post (sd_y c) x y)) ∨
    (∃ s r : Nat, s < 3 ∧ r < 16 ∧ x = nI s ∧ y = nI r ∧ (∀ post : Int32 → Prop, post 0 → wpX_wrong post (sd_x d) (nI s) (nI r)) ∧ (∀ post : Int32 → Prop, post 0 → wpY_state post (sd_y c) (nI s) (nI r))) := by
  have hb : d 18 = c 10 := h.2.2.2.2.2.2.2.2.2.1
  unfold wpX_wrong wpY_state
  rcases sd_ix x 3 (by decide) with hx | ⟨s, hs, rfl⟩
  · exact Or.inl ⟨-1, Or.inl rfl, fun post hp => sd_Xw0 hx (br_t rfl hp), fun post hp => sd_Yw0 hx (br_t rfl hp)⟩
  · rcases sd_ix y 16 (by decide) with hy | ⟨r, hr, rfl⟩
    · exact Or.inl ⟨-1, Or.inl rfl, fun post hp => sd_Xw1 (n := 3) hs (by decide) (br_f (by decide) (sd_Xw0 hy (br_t rfl hp))), fun post hp => sd_Yw1 (n := 3) hs (by decide) (br_f (by decide) (sd_Yw0 hy (br_t rfl hp)))⟩
    · have ec : (nI s).toNatClampNeg = s := sd_ch (by omega)
      by_cases z : c 10 s = 0
      · refine Or.inr ⟨s, r, hs, hr, rfl, rfl, fun post hp => sd_Xw1 (n := 3) hs (by decide) (br_f (by decide) (sd_Xw1 (n := 16) hr (by decide) (br_f (by decide) ⟨sd_in hs, br_t ?_ hp⟩))), fun post hp => sd_Yw1 (n := 3) hs (by decide) (br_f (by decide) (sd_Yw1 (n := 16) hr (by decide) (br_f (by decide) ⟨sd_in hs, br_t ?_ hp⟩)))⟩
        · rw [ec]; show d 18 s = 0; rw [hb]; exact z
        · rw [ec]; exact z
      · refine Or.inl ⟨-2, Or.inr rfl, fun post hp => sd_Xw1 (n := 3) hs (by decide) (br_f (by decide) (sd_Xw1 (n := 16) hr (by decide) (br_f (by decide) ⟨sd_in hs, br_f ?_ hp⟩))), fun post hp => sd_Yw1 (n := 3) hs (by decide) (br_f (by decide) (sd_Yw1 (n := 16) hr (by decide) (br_f (by decide) ⟨sd_in hs, br_f ?_ hp⟩)))⟩
        · rw [ec]; show ¬ d 18 s = 0; rw [hb]; exact z
        · rw [ec]; exact z
theorem sd_Ysg {post : Int32 → Prop} {c : sd_T} {s r : Nat} (hr : r < 16) (hp : post (nI (sd_sg (c 5) s r))) : wpY_sight post (sd_y c) (nI s) (nI r) := by
  unfold wpY_sight
  rw [sd_ch (n := r) (by omega)]
  refine ⟨sd_in hr, ?_⟩
  unfold sd_sg at hp
  by_cases z : c 5 r = nI s
  · rw [if_pos z] at hp; rw [sd_p16]; exact br_t z hp
  · rw [if_neg z] at hp; exact br_f z hp
end
section
/-! manage and fill -/
/-- an entity becomes managed, as a row is in the sight -/
def sd_mg (c : sd_T) (s r : Nat) : sd_T :=
  sd_s (sd_s (sd_s (sd_s c 6 (upd (c 6) (16 * s + r) 4))
    7 (sd_u3 (c 7) (3 * (16 * s + r)) (c 4 (4 * sd_sg (c 5) s r)) (c 4 (4 * sd_sg (c 5) s r + 1)) (c 4 (4 * sd_sg (c 5) s r + 2))))
    8 (sd_u3 (c 8) (3 * (16 * s + r)) (c 4 (4 * sd_sg (c 5) s r)) (c 4 (4 * sd_sg (c 5) s r + 1)) (c 4 (4 * sd_sg (c 5) s r + 2))))
    9 (upd (c 9) (16 * s + r) (c 4 (4 * sd_sg (c 5) s r + 3)))
theorem sd_Ymg_st {post : SY → Prop} {c : sd_T} {e q k n : Nat} (he : e < 48) (hq : q < 32) (hk : k < 3)
    (h : wY_manage_25 post (nI e) (nI q) (c 0 0) (c 1 0) n (nI (k + 1)) (c 2) (c 3) (c 4) (c 5) (c 6) (upd (c 7) (3 * e + k) (c 4 (4 * q + k))) (upd (c 8) (3 * e + k) (c 4 (4 * q + k))) (c 9) (c 10) (c 11) (c 12) (c 13) (c 14) (c 15) (c 16) (c 17)) :
    wY_manage_25 post (nI e) (nI q) (c 0 0) (c 1 0) (n + 1) (nI k) (c 2) (c 3) (c 4) (c 5) (c 6) (c 7) (c 8) (c 9) (c 10) (c 11) (c 12) (c 13) (c 14) (c 15) (c 16) (c 17) := by
  refine br_f (nI_ge (a := k) (b := 3) hk (by decide)) ?_
  rw [sd_i4, sd_i3, sd_ch (n := 4 * q + k) (by omega), sd_ch (n := 3 * e + k) (by omega)]
  exact ⟨sd_in (by omega), sd_in (by omega), nm_e ⟨sd_in (by omega), sd_in (by omega), nm_e (nm_r (nI_1 k) h)⟩⟩
theorem sd_Ymg {post : SY → Prop} {c : sd_T} {s r : Nat} (hs : s < 3) (hr : r < 16) (hp : post (sd_y (sd_mg c s r))) : wpY_manage post (sd_y c) (nI s) (nI r) := by
  have hq : sd_sg (c 5) s r < 32 := sd_sg_lt hr
  unfold wpY_manage
  refine nm_r (e' := nI (16 * s + r)) (sd_i16 s r) ?_
  refine sd_Ysg (c := c) hr ?_
  rw [sd_ch (n := 16 * s + r) (by omega)]
  refine ⟨sd_in (by omega), nm_e ⟨4, ?_⟩⟩
  unfold sd_mg at hp
  generalize sd_sg (c 5) s r = q at hp hq ⊢
  refine sd_Ymg_st (c := sd_s c 6 (upd (c 6) (16 * s + r) 4)) (k := 0) (by omega) hq (by decide) ?_
  refine sd_Ymg_st (c := sd_s (sd_s (sd_s c 6 (upd (c 6) (16 * s + r) 4)) 7 (upd (c 7) (3 * (16 * s + r)) (c 4 (4 * q)))) 8 (upd (c 8) (3 * (16 * s + r)) (c 4 (4 * q)))) (k := 1) (by omega) hq (by decide) ?_
  refine sd_Ymg_st (c := sd_s (sd_s (sd_s c 6 (upd (c 6) (16 * s + r) 4)) 7 (upd (upd (c 7) (3 * (16 * s + r)) (c 4 (4 * q))) (3 * (16 * s + r) + 1) (c 4 (4 * q + 1)))) 8 (upd (upd (c 8) (3 * (16 * s + r)) (c 4 (4 * q))) (3 * (16 * s + r) + 1) (c 4 (4 * q + 1)))) (k := 2) (by omega) hq (by decide) ?_
  refine br_t (by decide) ?_
  rw [sd_m4, sd_a3, sd_ch (n := 4 * q + 3) (by omega), sd_ch (n := 16 * s + r) (by omega)]
  exact ⟨sd_in (by omega), sd_in (by omega), nm_e hp⟩
theorem sd_Xrst {post : SX → Prop} {d : sd_T} {e : Nat} (he : e < 48) (hl : sd_lr (d 24 e))
    (hp : post (sd_x (sd_s (sd_s (sd_s d 19 (upd (d 19) e (d 22 e))) 20 (upd (d 20) e (d 23 e))) 21 (upd (d 21) e (d 24 e))))) : wpX_reset post (sd_x d) (nI e) := by
  unfold wpX_reset
  rw [sd_ch (n := e) (by omega)]
  exact ⟨sd_in he, sd_in he, nm_e ⟨sd_in he, sd_in he, nm_e ⟨sd_in he, sd_in he, nm_r (congrArg (upd (d 21) e) (sd_lrn hl)) hp⟩⟩⟩
theorem sd_Xfill70 {c d : sd_T} {s r : Nat} (hs : s < 3) (hr : r < 16) (h : sd_R (sd_ex (16 * s + r)) (sd_ex (16 * s + r)) c d) (h0 : d 22 (16 * s + r) = c 4 (4 * sd_sg (c 5) s r)) :
    ∃ d', sd_L (sd_mg c s r) d' ∧ ∀ post : SX → Prop, post (sd_x d') → wX_fill_70 post (nI s) (nI r) (nI (16 * s + r)) (c 4 (4 * sd_sg (c 5) s r + 1)) (nI (16 * s + r)) (d 0 0) (d 1 0) (d 2 0) (d 3 0) (d 4 0) (d 5 0) (d 6 0) (d 7) (d 8) (d 9) (d 10) (d 11) (d 12) (d 13) (d 14) (d 15) (d 16) (d 17) (d 18) (d 19) (d 20) (d 21) (d 22) (d 23) (d 24) (d 25) (d 26) (d 27) (d 28) (d 29) (d 30) := by
  have he : vp_in (nI (16 * s + r)) 48 := sd_in (by omega)
  have hlr : sd_lr (c 4 (4 * sd_sg (c 5) s r + 2)) := sd_rlr h (sd_sg_lt hr)
  obtain ⟨d', hd, w⟩ := sd_Xbec (c := sd_mg c s r) (d := sd_s (sd_s (sd_s (sd_s (sd_s (sd_s d 23 (upd (d 23) (16 * s + r) (c 4 (4 * sd_sg (c 5) s r + 1)))) 24 (upd (d 24) (16 * s + r) (c 4 (4 * sd_sg (c 5) s r + 2)))) 25 (upd (d 25) (16 * s + r) (c 4 (4 * sd_sg (c 5) s r + 3))))
      19 (upd (d 19) (16 * s + r) (d 22 (16 * s + r)))) 20 (upd (d 20) (16 * s + r) (upd (d 23) (16 * s + r) (c 4 (4 * sd_sg (c 5) s r + 1)) (16 * s + r)))) 21 (upd (d 21) (16 * s + r) (upd (d 24) (16 * s + r) (c 4 (4 * sd_sg (c 5) s r + 2)) (16 * s + r)))) 4 hs hr (by decide) (by
      refine ⟨h.1, ?_, h.2.2⟩
      refine sd_RE_al (e0 := 16 * s + r) h.2.1 (fun _ z => z) (fun _ z => z) ⟨4, by decide, pk_us⟩ ⟨?_, ?_, ?_⟩ (sd_al_u _ _ _) (sd_al_u _ _ _) (sd_al_u _ _ _) (sd_al_r _ _) (sd_al_u _ _ _) (sd_al_u _ _ _) (sd_al_u _ _ _) (sd_al_u _ _ _) (sd_al3_u _ _ _ _ _) (sd_al3_u _ _ _ _ _) (sd_al_u _ _ _)
      · show sd_lr (sd_u3 _ _ _ _ _ _); rw [sd_u3_2]; exact hlr
      · show sd_lr (sd_u3 _ _ _ _ _ _); rw [sd_u3_2]; exact hlr
      · show sd_lr (upd _ _ (upd _ _ _ _) _); rw [pk_us, pk_us]; exact hlr) (by
      refine ⟨fun _ _ => ⟨?_, ?_, ?_⟩, fun _ => ⟨?_, ?_, ?_, ?_⟩⟩
      · show upd _ _ _ _ = sd_u3 _ _ _ _ _ _; rw [pk_us, sd_u3_0]; exact h0
      · show upd _ _ (upd _ _ _ _) _ = sd_u3 _ _ _ _ _ _; rw [pk_us, pk_us, sd_u3_1]
      · show upd _ _ (upd _ _ _ _) _ = sd_u3 _ _ _ _ _ _; rw [pk_us, pk_us, sd_u3_2]
      · show d 22 _ = sd_u3 _ _ _ _ _ _; rw [sd_u3_0]; exact h0
      · show upd _ _ _ _ = sd_u3 _ _ _ _ _ _; rw [pk_us, sd_u3_1]
      · show upd _ _ _ _ = sd_u3 _ _ _ _ _ _; rw [pk_us, sd_u3_2]
      · show upd _ _ _ _ = upd _ _ _ _; rw [pk_us, pk_us]) pk_us
  refine ⟨d', hd, fun post hp => ?_⟩
  unfold wX_fill_70
  rw [sd_ch (n := 16 * s + r) (by omega)]
  refine ⟨he, nm_e ?_⟩
  refine sd_Xlk (c := c) (d := sd_s d 23 (upd (d 23) (16 * s + r) (c 4 (4 * sd_sg (c 5) s r + 1)))) hs hr h.1 ?_
  rw [sd_lrs hlr]
  refine ⟨he, nm_e ?_⟩
  refine sd_Xve (c := c) (d := sd_s (sd_s d 23 (upd (d 23) (16 * s + r) (c 4 (4 * sd_sg (c 5) s r + 1)))) 24 (upd (d 24) (16 * s + r) (c 4 (4 * sd_sg (c 5) s r + 2)))) hs hr h.1 ?_
  refine ⟨he, nm_e ?_⟩
  refine sd_Xrst (d := sd_s (sd_s (sd_s d 23 (upd (d 23) (16 * s + r) (c 4 (4 * sd_sg (c 5) s r + 1)))) 24 (upd (d 24) (16 * s + r) (c 4 (4 * sd_sg (c 5) s r + 2)))) 25 (upd (d 25) (16 * s + r) (c 4 (4 * sd_sg (c 5) s r + 3)))) (by omega) ?_ ?_
  · show sd_lr (upd (d 24) (16 * s + r) (c 4 (4 * sd_sg (c 5) s r + 2)) (16 * s + r))
    rw [pk_us]; exact hlr
  · exact w _ hp
/-- fill is manage -/
theorem sd_Xfill {A B : Nat → Prop} {c d : sd_T} {s r : Nat} (hs : s < 3) (hr : r < 16) (h : sd_R A B c d) (hA : ∀ e, sd_ex (16 * s + r) e → A e) (hB : ∀ e, sd_ex (16 * s + r) e → B e) :
    ∃ d', sd_L (sd_mg c s r) d' ∧ ∀ post : SX → Prop, post (sd_x d') → wpX_fill post (sd_x d) (nI s) (nI r) := by
  have he : vp_in (nI (16 * s + r)) 48 := sd_in (by omega)
  have hl := sd_lkb h hs hr
  have hx : sd_R (sd_ex (16 * s + r)) (sd_ex (16 * s + r)) c (sd_s d 22 (upd (d 22) (16 * s + r) (c 4 (4 * sd_sg (c 5) s r)))) :=
    ⟨h.1, sd_RE_al (e0 := 16 * s + r) h.2.1 hA hB (h.2.1.1 s r hs hr) (h.2.1.2.2.2.2.2 (16 * s + r) (by omega)) (sd_al_r _ _) (sd_al_r _ _) (sd_al_r _ _) (sd_al_u _ _ _) (sd_al_r _ _) (sd_al_r _ _) (sd_al_r _ _) (sd_al_r _ _) (sd_al3_r _ _) (sd_al3_r _ _) (sd_al_r _ _), h.2.2⟩
  obtain ⟨d', hd, w⟩ := sd_Xfill70 hs hr hx pk_us
  refine ⟨d', hd, fun post hp => ?_⟩
  have h70 := w post hp
  unfold wpX_fill
  refine nm_r (e' := nI (16 * s + r)) (sd_i16 s r) ?_
  rw [sd_ch (n := s) (by omega), sd_ch (n := r) (by omega)]
  refine ⟨sd_in hs, ?_⟩
  by_cases z : c 5 r = nI s
  · have eg : sd_sg (c 5) s r = 16 + r := if_pos z
    rw [eg, (h.1.2.2.1 r hr).1, (h.1.2.2.1 r hr).2.1] at h70
    refine sd_Xh1 (by omega) (by rw [hl, decide_eq_true z]) (br_f (by decide) ⟨sd_in hr, ?_⟩)
    unfold wX_fill_44
    rw [sd_ch (n := 16 * s + r) (by omega), sd_ch (n := r) (by omega)]
    exact ⟨he, nm_e (br_f (by decide) ⟨sd_in hr, h70⟩)⟩
  · have eg : sd_sg (c 5) s r = r := if_neg z
    rw [eg, (h.1.2.1 r hr).1, (h.1.2.1 r hr).2.1] at h70
    refine sd_Xh0 (by omega) (by rw [hl, decide_eq_false z]) (br_t rfl ⟨sd_in hr, ?_⟩)
    unfold wX_fill_44
    rw [sd_ch (n := 16 * s + r) (by omega), sd_ch (n := r) (by omega)]
    exact ⟨he, nm_e (br_t rfl ⟨sd_in hr, h70⟩)⟩
/-! keep, take, load -/
/-- a row that was taken is in the cache, if it may be -/
def sd_kp (c : sd_T) (r : Nat) : sd_T := if c 5 r = -1 ∧ c 2 r = 1 then sd_s c 3 (upd (c 3) r 1) else c
theorem sd_Xkp {c d : sd_T} {r : Nat} (hr : r < 16) (h : sd_L c d) : ∃ d', sd_L (sd_kp c r) d' ∧ ∀ (s : Nat) (post : SX → Prop), post (sd_x d') → wpX_keep post (sd_x d) (nI s) (nI r) := by
  have l0 : bt (d 15 0) r = decide (c 5 r = 0) := sd_lkb h (s := 0) (by decide) hr
  have l1 : bt (d 15 1) r = decide (c 5 r = 1) := sd_lkb h (s := 1) (by decide) hr
  have l2 : bt (d 15 2) r = decide (c 5 r = 2) := sd_lkb h (s := 2) (by decide) hr
  have e : bt (d 15 0 ||| d 15 1 ||| d 15 2) r = !decide (c 5 r = -1) := by
    rw [b_or, b_or, l0, l1, l2]
    rcases sd_lkr h hr with z | z | z | z <;> rw [z] <;> decide
  unfold sd_kp
  by_cases z : c 5 r = -1
  · have e2 := sd_st0 h hr
    cases hb : bt (d 0 0) r
    · rw [hb] at e2
      rw [if_neg (fun w => by rw [e2] at w; exact absurd w.2 (by decide))]
      refine ⟨d, h, fun s post hp => ?_⟩
      unfold wpX_keep
      refine sd_Xh0 (by omega) (by rw [e, decide_eq_true z]; rfl) (br_t rfl ?_)
      unfold wX_keep_32
      exact br_f (by decide) (sd_Xh0 (by omega) hb (br_t rfl hp))
    · rw [hb] at e2
      rw [if_pos ⟨z, e2⟩]
      refine ⟨sd_s d 2 (fun _ => d 2 0 ||| ((1 : Int32) <<< (nI r &&& 31))), ⟨⟨?_, h.1.2.1, h.1.2.2.1, h.1.2.2.2.1, h.1.2.2.2.2.1, ?_⟩, h.2.1, h.2.2⟩, fun s post hp => ?_⟩
      · intro r' hr'
        refine ⟨(h.1.1 r' hr').1, (h.1.1 r' hr').2.1, ?_⟩
        show upd (c 3) r 1 r' = sd_b (bt (d 2 0 ||| ((1 : Int32) <<< (nI r &&& 31))) r')
        rw [sd_st _ (by omega) (by omega)]
        by_cases er : r' = r
        · rw [er, pk_us, decide_eq_true rfl]; cases bt (d 2 0) r <;> rfl
        · rw [pk_un er, decide_eq_false er, Bool.or_false]; exact (h.1.1 r' hr').2.2
      · intro r' hr' h3
        by_cases er : r' = r
        · rw [er]; exact ⟨e2, z⟩
        · exact h.1.2.2.2.2.2 r' hr' ((pk_un er).symm.trans h3)
      · unfold wpX_keep
        refine sd_Xh0 (by omega) (by rw [e, decide_eq_true z]; rfl) (br_t rfl ?_)
        unfold wX_keep_32
        exact br_f (by decide) (sd_Xh1 (by omega) hb (br_f (by decide) (nm_e hp)))
  · rw [if_neg (fun w => z w.1)]
    refine ⟨d, h, fun s post hp => ?_⟩
    unfold wpX_keep
    refine sd_Xh1 (by omega) (by rw [e, decide_eq_false z]; rfl) (br_f (by decide) ?_)
    unfold wX_keep_32
    exact br_t rfl hp
theorem sd_lsx {A B : Nat → Prop} {c d : sd_T} (h : sd_R A B c d) {r : Nat} (hr : r < 16) : 0 ≤ c 5 r ↔ ¬ c 5 r = -1 := by
  rcases sd_lkr h hr with z | z | z | z <;> rw [z] <;> decide
/-- counts -/
def sd_cn (c : sd_T) (k : Nat) : sd_T := sd_s c 17 (upd (c 17) k (c 17 k + 1))
theorem sd_L_cn {c d : sd_T} (h : sd_L c d) (k : Nat) : sd_L (sd_cn c k) (sd_s d 30 (upd (d 30) k (d 30 k + 1))) := by
  have e : d 30 = c 17 := h.2.2.2.2.2.2.2.2.2.2.1
  refine ⟨h.1, h.2.1, h.2.2.1, h.2.2.2.1, h.2.2.2.2.1, h.2.2.2.2.2.1, h.2.2.2.2.2.2.1, h.2.2.2.2.2.2.2.1, h.2.2.2.2.2.2.2.2.1, h.2.2.2.2.2.2.2.2.2.1, ?_, h.2.2.2.2.2.2.2.2.2.2.2⟩
  show upd (d 30) k (d 30 k + 1) = upd (c 17) k (c 17 k + 1)
  rw [e]
theorem sd_mg_kp {c : sd_T} {s r : Nat} {d : sd_T} (h : sd_L (sd_mg (sd_kp c r) s r) d) : sd_L (if c 5 r = -1 ∧ c 2 r = 1 then sd_s (sd_mg c s r) 3 (upd (c 3) r 1) else sd_mg c s r) d := by
  unfold sd_kp at h
  by_cases z : c 5 r = -1 ∧ c 2 r = 1
  · rw [if_pos z] at h ⊢; exact h
  · rw [if_neg z] at h ⊢; exact h
theorem sd_Ytk0 {post : Int32 → SY → Prop} {c : sd_T} {s r : Nat} (hr : r < 16) (z : c 2 (sd_sg (c 5) s r) = 0) (hp : post 0 (sd_y c)) : wpY_take post (sd_y c) (nI s) (nI r) := by
  unfold wpY_take
  refine sd_Ysg (c := c) hr ?_
  rw [sd_ch (n := sd_sg (c 5) s r) (by have := sd_sg_lt (y5 := c 5) (s := s) hr; omega)]
  exact ⟨sd_in (sd_sg_lt hr), br_t z hp⟩
theorem sd_Ytk1 {post : Int32 → SY → Prop} {c d : sd_T} {s r : Nat} (hs : s < 3) (hr : r < 16) (h : sd_L c d) (z : c 2 (sd_sg (c 5) s r) = 1) (hp : post 1 (sd_y (if c 5 r = -1 ∧ c 2 r = 1 then sd_s (sd_mg c s r) 3 (upd (c 3) r 1) else sd_mg c s r))) : wpY_take post (sd_y c) (nI s) (nI r) := by
  unfold wpY_take
  refine sd_Ysg (c := c) hr ?_
  rw [sd_ch (n := sd_sg (c 5) s r) (by have := sd_sg_lt (y5 := c 5) (s := s) hr; omega)]
  refine ⟨sd_in (sd_sg_lt hr), br_f (by rw [z]; decide) ?_⟩
  refine sd_Ymg (c := c) hs hr ?_
  refine ⟨sd_in hr, ?_⟩
  rw [sd_ch (n := r) (by omega)]
  have hl := sd_lsx h hr
  by_cases w : c 5 r = -1
  · have eg : sd_sg (c 5) s r = r := if_neg (by rw [w]; exact fun q => sd_nm1 (a := s) (by omega) q.symm)
    rw [eg] at z
    rw [if_pos ⟨w, z⟩] at hp
    refine br_f (fun q => (hl.mp q) w) ⟨sd_in hr, ?_⟩
    rw [sd_nb1]
    exact nm_e hp
  · rw [if_neg (fun q => w q.1)] at hp
    exact br_t (hl.mpr w) hp
/-- what a load leaves alone -/
def sd_fr (c c' : sd_T) (e0 : Nat) : Prop := (∀ e, ¬ e = e0 → c' 6 e = c 6 e) ∧ c' 11 = c 11 ∧ (∀ e k, ¬ e = e0 → k < 3 → c' 7 (3 * e + k) = c 7 (3 * e + k)) ∧ (∀ e, ¬ e = e0 → c' 9 e = c 9 e)
theorem sd_fr_r (c : sd_T) (e0 : Nat) : sd_fr c c e0 := ⟨fun _ _ => rfl, rfl, fun _ _ _ _ => rfl, fun _ _ => rfl⟩
theorem sd_fr_mg (c : sd_T) (s r : Nat) : sd_fr c (sd_mg c s r) (16 * s + r) :=
  ⟨fun _ he => pk_un he, rfl, fun _ _ he hk => sd_u3_n (by omega), fun _ he => pk_un he⟩
theorem sd_kp_o (c : sd_T) (r f : Nat) (hf : ¬ f = 3) : sd_kp c r f = c f := by
  unfold sd_kp
  split
  · unfold sd_s
    rw [show Nat.beq f 3 = false from by cases hb : Nat.beq f 3; rfl; exact absurd (Nat.eq_of_beq_eq_true hb) hf]
    rfl
  · rfl
/-- load, on both sides: from the cache, from the store, or not -/
theorem sd_Ld {c d : sd_T} {s r : Nat} (hs : s < 3) (hr : r < 16) (h : sd_L c d) : ∃ (a b : Int32) (c' d' : sd_T), sd_L c' d' ∧
    ((a = 0 ∧ b = 0 ∧ c' 6 (16 * s + r) = 4) ∨ (a = 1 ∧ b = 1 ∧ c' 6 (16 * s + r) = 4) ∨ (a = 1 ∧ b = 2 ∧ c' = c)) ∧ sd_fr c c' (16 * s + r) ∧
    (∀ post : Int32 → SX → Prop, post a (sd_x d') → wpX_load post (sd_x d) (nI s) (nI r)) ∧ (∀ post : Int32 → SY → Prop, post b (sd_y c') → wpY_load post (sd_y c) (nI s) (nI r)) := by
  have hc := sd_st2 h hr
  have ec : (nI r).toNatClampNeg = r := sd_ch (by omega)
  cases hb : bt (d 2 0) r
  · rw [hb] at hc
    obtain ⟨d1, h1, w1⟩ := sd_Xkp hr h
    have e2 : sd_kp c r 2 = c 2 := sd_kp_o c r 2 (by decide)
    have e5 : sd_kp c r 5 = c 5 := sd_kp_o c r 5 (by decide)
    rcases sd_th01 h (q := sd_sg (c 5) s r) (sd_sg_lt hr) with z | z
    · have ek : sd_kp c r = c := by
        unfold sd_kp
        refine if_neg (fun w => ?_)
        have eg : sd_sg (c 5) s r = r := if_neg (by rw [w.1]; exact fun q => sd_nm1 (a := s) (by omega) q.symm)
        rw [eg, w.2] at z
        exact absurd z (by decide)
      rw [ek] at h1
      refine ⟨1, 2, c, d1, h1, Or.inr (Or.inr ⟨rfl, rfl, rfl⟩), sd_fr_r _ _, fun post hp => ?_, fun post hp => ?_⟩
      · unfold wpX_load
        refine sd_Xh0 (by omega) hb (br_t rfl (w1 s _ ?_))
        unfold wX_load_32
        refine sd_Xseen (d := d1) hs hr h1.1 ?_
        exact br_t z (br_t rfl hp)
      · unfold wpY_load
        rw [ec]
        exact ⟨sd_in hr, br_t hc (sd_Ytk0 (c := c) hr z (br_t rfl hp))⟩
    · obtain ⟨d2, h2, w2⟩ := sd_Xfill hs hr h1 (fun _ _ => trivial) (fun _ _ => trivial)
      refine ⟨1, 1, (if c 5 r = -1 ∧ c 2 r = 1 then sd_s (sd_mg c s r) 3 (upd (c 3) r 1) else sd_mg c s r), d2, sd_mg_kp h2, Or.inr (Or.inl ⟨rfl, rfl, ?_⟩), ?_, fun post hp => ?_, fun post hp => ?_⟩
      · split
        · exact pk_us
        · exact pk_us
      · split
        · exact sd_fr_mg c s r
        · exact sd_fr_mg c s r
      · unfold wpX_load
        refine sd_Xh0 (by omega) hb (br_t rfl (w1 s _ ?_))
        unfold wX_load_32
        refine sd_Xseen (d := d1) hs hr h1.1 ?_
        rw [e2, e5]
        exact br_f (by rw [z]; decide) (w2 _ (br_t rfl hp))
      · unfold wpY_load
        rw [ec]
        exact ⟨sd_in hr, br_t hc (sd_Ytk1 (c := c) hs hr h z (br_f (by decide) hp))⟩
  · rw [hb] at hc
    obtain ⟨t2, t5⟩ := sd_cch h hr hc
    have eg : sd_sg (c 5) s r = r := if_neg (by rw [t5]; exact fun q => sd_nm1 (a := s) (by omega) q.symm)
    have h1 := sd_L_cn h 1
    obtain ⟨d2, h2, w2⟩ := sd_Xfill hs hr h1 (fun _ _ => trivial) (fun _ _ => trivial)
    refine ⟨0, 0, sd_mg (sd_cn c 1) s r, d2, h2, Or.inl ⟨rfl, rfl, pk_us⟩, sd_fr_mg (sd_cn c 1) s r, fun post hp => ?_, fun post hp => ?_⟩
    · unfold wpX_load
      refine sd_Xh1 (by omega) hb (br_f (by decide) (nm_e ?_))
      unfold wX_load_32
      refine sd_Xseen (c := sd_cn c 1) (d := sd_s d 30 (upd (d 30) 1 (d 30 1 + 1))) hs hr h1.1 ?_
      refine br_f ?_ (w2 _ (br_f (by decide) hp))
      show ¬ c 2 (sd_sg (c 5) s r) = 0
      rw [eg, t2]; decide
    · unfold wpY_load
      rw [ec]
      exact ⟨sd_in hr, br_f (by rw [hc]; decide) (nm_e (sd_Ymg (c := sd_cn c 1) hs hr hp))⟩
end
section
/-! touch -/
theorem sd_o0 (x : Int32) : x ||| 0 = x := by apply b_ext; intro i hi; rw [b_or, b_0, Bool.or_false]
theorem sd_or1 {x : Int32} (h : x = 0 ∨ x = 1) : x ||| 1 = 1 := by rcases h with rfl | rfl <;> decide
theorem sd_tcl {c d : sd_T} {s : Nat} {b0 : Int32} (hs : s < 3) (hb0 : ¬ (2 : Int32) ≤ b0) : ∀ (m q more : Nat) (a L : Int32) (c d : sd_T), q + m = 16 → more ≤ 2 → sd_L c d → (a = 0 ∨ a = 1) →
    (∀ i, i < 32 → bt L i = (decide (q ≤ i ∧ i < 16) && decide (c 6 (16 * s + i) = 3))) →
    ∃ (a' : Int32) (c' d' : sd_T), sd_L c' d' ∧ (a' = 0 ∨ a' = 1) ∧ (∀ e, ¬ c 6 e = 3 → c' 6 e = c 6 e) ∧
    (∀ (n : Nat) (post : Int32 → SX → Prop), 2 - more < n → wX_touch_91 post a' 0 (d' 0 0) (d' 1 0) (d' 2 0) (d' 3 0) (d' 4 0) (d' 5 0) (d' 6 0) (d' 7) (d' 8) (d' 9) (d' 10) (d' 11) (d' 12) (d' 13) (d' 14) (d' 15) (d' 16) (d' 17) (d' 18) (d' 19) (d' 20) (d' 21) (d' 22) (d' 23) (d' 24) (d' 25) (d' 26) (d' 27) (d' 28) (d' 29) (d' 30) → wX_touch_31 post (nI s) 0 n a L (nI more) (d 0 0) (d 1 0) (d 2 0) (d 3 0) (d 4 0) (d 5 0) (d 6 0) (d 7) (d 8) (d 9) (d 10) (d 11) (d 12) (d 13) (d 14) (d 15) (d 16) (d 17) (d 18) (d 19) (d 20) (d 21) (d 22) (d 23) (d 24) (d 25) (d 26) (d 27) (d 28) (d 29) (d 30)) ∧
    (∀ (n : Nat) (post : Int32 → SY → Prop), m < n → wY_touch_96 post b0 a' (c' 0 0) (c' 1 0) (c' 2) (c' 3) (c' 4) (c' 5) (c' 6) (c' 7) (c' 8) (c' 9) (c' 10) (c' 11) (c' 12) (c' 13) (c' 14) (c' 15) (c' 16) (c' 17) → wY_touch_24 post (nI s) b0 n a (nI more) (nI q) (c 0 0) (c 1 0) (c 2) (c 3) (c 4) (c 5) (c 6) (c 7) (c 8) (c 9) (c 10) (c 11) (c 12) (c 13) (c 14) (c 15) (c 16) (c 17)) := by
  intro m
  induction m with
  | zero =>
    intro q more a L c d hq hm h ha hL
    refine ⟨a, c, d, h, ha, fun _ _ => rfl, fun n post hn hp => ?_, fun n post hn hp => ?_⟩
    · obtain ⟨n', rfl⟩ : ∃ n', n = n' + 1 := ⟨n - 1, by omega⟩
      refine br_c (fun _ => hp) (fun _ => br_t rfl (br_t (sd_z ?_) hp))
      intro i hi
      rw [hL i hi, decide_eq_false (by omega)]; rfl
    · obtain ⟨n', rfl⟩ : ∃ n', n = n' + 1 := ⟨n - 1, by omega⟩
      exact br_t (nI_le (a := 16) (b := q) (by omega) (by omega)) hp
  | succ m ih =>
    intro q more a L c d hq hm h ha hL
    have hq16 : ¬ (16 : Int32) ≤ nI q := nI_ge (a := q) (b := 16) (by omega) (by decide)
    have e16 : (16 : Int32) * nI s + nI q = nI (16 * s + q) := sd_i16 s q
    by_cases m2 : more = 2
    · refine ⟨a, c, d, h, ha, fun _ _ => rfl, fun n post hn hp => ?_, fun n post hn hp => ?_⟩
      · obtain ⟨n', rfl⟩ : ∃ n', n = n' + 1 := ⟨n - 1, by omega⟩
        exact br_t (nI_le (a := 2) (b := more) (by omega) (by omega)) hp
      · obtain ⟨n', rfl⟩ : ∃ n', n = n' + 1 := ⟨n - 1, by omega⟩
        exact br_f hq16 (br_f hb0 (br_c (fun _ => hp) (fun _ => br_t (nI_le (a := 2) (b := more) (by omega) (by omega)) hp)))
    · have hm2 : ¬ (2 : Int32) ≤ nI more := nI_ge (a := more) (b := 2) (by omega) (by decide)
      rcases sd_mo01 h (i := 2) (by decide) with z | z
      · refine ⟨a, c, d, h, ha, fun _ _ => rfl, fun n post hn hp => ?_, fun n post hn hp => ?_⟩
        · obtain ⟨n', rfl⟩ : ∃ n', n = n' + 1 := ⟨n - 1, by omega⟩
          exact br_f hm2 (br_t rfl (br_c (fun _ => hp) (fun _ => sd_Xon (i := 2) (by decide) h (br_t z hp))))
        · obtain ⟨n', rfl⟩ : ∃ n', n = n' + 1 := ⟨n - 1, by omega⟩
          exact br_f hq16 (br_f hb0 (br_t z hp))
      · have z' : ¬ c 11 2 = 0 := by rw [z]; decide
        by_cases k3 : c 6 (16 * s + q) = 3
        · have hbq : bt L q = true := by rw [hL q (by omega), decide_eq_true (by omega), decide_eq_true k3]; rfl
          have hbl : ∀ i, i < q → bt L i = false := fun i hi => by rw [hL i (by omega), decide_eq_false (by omega)]; rfl
          obtain ⟨a1, b1, c1, d1, h1, hab, hfr, wx, wy⟩ := sd_Ld hs (r := q) (by omega) h
          have ha1 : a1 = 0 ∨ a1 = 1 := by rcases hab with ⟨e, _⟩ | ⟨e, _⟩ | ⟨e, _⟩ <;> rw [e] <;> decide
          have hor : a ||| a1 = 0 ∨ a ||| a1 = 1 := by rcases ha with rfl | rfl <;> rcases ha1 with rfl | rfl <;> decide
          obtain ⟨a', c', d', h', ha', hk', wx', wy'⟩ := ih (q + 1) (more + 1) (a ||| a1) (L &&& (L - 1)) c1 d1 (by omega) (by omega) h1 hor (by
            intro i hi
            rw [sd_pop (by omega) hbq hbl hi, hL i hi]
            by_cases e : i = q
            · rw [decide_eq_true e, decide_eq_false (p := q + 1 ≤ i ∧ i < 16) (by omega)]; simp
            · rw [decide_eq_false e, hfr.1 (16 * s + i) (by omega)]
              rw [show decide (q + 1 ≤ i ∧ i < 16) = decide (q ≤ i ∧ i < 16) from by rw [Bool.eq_iff_iff, decide_eq_true_eq, decide_eq_true_eq]; omega]
              simp)
          refine ⟨a', c', d', h', ha', ?_, fun n post hn hp => ?_, fun n post hn hp => ?_⟩
          · intro e he
            have hne : ¬ e = 16 * s + q := fun w => he (by rw [w]; exact k3)
            rw [hk' e (by rw [hfr.1 e hne]; exact he), hfr.1 e hne]
          · obtain ⟨n', rfl⟩ : ∃ n', n = n' + 1 := ⟨n - 1, by omega⟩
            refine br_f hm2 (br_t rfl (br_f (sd_nz hbq) (sd_Xon (i := 2) (by decide) h (br_f z' ?_))))
            refine sd_Xleast (l := q) (by omega) hbq hbl (nm_e ?_)
            refine wx _ (nm_e (nm_r (nI_1 more) ?_))
            exact wx' n' post (by omega) hp
          · obtain ⟨n', rfl⟩ : ∃ n', n = n' + 1 := ⟨n - 1, by omega⟩
            refine br_f hq16 (br_f hb0 (br_f z' (br_f hm2 ?_)))
            rw [e16, sd_ch (n := 16 * s + q) (by omega)]
            refine ⟨sd_in (by omega), br_t k3 (nm_r (nI_1 more) (wy _ ?_))⟩
            have wy2 := wy' n' post (by omega) hp
            rcases hab with ⟨e1, e2, _⟩ | ⟨e1, e2, _⟩ | ⟨e1, e2, _⟩
            · rw [e1, sd_o0] at wy2; rw [e2]; exact br_t (by decide) (nm_r (nI_1 q) wy2)
            · rw [e1, sd_or1 ha] at wy2; rw [e2]; exact br_f (by decide) (nm_r (nI_1 q) wy2)
            · rw [e1, sd_or1 ha] at wy2; rw [e2]; exact br_f (by decide) (nm_r (nI_1 q) wy2)
        · obtain ⟨a', c', d', h', ha', hk', wx', wy'⟩ := ih (q + 1) more a L c d (by omega) (by omega) h ha (by
            intro i hi
            rw [hL i hi]
            by_cases e : i = q
            · rw [e, decide_eq_false k3]; simp
            · rw [show decide (q + 1 ≤ i ∧ i < 16) = decide (q ≤ i ∧ i < 16) from by rw [Bool.eq_iff_iff, decide_eq_true_eq, decide_eq_true_eq]; omega])
          refine ⟨a', c', d', h', ha', hk', wx', fun n post hn hp => ?_⟩
          obtain ⟨n', rfl⟩ : ∃ n', n = n' + 1 := ⟨n - 1, by omega⟩
          refine br_f hq16 (br_f hb0 (br_f z' (br_f hm2 ?_)))
          rw [e16, sd_ch (n := 16 * s + q) (by omega)]
          exact ⟨sd_in (by omega), br_f k3 (nm_r (nI_1 q) (wy' n' post (by omega) hp))⟩
theorem sd_up0 (f : Nat → Int32) (k : Nat) : upd f k (f k + 0) = f := by
  funext j
  by_cases e : j = k
  · rw [e, pk_us, Int32.add_zero]
  · rw [pk_un e]
/-- touch, on both sides -/
theorem sd_Tc {c d : sd_T} {s r : Nat} (hs : s < 3) (hr : r < 16) (h : sd_L c d) (k3 : c 6 (16 * s + r) = 3) : ∃ (g : Bool) (c' d' : sd_T), sd_L c' d' ∧ (g = true → c' 6 (16 * s + r) = 4) ∧ (∀ e, ¬ c 6 e = 3 → c' 6 e = c 6 e) ∧
    (∀ post : Int32 → SX → Prop, post (bif g then 0 else -3) (sd_x d') → wpX_touch post (sd_x d) (nI s) (nI r)) ∧ (∀ post : Int32 → SY → Prop, post (sd_b g) (sd_y c') → wpY_touch post (sd_y c) (nI s) (nI r)) := by
  obtain ⟨a, b, c1, d1, h1, hab, hfr, wx, wy⟩ := sd_Ld hs hr h
  have e63 : (6 : Int32) * nI s + 3 = nI (6 * s + 3) := by rw [sd_m6, sd_a3]
  have hb3 : ∀ i, i < 16 → bt (d1 16 (6 * s + 3)) i = decide (c1 6 (16 * s + i) = 3) := fun i hi => sd_kb h1 3 hs hi (by decide) (by decide)
  have hbb : ∀ i, i < 32 → bt (d1 16 (6 * s + 3)) i = (decide (0 ≤ i ∧ i < 16) && decide (c1 6 (16 * s + i) = 3)) := by
    intro i hi
    by_cases e : i < 16
    · rw [hb3 i e, decide_eq_true (p := 0 ≤ i ∧ i < 16) (by omega), Bool.true_and]
    · rw [sd_kh h1 (by omega) (by omega), decide_eq_false (p := 0 ≤ i ∧ i < 16) (by omega), Bool.false_and]
  have hgood : (a = 0 ∨ a = 1) → ¬ (2 : Int32) ≤ b → ((b ≤ 0 ∧ a = 0) ∨ (¬ b ≤ 0 ∧ a = 1)) → c1 6 (16 * s + r) = 4 → ∃ (g : Bool) (c' d' : sd_T), sd_L c' d' ∧ (g = true → c' 6 (16 * s + r) = 4) ∧ (∀ e, ¬ c 6 e = 3 → c' 6 e = c 6 e) ∧
      (∀ post : Int32 → SX → Prop, post (bif g then 0 else -3) (sd_x d') → wpX_touch post (sd_x d) (nI s) (nI r)) ∧ (∀ post : Int32 → SY → Prop, post (sd_b g) (sd_y c') → wpY_touch post (sd_y c) (nI s) (nI r)) := by
    intro ha hb hba k4
    obtain ⟨a', c', d', h', ha', hk', wx', wy'⟩ := sd_tcl (c := c) (d := d) hs hb 16 0 0 a (d1 16 (6 * s + 3)) c1 d1 (by decide) (by decide) h1 ha hbb
    have hkk : ∀ e, ¬ c 6 e = 3 → c' 6 e = c 6 e := by
      intro e he
      have hne : ¬ e = 16 * s + r := fun w => he (by rw [w]; exact k3)
      rw [hk' e (by rw [hfr.1 e hne]; exact he), hfr.1 e hne]
    have hk4 : c' 6 (16 * s + r) = 4 := by rw [hk' _ (by rw [k4]; decide)]; exact k4
    have hX : ∀ post : Int32 → SX → Prop, wX_touch_91 post a' 0 (d' 0 0) (d' 1 0) (d' 2 0) (d' 3 0) (d' 4 0) (d' 5 0) (d' 6 0) (d' 7) (d' 8) (d' 9) (d' 10) (d' 11) (d' 12) (d' 13) (d' 14) (d' 15) (d' 16) (d' 17) (d' 18) (d' 19) (d' 20) (d' 21) (d' 22) (d' 23) (d' 24) (d' 25) (d' 26) (d' 27) (d' 28) (d' 29) (d' 30) → wpX_touch post (sd_x d) (nI s) (nI r) := by
      intro post hp
      unfold wpX_touch
      refine wx _ ?_
      rw [e63, sd_ch (n := 6 * s + 3) (by omega)]
      refine ⟨sd_in (by omega), nm_e (sd_Xh0 (by omega) (by rw [hb3 r hr, k4]; decide) ⟨3, ?_⟩)⟩
      exact wx' 3 post (by decide) hp
    have hY : ∀ post : Int32 → SY → Prop, wY_touch_96 post b a' (c' 0 0) (c' 1 0) (c' 2) (c' 3) (c' 4) (c' 5) (c' 6) (c' 7) (c' 8) (c' 9) (c' 10) (c' 11) (c' 12) (c' 13) (c' 14) (c' 15) (c' 16) (c' 17) → wpY_touch post (sd_y c) (nI s) (nI r) := by
      intro post hp
      unfold wpY_touch
      refine wy _ ?_
      have w := wy' 17 post (by decide) hp
      rcases hba with ⟨e1, e2⟩ | ⟨e1, e2⟩
      · rw [e2] at w; exact br_t e1 ⟨17, w⟩
      · rw [e2] at w; exact br_f e1 ⟨17, w⟩
    rcases ha' with rfl | rfl
    · refine ⟨true, c', d', h', fun _ => hk4, hkk, fun post hp => hX post ?_, fun post hp => hY post ?_⟩
      · exact br_t rfl (br_t rfl hp)
      · unfold wY_touch_96
        exact nm_r (sd_up0 (c' 17) 0) (br_f hb hp)
    · refine ⟨true, sd_cn c' 0, sd_s d' 30 (upd (d' 30) 0 (d' 30 0 + 1)), sd_L_cn h' 0, fun _ => hk4, hkk, fun post hp => hX post ?_, fun post hp => hY post ?_⟩
      · exact br_f (by decide) (nm_e (br_t rfl hp))
      · unfold wY_touch_96
        exact nm_e (br_f hb hp)
  rcases hab with ⟨e1, e2, e4⟩ | ⟨e1, e2, e4⟩ | ⟨e1, e2, e4⟩
  · exact hgood (Or.inl e1) (by rw [e2]; decide) (Or.inl ⟨by rw [e2]; decide, e1⟩) e4
  · exact hgood (Or.inr e1) (by rw [e2]; decide) (Or.inr ⟨by rw [e2]; decide, e1⟩) e4
  · subst e1 e2 e4
    refine ⟨false, sd_cn c1 0, sd_s d1 30 (upd (d1 30) 0 (d1 30 0 + 1)), sd_L_cn h1 0, fun z => absurd z (by decide), fun _ _ => rfl, fun post hp => ?_, fun post hp => ?_⟩
    · unfold wpX_touch
      refine wx _ ?_
      rw [e63, sd_ch (n := 6 * s + 3) (by omega)]
      refine ⟨sd_in (by omega), nm_e (sd_Xh1 (by omega) (by rw [hb3 r hr, k3]; decide) ⟨1, ?_⟩)⟩
      refine br_f (by decide) (br_f (by decide) ?_)
      exact br_f (by decide) (nm_e (br_f (by decide) hp))
    · unfold wpY_touch
      refine wy _ (br_f (by decide) ⟨1, ?_⟩)
      refine br_f (by decide) (br_t (by decide) ?_)
      unfold wY_touch_96
      exact nm_e (br_t (by decide) hp)
/-- reach of an entity that is there -/
theorem sd_Xrch {post : Int32 → SX → Prop} {c d : sd_T} {s r : Nat} (hs : s < 3) (hr : r < 16) (h : sd_L c d) (h0 : ¬ c 6 (16 * s + r) = 0) (h3 : ¬ c 6 (16 * s + r) = 3) (hp : post 0 (sd_x d)) : wpX_reach post (sd_x d) (nI s) (nI r) := by
  unfold wpX_reach
  exact sd_Xsort (d := d) hs hr h (br_f h0 (br_f h3 hp))
theorem sd_Xrch0 {post : Int32 → SX → Prop} {c d : sd_T} {s r : Nat} (hs : s < 3) (hr : r < 16) (h : sd_L c d) (h0 : c 6 (16 * s + r) = 0) (hp : post (-1) (sd_x d)) : wpX_reach post (sd_x d) (nI s) (nI r) := by
  unfold wpX_reach
  exact sd_Xsort (d := d) hs hr h (br_t h0 hp)
theorem sd_Xrch3 {post : Int32 → SX → Prop} {c d d' : sd_T} {a : Int32} {s r : Nat} (hs : s < 3) (hr : r < 16) (h : sd_L c d) (h3 : c 6 (16 * s + r) = 3) (w : ∀ post : Int32 → SX → Prop, post a (sd_x d') → wpX_touch post (sd_x d) (nI s) (nI r)) (hp : post a (sd_x d')) : wpX_reach post (sd_x d) (nI s) (nI r) := by
  unfold wpX_reach
  exact sd_Xsort (d := d) hs hr h (br_f (by rw [h3]; decide) (br_t h3 (w _ hp)))
end
section
/-! the relation that is owed; a kind changes -/
/-- the relation at the head of a turn -/
def i_Rel (_ : Nat) (u : SX) (v : SY) : Prop := ∃ c d : sd_T, u = sd_x d ∧ v = sd_y c ∧ sd_L c d
theorem i_up {k : Nat} {u : SX} {v : SY} (h : i_Rel k u v) : i_Rel (k + 6) u v := h
theorem sd_fin {k : Nat} {c d : sd_T} (h : sd_L c d) : i_Rel k (sd_x d) (sd_y c) := ⟨c, d, rfl, rfl, h⟩
theorem sd_ss (c : sd_T) (f : Nat) (a b : Nat → Int32) : sd_s (sd_s c f a) f b = sd_s c f b := by
  funext g
  unfold sd_s
  cases Nat.beq g f <;> rfl
theorem sd_sid (c : sd_T) (f : Nat) : sd_s c f (c f) = c := by
  funext g
  unfold sd_s
  cases h : Nat.beq g f
  · rfl
  · rw [Nat.eq_of_beq_eq_true h]; rfl
/-- the values stay alike if the kind changes in a decent way -/
theorem sd_V_k {x19 x20 x21 x22 x23 x24 x25 y6 y7 y8 y9 : Nat → Int32} {e : Nat} {k : Int32} (h : sd_V x19 x20 x21 x22 x23 x24 x25 y6 y7 y8 y9 e)
    (h1 : ¬ k = 0 → ¬ k = 3 → ¬ y6 e = 0 ∧ ¬ y6 e = 3) (h2 : k = 4 ∨ k = 5 → y6 e = 4 ∨ y6 e = 5) : sd_V x19 x20 x21 x22 x23 x24 x25 (upd y6 e k) y7 y8 y9 e := by
  unfold sd_V at h ⊢
  rw [pk_us]
  exact ⟨fun a b => h.1 (h1 a b).1 (h1 a b).2, fun a => h.2 (h2 a)⟩
/-- become, where the kind alone changes -/
theorem sd_Xbk {c d : sd_T} {s r : Nat} (k : Nat) (hs : s < 3) (hr : r < 16) (hk : k ≤ 5) (h : sd_L c d)
    (h1 : ¬ nI k = 0 → ¬ nI k = 3 → ¬ c 6 (16 * s + r) = 0 ∧ ¬ c 6 (16 * s + r) = 3) (h2 : nI k = 4 ∨ nI k = 5 → c 6 (16 * s + r) = 4 ∨ c 6 (16 * s + r) = 5) :
    ∃ d', sd_L (sd_s c 6 (upd (c 6) (16 * s + r) (nI k))) d' ∧ ∀ post : SX → Prop, post (sd_x d') → wpX_become post (sd_x d) (nI s) (nI r) (nI k) := by
  refine sd_Xbec (c := sd_s c 6 (upd (c 6) (16 * s + r) (nI k))) k hs hr hk ⟨h.1, ?_, h.2.2⟩ (sd_V_k (sd_va h (by omega)) h1 h2) pk_us
  exact sd_RE_al (e0 := 16 * s + r) h.2.1 (fun _ _ => trivial) (fun _ _ => trivial) ⟨k, hk, pk_us⟩ (h.2.1.2.2.2.2.2 (16 * s + r) (by omega)) (sd_al_r _ _) (sd_al_r _ _) (sd_al_r _ _) (sd_al_r _ _) (sd_al_r _ _) (sd_al_r _ _) (sd_al_r _ _) (sd_al_u _ _ _) (sd_al3_r _ _) (sd_al3_r _ _) (sd_al_r _ _)
/-- the reference's fill -/
def sd_fl (c : sd_T) (e : Nat) (k a b l : Int32) : sd_T := sd_s (sd_s (sd_s c 6 (upd (c 6) e k)) 7 (sd_u3 (c 7) (3 * e) a b l)) 9 (upd (c 9) e 0)
theorem sd_Yfl {post : SY → Prop} {c : sd_T} {e : Nat} {k a b l : Int32} (he : e < 48) (hp : post (sd_y (sd_fl c e k a b l))) : wpY_fill post (sd_y c) (nI e) k a b l := by
  unfold wpY_fill
  rw [sd_m3, sd_a1, sd_a2, sd_ch (n := e) (by omega), sd_ch (n := 3 * e) (by omega), sd_ch (n := 3 * e + 1) (by omega), sd_ch (n := 3 * e + 2) (by omega)]
  exact ⟨sd_in he, nm_e ⟨sd_in (by omega), nm_e ⟨sd_in (by omega), nm_e ⟨sd_in (by omega), nm_e ⟨sd_in he, nm_e hp⟩⟩⟩⟩⟩
/-- the entity's own values are written on the component's side: new numbers, the kind as told -/
theorem sd_Xbf {c d : sd_T} {s r : Nat} (k : Nat) (a b l : Int32) (hs : s < 3) (hr : r < 16) (hk : k ≤ 2) (hl : sd_lr l) (h : sd_L c d) :
    ∃ d', sd_L (sd_fl c (16 * s + r) (nI k) a b l) d' ∧ ∀ post : SX → Prop, post (sd_x d') → wpX_become post (sd_x (sd_s (sd_s (sd_s d 19 (upd (d 19) (16 * s + r) a)) 20 (upd (d 20) (16 * s + r) b)) 21 (upd (d 21) (16 * s + r) l))) (nI s) (nI r) (nI k) := by
  have n4 : ¬ nI k = 4 := sd_ne (b := 4) (by omega) (by omega) (by decide)
  have n5 : ¬ nI k = 5 := sd_ne (b := 5) (by omega) (by omega) (by decide)
  refine sd_Xbec (c := sd_fl c (16 * s + r) (nI k) a b l) k hs hr (by omega) ⟨h.1, ?_, h.2.2⟩ ⟨fun _ _ => ⟨?_, ?_, ?_⟩, fun z => ?_⟩ pk_us
  · refine sd_RE_al (e0 := 16 * s + r) h.2.1 (fun _ _ => trivial) (fun _ _ => trivial) ⟨k, by omega, pk_us⟩ ⟨?_, (h.2.1.2.2.2.2.2 (16 * s + r) (by omega)).2.1, ?_⟩ (sd_al_u _ _ _) (sd_al_u _ _ _) (sd_al_u _ _ _) (sd_al_r _ _) (sd_al_r _ _) (sd_al_r _ _) (sd_al_r _ _) (sd_al_u _ _ _) (sd_al3_u _ _ _ _ _) (sd_al3_r _ _) (sd_al_u _ _ _)
    · show sd_lr (sd_u3 _ _ _ _ _ _); rw [sd_u3_2]; exact hl
    · show sd_lr (upd _ _ _ _); rw [pk_us]; exact hl
  · show upd _ _ _ _ = sd_u3 _ _ _ _ _ _; rw [pk_us, sd_u3_0]
  · show upd _ _ _ _ = sd_u3 _ _ _ _ _ _; rw [pk_us, sd_u3_1]
  · show upd _ _ _ _ = sd_u3 _ _ _ _ _ _; rw [pk_us, sd_u3_2]
  · exfalso
    have e : (sd_fl c (16 * s + r) (nI k) a b l) 6 (16 * s + r) = nI k := pk_us
    rcases z with z | z
    · exact n4 (e.symm.trans z)
    · exact n5 (e.symm.trans z)
/-- refer: the reference fills, the component's kind alone changes -/
theorem sd_Xbp {c d : sd_T} {s r : Nat} (hs : s < 3) (hr : r < 16) (h : sd_L c d) :
    ∃ d', sd_L (sd_fl c (16 * s + r) 3 0 0 (-1)) d' ∧ ∀ post : SX → Prop, post (sd_x d') → wpX_become post (sd_x d) (nI s) (nI r) 3 := by
  refine sd_Xbec (c := sd_fl c (16 * s + r) 3 0 0 (-1)) 3 hs hr (by decide) ⟨h.1, ?_, h.2.2⟩ ⟨fun _ z => ?_, fun z => ?_⟩ pk_us
  · refine sd_RE_al (e0 := 16 * s + r) h.2.1 (fun _ _ => trivial) (fun _ _ => trivial) ⟨3, by decide, pk_us⟩ ⟨?_, (h.2.1.2.2.2.2.2 (16 * s + r) (by omega)).2⟩ (sd_al_r _ _) (sd_al_r _ _) (sd_al_r _ _) (sd_al_r _ _) (sd_al_r _ _) (sd_al_r _ _) (sd_al_r _ _) (sd_al_u _ _ _) (sd_al3_u _ _ _ _ _) (sd_al3_r _ _) (sd_al_u _ _ _)
    show sd_lr (sd_u3 _ _ _ _ _ _); rw [sd_u3_2]; exact sd_lr1
  · exact absurd pk_us z
  · exfalso
    have e : (sd_fl c (16 * s + r) 3 0 0 (-1)) 6 (16 * s + r) = 3 := pk_us
    rcases z with z | z
    · rw [e] at z; exact absurd z (by decide)
    · rw [e] at z; exact absurd z (by decide)
end
section
/-! the simple methods -/
theorem sd_n1 {r : Int32} (h : r = -1 ∨ r = -2) : ¬ r = 0 := by rcases h with rfl | rfl <;> decide
theorem i_vc_mode {k : Nat} {u : SX} {v : SY} (I : i_Rel k u v) (hk : k + 6 ≤ 3072) (v1 : Int32) (v2 : Int32) : wpX_mode (fun r u' => wpY_mode (fun r' v' => r' = r ∧ i_Rel (k + 6) u' v') v v1 (lw_bz v2)) u v1 (lw_bz v2) := by
  obtain ⟨c, d, rfl, rfl, h⟩ := I
  unfold wpX_mode wpY_mode
  rcases sd_ix v1 3 (by decide) with hx | ⟨i, hi, rfl⟩
  · exact sd_Xw0 hx (br_t rfl (sd_Yw0 hx (br_t rfl ⟨rfl, sd_fin h⟩)))
  · refine sd_Xw1 (n := 3) hi (by decide) (br_f (by decide) ?_)
    have hY : ∀ (x : Int32), (∀ j, j < 3 → bt x j = if j = i then decide (lw_bz v2 = 1) else bt (d 3 0) j) → wpY_in (fun r_1 => (r_1 = 0 → (0 : Int32) = 1 ∧ i_Rel (k + 6) (sd_x (sd_s d 3 (fun _ => x))) (sd_y c)) ∧ (¬ r_1 = 0 → vp_in (nI i) 3 ∧ ∀ a_modes_4, a_modes_4 = upd (c 11) (nI i).toNatClampNeg (vp_nar .boolean (lw_bz v2)) → (1 : Int32) = 1 ∧ i_Rel (k + 6) (sd_x (sd_s d 3 (fun _ => x))) (sd_y (sd_s c 11 a_modes_4)))) (nI i) 3 := by
      intro x hxb
      refine sd_Yw1 (n := 3) hi (by decide) (br_f (by decide) ⟨sd_in hi, ?_⟩)
      rw [sd_ch (n := i) (by omega)]
      refine nm_e ⟨rfl, sd_fin ⟨h.1, h.2.1, ?_, h.2.2.2⟩⟩
      intro j hj
      show upd (c 11) i (vp_nar .boolean (lw_bz v2)) j = sd_b (bt x j)
      rw [hxb j hj]
      by_cases e : j = i
      · rw [if_pos e, e, pk_us]
        rcases lw_bz_01 v2 with z | z <;> rw [z] <;> decide
      · rw [if_neg e, pk_un e]; exact sd_mo h hj
    rcases lw_bz_01 v2 with z | z
    · refine br_t z (nm_e (hY _ ?_))
      intro j hj
      rw [sd_cl _ (by omega) (by omega), z]
      by_cases e : j = i
      · rw [if_pos e, decide_eq_true e]; cases bt (d 3 0) j <;> decide
      · rw [if_neg e, decide_eq_false e]; cases bt (d 3 0) j <;> decide
    · refine br_f (by rw [z]; decide) (nm_e (hY _ ?_))
      intro j hj
      rw [sd_st _ (by omega) (by omega), z]
      by_cases e : j = i
      · rw [if_pos e, decide_eq_true e]; cases bt (d 3 0) j <;> decide
      · rw [if_neg e, decide_eq_false e]; cases bt (d 3 0) j <;> decide
theorem i_vc_make {k : Nat} {u : SX} {v : SY} (I : i_Rel k u v) (hk : k + 6 ≤ 3072) (v1 : Int32) (v2 : Int32) (v3 : Int32) (v4 : Int32) (v5 : Int32) : wpX_make (fun r u' => wpY_make (fun r' v' => r' = r ∧ i_Rel (k + 6) u' v') v v1 v2 v3 v4 v5) u v1 v2 v3 v4 v5 := by
  obtain ⟨c, d, rfl, rfl, h⟩ := I
  unfold wpX_make wpY_make
  rcases sd_wr h v1 v2 with ⟨r, hr, wx, wy⟩ | ⟨s, r, hs, hr, rfl, rfl, wx, wy⟩
  · exact wx _ (br_f (sd_n1 hr) (wy _ (nm_e (br_f (sd_n1 hr) ⟨rfl, sd_fin h⟩))))
  · refine wx _ (br_t rfl (sd_Xsort (d := d) hs hr h ?_))
    have e16 : (16 : Int32) * nI s + nI r = nI (16 * s + r) := sd_i16 s r
    have ec : (nI (16 * s + r)).toNatClampNeg = 16 * s + r := sd_ch (by omega)
    have hin : vp_in (nI (16 * s + r)) 48 := sd_in (by omega)
    by_cases z : c 6 (16 * s + r) = 0
    · refine br_t z ?_
      rcases sd_link v5 with ⟨hl, lx, ly⟩ | ⟨lx, ly⟩
      · refine lx _ (br_f (by decide) (nm_r e16 ?_))
        rw [ec]
        refine ⟨hin, nm_e ⟨hin, nm_e ⟨hin, ?_⟩⟩⟩
        rw [sd_lrs hl]
        refine nm_e ?_
        obtain ⟨d', hd, w⟩ := sd_Xbf 1 v3 v4 v5 hs hr (by decide) hl h
        refine w _ (wy _ (nm_r e16 (br_t rfl ⟨hin, ?_⟩)))
        rw [ec]
        refine br_t z (ly _ (br_f (by decide) ?_))
        exact sd_Yfl (c := c) (by omega) ⟨rfl, sd_fin hd⟩
      · refine lx _ (br_t rfl (wy _ (nm_r e16 (br_t rfl ⟨hin, ?_⟩))))
        rw [ec]
        exact br_t z (ly _ (br_t rfl ⟨rfl, sd_fin h⟩))
    · refine br_f z (wy _ (nm_r e16 (br_t rfl ⟨hin, ?_⟩)))
      rw [ec]
      exact br_f z ⟨rfl, sd_fin h⟩
theorem i_vc_refer {k : Nat} {u : SX} {v : SY} (I : i_Rel k u v) (hk : k + 6 ≤ 3072) (v1 : Int32) (v2 : Int32) : wpX_refer (fun r u' => wpY_refer (fun r' v' => r' = r ∧ i_Rel (k + 6) u' v') v v1 v2) u v1 v2 := by
  obtain ⟨c, d, rfl, rfl, h⟩ := I
  unfold wpX_refer wpY_refer
  rcases sd_wr h v1 v2 with ⟨r, hr, wx, wy⟩ | ⟨s, r, hs, hr, rfl, rfl, wx, wy⟩
  · exact wx _ (br_f (sd_n1 hr) (wy _ (nm_e (br_f (sd_n1 hr) ⟨rfl, sd_fin h⟩))))
  · refine wx _ (br_t rfl (sd_Xsort (d := d) hs hr h ?_))
    have e16 : (16 : Int32) * nI s + nI r = nI (16 * s + r) := sd_i16 s r
    have ec : (nI (16 * s + r)).toNatClampNeg = 16 * s + r := sd_ch (by omega)
    have hin : vp_in (nI (16 * s + r)) 48 := sd_in (by omega)
    by_cases z : c 6 (16 * s + r) = 0
    · obtain ⟨d', hd, w⟩ := sd_Xbp hs hr h
      refine br_t z (w _ (wy _ (nm_r e16 (br_t rfl ⟨hin, ?_⟩))))
      rw [ec]
      exact br_t z (sd_Yfl (c := c) (by omega) ⟨rfl, sd_fin hd⟩)
    · refine br_f z (wy _ (nm_r e16 (br_t rfl ⟨hin, ?_⟩)))
      rw [ec]
      exact br_f z ⟨rfl, sd_fin h⟩
theorem i_vc_detach {k : Nat} {u : SX} {v : SY} (I : i_Rel k u v) (hk : k + 6 ≤ 3072) (v1 : Int32) (v2 : Int32) : wpX_detach (fun r u' => wpY_detach (fun r' v' => r' = r ∧ i_Rel (k + 6) u' v') v v1 v2) u v1 v2 := by
  obtain ⟨c, d, rfl, rfl, h⟩ := I
  unfold wpX_detach wpY_detach
  rcases sd_wr h v1 v2 with ⟨r, hr, wx, wy⟩ | ⟨s, r, hs, hr, rfl, rfl, wx, wy⟩
  · exact wx _ (br_f (sd_n1 hr) (wy _ (br_f (sd_n1 hr) ⟨rfl, sd_fin h⟩)))
  · refine wx _ (br_t rfl (sd_Xsort (d := d) hs hr h ?_))
    have e16 : (16 : Int32) * nI s + nI r = nI (16 * s + r) := sd_i16 s r
    have ec : (nI (16 * s + r)).toNatClampNeg = 16 * s + r := sd_ch (by omega)
    have hin : vp_in (nI (16 * s + r)) 48 := sd_in (by omega)
    by_cases z : c 6 (16 * s + r) = 0
    · refine br_t z (wy _ (br_t rfl ?_))
      rw [e16, ec]
      exact ⟨hin, br_t z ⟨rfl, sd_fin h⟩⟩
    · obtain ⟨d', hd, w⟩ := sd_Xbk 0 hs hr (by decide) h (fun a => absurd rfl a) (fun a => by rcases a with a | a <;> exact absurd a (by decide))
      refine br_f z (w _ (wy _ (br_t rfl ?_)))
      rw [e16, ec]
      exact ⟨hin, br_f z ⟨hin, nm_e ⟨rfl, sd_fin hd⟩⟩⟩
theorem i_vc_get {k : Nat} {u : SX} {v : SY} (I : i_Rel k u v) (hk : k + 6 ≤ 3072) (v1 : Int32) (v2 : Int32) : wpX_get (fun r u' => wpY_get (fun r' v' => r' = r ∧ i_Rel (k + 6) u' v') v v1 v2) u v1 v2 := by
  obtain ⟨c, d, rfl, rfl, h⟩ := I
  unfold wpX_get wpY_get
  rcases sd_wr h v1 v2 with ⟨r, hr, wx, wy⟩ | ⟨s, r, hs, hr, rfl, rfl, wx, wy⟩
  · exact wx _ (br_f (sd_n1 hr) (wy _ (nm_e (br_f (sd_n1 hr) ⟨rfl, sd_fin h⟩))))
  · refine wx _ (br_t rfl (sd_Xsort (d := d) hs hr h ?_))
    have e16 : (16 : Int32) * nI s + nI r = nI (16 * s + r) := sd_i16 s r
    have ec : (nI (16 * s + r)).toNatClampNeg = 16 * s + r := sd_ch (by omega)
    have hin : vp_in (nI (16 * s + r)) 48 := sd_in (by omega)
    have e64 : (6 : Int32) * nI s + 4 = nI (6 * s + 4) := by rw [sd_m6, sd_a4]
    by_cases z3 : c 6 (16 * s + r) = 3
    · obtain ⟨g, c', d', h', hg, _, tx, ty⟩ := sd_Tc hs hr h z3
      refine br_t z3 (tx _ (wy _ (nm_r e16 (br_t rfl ⟨hin, ?_⟩))))
      rw [ec]
      refine br_f (by rw [z3]; decide) ⟨hin, br_t z3 (ty _ ?_)⟩
      cases g
      · exact br_t rfl ⟨rfl, sd_fin h'⟩
      · exact br_f (by decide) ⟨rfl, sd_fin h'⟩
    · refine br_f z3 ?_
      by_cases z5 : c 6 (16 * s + r) = 5
      · refine br_t z5 (wy _ (nm_r e16 (br_t rfl ⟨hin, ?_⟩)))
        rw [ec]
        exact br_f (by rw [z5]; decide) ⟨hin, br_f z3 ⟨hin, br_t z5 (br_t rfl ⟨rfl, sd_fin h⟩)⟩⟩
      · refine br_f z5 ?_
        by_cases z : c 6 (16 * s + r) = 0
        · obtain ⟨a, b, c', d', h', hab, hfr, lx, ly⟩ := sd_Ld hs hr h
          have kb : ∀ {c2 d2 : sd_T}, sd_L c2 d2 → bt (d2 16 (6 * s + 4)) r = decide (c2 6 (16 * s + r) = 4) := fun h2 => sd_kb h2 4 hs hr (by decide) (by decide)
          refine br_t z (lx _ ?_)
          rcases hab with ⟨e1, e2, e4⟩ | ⟨e1, e2, e4⟩ | ⟨e1, e2, e4⟩
          · subst e1 e2
            refine br_t rfl ?_
            unfold wX_get_73
            rw [e64, sd_ch (n := 6 * s + 4) (by omega)]
            refine ⟨sd_in (by omega), sd_Xh1 (by omega) (by rw [kb h', e4]; decide) (br_f (by decide) (wy _ (nm_r e16 (br_t rfl ⟨hin, ?_⟩))))⟩
            rw [ec]
            refine br_t z ?_
            unfold wpY_loadAlone
            exact ly _ (br_t (by decide) (br_f (by decide) (br_f (by decide) ⟨rfl, sd_fin h'⟩)))
          · subst e1 e2
            refine br_f (by decide) (nm_e ?_)
            unfold wX_get_73
            rw [e64, sd_ch (n := 6 * s + 4) (by omega)]
            refine ⟨sd_in (by omega), sd_Xh1 (by omega) (by rw [kb h', e4]; decide) (br_f (by decide) (wy _ (nm_r e16 (br_t rfl ⟨hin, ?_⟩))))⟩
            rw [ec]
            refine br_t z ?_
            unfold wpY_loadAlone
            exact ly _ (br_f (by decide) (nm_e (br_f (by decide) (br_f (by decide) ⟨rfl, sd_fin (sd_L_cn h' 0)⟩))))
          · subst e1 e2 e4
            refine br_f (by decide) (nm_e ?_)
            unfold wX_get_73
            rw [e64, sd_ch (n := 6 * s + 4) (by omega)]
            refine ⟨sd_in (by omega), sd_Xh0 (by omega) (by rw [kb h', z]; decide) (br_t rfl (wy _ (nm_r e16 (br_t rfl ⟨hin, ?_⟩))))⟩
            rw [ec]
            refine br_t z ?_
            unfold wpY_loadAlone
            exact ly _ (br_f (by decide) (nm_e (br_t (by decide) (br_t rfl ⟨rfl, sd_fin (sd_L_cn h' 0)⟩))))
        · refine br_f z (wy _ (nm_r e16 (br_t rfl ⟨hin, ?_⟩)))
          rw [ec]
          exact br_f z ⟨hin, br_f z3 ⟨hin, br_f z5 (br_f (by decide) ⟨rfl, sd_fin h⟩)⟩⟩
end
section
/-! read, write -/
theorem sd_Ydy {post : Int32 → Prop} {c : sd_T} {e : Nat} (he : e < 48) (hp : post (sd_b (sd_dy (c 6) (c 7) (c 8) e))) : wpY_isDirty post (sd_y c) (nI e) := by
  have hin : vp_in (nI e) 48 := sd_in he
  have st : ∀ (n k : Nat), k < 3 → (c 6 e = 4 → ¬ c 7 (3 * e + k) = c 8 (3 * e + k) → post 1) → ((c 6 e = 4 → c 7 (3 * e + k) = c 8 (3 * e + k)) → wY_isDirty_2 post (nI e) (c 0 0) (c 1 0) (c 2) (c 3) (c 4) (c 5) (c 6) (c 7) (c 8) (c 9) (c 10) (c 11) (c 12) (c 13) (c 14) (c 15) (c 16) (c 17) n (nI (k + 1))) → wY_isDirty_2 post (nI e) (c 0 0) (c 1 0) (c 2) (c 3) (c 4) (c 5) (c 6) (c 7) (c 8) (c 9) (c 10) (c 11) (c 12) (c 13) (c 14) (c 15) (c 16) (c 17) (n + 1) (nI k) := by
    intro n k hk h1 h2
    refine br_f (nI_ge (a := k) (b := 3) hk (by decide)) ?_
    rw [sd_i3, sd_ch (n := e) (by omega), sd_ch (n := 3 * e + k) (by omega)]
    refine ⟨hin, br_c (fun z => ⟨sd_in (by omega), sd_in (by omega), br_c (fun q => nm_r (nI_1 k) (h2 (fun _ => q))) (fun q => h1 z q)⟩) (fun z => nm_r (nI_1 k) (h2 (fun q => absurd q z)))⟩
  unfold sd_dy at hp
  unfold wpY_isDirty
  refine ⟨4, st 3 0 (by decide) ?_ (fun e0 => st 2 1 (by decide) ?_ (fun e1 => st 1 2 (by decide) ?_ (fun e2 => br_t (by decide) ?_)))⟩
  · intro z q
    rw [decide_eq_true z, decide_eq_true (p := ¬ c 7 (3 * e) = c 8 (3 * e)) q] at hp
    exact hp
  · intro z q
    rw [decide_eq_true z, decide_eq_true (p := ¬ c 7 (3 * e + 1) = c 8 (3 * e + 1)) q, Bool.or_true] at hp
    exact hp
  · intro z q
    rw [decide_eq_true z, decide_eq_true (p := ¬ c 7 (3 * e + 2) = c 8 (3 * e + 2)) q, Bool.or_true] at hp
    exact hp
  · by_cases z : c 6 e = 4
    · rw [decide_eq_false (p := ¬ c 7 (3 * e) = c 8 (3 * e)) (fun q => q (e0 z)), decide_eq_false (p := ¬ c 7 (3 * e + 1) = c 8 (3 * e + 1)) (fun q => q (e1 z)), decide_eq_false (p := ¬ c 7 (3 * e + 2) = c 8 (3 * e + 2)) (fun q => q (e2 z)), Bool.or_self, Bool.or_self, Bool.and_false] at hp
      exact hp
    · rw [decide_eq_false z] at hp
      exact hp
/-- the values that are read -/
theorem sd_rdv {c d : sd_T} {s r w : Nat} (hs : s < 3) (hr : r < 16) (hw : w < 4) (h : sd_L c d) (h0 : ¬ c 6 (16 * s + r) = 0) (h3 : ¬ c 6 (16 * s + r) = 3) : ∃ x : Int64,
    (∀ post : Int64 → SX → Prop, post x (sd_x d) → wX_read_73 post (nI s) (nI r) (nI w) 0 (d 0 0) (d 1 0) (d 2 0) (d 3 0) (d 4 0) (d 5 0) (d 6 0) (d 7) (d 8) (d 9) (d 10) (d 11) (d 12) (d 13) (d 14) (d 15) (d 16) (d 17) (d 18) (d 19) (d 20) (d 21) (d 22) (d 23) (d 24) (d 25) (d 26) (d 27) (d 28) (d 29) (d 30)) ∧ (∀ post : Int64 → SY → Prop, post x (sd_y c) → wY_read_116 post (nI w) (nI (16 * s + r)) 1 (c 0 0) (c 1 0) (c 2) (c 3) (c 4) (c 5) (c 6) (c 7) (c 8) (c 9) (c 10) (c 11) (c 12) (c 13) (c 14) (c 15) (c 16) (c 17)) := by
  have hv := sd_va h (e := 16 * s + r) (by omega)
  obtain ⟨v0, v1, v2⟩ := hv.1 h0 h3
  have hin : vp_in (nI (16 * s + r)) 48 := sd_in (by omega)
  have e16 : (16 : Int32) * nI s + nI r = nI (16 * s + r) := sd_i16 s r
  have ec : (nI (16 * s + r)).toNatClampNeg = 16 * s + r := sd_ch (by omega)
  have hn : ¬ nI w < 0 := nI_pos (by omega)
  have hY : ∀ (v : Int32), w < 3 → c 7 (3 * (16 * s + r) + w) = v → ∀ post : Int64 → SY → Prop, post v.toInt64 (sd_y c) → wY_read_116 post (nI w) (nI (16 * s + r)) 1 (c 0 0) (c 1 0) (c 2) (c 3) (c 4) (c 5) (c 6) (c 7) (c 8) (c 9) (c 10) (c 11) (c 12) (c 13) (c 14) (c 15) (c 16) (c 17) := by
    intro v hw3 hv post hp
    unfold wY_read_116
    refine br_f (by decide) (br_f (nI_ge (a := w) (b := 3) hw3 (by decide)) ?_)
    rw [sd_i3, sd_ch (n := 3 * (16 * s + r) + w) (by omega), hv]
    exact ⟨sd_in (by omega), hp⟩
  have hX : ∀ (x : Int64), (∀ post : Int64 → SX → Prop, post x (sd_x d) → (((nI w) = 0 → (vp_in (nI (16 * s + r)) 48 ∧ (post ((d 19 (16 * s + r)).toInt64) (sd_x d)))) ∧ (¬ (nI w) = 0 → ((((nI w) = 1 → (vp_in (nI (16 * s + r)) 48 ∧ (post ((d 20 (16 * s + r)).toInt64) (sd_x d)))) ∧ (¬ (nI w) = 1 → ((((nI w) = 2 → (vp_in (nI (16 * s + r)) 48 ∧ (post ((d 21 (16 * s + r)).toInt64) (sd_x d)))) ∧ (¬ (nI w) = 2 → (True)))))))))) → w < 3 → ∀ post : Int64 → SX → Prop, post x (sd_x d) → wX_read_73 post (nI s) (nI r) (nI w) 0 (d 0 0) (d 1 0) (d 2 0) (d 3 0) (d 4 0) (d 5 0) (d 6 0) (d 7) (d 8) (d 9) (d 10) (d 11) (d 12) (d 13) (d 14) (d 15) (d 16) (d 17) (d 18) (d 19) (d 20) (d 21) (d 22) (d 23) (d 24) (d 25) (d 26) (d 27) (d 28) (d 29) (d 30) := by
    intro x hx hw3 post hp
    unfold wX_read_73
    refine br_t rfl (nm_r e16 ?_)
    rw [ec]
    exact sd_Xsort (d := d) hs hr h (br_f hn (br_f (nI_nlt (a := 2) (b := w) (by omega) (by omega)) (hx post hp)))
  match w, hw with
  | 0, _ => exact ⟨(c 7 (3 * (16 * s + r))).toInt64, hX _ (fun post hp => br_t rfl ⟨hin, by rw [v0]; exact hp⟩) (by decide), hY _ (by decide) rfl⟩
  | 1, _ => exact ⟨(c 7 (3 * (16 * s + r) + 1)).toInt64, hX _ (fun post hp => br_f (by decide) (br_t rfl ⟨hin, by rw [v1]; exact hp⟩)) (by decide), hY _ (by decide) rfl⟩
  | 2, _ => exact ⟨(c 7 (3 * (16 * s + r) + 2)).toInt64, hX _ (fun post hp => br_f (by decide) (br_f (by decide) (br_t rfl ⟨hin, by rw [v2]; exact hp⟩))) (by decide), hY _ (by decide) rfl⟩
  | 3, _ =>
    by_cases z : (4 : Int32) ≤ c 6 (16 * s + r)
    · have z45 : c 6 (16 * s + r) = 4 ∨ c 6 (16 * s + r) = 5 := by
        rcases sd_kd h hs hr with q | q | q | q | q | q
        · rw [q] at z; exact absurd z (by decide)
        · rw [q] at z; exact absurd z (by decide)
        · rw [q] at z; exact absurd z (by decide)
        · rw [q] at z; exact absurd z (by decide)
        · exact Or.inl q
        · exact Or.inr q
      have v9 := (hv.2 z45).2.2.2
      refine ⟨(c 9 (16 * s + r)).toInt64, fun post hp => ?_, fun post hp => ?_⟩
      · unfold wX_read_73
        refine br_t rfl (nm_r e16 ?_)
        rw [ec]
        refine sd_Xsort (d := d) hs hr h (br_f hn (br_t (by decide) (br_t z ⟨hin, ?_⟩)))
        rw [v9]
        exact hp
      · unfold wY_read_116
        rw [ec]
        exact br_f (by decide) (br_t (by decide) ⟨hin, br_t z ⟨hin, hp⟩⟩)
    · refine ⟨0, fun post hp => ?_, fun post hp => ?_⟩
      · unfold wX_read_73
        refine br_t rfl (nm_r e16 ?_)
        exact sd_Xsort (d := d) hs hr h (br_f hn (br_t (by decide) (br_f z hp)))
      · unfold wY_read_116
        rw [ec]
        exact br_f (by decide) (br_t (by decide) ⟨hin, br_f z hp⟩)
  | n + 4, hn => omega
theorem sd_64a : (-1 : Int32).toInt64 + (-10000000000) = (-10000000001 : Int64) := by decide
theorem sd_64b : (-3 : Int32).toInt64 + (-10000000000) = (-10000000003 : Int64) := by decide
theorem sd_b64 (b : Bool) : (sd_b b).toInt64 = bif b then 1 else 0 := by cases b <;> decide
theorem i_vc_read {k : Nat} {u : SX} {v : SY} (I : i_Rel k u v) (hk : k + 6 ≤ 3072) (v1 : Int32) (v2 : Int32) (v3 : Int32) : wpX_read (fun r u' => wpY_read (fun r' v' => r' = r ∧ i_Rel (k + 6) u' v') v v1 v2 v3) u v1 v2 v3 := by
  obtain ⟨c, d, rfl, rfl, h⟩ := I
  unfold wpX_read wpY_read
  rcases sd_wr h v1 v2 with ⟨r, hr, wx, wy⟩ | ⟨s, r, hs, hr, rfl, rfl, wx, wy⟩
  · exact wx _ (br_f (sd_n1 hr) (br_f (sd_n1 hr) (br_f (sd_n1 hr) (br_f (sd_n1 hr) (wy _ (nm_e (br_f (sd_n1 hr) ⟨rfl, sd_fin h⟩)))))))
  · have e16 : (16 : Int32) * nI s + nI r = nI (16 * s + r) := sd_i16 s r
    have ec : (nI (16 * s + r)).toNatClampNeg = 16 * s + r := sd_ch (by omega)
    have hin : vp_in (nI (16 * s + r)) 48 := sd_in (by omega)
    refine wx _ (br_t rfl ?_)
    rcases sd_ix v3 6 (by decide) with hx | ⟨w, hw, rfl⟩
    · have h4 : v3 < 0 ∨ (4 : Int32) ≤ v3 := by
        rcases hx with q | q
        · exact Or.inl q
        · exact Or.inr (Int32.le_trans (by decide : (4 : Int32) ≤ nI 6) q)
      have n4 : ¬ v3 = 4 := by rintro rfl; rcases hx with q | q <;> exact absurd q (by decide)
      have n5 : ¬ v3 = 5 := by rintro rfl; rcases hx with q | q <;> exact absurd q (by decide)
      refine br_f n4 (br_t rfl (br_f n5 (br_t rfl (sd_Xw0 h4 (br_t rfl (br_f (by decide) (wy _ (nm_r e16 (br_t rfl (sd_Yw0 hx (br_t rfl ⟨?_, sd_fin h⟩)))))))))))
      exact sd_64a.symm
    · by_cases w4 : w = 4
      · subst w4
        refine br_t (by decide) (sd_Xsort (d := d) hs hr h (wy _ (nm_r e16 (br_t rfl (sd_Yw1 (n := 6) hw (by decide) (br_f (by decide) (br_t (by decide) (br_t (by decide) ⟨hin, ?_⟩))))))))
        rw [ec]
        exact ⟨rfl, sd_fin h⟩
      · have n4 : ¬ nI w = 4 := sd_ne (b := 4) w4 (by omega) (by decide)
        by_cases w5 : w = 5
        · subst w5
          refine br_f n4 (br_t rfl (br_t (by decide) ⟨sd_in hs, wy _ (nm_r e16 (br_t rfl (sd_Yw1 (n := 6) hw (by decide) (br_f (by decide) (br_t (by decide) (br_f (by decide) (br_t (by decide) (sd_Ydy (c := c) (by omega) ?_))))))))⟩))
          rw [sd_sh _ r (by omega), sd_ch (n := s) (by omega), sd_db h hs hr, sd_b64]
          cases sd_dy (c 6) (c 7) (c 8) (16 * s + r)
          · exact br_t rfl ⟨rfl, sd_fin h⟩
          · exact br_f (by decide) ⟨rfl, sd_fin h⟩
        · have n5 : ¬ nI w = 5 := sd_ne (b := 5) w5 (by omega) (by decide)
          have hw4 : w < 4 := by omega
          have g4 : ¬ (4 : Int32) ≤ nI w := nI_ge (a := w) (b := 4) hw4 (by decide)
          refine br_f n4 (br_t rfl (br_f n5 (br_t rfl (sd_Xw1 (n := 4) hw4 (by decide) (br_f (by decide) ?_)))))
          by_cases z0 : c 6 (16 * s + r) = 0
          · refine sd_Xrch0 (d := d) hs hr h z0 (br_f (by decide) (wy _ (nm_r e16 (br_t rfl (sd_Yw1 (n := 6) hw (by decide) (br_f (by decide) (br_f g4 ⟨hin, ?_⟩)))))))
            rw [ec]
            exact br_t z0 ⟨sd_64a.symm, sd_fin h⟩
          · by_cases z3 : c 6 (16 * s + r) = 3
            · obtain ⟨g, c', d', h', hg, _, tx, ty⟩ := sd_Tc hs hr h z3
              refine sd_Xrch3 (d := d) hs hr h z3 tx ?_
              cases g
              · refine br_f (by decide) (wy _ (nm_r e16 (br_t rfl (sd_Yw1 (n := 6) hw (by decide) (br_f (by decide) (br_f g4 ⟨hin, ?_⟩))))))
                rw [ec]
                refine br_f z0 (br_f n4 (br_f n5 ⟨hin, ?_⟩))
                rw [ec]
                exact br_t z3 (ty _ (br_t rfl (br_t rfl ⟨sd_64b.symm, sd_fin h'⟩)))
              · have g4' := hg rfl
                obtain ⟨x, rx, ry⟩ := sd_rdv (w := w) hs hr hw4 h' (by rw [g4']; decide) (by rw [g4']; decide)
                refine rx _ (wy _ (nm_r e16 (br_t rfl (sd_Yw1 (n := 6) hw (by decide) (br_f (by decide) (br_f g4 ⟨hin, ?_⟩))))))
                rw [ec]
                refine br_f z0 (br_f n4 (br_f n5 ⟨hin, ?_⟩))
                rw [ec]
                exact br_t z3 (ty _ (br_f (by decide) (ry _ ⟨rfl, sd_fin h'⟩)))
            · obtain ⟨x, rx, ry⟩ := sd_rdv (w := w) hs hr hw4 h z0 z3
              refine sd_Xrch (d := d) hs hr h z0 z3 (rx _ (wy _ (nm_r e16 (br_t rfl (sd_Yw1 (n := 6) hw (by decide) (br_f (by decide) (br_f g4 ⟨hin, ?_⟩)))))))
              rw [ec]
              refine br_f z0 (br_f n4 (br_f n5 ⟨hin, ?_⟩))
              rw [ec]
              exact br_f z3 (ry _ ⟨rfl, sd_fin h⟩)
/-- a value is written -/
theorem sd_wrv {c d : sd_T} {s r w : Nat} {v : Int32} (hs : s < 3) (hr : r < 16) (hw : w < 3) (hl : w = 2 → sd_lr v) (h : sd_L c d) (h0 : ¬ c 6 (16 * s + r) = 0) (h3 : ¬ c 6 (16 * s + r) = 3) : ∃ c' d' : sd_T, sd_L c' d' ∧
    (∀ post : Int32 → SX → Prop, post 0 (sd_x d') → wX_write_68 post (nI s) (nI r) (nI w) v 0 (d 0 0) (d 1 0) (d 2 0) (d 3 0) (d 4 0) (d 5 0) (d 6 0) (d 7) (d 8) (d 9) (d 10) (d 11) (d 12) (d 13) (d 14) (d 15) (d 16) (d 17) (d 18) (d 19) (d 20) (d 21) (d 22) (d 23) (d 24) (d 25) (d 26) (d 27) (d 28) (d 29) (d 30)) ∧ (∀ post : Int32 → SY → Prop, post 0 (sd_y c') → wY_write_93 post (nI w) v (nI (16 * s + r)) 1 (c 0 0) (c 1 0) (c 2) (c 3) (c 4) (c 5) (c 6) (c 7) (c 8) (c 9) (c 10) (c 11) (c 12) (c 13) (c 14) (c 15) (c 16) (c 17)) := by
  have hv := sd_va h (e := 16 * s + r) (by omega)
  have hin : vp_in (nI (16 * s + r)) 48 := sd_in (by omega)
  have e16 : (16 : Int32) * nI s + nI r = nI (16 * s + r) := sd_i16 s r
  have ec : (nI (16 * s + r)).toNatClampNeg = 16 * s + r := sd_ch (by omega)
  have hY : ∀ post : Int32 → SY → Prop, post 0 (sd_y (sd_s c 7 (upd (c 7) (3 * (16 * s + r) + w) v))) → wY_write_93 post (nI w) v (nI (16 * s + r)) 1 (c 0 0) (c 1 0) (c 2) (c 3) (c 4) (c 5) (c 6) (c 7) (c 8) (c 9) (c 10) (c 11) (c 12) (c 13) (c 14) (c 15) (c 16) (c 17) := by
    intro post hp
    unfold wY_write_93
    rw [sd_i3, sd_ch (n := 3 * (16 * s + r) + w) (by omega)]
    exact br_f (by decide) ⟨sd_in (by omega), nm_e hp⟩
  have hlr := h.2.1.2.2.2.2.2 (16 * s + r) (by omega)
  have hE : ∀ (z19 z20 z21 : Nat → Int32), sd_al (16 * s + r) (d 19) z19 → sd_al (16 * s + r) (d 20) z20 → sd_al (16 * s + r) (d 21) z21 → z19 (16 * s + r) = upd (c 7) (3 * (16 * s + r) + w) v (3 * (16 * s + r)) → z20 (16 * s + r) = upd (c 7) (3 * (16 * s + r) + w) v (3 * (16 * s + r) + 1) → z21 (16 * s + r) = upd (c 7) (3 * (16 * s + r) + w) v (3 * (16 * s + r) + 2) → 
      ∃ d', sd_L (sd_s c 7 (upd (c 7) (3 * (16 * s + r) + w) v)) d' ∧ ∀ post : SX → Prop, post (sd_x d') → wpX_compare post (sd_x (sd_s (sd_s (sd_s d 19 z19) 20 z20) 21 z21)) (nI s) (nI r) := by
    intro z19 z20 z21 a19 a20 a21 e19 e20 e21
    refine sd_Xcmp (c := sd_s c 7 (upd (c 7) (3 * (16 * s + r) + w) v)) hs hr ⟨h.1, ?_, h.2.2⟩
    have ha := sd_RE_al (e0 := 16 * s + r) (w7 := upd (c 7) (3 * (16 * s + r) + w) v) h.2.1 (fun _ _ => trivial) (fun _ _ => trivial) (h.2.1.1 s r hs hr) ⟨(by
      by_cases e : w = 2
      · rw [e, pk_us]; exact hl e
      · rw [pk_un (by omega)]; exact hlr.1), hlr.2.1, (by
      rw [e21]
      by_cases e : w = 2
      · rw [e, pk_us]; exact hl e
      · rw [pk_un (by omega)]; exact hlr.1)⟩ a19 a20 a21 (sd_al_r _ (d 22)) (sd_al_r _ (d 23)) (sd_al_r _ (d 24)) (sd_al_r _ (d 25)) (sd_al_r _ (c 6)) (sd_al3_1 _ w hw _ _) (sd_al3_r _ (c 8)) (sd_al_r _ (c 9))
    refine ⟨ha.1, h.2.1.2.1, ha.2.2.1, ha.2.2.2.1, ?_, ha.2.2.2.2.2⟩
    intro e he _
    by_cases q : e = 16 * s + r
    · subst q
      exact ⟨fun _ _ => ⟨e19, e20, e21⟩, hv.2⟩
    · exact ha.2.2.2.2.1 e he q
  obtain ⟨v0, v1, v2⟩ := hv.1 h0 h3
  match w, hw with
  | 0, _ =>
    obtain ⟨d', hd, wx⟩ := hE (upd (d 19) (16 * s + r) v) (d 20) (d 21) (sd_al_u _ _ _) (sd_al_r _ _) (sd_al_r _ _) (by rw [pk_us, Nat.add_zero, pk_us]) (by rw [pk_un (by omega)]; exact v1) (by rw [pk_un (by omega)]; exact v2)
    refine ⟨_, d', hd, fun post hp => ?_, hY⟩
    unfold wX_write_68
    refine br_t rfl (nm_r e16 ?_)
    rw [ec]
    exact br_t rfl ⟨hin, nm_e (br_f (by decide) (br_f (by decide) (wx _ hp)))⟩
  | 1, _ =>
    obtain ⟨d', hd, wx⟩ := hE (d 19) (upd (d 20) (16 * s + r) v) (d 21) (sd_al_r _ _) (sd_al_u _ _ _) (sd_al_r _ _) (by rw [pk_un (by omega)]; exact v0) (by rw [pk_us, pk_us]) (by rw [pk_un (by omega)]; exact v2)
    refine ⟨_, d', hd, fun post hp => ?_, hY⟩
    unfold wX_write_68
    refine br_t rfl (nm_r e16 (br_f (by decide) (br_t rfl ⟨hin, ?_⟩)))
    rw [ec]
    exact nm_e (br_f (by decide) (wx _ hp))
  | 2, _ =>
    obtain ⟨d', hd, wx⟩ := hE (d 19) (d 20) (upd (d 21) (16 * s + r) v) (sd_al_r _ _) (sd_al_r _ _) (sd_al_u _ _ _) (by rw [pk_un (by omega)]; exact v0) (by rw [pk_un (by omega)]; exact v1) (by rw [pk_us, pk_us])
    refine ⟨_, d', hd, fun post hp => ?_, hY⟩
    unfold wX_write_68
    refine br_t rfl (nm_r e16 (br_f (by decide) (br_f (by decide) (br_t rfl ⟨hin, ?_⟩))))
    rw [ec, sd_lrs (hl rfl)]
    exact nm_e (wx _ hp)
  | n + 3, hn => omega
theorem i_vc_write {k : Nat} {u : SX} {v : SY} (I : i_Rel k u v) (hk : k + 6 ≤ 3072) (v1 : Int32) (v2 : Int32) (v3 : Int32) (v4 : Int32) : wpX_write (fun r u' => wpY_write (fun r' v' => r' = r ∧ i_Rel (k + 6) u' v') v v1 v2 v3 v4) u v1 v2 v3 v4 := by
  obtain ⟨c, d, rfl, rfl, h⟩ := I
  unfold wpX_write wpY_write
  rcases sd_wr h v1 v2 with ⟨r, hr, wx, wy⟩ | ⟨s, r, hs, hr, rfl, rfl, wx, wy⟩
  · exact wx _ (br_f (sd_n1 hr) (br_f (sd_n1 hr) (br_f (sd_n1 hr) (wy _ (nm_e (br_f (sd_n1 hr) ⟨rfl, sd_fin h⟩))))))
  · have e16 : (16 : Int32) * nI s + nI r = nI (16 * s + r) := sd_i16 s r
    have ec : (nI (16 * s + r)).toNatClampNeg = 16 * s + r := sd_ch (by omega)
    have e65 : (6 : Int32) * nI s + 5 = nI (6 * s + 5) := by rw [sd_m6, sd_a5]
    have hin : vp_in (nI (16 * s + r)) 48 := sd_in (by omega)
    have m1 : ¬ (-1 : Int32) = 0 := by decide
    refine wx _ (br_t rfl ?_)
    rcases sd_ix v3 3 (by decide) with hx | ⟨w, hw, rfl⟩
    · exact sd_Xw0 hx (br_t rfl (br_f m1 (br_f m1 (wy _ (nm_r e16 (br_t rfl (sd_Yw0 hx (br_t rfl ⟨rfl, sd_fin h⟩))))))))
    · refine sd_Xw1 (n := 3) hw (by decide) (br_f (by decide) ?_)
      have main : (w = 2 → sd_lr v4) → (∀ post : Int32 → SY → Prop, wY_write_45 post (nI s) (nI r) (nI w) v4 (nI (16 * s + r)) (c 0 0) (c 1 0) (c 2) (c 3) (c 4) (c 5) (c 6) (c 7) (c 8) (c 9) (c 10) (c 11) (c 12) (c 13) (c 14) (c 15) (c 16) (c 17) → wpY_in (fun r_22 => (((r_22 = 0 → (post (-1) (sd_y c))) ∧ (¬ r_22 = 0 → (((nI w = 2 → (wpY_isLink (fun r_54 => (((r_54 = 0 → (post (-1) (sd_y c))) ∧ (¬ r_54 = 0 → (wY_write_45 post (nI s) (nI r) (nI w) v4 (nI (16 * s + r)) (c 0 0) (c 1 0) (c 2) (c 3) (c 4) (c 5) (c 6) (c 7) (c 8) (c 9) (c 10) (c 11) (c 12) (c 13) (c 14) (c 15) (c 16) (c 17)))))) v4)) ∧ (¬ nI w = 2 → (wY_write_45 post (nI s) (nI r) (nI w) v4 (nI (16 * s + r)) (c 0 0) (c 1 0) (c 2) (c 3) (c 4) (c 5) (c 6) (c 7) (c 8) (c 9) (c 10) (c 11) (c 12) (c 13) (c 14) (c 15) (c 16) (c 17))))))))) (nI w) 3) →
          wX_write_34 (fun r_1 u' => wpY_state (fun r_2 => ∀ x6_20 : Int32, x6_20 = 16 * nI s + nI r → ((r_2 = 0 → wpY_in (fun r_22 => (((r_22 = 0 → ((-1 : Int32) = r_1 ∧ i_Rel (k + 6) u' (sd_y c))) ∧ (¬ r_22 = 0 → (((nI w = 2 → (wpY_isLink (fun r_54 => (((r_54 = 0 → ((-1 : Int32) = r_1 ∧ i_Rel (k + 6) u' (sd_y c))) ∧ (¬ r_54 = 0 → (wY_write_45 (fun r' v' => r' = r_1 ∧ i_Rel (k + 6) u' v') (nI s) (nI r) (nI w) v4 x6_20 (c 0 0) (c 1 0) (c 2) (c 3) (c 4) (c 5) (c 6) (c 7) (c 8) (c 9) (c 10) (c 11) (c 12) (c 13) (c 14) (c 15) (c 16) (c 17)))))) v4)) ∧ (¬ nI w = 2 → (wY_write_45 (fun r' v' => r' = r_1 ∧ i_Rel (k + 6) u' v') (nI s) (nI r) (nI w) v4 x6_20 (c 0 0) (c 1 0) (c 2) (c 3) (c 4) (c 5) (c 6) (c 7) (c 8) (c 9) (c 10) (c 11) (c 12) (c 13) (c 14) (c 15) (c 16) (c 17))))))))) (nI w) 3) ∧ (¬ r_2 = 0 → (r_2 = r_1 ∧ i_Rel (k + 6) u' (sd_y c))))) (sd_y c) (nI s) (nI r)) (nI s) (nI r) (nI w) v4 0 (d 0 0) (d 1 0) (d 2 0) (d 3 0) (d 4 0) (d 5 0) (d 6 0) (d 7) (d 8) (d 9) (d 10) (d 11) (d 12) (d 13) (d 14) (d 15) (d 16) (d 17) (d 18) (d 19) (d 20) (d 21) (d 22) (d 23) (d 24) (d 25) (d 26) (d 27) (d 28) (d 29) (d 30) := by
        intro hl hY
        have hYY : ∀ (a : Int32) (d' : sd_T), wY_write_45 (fun r' v' => r' = a ∧ i_Rel (k + 6) (sd_x d') v') (nI s) (nI r) (nI w) v4 (nI (16 * s + r)) (c 0 0) (c 1 0) (c 2) (c 3) (c 4) (c 5) (c 6) (c 7) (c 8) (c 9) (c 10) (c 11) (c 12) (c 13) (c 14) (c 15) (c 16) (c 17) → wpY_state (fun r_2 => ∀ x6_20 : Int32, x6_20 = 16 * nI s + nI r → ((r_2 = 0 → wpY_in (fun r_22 => (((r_22 = 0 → ((-1 : Int32) = a ∧ i_Rel (k + 6) (sd_x d') (sd_y c))) ∧ (¬ r_22 = 0 → (((nI w = 2 → (wpY_isLink (fun r_54 => (((r_54 = 0 → ((-1 : Int32) = a ∧ i_Rel (k + 6) (sd_x d') (sd_y c))) ∧ (¬ r_54 = 0 → (wY_write_45 (fun r' v' => r' = a ∧ i_Rel (k + 6) (sd_x d') v') (nI s) (nI r) (nI w) v4 x6_20 (c 0 0) (c 1 0) (c 2) (c 3) (c 4) (c 5) (c 6) (c 7) (c 8) (c 9) (c 10) (c 11) (c 12) (c 13) (c 14) (c 15) (c 16) (c 17)))))) v4)) ∧ (¬ nI w = 2 → (wY_write_45 (fun r' v' => r' = a ∧ i_Rel (k + 6) (sd_x d') v') (nI s) (nI r) (nI w) v4 x6_20 (c 0 0) (c 1 0) (c 2) (c 3) (c 4) (c 5) (c 6) (c 7) (c 8) (c 9) (c 10) (c 11) (c 12) (c 13) (c 14) (c 15) (c 16) (c 17))))))))) (nI w) 3) ∧ (¬ r_2 = 0 → (r_2 = a ∧ i_Rel (k + 6) (sd_x d') (sd_y c))))) (sd_y c) (nI s) (nI r) :=
          fun a d' q => wy _ (nm_r e16 (br_t rfl (hY _ q)))
        have h5 : bt (d 16 (6 * s + 5)) r = decide (c 6 (16 * s + r) = 5) := sd_kb h 5 hs hr (by decide) (by decide)
        unfold wX_write_34
        rw [e65, sd_ch (n := 6 * s + 5) (by omega)]
        refine ⟨sd_in (by omega), ?_⟩
        by_cases z5 : c 6 (16 * s + r) = 5
        · refine sd_Xh1 (by omega) (by rw [h5, decide_eq_true z5]) (br_f (by decide) (br_f m1 (br_f m1 (hYY (-1) d ?_))))
          unfold wY_write_45
          rw [ec]
          exact ⟨hin, br_f (by rw [z5]; decide) ⟨hin, br_t z5 ⟨rfl, sd_fin h⟩⟩⟩
        · refine sd_Xh0 (by omega) (by rw [h5, decide_eq_false z5]) (br_t rfl (br_t rfl ?_))
          by_cases z0 : c 6 (16 * s + r) = 0
          · refine sd_Xrch0 (d := d) hs hr h z0 (br_f m1 (hYY (-1) d ?_))
            unfold wY_write_45
            rw [ec]
            exact ⟨hin, br_t z0 ⟨rfl, sd_fin h⟩⟩
          · by_cases z3 : c 6 (16 * s + r) = 3
            · obtain ⟨g, c', d', h', hg, _, tx, ty⟩ := sd_Tc hs hr h z3
              refine sd_Xrch3 (d := d) hs hr h z3 tx ?_
              cases g
              · refine br_f (by decide) (hYY (-3) d' ?_)
                unfold wY_write_45
                rw [ec]
                exact ⟨hin, br_f z0 ⟨hin, br_f z5 ⟨hin, br_t z3 (ty _ (br_t rfl (br_t rfl ⟨rfl, sd_fin h'⟩)))⟩⟩⟩
              · have g4' := hg rfl
                obtain ⟨c2, d2, h2, qx, qy⟩ := sd_wrv (w := w) (v := v4) hs hr hw hl h' (by rw [g4']; decide) (by rw [g4']; decide)
                refine qx _ (hYY 0 d2 ?_)
                unfold wY_write_45
                rw [ec]
                exact ⟨hin, br_f z0 ⟨hin, br_f z5 ⟨hin, br_t z3 (ty _ (br_f (by decide) (qy _ ⟨rfl, sd_fin h2⟩)))⟩⟩⟩
            · obtain ⟨c2, d2, h2, qx, qy⟩ := sd_wrv (w := w) (v := v4) hs hr hw hl h z0 z3
              refine sd_Xrch (d := d) hs hr h z0 z3 (qx _ (hYY 0 d2 ?_))
              unfold wY_write_45
              rw [ec]
              exact ⟨hin, br_f z0 ⟨hin, br_f z5 ⟨hin, br_f z3 (qy _ ⟨rfl, sd_fin h2⟩)⟩⟩⟩
      by_cases w2 : w = 2
      · subst w2
        refine br_t (by decide) ?_
        rcases sd_link v4 with ⟨hl, lx, ly⟩ | ⟨lx, ly⟩
        · exact lx _ (br_f (by decide) (main (fun _ => hl) (fun post q => sd_Yw1 (n := 3) hw (by decide) (br_f (by decide) (br_t (by decide) (ly _ (br_f (by decide) q)))))))
        · exact lx _ (br_t rfl (br_f m1 (br_f m1 (wy _ (nm_r e16 (br_t rfl (sd_Yw1 (n := 3) hw (by decide) (br_f (by decide) (br_t (by decide) (ly _ (br_t rfl ⟨rfl, sd_fin h⟩)))))))))))
      · have n2 : ¬ nI w = 2 := sd_ne (b := 2) w2 (by omega) (by decide)
        exact br_f n2 (main (fun q => absurd q w2) (fun post q => sd_Yw1 (n := 3) hw (by decide) (br_f (by decide) (br_f n2 q))))
end
section
/-! refresh, merge -/
theorem i_vc_refresh {k : Nat} {u : SX} {v : SY} (I : i_Rel k u v) (hk : k + 6 ≤ 3072) (v1 : Int32) (v2 : Int32) : wpX_refresh (fun r u' => wpY_refresh (fun r' v' => r' = r ∧ i_Rel (k + 6) u' v') v v1 v2) u v1 v2 := by
  obtain ⟨c, d, rfl, rfl, h⟩ := I
  unfold wpX_refresh wpY_refresh
  rcases sd_wr h v1 v2 with ⟨r, hr, wx, wy⟩ | ⟨s, r, hs, hr, rfl, rfl, wx, wy⟩
  · exact wx _ (br_f (sd_n1 hr) (wy _ (nm_e (br_f (sd_n1 hr) ⟨rfl, sd_fin h⟩))))
  · have e16 : (16 : Int32) * nI s + nI r = nI (16 * s + r) := sd_i16 s r
    have ec : (nI (16 * s + r)).toNatClampNeg = 16 * s + r := sd_ch (by omega)
    have hin : vp_in (nI (16 * s + r)) 48 := sd_in (by omega)
    have e64 : (6 : Int32) * nI s + 4 = nI (6 * s + 4) := by rw [sd_m6, sd_a4]
    have e63 : (6 : Int32) * nI s + 3 = nI (6 * s + 3) := by rw [sd_m6, sd_a3]
    have k4 : bt (d 16 (6 * s + 4)) r = decide (c 6 (16 * s + r) = 4) := sd_kb h 4 hs hr (by decide) (by decide)
    have k3 : bt (d 16 (6 * s + 3)) r = decide (c 6 (16 * s + r) = 3) := sd_kb h 3 hs hr (by decide) (by decide)
    refine wx _ (br_t rfl ?_)
    rw [e64, e63, sd_ch (n := 6 * s + 4) (by omega), sd_ch (n := 6 * s + 3) (by omega)]
    refine ⟨sd_in (by omega), sd_in (by omega), ?_⟩
    by_cases z : c 6 (16 * s + r) = 4 ∨ c 6 (16 * s + r) = 3
    · have hb : bt (d 16 (6 * s + 4) ||| d 16 (6 * s + 3)) r = true := by
        rw [b_or, k4, k3]
        rcases z with z | z <;> rw [z] <;> decide
      have hY : ∀ post : Int32 → SY → Prop, wY_refresh_45 post (nI s) (nI r) (c 0 0) (c 1 0) (c 2) (c 3) (c 4) (c 5) (c 6) (c 7) (c 8) (c 9) (c 10) (c 11) (c 12) (c 13) (c 14) (c 15) (c 16) (c 17) → wpY_state (fun r_1 => ∀ x4_20 : Int32, x4_20 = 16 * nI s + nI r → ((r_1 = 0 → (vp_in x4_20 48 ∧ ((((c 6 x4_20.toNatClampNeg) = 4 → (wY_refresh_45 post (nI s) (nI r) (c 0 0) (c 1 0) (c 2) (c 3) (c 4) (c 5) (c 6) (c 7) (c 8) (c 9) (c 10) (c 11) (c 12) (c 13) (c 14) (c 15) (c 16) (c 17))) ∧ (¬ (c 6 x4_20.toNatClampNeg) = 4 → (vp_in x4_20 48 ∧ ((((c 6 x4_20.toNatClampNeg) = 3 → (wY_refresh_45 post (nI s) (nI r) (c 0 0) (c 1 0) (c 2) (c 3) (c 4) (c 5) (c 6) (c 7) (c 8) (c 9) (c 10) (c 11) (c 12) (c 13) (c 14) (c 15) (c 16) (c 17))) ∧ (¬ (c 6 x4_20.toNatClampNeg) = 3 → (post (-1) (sd_y c))))))))))) ∧ (¬ r_1 = 0 → (post r_1 (sd_y c))))) (sd_y c) (nI s) (nI r) := by
        intro post q
        refine wy _ (nm_r e16 (br_t rfl ⟨hin, ?_⟩))
        rw [ec]
        rcases z with z | z
        · exact br_t z q
        · exact br_f (by rw [z]; decide) ⟨hin, br_t z q⟩
      have h1 := sd_L_cn h 0
      refine sd_Xh1 (by omega) hb (br_f (by decide) (nm_e ?_))
      refine sd_Xseen (c := sd_cn c 0) (d := sd_s d 30 (upd (d 30) 0 (d 30 0 + 1))) hs hr h1.1 ?_
      rcases sd_th01 h1 (q := sd_sg (sd_cn c 0 5) s r) (sd_sg_lt hr) with t | t
      · refine br_t t (hY _ ?_)
        unfold wY_refresh_45
        exact nm_e (sd_Ytk0 (c := sd_cn c 0) hr t (br_t rfl ⟨rfl, sd_fin h1⟩))
      · obtain ⟨d2, h2, w2⟩ := sd_Xkp hr h1
        obtain ⟨d3, h3, w3⟩ := sd_Xfill hs hr h2 (fun _ _ => trivial) (fun _ _ => trivial)
        refine br_f (by rw [t]; decide) (w2 s _ (w3 _ (hY _ ?_)))
        unfold wY_refresh_45
        exact nm_e (sd_Ytk1 (c := sd_cn c 0) hs hr h1 t (br_f (by decide) ⟨rfl, sd_fin (sd_mg_kp h3)⟩))
    · have z4 : ¬ c 6 (16 * s + r) = 4 := fun q => z (Or.inl q)
      have z3 : ¬ c 6 (16 * s + r) = 3 := fun q => z (Or.inr q)
      refine sd_Xh0 (by omega) (by rw [b_or, k4, k3, decide_eq_false z4, decide_eq_false z3]; rfl) (br_t rfl (wy _ (nm_r e16 (br_t rfl ⟨hin, ?_⟩))))
      rw [ec]
      exact br_f z4 ⟨hin, br_f z3 ⟨rfl, sd_fin h⟩⟩
theorem sd_u3u3 (g : Nat → Int32) (i : Nat) (a b c a' b' c' : Int32) : sd_u3 (sd_u3 g i a b c) i a' b' c' = sd_u3 g i a' b' c' := by
  funext j
  by_cases h0 : j = i
  · rw [h0, sd_u3_0, sd_u3_0]
  · by_cases h1 : j = i + 1
    · rw [h1, sd_u3_1, sd_u3_1]
    · by_cases h2 : j = i + 2
      · rw [h2, sd_u3_2, sd_u3_2]
      · rw [sd_u3_n (by omega), sd_u3_n (by omega), sd_u3_n (by omega)]
theorem sd_usf (f : Nat → Int32) (k : Nat) : upd f k (f k) = f := by
  funext j
  by_cases e : j = k
  · rw [e, pk_us]
  · rw [pk_un e]
/-- the copy, on the reference's side -/
theorem sd_Ycp {post : Int32 → SY → Prop} {c : sd_T} {e f : Nat} (he : e < 48) (hf : f < 48) (hn : ¬ e = f) (hp : post 0 (sd_y (sd_s c 7 (sd_u3 (c 7) (3 * e) (c 7 (3 * f)) (c 7 (3 * f + 1)) (c 7 (3 * f + 2)))))) :
    ∃ n : Nat, wY_merge_208 post (nI e) (nI f) (c 0 0) (c 1 0) n 0 (c 2) (c 3) (c 4) (c 5) (c 6) (c 7) (c 8) (c 9) (c 10) (c 11) (c 12) (c 13) (c 14) (c 15) (c 16) (c 17) := by
  have st : ∀ (n k : Nat) (a : Nat → Int32), k < 3 → wY_merge_208 post (nI e) (nI f) (c 0 0) (c 1 0) n (nI (k + 1)) (c 2) (c 3) (c 4) (c 5) (c 6) (upd a (3 * e + k) (a (3 * f + k))) (c 8) (c 9) (c 10) (c 11) (c 12) (c 13) (c 14) (c 15) (c 16) (c 17) → wY_merge_208 post (nI e) (nI f) (c 0 0) (c 1 0) (n + 1) (nI k) (c 2) (c 3) (c 4) (c 5) (c 6) a (c 8) (c 9) (c 10) (c 11) (c 12) (c 13) (c 14) (c 15) (c 16) (c 17) := by
    intro n k a hk q
    refine br_f (nI_ge (a := k) (b := 3) hk (by decide)) ?_
    rw [sd_i3, sd_i3, sd_ch (n := 3 * e + k) (by omega), sd_ch (n := 3 * f + k) (by omega)]
    exact ⟨sd_in (by omega), sd_in (by omega), nm_e (nm_r (nI_1 k) q)⟩
  refine ⟨4, st 3 0 (c 7) (by decide) (st 2 1 _ (by decide) (st 1 2 _ (by decide) (br_t (by decide) ?_)))⟩
  have e1 : upd (upd (upd (c 7) (3 * e + 0) (c 7 (3 * f + 0))) (3 * e + 1) (upd (c 7) (3 * e + 0) (c 7 (3 * f + 0)) (3 * f + 1))) (3 * e + 2) (upd (upd (c 7) (3 * e + 0) (c 7 (3 * f + 0))) (3 * e + 1) (upd (c 7) (3 * e + 0) (c 7 (3 * f + 0)) (3 * f + 1)) (3 * f + 2)) = sd_u3 (c 7) (3 * e) (c 7 (3 * f)) (c 7 (3 * f + 1)) (c 7 (3 * f + 2)) := by
    rw [pk_un (j := 3 * f + 2) (by omega), pk_un (j := 3 * f + 2) (by omega), pk_un (j := 3 * f + 1) (by omega)]
    rfl
  rw [e1]
  exact hp
/-- the copy, on the component's side: the own values may be anything before -/
theorem sd_Xcp {c d : sd_T} {s t r : Nat} (hs : s < 3) (ht : t < 3) (hr : r < 16) (h : sd_L c d) (f0 : ¬ c 6 (16 * t + r) = 0) (f3 : ¬ c 6 (16 * t + r) = 3) :
    ∃ d', sd_L (sd_s c 7 (sd_u3 (c 7) (3 * (16 * s + r)) (c 7 (3 * (16 * t + r))) (c 7 (3 * (16 * t + r) + 1)) (c 7 (3 * (16 * t + r) + 2)))) d' ∧ ∀ post : Int32 → SX → Prop, post 0 (sd_x d') → wX_merge_199 post (nI s) (nI t) (nI r) (d 0 0) (d 1 0) (d 2 0) (d 3 0) (d 4 0) (d 5 0) (d 6 0) (d 7) (d 8) (d 9) (d 10) (d 11) (d 12) (d 13) (d 14) (d 15) (d 16) (d 17) (d 18) (d 19) (d 20) (d 21) (d 22) (d 23) (d 24) (d 25) (d 26) (d 27) (d 28) (d 29) (d 30) := by
  have hv := sd_va h (e := 16 * s + r) (by omega)
  obtain ⟨v0, v1, v2⟩ := (sd_va h (e := 16 * t + r) (by omega)).1 f0 f3
  have hlr := h.2.1.2.2.2.2.2 (16 * s + r) (by omega)
  have hlt := (h.2.1.2.2.2.2.2 (16 * t + r) (by omega)).1
  have hin : vp_in (nI (16 * s + r)) 48 := sd_in (by omega)
  have hit : vp_in (nI (16 * t + r)) 48 := sd_in (by omega)
  have ha := sd_RE_al (e0 := 16 * s + r) (w7 := sd_u3 (c 7) (3 * (16 * s + r)) (c 7 (3 * (16 * t + r))) (c 7 (3 * (16 * t + r) + 1)) (c 7 (3 * (16 * t + r) + 2)))
    (z19 := upd (d 19) (16 * s + r) (c 7 (3 * (16 * t + r)))) (z20 := upd (d 20) (16 * s + r) (c 7 (3 * (16 * t + r) + 1))) (z21 := upd (d 21) (16 * s + r) (c 7 (3 * (16 * t + r) + 2)))
    h.2.1 (fun _ _ => trivial) (fun _ _ => trivial) (h.2.1.1 s r hs hr) ⟨by rw [sd_u3_2]; exact hlt, hlr.2.1, by rw [pk_us]; exact hlt⟩ (sd_al_u _ _ _) (sd_al_u _ _ _) (sd_al_u _ _ _) (sd_al_r _ (d 22)) (sd_al_r _ (d 23)) (sd_al_r _ (d 24)) (sd_al_r _ (d 25)) (sd_al_r _ (c 6)) (sd_al3_u _ _ _ _ _) (sd_al3_r _ (c 8)) (sd_al_r _ (c 9))
  obtain ⟨d', hd, w⟩ := sd_Xcmp (c := sd_s c 7 (sd_u3 (c 7) (3 * (16 * s + r)) (c 7 (3 * (16 * t + r))) (c 7 (3 * (16 * t + r) + 1)) (c 7 (3 * (16 * t + r) + 2))))
    (d := sd_s (sd_s (sd_s d 19 (upd (d 19) (16 * s + r) (c 7 (3 * (16 * t + r))))) 20 (upd (d 20) (16 * s + r) (c 7 (3 * (16 * t + r) + 1)))) 21 (upd (d 21) (16 * s + r) (c 7 (3 * (16 * t + r) + 2)))) hs hr ⟨h.1, ⟨ha.1, h.2.1.2.1, ha.2.2.1, ha.2.2.2.1, (by
      intro e he _
      by_cases q : e = 16 * s + r
      · subst q
        refine ⟨fun _ _ => ⟨?_, ?_, ?_⟩, hv.2⟩
        · show upd _ _ _ _ = sd_u3 _ _ _ _ _ _; rw [pk_us, sd_u3_0]
        · show upd _ _ _ _ = sd_u3 _ _ _ _ _ _; rw [pk_us, sd_u3_1]
        · show upd _ _ _ _ = sd_u3 _ _ _ _ _ _; rw [pk_us, sd_u3_2]
      · exact ha.2.2.2.2.1 e he q), ha.2.2.2.2.2⟩, h.2.2⟩
  refine ⟨d', hd, fun post hp => ?_⟩
  unfold wX_merge_199
  rw [sd_i16, sd_i16, sd_ch (n := 16 * s + r) (by omega), sd_ch (n := 16 * t + r) (by omega), v0, v1, v2, sd_lrn hlt]
  exact ⟨hit, hin, nm_e ⟨hit, hin, nm_e ⟨hit, hin, nm_e (w _ hp)⟩⟩⟩
/-- from the check of versions on -/
theorem sd_mgv {c d : sd_T} {s t r : Nat} (hs : s < 3) (ht : t < 3) (hr : r < 16) (hst : ¬ s = t) (h : sd_L c d) (f0 : ¬ c 6 (16 * t + r) = 0) (f3 : ¬ c 6 (16 * t + r) = 3) : ∃ (a : Int32) (c' d' : sd_T), sd_L c' d' ∧
    (∀ post : Int32 → SX → Prop, post a (sd_x d') → wX_merge_159 post (nI s) (nI t) (nI r) (c 6 (16 * t + r)) (c 6 (16 * s + r)) (d 0 0) (d 1 0) (d 2 0) (d 3 0) (d 4 0) (d 5 0) (d 6 0) (d 7) (d 8) (d 9) (d 10) (d 11) (d 12) (d 13) (d 14) (d 15) (d 16) (d 17) (d 18) (d 19) (d 20) (d 21) (d 22) (d 23) (d 24) (d 25) (d 26) (d 27) (d 28) (d 29) (d 30)) ∧ (∀ post : Int32 → SY → Prop, post a (sd_y c') → wY_merge_163 post (nI (16 * s + r)) (nI (16 * t + r)) (c 0 0) (c 1 0) (c 2) (c 3) (c 4) (c 5) (c 6) (c 7) (c 8) (c 9) (c 10) (c 11) (c 12) (c 13) (c 14) (c 15) (c 16) (c 17)) := by
  have hin : vp_in (nI (16 * s + r)) 48 := sd_in (by omega)
  have hit : vp_in (nI (16 * t + r)) 48 := sd_in (by omega)
  obtain ⟨d', hd, w⟩ := sd_Xcp hs ht hr h f0 f3
  have cs : (nI (16 * s + r)).toNatClampNeg = 16 * s + r := sd_ch (by omega)
  have ct : (nI (16 * t + r)).toNatClampNeg = 16 * t + r := sd_ch (by omega)
  have wY : ∀ post : Int32 → SY → Prop, post 0 (sd_y (sd_s c 7 (sd_u3 (c 7) (3 * (16 * s + r)) (c 7 (3 * (16 * t + r))) (c 7 (3 * (16 * t + r) + 1)) (c 7 (3 * (16 * t + r) + 2))))) → ∃ n : Nat, wY_merge_208 post (nI (16 * s + r)) (nI (16 * t + r)) (c 0 0) (c 1 0) n 0 (c 2) (c 3) (c 4) (c 5) (c 6) (c 7) (c 8) (c 9) (c 10) (c 11) (c 12) (c 13) (c 14) (c 15) (c 16) (c 17) := fun post hp => sd_Ycp (by omega) (by omega) (by omega) hp
  by_cases z1 : c 6 (16 * s + r) = 4
  · by_cases z2 : c 6 (16 * t + r) = 4
    · have ve := (sd_va h (e := 16 * s + r) (by omega)).2 (Or.inl z1)
      have vf := (sd_va h (e := 16 * t + r) (by omega)).2 (Or.inl z2)
      by_cases z : c 9 (16 * s + r) = c 9 (16 * t + r)
      · refine ⟨0, _, d', hd, fun post hp => ?_, fun post hp => ?_⟩
        · unfold wX_merge_159
          rw [sd_i16, sd_i16, cs, ct, ve.2.2.2, vf.2.2.2]
          exact br_t z1 (br_t z2 ⟨hin, hit, br_t z (w post hp)⟩)
        · unfold wY_merge_163
          rw [cs, ct]
          exact ⟨hin, br_t z1 ⟨hit, br_t z2 ⟨hin, hit, br_t z (wY post hp)⟩⟩⟩
      · refine ⟨-4, c, d, h, fun post hp => ?_, fun post hp => ?_⟩
        · unfold wX_merge_159
          rw [sd_i16, sd_i16, cs, ct, ve.2.2.2, vf.2.2.2]
          exact br_t z1 (br_t z2 ⟨hin, hit, br_f z hp⟩)
        · unfold wY_merge_163
          rw [cs, ct]
          exact ⟨hin, br_t z1 ⟨hit, br_t z2 ⟨hin, hit, br_f z hp⟩⟩⟩
    · refine ⟨0, _, d', hd, fun post hp => ?_, fun post hp => ?_⟩
      · unfold wX_merge_159
        exact br_t z1 (br_f z2 (w post hp))
      · unfold wY_merge_163
        rw [cs, ct]
        exact ⟨hin, br_t z1 ⟨hit, br_f z2 (wY post hp)⟩⟩
  · refine ⟨0, _, d', hd, fun post hp => ?_, fun post hp => ?_⟩
    · unfold wX_merge_159
      exact br_f z1 (w post hp)
    · unfold wY_merge_163
      rw [cs]
      exact ⟨hin, br_f z1 (wY post hp)⟩
/-- behind the load -/
theorem sd_mgl {c d : sd_T} {s t r : Nat} (hs : s < 3) (ht : t < 3) (hr : r < 16) (hst : ¬ s = t) (h : sd_L c d) (f0 : ¬ c 6 (16 * t + r) = 0) (f3 : ¬ c 6 (16 * t + r) = 3) (g : Bool) (hg : g = true → c 6 (16 * s + r) = 4) (hn : g = false → ¬ c 6 (16 * s + r) = 4) : ∃ (a : Int32) (c' d' : sd_T), sd_L c' d' ∧
    (∀ post : Int32 → SX → Prop, post a (sd_x d') → wX_merge_108 post (nI s) (nI t) (nI r) (c 6 (16 * t + r)) (d 0 0) (d 1 0) (d 2 0) (d 3 0) (d 4 0) (d 5 0) (d 6 0) (d 7) (d 8) (d 9) (d 10) (d 11) (d 12) (d 13) (d 14) (d 15) (d 16) (d 17) (d 18) (d 19) (d 20) (d 21) (d 22) (d 23) (d 24) (d 25) (d 26) (d 27) (d 28) (d 29) (d 30)) ∧ (∀ post : Int32 → SY → Prop, post a (sd_y c') → wY_merge_127 post (nI (16 * s + r)) (nI (16 * t + r)) (sd_b g) (c 0 0) (c 1 0) (c 2) (c 3) (c 4) (c 5) (c 6) (c 7) (c 8) (c 9) (c 10) (c 11) (c 12) (c 13) (c 14) (c 15) (c 16) (c 17)) := by
  have hin : vp_in (nI (16 * s + r)) 48 := sd_in (by omega)
  have hit : vp_in (nI (16 * t + r)) 48 := sd_in (by omega)
  have cs : (nI (16 * s + r)).toNatClampNeg = 16 * s + r := sd_ch (by omega)
  have ct : (nI (16 * t + r)).toNatClampNeg = 16 * t + r := sd_ch (by omega)
  have e64 : (6 : Int32) * nI s + 4 = nI (6 * s + 4) := by rw [sd_m6, sd_a4]
  have k4 : bt (d 16 (6 * s + 4)) r = decide (c 6 (16 * s + r) = 4) := sd_kb h 4 hs hr (by decide) (by decide)
  cases g
  · have n4 := hn rfl
    by_cases z2 : c 6 (16 * t + r) = 4
    · refine ⟨-4, c, d, h, fun post hp => ?_, fun post hp => ?_⟩
      · unfold wX_merge_108
        rw [e64, sd_ch (n := 6 * s + 4) (by omega)]
        exact ⟨sd_in (by omega), sd_Xh0 (by omega) (by rw [k4, decide_eq_false n4]) (br_t rfl (br_t rfl (br_t z2 hp)))⟩
      · unfold wY_merge_127
        rw [ct]
        exact br_t rfl ⟨hit, br_t z2 hp⟩
    · obtain ⟨d1, h1, w1⟩ := sd_Xbf 2 (d 19 (16 * s + r)) (d 20 (16 * s + r)) (d 21 (16 * s + r)) hs hr (by decide) (h.2.1.2.2.2.2.2 (16 * s + r) (by omega)).2.2 h
      rw [sd_usf, sd_usf, sd_usf] at w1
      have ne : ¬ 16 * t + r = 16 * s + r := by omega
      have kf : sd_fl c (16 * s + r) (nI 2) (d 19 (16 * s + r)) (d 20 (16 * s + r)) (d 21 (16 * s + r)) 6 (16 * t + r) = c 6 (16 * t + r) := pk_un ne
      have ke : sd_fl c (16 * s + r) (nI 2) (d 19 (16 * s + r)) (d 20 (16 * s + r)) (d 21 (16 * s + r)) 6 (16 * s + r) = 2 := pk_us
      have vf : ∀ (a b l : Int32) (j : Nat), j < 3 → sd_u3 (c 7) (3 * (16 * s + r)) a b l (3 * (16 * t + r) + j) = c 7 (3 * (16 * t + r) + j) := fun a b l j hj => sd_u3_n (by omega)
      obtain ⟨d', hd, w⟩ := sd_Xcp hs ht hr h1 (by rw [kf]; exact f0) (by rw [kf]; exact f3)
      refine ⟨0, sd_s (sd_fl c (16 * s + r) 2 0 0 (-1)) 7 (sd_u3 (c 7) (3 * (16 * s + r)) (c 7 (3 * (16 * t + r))) (c 7 (3 * (16 * t + r) + 1)) (c 7 (3 * (16 * t + r) + 2))), d', ?_, fun post hp => ?_, fun post hp => ?_⟩
      · have e1 : sd_u3 (sd_fl c (16 * s + r) (nI 2) (d 19 (16 * s + r)) (d 20 (16 * s + r)) (d 21 (16 * s + r)) 7) (3 * (16 * s + r)) (sd_fl c (16 * s + r) (nI 2) (d 19 (16 * s + r)) (d 20 (16 * s + r)) (d 21 (16 * s + r)) 7 (3 * (16 * t + r))) (sd_fl c (16 * s + r) (nI 2) (d 19 (16 * s + r)) (d 20 (16 * s + r)) (d 21 (16 * s + r)) 7 (3 * (16 * t + r) + 1)) (sd_fl c (16 * s + r) (nI 2) (d 19 (16 * s + r)) (d 20 (16 * s + r)) (d 21 (16 * s + r)) 7 (3 * (16 * t + r) + 2))
            = sd_u3 (c 7) (3 * (16 * s + r)) (c 7 (3 * (16 * t + r))) (c 7 (3 * (16 * t + r) + 1)) (c 7 (3 * (16 * t + r) + 2)) := by
          show sd_u3 (sd_u3 (c 7) (3 * (16 * s + r)) (d 19 (16 * s + r)) (d 20 (16 * s + r)) (d 21 (16 * s + r))) (3 * (16 * s + r)) (sd_u3 (c 7) (3 * (16 * s + r)) (d 19 (16 * s + r)) (d 20 (16 * s + r)) (d 21 (16 * s + r)) (3 * (16 * t + r) + 0)) (sd_u3 (c 7) (3 * (16 * s + r)) (d 19 (16 * s + r)) (d 20 (16 * s + r)) (d 21 (16 * s + r)) (3 * (16 * t + r) + 1)) (sd_u3 (c 7) (3 * (16 * s + r)) (d 19 (16 * s + r)) (d 20 (16 * s + r)) (d 21 (16 * s + r)) (3 * (16 * t + r) + 2)) = _
          rw [vf _ _ _ 0 (by decide), vf _ _ _ 1 (by decide), vf _ _ _ 2 (by decide), sd_u3u3]
          rfl
        rw [e1] at hd
        exact hd
      · unfold wX_merge_108
        rw [e64, sd_ch (n := 6 * s + 4) (by omega)]
        exact ⟨sd_in (by omega), sd_Xh0 (by omega) (by rw [k4, decide_eq_false n4]) (br_t rfl (br_t rfl (br_f z2 (br_t rfl (w1 _ (br_f (by decide) (w post hp)))))))⟩
      · unfold wY_merge_127
        rw [ct]
        refine br_t rfl ⟨hit, br_f z2 (br_t rfl (sd_Yfl (c := c) (by omega) ?_))⟩
        unfold wY_merge_163
        rw [cs]
        refine ⟨hin, br_f ?_ (sd_Ycp (c := sd_fl c (16 * s + r) 2 0 0 (-1)) (by omega) (by omega) (by omega) ?_)⟩
        · show ¬ upd (c 6) (16 * s + r) 2 (16 * s + r) = 4
          rw [pk_us]; decide
        · have e1 : sd_u3 (sd_fl c (16 * s + r) 2 0 0 (-1) 7) (3 * (16 * s + r)) (sd_fl c (16 * s + r) 2 0 0 (-1) 7 (3 * (16 * t + r))) (sd_fl c (16 * s + r) 2 0 0 (-1) 7 (3 * (16 * t + r) + 1)) (sd_fl c (16 * s + r) 2 0 0 (-1) 7 (3 * (16 * t + r) + 2))
              = sd_u3 (c 7) (3 * (16 * s + r)) (c 7 (3 * (16 * t + r))) (c 7 (3 * (16 * t + r) + 1)) (c 7 (3 * (16 * t + r) + 2)) := by
            show sd_u3 (sd_u3 (c 7) (3 * (16 * s + r)) 0 0 (-1)) (3 * (16 * s + r)) (sd_u3 (c 7) (3 * (16 * s + r)) 0 0 (-1) (3 * (16 * t + r) + 0)) (sd_u3 (c 7) (3 * (16 * s + r)) 0 0 (-1) (3 * (16 * t + r) + 1)) (sd_u3 (c 7) (3 * (16 * s + r)) 0 0 (-1) (3 * (16 * t + r) + 2)) = _
            rw [vf _ _ _ 0 (by decide), vf _ _ _ 1 (by decide), vf _ _ _ 2 (by decide), sd_u3u3]
            rfl
          rw [e1]
          exact hp
  · have z4 := hg rfl
    obtain ⟨a, c', d', h', wx, wy⟩ := sd_mgv hs ht hr hst h f0 f3
    rw [z4] at wx
    refine ⟨a, c', d', h', fun post hp => ?_, fun post hp => ?_⟩
    · unfold wX_merge_108
      rw [e64, sd_ch (n := 6 * s + 4) (by omega)]
      exact ⟨sd_in (by omega), sd_Xh1 (by omega) (by rw [k4, decide_eq_true z4]) (br_f (by decide) (br_f (by decide) (br_f (by decide) (wx post hp))))⟩
    · exact br_f (by decide) (br_f (by decide) (wy post hp))
theorem i_vc_merge {k : Nat} {u : SX} {v : SY} (I : i_Rel k u v) (hk : k + 6 ≤ 3072) (v1 : Int32) (v2 : Int32) (v3 : Int32) : wpX_merge (fun r u' => wpY_merge (fun r' v' => r' = r ∧ i_Rel (k + 6) u' v') v v1 v2 v3) u v1 v2 v3 := by
  obtain ⟨c, d, rfl, rfl, h⟩ := I
  unfold wpX_merge wpY_merge
  have m1 : ¬ (-1 : Int32) = 0 := by decide
  rcases sd_ix v2 3 (by decide) with hx | ⟨t, ht, rfl⟩
  · exact sd_Xw0 hx (br_t rfl (br_f m1 (sd_Yw0 hx (br_t rfl ⟨rfl, sd_fin h⟩))))
  · refine sd_Xw1 (n := 3) ht (by decide) (br_f (by decide) ?_)
    rcases sd_wr h v1 v3 with ⟨r, hr, wx, wy⟩ | ⟨s, r, hs, hr, rfl, rfl, wx, wy⟩
    · exact wx _ (br_f (sd_n1 hr) (sd_Yw1 (n := 3) ht (by decide) (br_f (by decide) (wy _ (nm_e (nm_e (br_f (sd_n1 hr) ⟨rfl, sd_fin h⟩)))))))
    · have e16 : (16 : Int32) * nI s + nI r = nI (16 * s + r) := sd_i16 s r
      have t16 : (16 : Int32) * nI t + nI r = nI (16 * t + r) := sd_i16 t r
      have hin : vp_in (nI (16 * s + r)) 48 := sd_in (by omega)
      have hit : vp_in (nI (16 * t + r)) 48 := sd_in (by omega)
      have cs : (nI (16 * s + r)).toNatClampNeg = 16 * s + r := sd_ch (by omega)
      have ct : (nI (16 * t + r)).toNatClampNeg = 16 * t + r := sd_ch (by omega)
      refine wx _ (br_t rfl (sd_Xsort (d := d) ht hr h (sd_Xsort (d := d) hs hr h ?_)))
      by_cases est : s = t
      · subst est
        exact br_t rfl (sd_Yw1 (n := 3) ht (by decide) (br_f (by decide) (wy _ (nm_e (nm_e (br_t rfl (br_t rfl ⟨rfl, sd_fin h⟩)))))))
      · have nst : ¬ nI s = nI t := sd_ne est (by omega) (by omega)
        refine br_f nst ?_
        by_cases f0 : c 6 (16 * t + r) = 0
        · refine br_t f0 (sd_Yw1 (n := 3) ht (by decide) (br_f (by decide) (wy _ (nm_r e16 (nm_r t16 (br_t rfl (br_f nst ⟨hit, ?_⟩)))))))
          rw [ct]
          exact br_t f0 ⟨rfl, sd_fin h⟩
        · refine br_f f0 ?_
          by_cases f3 : c 6 (16 * t + r) = 3
          · refine br_t f3 (sd_Yw1 (n := 3) ht (by decide) (br_f (by decide) (wy _ (nm_r e16 (nm_r t16 (br_t rfl (br_f nst ⟨hit, ?_⟩)))))))
            rw [ct]
            exact br_f f0 ⟨hit, br_t f3 ⟨rfl, sd_fin h⟩⟩
          · refine br_f f3 ?_
            by_cases f5 : c 6 (16 * t + r) = 5
            · refine br_t f5 (sd_Yw1 (n := 3) ht (by decide) (br_f (by decide) (wy _ (nm_r e16 (nm_r t16 (br_t rfl (br_f nst ⟨hit, ?_⟩)))))))
              rw [ct]
              exact br_f f0 ⟨hit, br_f f3 ⟨hit, br_t f5 ⟨rfl, sd_fin h⟩⟩⟩
            · refine br_f f5 ?_
              by_cases e5 : c 6 (16 * s + r) = 5
              · refine br_t e5 (sd_Yw1 (n := 3) ht (by decide) (br_f (by decide) (wy _ (nm_r e16 (nm_r t16 (br_t rfl (br_f nst ⟨hit, ?_⟩)))))))
                rw [ct, cs]
                exact br_f f0 ⟨hit, br_f f3 ⟨hit, br_f f5 ⟨hin, br_t e5 ⟨rfl, sd_fin h⟩⟩⟩⟩
              · refine br_f e5 ?_
                by_cases ez : c 6 (16 * s + r) = 0 ∨ c 6 (16 * s + r) = 3
                · obtain ⟨a, b, c1, d1, h1, hab, hfr, lx, ly⟩ := sd_Ld hs hr h
                  have ne : ¬ 16 * t + r = 16 * s + r := by omega
                  have kf : c1 6 (16 * t + r) = c 6 (16 * t + r) := hfr.1 _ ne
                  have n4 : ¬ c 6 (16 * s + r) = 4 := by rcases ez with q | q <;> rw [q] <;> decide
                  -- the rest of both walks, with the counter told
                  have fin : ∀ (g : Bool) (c2 d2 : sd_T), sd_L c2 d2 → c2 6 (16 * t + r) = c 6 (16 * t + r) → (g = true → c2 6 (16 * s + r) = 4) → (g = false → ¬ c2 6 (16 * s + r) = 4) →
                      (∀ post : Int32 → SX → Prop, wX_merge_108 post (nI s) (nI t) (nI r) (c 6 (16 * t + r)) (d2 0 0) (d2 1 0) (d2 2 0) (d2 3 0) (d2 4 0) (d2 5 0) (d2 6 0) (d2 7) (d2 8) (d2 9) (d2 10) (d2 11) (d2 12) (d2 13) (d2 14) (d2 15) (d2 16) (d2 17) (d2 18) (d2 19) (d2 20) (d2 21) (d2 22) (d2 23) (d2 24) (d2 25) (d2 26) (d2 27) (d2 28) (d2 29) (d2 30) → wX_merge_85 post (nI s) (nI t) (nI r) (c 6 (16 * t + r)) (d 0 0) (d 1 0) (d 2 0) (d 3 0) (d 4 0) (d 5 0) (d 6 0) (d 7) (d 8) (d 9) (d 10) (d 11) (d 12) (d 13) (d 14) (d 15) (d 16) (d 17) (d 18) (d 19) (d 20) (d 21) (d 22) (d 23) (d 24) (d 25) (d 26) (d 27) (d 28) (d 29) (d 30)) →
                      (∀ post : Int32 → SY → Prop, wY_merge_127 post (nI (16 * s + r)) (nI (16 * t + r)) (sd_b g) (c2 0 0) (c2 1 0) (c2 2) (c2 3) (c2 4) (c2 5) (c2 6) (c2 7) (c2 8) (c2 9) (c2 10) (c2 11) (c2 12) (c2 13) (c2 14) (c2 15) (c2 16) (c2 17) → wY_merge_113 post (nI s) (nI r) (nI (16 * s + r)) (nI (16 * t + r)) (c 0 0) (c 1 0) (c 2) (c 3) (c 4) (c 5) (c 6) (c 7) (c 8) (c 9) (c 10) (c 11) (c 12) (c 13) (c 14) (c 15) (c 16) (c 17)) →
                      ∃ (a' : Int32) (c' d' : sd_T), sd_L c' d' ∧ (∀ post : Int32 → SX → Prop, post a' (sd_x d') → wX_merge_85 post (nI s) (nI t) (nI r) (c 6 (16 * t + r)) (d 0 0) (d 1 0) (d 2 0) (d 3 0) (d 4 0) (d 5 0) (d 6 0) (d 7) (d 8) (d 9) (d 10) (d 11) (d 12) (d 13) (d 14) (d 15) (d 16) (d 17) (d 18) (d 19) (d 20) (d 21) (d 22) (d 23) (d 24) (d 25) (d 26) (d 27) (d 28) (d 29) (d 30)) ∧ (∀ post : Int32 → SY → Prop, post a' (sd_y c') → wY_merge_113 post (nI s) (nI r) (nI (16 * s + r)) (nI (16 * t + r)) (c 0 0) (c 1 0) (c 2) (c 3) (c 4) (c 5) (c 6) (c 7) (c 8) (c 9) (c 10) (c 11) (c 12) (c 13) (c 14) (c 15) (c 16) (c 17)) := by
                    intro g c2 d2 h2 k2 g1 g0 qx qy
                    obtain ⟨a', c', d', h', wx', wy'⟩ := sd_mgl hs ht hr est h2 (by rw [k2]; exact f0) (by rw [k2]; exact f3) g g1 g0
                    rw [k2] at wx'
                    exact ⟨a', c', d', h', fun post hp => qx post (wx' post hp), fun post hp => qy post (wy' post hp)⟩
                  have out : ∃ (a' : Int32) (c' d' : sd_T), sd_L c' d' ∧ (∀ post : Int32 → SX → Prop, post a' (sd_x d') → wX_merge_85 post (nI s) (nI t) (nI r) (c 6 (16 * t + r)) (d 0 0) (d 1 0) (d 2 0) (d 3 0) (d 4 0) (d 5 0) (d 6 0) (d 7) (d 8) (d 9) (d 10) (d 11) (d 12) (d 13) (d 14) (d 15) (d 16) (d 17) (d 18) (d 19) (d 20) (d 21) (d 22) (d 23) (d 24) (d 25) (d 26) (d 27) (d 28) (d 29) (d 30)) ∧ (∀ post : Int32 → SY → Prop, post a' (sd_y c') → wY_merge_113 post (nI s) (nI r) (nI (16 * s + r)) (nI (16 * t + r)) (c 0 0) (c 1 0) (c 2) (c 3) (c 4) (c 5) (c 6) (c 7) (c 8) (c 9) (c 10) (c 11) (c 12) (c 13) (c 14) (c 15) (c 16) (c 17)) := by
                    rcases hab with ⟨e1, e2, e4⟩ | ⟨e1, e2, e4⟩ | ⟨e1, e2, e4⟩
                    · subst e1 e2
                      refine fin true c1 d1 h1 kf (fun _ => e4) (fun q => absurd q (by decide)) (fun post q => ?_) (fun post q => ?_)
                      · unfold wX_merge_85
                        exact lx _ (br_t rfl q)
                      · unfold wY_merge_113 wpY_loadAlone
                        exact ly _ (br_t (by decide) (br_f (by decide) (br_f (by decide) q)))
                    · subst e1 e2
                      refine fin true (sd_cn c1 0) (sd_s d1 30 (upd (d1 30) 0 (d1 30 0 + 1))) (sd_L_cn h1 0) kf (fun _ => e4) (fun q => absurd q (by decide)) (fun post q => ?_) (fun post q => ?_)
                      · unfold wX_merge_85
                        exact lx _ (br_f (by decide) (nm_e q))
                      · unfold wY_merge_113 wpY_loadAlone
                        exact ly _ (br_f (by decide) (nm_e (br_f (by decide) (br_f (by decide) q))))
                    · subst e1 e2 e4
                      refine fin false (sd_cn c1 0) (sd_s d1 30 (upd (d1 30) 0 (d1 30 0 + 1))) (sd_L_cn h1 0) kf (fun q => absurd q (by decide)) (fun _ => n4) (fun post q => ?_) (fun post q => ?_)
                      · unfold wX_merge_85
                        exact lx _ (br_f (by decide) (nm_e q))
                      · unfold wY_merge_113 wpY_loadAlone
                        exact ly _ (br_f (by decide) (nm_e (br_t (by decide) (br_t rfl q))))
                  obtain ⟨a', c', d', h', wx', wy'⟩ := out
                  rcases ez with e0 | e3
                  · refine br_t e0 (wx' _ (sd_Yw1 (n := 3) ht (by decide) (br_f (by decide) (wy _ (nm_r e16 (nm_r t16 (br_t rfl (br_f nst ⟨hit, ?_⟩))))))))
                    rw [ct, cs]
                    exact br_f f0 ⟨hit, br_f f3 ⟨hit, br_f f5 ⟨hin, br_f e5 ⟨hin, br_t e0 (wy' _ ⟨rfl, sd_fin h'⟩)⟩⟩⟩⟩
                  · refine br_f (by rw [e3]; decide) (br_t e3 (wx' _ (sd_Yw1 (n := 3) ht (by decide) (br_f (by decide) (wy _ (nm_r e16 (nm_r t16 (br_t rfl (br_f nst ⟨hit, ?_⟩)))))))))
                    rw [ct, cs]
                    exact br_f f0 ⟨hit, br_f f3 ⟨hit, br_f f5 ⟨hin, br_f e5 ⟨hin, br_f (by rw [e3]; decide) ⟨hin, br_t e3 (wy' _ ⟨rfl, sd_fin h'⟩)⟩⟩⟩⟩⟩
                · have e0 : ¬ c 6 (16 * s + r) = 0 := fun q => ez (Or.inl q)
                  have e3 : ¬ c 6 (16 * s + r) = 3 := fun q => ez (Or.inr q)
                  obtain ⟨a', c', d', h', wx', wy'⟩ := sd_mgv hs ht hr est h f0 f3
                  refine br_f e0 (br_f e3 (wx' _ (sd_Yw1 (n := 3) ht (by decide) (br_f (by decide) (wy _ (nm_r e16 (nm_r t16 (br_t rfl (br_f nst ⟨hit, ?_⟩)))))))))
                  rw [ct, cs]
                  exact br_f f0 ⟨hit, br_f f3 ⟨hit, br_f f5 ⟨hin, br_f e5 ⟨hin, br_f e0 ⟨hin, br_f e3 (br_f (by decide) (br_f (by decide) (wy' _ ⟨rfl, sd_fin h'⟩)))⟩⟩⟩⟩⟩
end
section
/-! answers; rollback; the constructors -/
theorem i_vc_found {k : Nat} {u : SX} {v : SY} (I : i_Rel k u v) (hk : k + 6 ≤ 3072) (v1 : Int32) : wpX_found (fun r => wpY_found (fun r' => r' = r ∧ i_Rel (k + 6) u v) v v1) u v1 := by
  obtain ⟨c, d, rfl, rfl, h⟩ := I
  have e6 : d 6 0 = c 1 0 := h.2.2.2.2.2.2.1
  obtain ⟨f, hf, ef⟩ := h.2.2.2.2.2.2.2.1
  have e29 : d 29 = c 16 := h.2.2.2.2.2.2.2.2.1
  unfold wpX_found wpY_found
  rcases sd_ix v1 f (by omega) with hx | ⟨j, hj, rfl⟩
  · refine sd_Xw0 (by show v1 < 0 ∨ d 6 0 ≤ v1; rw [e6, ef]; exact hx) (br_t rfl (sd_Yw0 (by show v1 < 0 ∨ c 1 0 ≤ v1; rw [ef]; exact hx) (br_t rfl ⟨rfl, sd_fin h⟩)))
  · have e6' : d 6 0 = nI f := e6.trans ef
    have hX : ∀ post : Int32 → Prop, post 1 → wpX_within post (nI j) (d 6 0) := fun post q => by rw [e6']; exact sd_Xw1 hj (by omega) q
    have hY : ∀ post : Int32 → Prop, post 1 → wpY_in post (nI j) (c 1 0) := fun post q => by rw [ef]; exact sd_Yw1 hj (by omega) q
    refine hX _ (br_f (by decide) ⟨sd_in (by omega), hY _ (br_f (by decide) ⟨sd_in (by omega), ?_, sd_fin h⟩)⟩)
    show c 16 _ = d 29 _
    rw [e29]
theorem i_vc_count {k : Nat} {u : SX} {v : SY} (I : i_Rel k u v) (hk : k + 6 ≤ 3072) (v1 : Int32) : wpX_count (fun r => wpY_count (fun r' => r' = r ∧ i_Rel (k + 6) u v) v v1) u v1 := by
  obtain ⟨c, d, rfl, rfl, h⟩ := I
  have e30 : d 30 = c 17 := h.2.2.2.2.2.2.2.2.2.2.1
  unfold wpX_count wpY_count
  rcases sd_ix v1 5 (by omega) with hx | ⟨j, hj, rfl⟩
  · exact sd_Xw0 hx (br_t rfl (sd_Yw0 hx (br_t rfl ⟨rfl, sd_fin h⟩)))
  · refine sd_Xw1 (n := 5) hj (by decide) (br_f (by decide) ⟨sd_in hj, sd_Yw1 (n := 5) hj (by decide) (br_f (by decide) ⟨sd_in hj, ?_, sd_fin h⟩)⟩)
    show c 17 _ = d 30 _
    rw [e30]
theorem i_vc_statement {k : Nat} {u : SX} {v : SY} (I : i_Rel k u v) (hk : k + 6 ≤ 3072) (v1 : Int32) (v2 : Int32) : wpX_statement (fun r => wpY_statement (fun r' => r' = r ∧ i_Rel (k + 6) u v) v v1 v2) u v1 v2 := by
  obtain ⟨c, d, rfl, rfl, h⟩ := I
  have e4 : d 4 0 = c 0 0 := h.2.2.2.1
  obtain ⟨m, hm, em⟩ := h.2.2.2.2.1
  have es := h.2.2.2.2.2.1
  unfold wpX_statement wpY_statement
  rcases sd_ix v1 m (by omega) with hx | ⟨j, hj, rfl⟩
  · refine sd_Xw0 (by show v1 < 0 ∨ d 4 0 ≤ v1; rw [e4, em]; exact hx) (br_t rfl (sd_Yw0 (by show v1 < 0 ∨ c 0 0 ≤ v1; rw [em]; exact hx) (br_t rfl ⟨rfl, sd_fin h⟩)))
  · have e4' : d 4 0 = nI m := e4.trans em
    have hX : ∀ post : Int32 → Prop, post 1 → wpX_within post (nI j) (d 4 0) := fun post q => by rw [e4']; exact sd_Xw1 hj (by omega) q
    have hY : ∀ post : Int32 → Prop, post 1 → wpY_in post (nI j) (c 0 0) := fun post q => by rw [em]; exact sd_Yw1 hj (by omega) q
    have ej : (nI j).toNatClampNeg = j := sd_ch (by omega)
    refine hX _ (br_f (by decide) ?_)
    rcases sd_ix v2 2 (by omega) with hx | ⟨w, hw, rfl⟩
    · exact sd_Xw0 hx (br_t rfl (hY _ (br_f (by decide) (sd_Yw0 hx (br_t rfl ⟨rfl, sd_fin h⟩)))))
    · refine sd_Xw1 (n := 2) hw (by decide) (br_f (by decide) ?_)
      have i2 : (2 : Int32) * nI j + nI w = nI (2 * j + w) := by rw [sd_m2, nI_add]
      match w, hw with
      | 0, _ =>
        refine br_t rfl ⟨sd_in (by omega), hY _ (br_f (by decide) (sd_Yw1 (j := 0) (n := 2) (by decide) (by decide) (br_f (by decide) ?_)))⟩
        rw [i2, ej, sd_ch (n := 2 * j + 0) (by omega)]
        exact ⟨sd_in (by omega), (es j).1.symm, sd_fin h⟩
      | 1, _ =>
        refine br_f (by decide) ⟨sd_in (by omega), hY _ (br_f (by decide) (sd_Yw1 (j := 1) (n := 2) (by decide) (by decide) (br_f (by decide) ?_)))⟩
        rw [i2, ej, sd_ch (n := 2 * j + 1) (by omega)]
        exact ⟨sd_in (by omega), (es j).2.symm, sd_fin h⟩
      | n + 2, hn => omega
theorem sd_Xlck {post : Int32 → Prop} {A B : Nat → Prop} {c d : sd_T} {r : Nat} (hr : r < 16) (h : sd_R A B c d) (hp : post (c 5 r)) : wpX_locker post (sd_x d) (nI r) := by
  have l0 : bt (d 15 0) r = decide (c 5 r = 0) := sd_lkb h (s := 0) (by decide) hr
  have l1 : bt (d 15 1) r = decide (c 5 r = 1) := sd_lkb h (s := 1) (by decide) hr
  have l2 : bt (d 15 2) r = decide (c 5 r = 2) := sd_lkb h (s := 2) (by decide) hr
  unfold wpX_locker
  have i0 : vp_in (0 : Int32) 3 := sd_in (n := 0) (by decide)
  have i1 : vp_in (1 : Int32) 3 := sd_in (n := 1) (by decide)
  have i2 : vp_in (2 : Int32) 3 := sd_in (n := 2) (by decide)
  rcases sd_lkr h hr with z | z | z | z
  · rw [z] at l0 l1 l2 hp
    exact ⟨4, br_f (by decide) ⟨i0, sd_Xh0 (by omega) (l0.trans (by decide)) (br_t rfl (nm_r (e' := 1) (by decide) (br_f (by decide) ⟨i1, sd_Xh0 (by omega) (l1.trans (by decide)) (br_t rfl (nm_r (e' := 2) (by decide) (br_f (by decide) ⟨i2, sd_Xh0 (by omega) (l2.trans (by decide)) (br_t rfl (nm_r (e' := 3) (by decide) (br_t (by decide) hp)))⟩)))⟩)))⟩⟩
  · rw [z] at l0 l1 l2 hp
    exact ⟨4, br_f (by decide) ⟨i0, sd_Xh1 (by omega) (l0.trans (by decide)) (br_f (by decide) hp)⟩⟩
  · rw [z] at l0 l1 l2 hp
    exact ⟨4, br_f (by decide) ⟨i0, sd_Xh0 (by omega) (l0.trans (by decide)) (br_t rfl (nm_r (e' := 1) (by decide) (br_f (by decide) ⟨i1, sd_Xh1 (by omega) (l1.trans (by decide)) (br_f (by decide) hp)⟩)))⟩⟩
  · rw [z] at l0 l1 l2 hp
    exact ⟨4, br_f (by decide) ⟨i0, sd_Xh0 (by omega) (l0.trans (by decide)) (br_t rfl (nm_r (e' := 1) (by decide) (br_f (by decide) ⟨i1, sd_Xh0 (by omega) (l1.trans (by decide)) (br_t rfl (nm_r (e' := 2) (by decide) (br_f (by decide) ⟨i2, sd_Xh1 (by omega) (l2.trans (by decide)) (br_f (by decide) hp)⟩)))⟩)))⟩⟩
theorem i_vc_row {k : Nat} {u : SX} {v : SY} (I : i_Rel k u v) (hk : k + 6 ≤ 3072) (v1 : Int32) (v2 : Int32) : wpX_row (fun r => wpY_row (fun r' => r' = r ∧ i_Rel (k + 6) u v) v v1 v2) u v1 v2 := by
  obtain ⟨c, d, rfl, rfl, h⟩ := I
  unfold wpX_row
  rcases sd_ix v1 16 (by decide) with hx | ⟨r, hr, rfl⟩
  · refine sd_Xw0 hx (br_t rfl ?_)
    unfold wpY_row
    exact sd_Yw0 hx (br_t rfl ⟨rfl, sd_fin h⟩)
  · refine sd_Xw1 (n := 16) hr (by decide) (br_f (by decide) ?_)
    rcases sd_ix v2 7 (by decide) with hx | ⟨w, hw, rfl⟩
    · refine sd_Xw0 hx (br_t rfl ?_)
      unfold wpY_row
      exact sd_Yw1 (n := 16) hr (by decide) (br_f (by decide) (sd_Yw0 hx (br_t rfl ⟨rfl, sd_fin h⟩)))
    · refine sd_Xw1 (n := 7) hw (by decide) (br_f (by decide) ?_)
      have er : (nI r).toNatClampNeg = r := sd_ch (by omega)
      have i16 : vp_in (nI r) 16 := sd_in hr
      have i32 : vp_in (nI r) 32 := sd_in (by omega)
      have n0 : ¬ nI w < 0 := nI_pos (by omega)
      -- what is left of the reference's walk
      have hY : ∀ post : Int64 → Prop, (4 ≤ w ∨ c 2 r = 1) → wY_row_36 post (nI r) (nI w) (c 0 0) (c 1 0) (c 2) (c 3) (c 4) (c 5) (c 6) (c 7) (c 8) (c 9) (c 10) (c 11) (c 12) (c 13) (c 14) (c 15) (c 16) (c 17) → wpY_row post (sd_y c) (nI r) (nI w) := by
        intro post hc q
        unfold wpY_row
        refine sd_Yw1 (n := 16) hr (by decide) (br_f (by decide) (sd_Yw1 (n := 7) hw (by decide) (br_f (by decide) ?_)))
        by_cases w4 : 4 ≤ w
        · exact br_t (nI_le (a := 4) (b := w) w4 (by omega)) q
        · refine br_f (nI_ge (a := w) (b := 4) (by omega) (by decide)) ⟨i32, ?_⟩
          rw [er, hc.resolve_left w4]
          exact br_f (by decide) q
      by_cases w4 : 4 ≤ w
      · refine br_t (nI_le (a := 4) (b := w) w4 (by omega)) ?_
        have hYw : ∀ post : Int64 → Prop, wY_row_36 post (nI r) (nI w) (c 0 0) (c 1 0) (c 2) (c 3) (c 4) (c 5) (c 6) (c 7) (c 8) (c 9) (c 10) (c 11) (c 12) (c 13) (c 14) (c 15) (c 16) (c 17) → wpY_row post (sd_y c) (nI r) (nI w) := fun post q => hY post (Or.inl w4) q
        unfold wX_row_38
        rw [er]
        rcases (by omega : w = 4 ∨ w = 5 ∨ w = 6) with rfl | rfl | rfl
        · refine br_f n0 (br_f (by decide) (br_f (by decide) (br_f (by decide) (br_f (by decide) (br_f (by decide) (br_t (by decide) (hYw _ ?_)))))))
          unfold wY_row_36
          rw [er, sd_sh _ r (by omega), sd_st0 h hr, sd_b64]
          refine br_t (by decide) (br_t (by decide) ⟨i32, ?_⟩)
          cases bt (d 0 0) r
          · exact br_t rfl ⟨rfl, sd_fin h⟩
          · exact br_f (by decide) ⟨rfl, sd_fin h⟩
        · refine br_f n0 (br_f (by decide) (br_f (by decide) (br_f (by decide) (br_f (by decide) (br_f (by decide) (br_f (by decide) (br_t (by decide) (sd_Xlck (d := d) hr h (hYw _ ?_)))))))))
          unfold wY_row_36
          rw [er]
          exact br_t (by decide) (br_f (by decide) (br_t (by decide) ⟨i16, rfl, sd_fin h⟩))
        · refine br_f n0 (br_t (by decide) (hYw _ ?_))
          unfold wY_row_36
          rw [er, sd_sh _ r (by omega), sd_st2 h hr, sd_b64]
          refine br_t (by decide) (br_f (by decide) (br_f (by decide) ⟨i16, ?_⟩))
          cases bt (d 2 0) r
          · exact br_t rfl ⟨rfl, sd_fin h⟩
          · exact br_f (by decide) ⟨rfl, sd_fin h⟩
      · have g4 : ¬ (4 : Int32) ≤ nI w := nI_ge (a := w) (b := 4) (by omega) (by decide)
        refine br_f g4 ?_
        have e2 := sd_st0 h hr
        cases hb : bt (d 0 0) r
        · rw [hb] at e2
          refine sd_Xh0 (by omega) hb (br_t rfl ?_)
          unfold wpY_row
          refine sd_Yw1 (n := 16) hr (by decide) (br_f (by decide) (sd_Yw1 (n := 7) hw (by decide) (br_f (by decide) (br_f g4 ⟨i32, ?_⟩))))
          rw [er]
          exact br_t e2 ⟨rfl, sd_fin h⟩
        · rw [hb] at e2
          refine sd_Xh1 (by omega) hb (br_f (by decide) ?_)
          have hYw : ∀ post : Int64 → Prop, wY_row_36 post (nI r) (nI w) (c 0 0) (c 1 0) (c 2) (c 3) (c 4) (c 5) (c 6) (c 7) (c 8) (c 9) (c 10) (c 11) (c 12) (c 13) (c 14) (c 15) (c 16) (c 17) → wpY_row post (sd_y c) (nI r) (nI w) := fun post q => hY post (Or.inr e2) q
          have hY4 : ∀ (post : Int64 → Prop) (x : Int32), c 4 (4 * r + w) = x → post x.toInt64 → wY_row_36 post (nI r) (nI w) (c 0 0) (c 1 0) (c 2) (c 3) (c 4) (c 5) (c 6) (c 7) (c 8) (c 9) (c 10) (c 11) (c 12) (c 13) (c 14) (c 15) (c 16) (c 17) := by
            intro post x ex q
            unfold wY_row_36
            rw [sd_i4, sd_ch (n := 4 * r + w) (by omega), ex]
            exact br_f g4 ⟨sd_in (by omega), q⟩
          have hrow := h.1.2.1 r hr
          unfold wX_row_38
          rw [er]
          rcases (by omega : w = 0 ∨ w = 1 ∨ w = 2 ∨ w = 3) with rfl | rfl | rfl | rfl
          · exact br_f n0 (br_f (by decide) (br_t (by decide) ⟨i16, hYw _ (hY4 _ _ hrow.1 ⟨rfl, sd_fin h⟩)⟩))
          · exact br_f n0 (br_f (by decide) (br_f (by decide) (br_t (by decide) ⟨i16, hYw _ (hY4 _ _ hrow.2.1 ⟨rfl, sd_fin h⟩)⟩)))
          · exact br_f n0 (br_f (by decide) (br_f (by decide) (br_f (by decide) (br_t (by decide) ⟨i16, hYw _ (hY4 _ _ hrow.2.2.1 ⟨rfl, sd_fin h⟩)⟩))))
          · exact br_f n0 (br_f (by decide) (br_f (by decide) (br_f (by decide) (br_f (by decide) (br_t (by decide) ⟨i16, hYw _ (hY4 _ _ hrow.2.2.2 ⟨rfl, sd_fin h⟩)⟩)))))
/-! rollback -/
/-- the rows of a session are free -/
def sd_un (y5 : Nat → Int32) (s n : Nat) : Nat → Int32 := fun r => if r < n ∧ y5 r = nI s then -1 else y5 r
theorem sd_un_s (y5 : Nat → Int32) (s n : Nat) (hs : s < 3) : (sd_un y5 s n n = nI s → upd (sd_un y5 s n) n (-1) = sd_un y5 s (n + 1)) ∧ (¬ sd_un y5 s n n = nI s → sd_un y5 s n = sd_un y5 s (n + 1)) := by
  have e : sd_un y5 s n n = y5 n := if_neg (by omega)
  rw [e]
  constructor
  · intro z
    funext j
    unfold sd_un
    by_cases q : j = n
    · subst q; rw [pk_us, if_pos ⟨by omega, z⟩]
    · rw [pk_un q]
      by_cases w : y5 j = nI s
      · by_cases l : j < n
        · rw [if_pos ⟨l, w⟩, if_pos ⟨by omega, w⟩]
        · rw [if_neg (fun t => l t.1), if_neg (fun t => by omega)]
      · rw [if_neg (fun t => w t.2), if_neg (fun t => w t.2)]
  · intro z
    funext j
    unfold sd_un
    by_cases w : y5 j = nI s
    · have q : ¬ j = n := fun t => z (by rw [← t]; exact w)
      by_cases l : j < n
      · rw [if_pos ⟨l, w⟩, if_pos ⟨by omega, w⟩]
      · rw [if_neg (fun t => l t.1), if_neg (fun t => by omega)]
    · rw [if_neg (fun t => w t.2), if_neg (fun t => w t.2)]
theorem sd_Yun {post : SY → Prop} {c : sd_T} {s : Nat} (hs : s < 3) (hp : post (sd_y (sd_s c 5 (sd_un (c 5) s 16)))) : wpY_undo post (sd_y c) (nI s) := by
  have lp : ∀ m j n, j + m = 16 → m < n → wY_undo_2 post (nI s) (c 0 0) (c 1 0) n (nI j) (c 2) (c 3) (c 4) (sd_un (c 5) s j) (c 6) (c 7) (c 8) (c 9) (c 10) (c 11) (c 12) (c 13) (c 14) (c 15) (c 16) (c 17) := by
    intro m
    induction m with
    | zero =>
      intro j n hj hn
      obtain ⟨n', rfl⟩ : ∃ n', n = n' + 1 := ⟨n - 1, by omega⟩
      obtain rfl : j = 16 := by omega
      exact br_t (by decide) hp
    | succ m ih =>
      intro j n hj hn
      obtain ⟨n', rfl⟩ : ∃ n', n = n' + 1 := ⟨n - 1, by omega⟩
      refine br_f (nI_ge (a := j) (b := 16) (by omega) (by decide)) ?_
      rw [sd_ch (n := j) (by omega)]
      obtain ⟨u1, u2⟩ := sd_un_s (c 5) s j hs
      refine ⟨sd_in (by omega), br_c (fun z => ⟨sd_in (by omega), nm_r (u1 z) (nm_r (nI_1 j) (ih (j + 1) n' (by omega) (by omega)))⟩) (fun z => nm_r (nI_1 j) ?_)⟩
      rw [u2 z]
      exact ih (j + 1) n' (by omega) (by omega)
  have e0 : sd_un (c 5) s 0 = c 5 := by
    funext j
    exact if_neg (fun t => absurd t.1 (Nat.not_lt_zero j))
  have w := lp 16 0 17 (by decide) (by decide)
  rw [e0] at w
  unfold wpY_undo
  exact ⟨17, w⟩
/-- locks are given back on both sides -/
theorem sd_RS_un {x0 x1 x2 : Int32} {x7 x8 x9 x10 x11 x12 x13 x14 x15 y2 y3 y4 y5 : Nat → Int32} {s : Nat} (hs : s < 3) (h : sd_RS x0 x1 x2 x7 x8 x9 x10 x11 x12 x13 x14 x15 y2 y3 y4 y5) : sd_RS x0 x1 x2 x7 x8 x9 x10 x11 x12 x13 x14 (upd x15 s 0) y2 y3 y4 (sd_un y5 s 16) := by
  refine ⟨h.1, h.2.1, h.2.2.1, h.2.2.2.1, ?_, ?_⟩
  · intro r hr
    obtain ⟨a, b⟩ := h.2.2.2.2.1 r hr
    by_cases z : y5 r = nI s
    · have e : sd_un y5 s 16 r = -1 := if_pos ⟨hr, z⟩
      rw [e]
      refine ⟨Or.inl rfl, fun t ht => ?_⟩
      rw [decide_eq_false (fun q => sd_nm1 (a := t) (by omega) q.symm)]
      by_cases q : t = s
      · rw [q, pk_us, b_0]
      · rw [pk_un q, b t ht, z]
        exact decide_eq_false (sd_ne (fun w => q w.symm) (by omega) (by omega))
    · have e : sd_un y5 s 16 r = y5 r := if_neg (fun t => z t.2)
      rw [e]
      refine ⟨a, fun t ht => ?_⟩
      by_cases q : t = s
      · rw [q, pk_us, b_0, decide_eq_false z]
      · rw [pk_un q, b t ht]
  · intro r hr h3
    obtain ⟨a, b⟩ := h.2.2.2.2.2 r hr h3
    refine ⟨a, ?_⟩
    unfold sd_un
    split
    · rfl
    · exact b
theorem i_vc_rollback {k : Nat} {u : SX} {v : SY} (I : i_Rel k u v) (hk : k + 6 ≤ 3072) (v1 : Int32) : wpX_rollback (fun r u' => wpY_rollback (fun r' v' => r' = r ∧ i_Rel (k + 6) u' v') v v1) u v1 := by
  obtain ⟨c, d, rfl, rfl, h⟩ := I
  unfold wpX_rollback wpY_rollback
  rcases sd_ix v1 3 (by decide) with hx | ⟨s, hs, rfl⟩
  · exact sd_Xw0 hx (br_t rfl (sd_Yw0 hx (br_t rfl ⟨rfl, sd_fin h⟩)))
  · refine sd_Xw1 (n := 3) hs (by decide) (br_f (by decide) ?_)
    have i3 : vp_in (nI s) 3 := sd_in hs
    have es : (nI s).toNatClampNeg = s := sd_ch (by omega)
    rw [es, sd_nb0]
    refine ⟨i3, nm_e ⟨i3, nm_e ⟨i3, nm_e ?_⟩⟩⟩
    -- the component's loop
    have hX : ∀ post : Int32 → SX → Prop, (∀ a : Nat → Int32, (∀ j, j < 18 → a j = if 6 * s + 1 ≤ j ∧ j ≤ 6 * s + 5 then 0 else d 16 j) → post 0 (sd_x (sd_s (sd_s (sd_s (sd_s d 15 (upd (d 15) s 0)) 18 (upd (d 18) s 0)) 17 (upd (d 17) s 0)) 16 a))) →
        ∀ m j n, j + m = 6 → m < n → 1 ≤ j → ∀ a : Nat → Int32, (∀ q, q < 18 → a q = if 6 * s + 1 ≤ q ∧ q < 6 * s + j then 0 else d 16 q) → wX_rollback_33 post (nI s) (d 0 0) (d 1 0) (d 2 0) (d 3 0) (d 4 0) (d 5 0) (d 6 0) n (nI j) (d 7) (d 8) (d 9) (d 10) (d 11) (d 12) (d 13) (d 14) (upd (d 15) s 0) a (upd (d 17) s 0) (upd (d 18) s 0) (d 19) (d 20) (d 21) (d 22) (d 23) (d 24) (d 25) (d 26) (d 27) (d 28) (d 29) (d 30) := by
      intro post hp m
      induction m with
      | zero =>
        intro j n hj hn h1 a ha
        obtain ⟨n', rfl⟩ : ∃ n', n = n' + 1 := ⟨n - 1, by omega⟩
        refine br_t (nI_lt (a := 5) (b := j) (by omega) (by omega)) (hp a ?_)
        intro q hq
        rw [ha q hq]
        by_cases e : 6 * s + 1 ≤ q ∧ q ≤ 6 * s + 5
        · rw [if_pos (by omega), if_pos e]
        · rw [if_neg (by omega), if_neg e]
      | succ m ih =>
        intro j n hj hn h1 a ha
        obtain ⟨n', rfl⟩ : ∃ n', n = n' + 1 := ⟨n - 1, by omega⟩
        refine br_f (nI_nlt (a := 5) (b := j) (by omega) (by omega)) ?_
        rw [sd_i6, sd_ch (n := 6 * s + j) (by omega)]
        refine ⟨sd_in (by omega), nm_e (nm_r (nI_1 j) (ih (j + 1) n' (by omega) (by omega) (by omega) _ ?_))⟩
        intro q hq
        by_cases e : q = 6 * s + j
        · rw [e, pk_us, if_pos (by omega)]
        · rw [pk_un e, ha q hq]
          by_cases e2 : 6 * s + 1 ≤ q ∧ q < 6 * s + j
          · rw [if_pos e2, if_pos (by omega)]
          · rw [if_neg e2, if_neg (by omega)]
    refine ⟨6, hX _ ?_ 5 1 6 (by decide) (by decide) (by decide) (d 16) (fun q hq => by rw [if_neg (by omega)])⟩
    intro a ha
    refine sd_Yw1 (n := 3) hs (by decide) (br_f (by decide) ?_)
    refine sd_Yun (c := c) hs ?_
    refine ⟨i3, nm_e (nm_r (sd_m16 s) ?_)⟩
    -- the reference's loop
    have hY : ∀ post : Int32 → SY → Prop, (∀ a : Nat → Int32, (∀ e, a e = if 16 * s ≤ e ∧ e < 16 * s + 16 then 0 else c 6 e) → post 0 (sd_y (sd_s (sd_s (sd_s c 5 (sd_un (c 5) s 16)) 10 (upd (c 10) s 0)) 6 a))) →
        ∀ m j n, j + m = 16 → m < n → ∀ a : Nat → Int32, (∀ e, a e = if 16 * s ≤ e ∧ e < 16 * s + j then 0 else c 6 e) → wY_rollback_27 post (nI s) (c 0 0) (c 1 0) n (nI (16 * s + j)) (c 2) (c 3) (c 4) (sd_un (c 5) s 16) a (c 7) (c 8) (c 9) (upd (c 10) s 0) (c 11) (c 12) (c 13) (c 14) (c 15) (c 16) (c 17) := by
      intro post hp m
      induction m with
      | zero =>
        intro j n hj hn a ha
        obtain ⟨n', rfl⟩ : ∃ n', n = n' + 1 := ⟨n - 1, by omega⟩
        obtain rfl : j = 16 := by omega
        refine br_t ?_ (hp a ha)
        rw [sd_m16, sd_a16]
        exact nI_le (Nat.le_refl _) (by omega)
      | succ m ih =>
        intro j n hj hn a ha
        obtain ⟨n', rfl⟩ : ∃ n', n = n' + 1 := ⟨n - 1, by omega⟩
        refine br_f ?_ ?_
        · rw [sd_m16, sd_a16]
          exact nI_ge (by omega) (by omega)
        · rw [sd_ch (n := 16 * s + j) (by omega)]
          refine ⟨sd_in (by omega), nm_e (nm_r (nI_1 (16 * s + j)) (ih (j + 1) n' (by omega) (by omega) _ ?_))⟩
          intro e
          by_cases q : e = 16 * s + j
          · rw [q, pk_us, if_pos (by omega)]
          · rw [pk_un q, ha e]
            by_cases e2 : 16 * s ≤ e ∧ e < 16 * s + j
            · rw [if_pos e2, if_pos (by omega)]
            · rw [if_neg e2, if_neg (by omega)]
    refine ⟨17, hY _ ?_ 16 0 17 (by decide) (by decide) (c 6) (fun e => by rw [if_neg (by omega)])⟩
    intro b hb
    refine ⟨rfl, sd_fin ⟨sd_RS_un hs h.1, ⟨?_, ?_, ?_, ?_, ?_, h.2.1.2.2.2.2.2⟩, h.2.2.1, h.2.2.2.1, h.2.2.2.2.1, h.2.2.2.2.2.1, h.2.2.2.2.2.2.1, h.2.2.2.2.2.2.2.1, h.2.2.2.2.2.2.2.2.1, ?_, h.2.2.2.2.2.2.2.2.2.2⟩⟩
    · intro s' r' hs' hr'
      show ∃ k, k ≤ 5 ∧ b (16 * s' + r') = nI k
      rw [hb]
      split
      · exact ⟨0, by decide, rfl⟩
      · exact h.2.1.1 s' r' hs' hr'
    · intro s' r' k' hs' hr' h1 h5 _
      show bt (a (6 * s' + k')) r' = decide (b (16 * s' + r') = nI k')
      rw [ha _ (by omega), hb]
      by_cases e : s' = s
      · rw [if_pos (by omega), if_pos (by omega), b_0]
        exact (decide_eq_false (sd_ne (a := 0) (by omega) (by decide) (by omega))).symm
      · rw [if_neg (by omega), if_neg (by omega)]
        exact h.2.1.2.1 s' r' k' hs' hr' h1 h5 trivial
    · intro j i hj hi
      show bt (a j) i = false
      rw [ha j hj]
      split
      · exact b_0 i
      · exact h.2.1.2.2.1 j i hj hi
    · intro s' r' hs' hr' _
      show bt (upd (d 17) s 0 s') r' = sd_dy b (c 7) (c 8) (16 * s' + r')
      unfold sd_dy
      rw [hb]
      by_cases e : s' = s
      · rw [e, pk_us, b_0, if_pos (by omega)]; rfl
      · rw [pk_un e, if_neg (by omega)]
        exact h.2.1.2.2.2.1 s' r' hs' hr' trivial
    · intro e he _
      have hv := h.2.1.2.2.2.2.1 e he trivial
      show sd_V _ _ _ _ _ _ _ b (c 7) (c 8) (c 9) e
      unfold sd_V
      rw [hb]
      split
      · exact ⟨fun q => absurd rfl q, fun q => by rcases q with q | q <;> exact absurd q (by decide)⟩
      · exact hv
    · show upd (d 18) s 0 = upd (c 10) s 0
      rw [show d 18 = c 10 from h.2.2.2.2.2.2.2.2.2.1]
/-! the constructors -/
theorem i_vc0 : wpX_init (fun u => wpY_init (fun v => i_Rel 0 u v)) := by
  unfold wpX_init wpY_init
  have lp : ∀ m j n, j + m = 16 → m < n → ∀ a : Nat → Int32, (∀ r, r < j → a r = -1) → wY_init_134 (fun v => i_Rel 0 (sd_x (fun _ _ => 0)) v) 0 0 n (nI j) (fun _ => 0) (fun _ => 0) (fun _ => 0) a (fun _ => 0) (fun _ => 0) (fun _ => 0) (fun _ => 0) (fun _ => 0) (fun _ => 0) (fun _ => 0) (fun _ => 0) (fun _ => 0) (fun _ => 0) (fun _ => 0) (fun _ => 0) := by
    intro m
    induction m with
    | zero =>
      intro j n hj hn a ha
      obtain ⟨n', rfl⟩ : ∃ n', n = n' + 1 := ⟨n - 1, by omega⟩
      refine br_t (nI_le (a := 16) (b := j) (by omega) (by omega)) ?_
      refine sd_fin (c := sd_s (fun _ _ => 0) 5 a) (d := fun _ _ => 0) ⟨⟨?_, ?_, ?_, ?_, ?_, ?_⟩, ⟨?_, ?_, ?_, ?_, ?_, ?_⟩, ?_, rfl, ⟨0, by decide, rfl⟩, fun _ => ⟨rfl, rfl⟩, rfl, ⟨0, by decide, rfl⟩, rfl, rfl, rfl, rfl, rfl⟩
      · intro r hr
        refine ⟨?_, ?_, ?_⟩ <;> (show (0 : Int32) = sd_b (bt 0 r); rw [b_0]; rfl)
      · intro r hr; exact ⟨rfl, rfl, rfl, rfl⟩
      · intro r hr; exact ⟨rfl, rfl, rfl, rfl⟩
      · intro q hq; exact sd_lr0
      · intro r hr
        have e : a r = -1 := ha r (by omega)
        refine ⟨Or.inl e, fun s hs => ?_⟩
        show bt 0 r = decide (a r = nI s)
        rw [b_0, e]
        exact (decide_eq_false (fun q => sd_nm1 (a := s) (by omega) q.symm)).symm
      · intro r hr h3
        exact absurd (show (0 : Int32) = 1 from h3) (by decide)
      · intro s r hs hr; exact ⟨0, by decide, rfl⟩
      · intro s r k hs hr h1 h5 _
        show bt 0 r = decide ((0 : Int32) = nI k)
        rw [b_0]
        exact (decide_eq_false (sd_ne (a := 0) (by omega) (by decide) (by omega))).symm
      · intro j i _ _; exact b_0 i
      · intro s r _ _ _
        show bt 0 r = sd_dy (fun _ => 0) (fun _ => 0) (fun _ => 0) _
        rw [b_0]
        rfl
      · intro e he _
        exact ⟨fun _ _ => ⟨rfl, rfl, rfl⟩, fun _ => ⟨rfl, rfl, rfl, rfl⟩⟩
      · intro e he; exact ⟨sd_lr0, sd_lr0, sd_lr0⟩
      · intro i hi
        show (0 : Int32) = sd_b (bt 0 i)
        rw [b_0]; rfl
    | succ m ih =>
      intro j n hj hn a ha
      obtain ⟨n', rfl⟩ : ∃ n', n = n' + 1 := ⟨n - 1, by omega⟩
      refine br_f (nI_ge (a := j) (b := 16) (by omega) (by decide)) ?_
      rw [sd_ch (n := j) (by omega)]
      refine ⟨sd_in (by omega), nm_e (nm_r (nI_1 j) (ih (j + 1) n' (by omega) (by omega) _ ?_))⟩
      intro r hr
      by_cases e : r = j
      · rw [e, pk_us]
      · rw [pk_un e]; exact ha r (by omega)
  exact ⟨17, lp 16 0 17 (by decide) (by decide) _ (fun r hr => absurd hr (Nat.not_lt_zero r))⟩
end
section
/-! enlist, persist -/
/-- what a chain of new entities from k on leaves -/
def sd_EN (c : sd_T) (s k : Nat) (K : Nat → Int32) : Prop :=
  (∀ j, K j = c 6 j ∨ (c 6 j = 1 ∧ K j = 2)) ∧ K (16 * s + k) = 2 ∧
  (∀ S : Nat → Prop, S k → (∀ a l, a < 16 → l < 16 → S a → c 7 (3 * (16 * s + a) + 2) = nI l → c 6 (16 * s + l) = 1 → S l) → ∀ j, ¬ K j = c 6 j → ∃ i, i < 16 ∧ j = 16 * s + i ∧ S i) ∧
  (c 11 0 = 1 → ∀ i l, i < 16 → l < 16 → ¬ K (16 * s + i) = c 6 (16 * s + i) → c 7 (3 * (16 * s + i) + 2) = nI l → ¬ K (16 * s + l) = 1)
def sd_tn (y6 : Nat → Int32) (s : Nat) : Nat := sd_c (fun i => decide (y6 (16 * s + i) = 1)) 16
theorem sd_tn_out {y6 : Nat → Int32} {s k : Nat} (hk : k < 16) (h1 : y6 (16 * s + k) = 1) : sd_tn y6 s = sd_tn (upd y6 (16 * s + k) 2) s + 1 := by
  refine sd_c_out (l := k) hk (decide_eq_true h1) ?_
  intro i hi
  by_cases e : i = k
  · rw [e, pk_us, h1, decide_eq_true (p := k = k) rfl]; decide
  · rw [pk_un (by omega), decide_eq_false (p := i = k) e]; simp
theorem sd_tn_pos {y6 : Nat → Int32} {s k : Nat} (hk : k < 16) (h1 : y6 (16 * s + k) = 1) : 0 < sd_tn y6 s := by
  rw [sd_tn_out hk h1]; omega
/-- one link of the chain: nothing follows -/
theorem sd_EN0 {c : sd_T} {s k : Nat} (h1 : c 6 (16 * s + k) = 1) (hk : k < 16) (hc : c 11 0 = 1 → ∀ l, l < 16 → c 7 (3 * (16 * s + k) + 2) = nI l → ¬ upd (c 6) (16 * s + k) 2 (16 * s + l) = 1) : sd_EN c s k (upd (c 6) (16 * s + k) 2) := by
  refine ⟨?_, pk_us, ?_, ?_⟩
  · intro j
    by_cases e : j = 16 * s + k
    · rw [e, pk_us]; exact Or.inr ⟨h1, rfl⟩
    · rw [pk_un e]; exact Or.inl rfl
  · intro S hS _ j hj
    by_cases e : j = 16 * s + k
    · exact ⟨k, hk, e, hS⟩
    · rw [pk_un e] at hj; exact absurd rfl hj
  · intro hm i l hi hl hn e
    by_cases q : i = k
    · rw [q] at e; exact hc hm l hl e
    · rw [pk_un (by omega)] at hn; exact absurd rfl hn
theorem sd_EN1 {c : sd_T} {s k q : Nat} {K : Nat → Int32} (h1 : c 6 (16 * s + k) = 1) (hk : k < 16) (hq : q < 16) (el : c 7 (3 * (16 * s + k) + 2) = nI q) (h2 : upd (c 6) (16 * s + k) 2 (16 * s + q) = 1)
    (h : sd_EN (sd_s c 6 (upd (c 6) (16 * s + k) 2)) s q K) : sd_EN c s k K := by
  have hne : ¬ q = k := by
    intro e
    rw [e, pk_us] at h2
    exact absurd h2 (by decide)
  have h2' : c 6 (16 * s + q) = 1 := by rw [pk_un (by omega)] at h2; exact h2
  have hKk : K (16 * s + k) = 2 := by
    rcases h.1 (16 * s + k) with e | e
    · exact e.trans pk_us
    · exact e.2
  have e6 : ∀ j, ¬ j = 16 * s + k → sd_s c 6 (upd (c 6) (16 * s + k) 2) 6 j = c 6 j := fun j hj => pk_un hj
  refine ⟨?_, hKk, ?_, ?_⟩
  · intro j
    by_cases e : j = 16 * s + k
    · rw [e]; exact Or.inr ⟨h1, hKk⟩
    · have a := h.1 j
      rw [e6 j e] at a
      exact a
  · intro S hS hst j hj
    by_cases e : j = 16 * s + k
    · exact ⟨k, hk, e, hS⟩
    · refine h.2.2.1 S (hst k q hk hq hS el h2') ?_ j (by rw [e6 j e]; exact hj)
      intro a l ha hl hSa ea e1
      refine hst a l ha hl hSa ea ?_
      by_cases w : 16 * s + l = 16 * s + k
      · rw [w]; exact h1
      · rw [e6 _ w] at e1; exact e1
  · intro hm i l hi hl hn e
    by_cases w : i = k
    · rw [w, el] at e
      have : q = l := (nI_eq (by omega) (by omega)).mp e
      rw [← this, h.2.1]
      decide
    · exact h.2.2.2 hm i l hi hl (by rw [e6 _ (by omega)]; exact hn) e
theorem sd_en {s : Nat} (hs : s < 3) : ∀ (m k : Nat) (c d : sd_T), sd_L c d → k < 16 → c 6 (16 * s + k) = 1 → sd_tn (c 6) s ≤ m →
    ∃ (K : Nat → Int32) (d' : sd_T), sd_L (sd_s c 6 K) d' ∧ sd_EN c s k K ∧
    (∀ (n : Nat) (post : SX → Prop), m < n → post (sd_x d') → wX_enlist_5 post (nI s) n (nI k) 1 (d 0 0) (d 1 0) (d 2 0) (d 3 0) (d 4 0) (d 5 0) (d 6 0) (d 7) (d 8) (d 9) (d 10) (d 11) (d 12) (d 13) (d 14) (d 15) (d 16) (d 17) (d 18) (d 19) (d 20) (d 21) (d 22) (d 23) (d 24) (d 25) (d 26) (d 27) (d 28) (d 29) (d 30)) ∧
    (∀ (n : Nat) (post : Int32 → SY → Prop), m < n → post 0 (sd_y (sd_s c 6 K)) → wY_persist_86 post (nI s) (c 0 0) (c 1 0) n (c 7 (3 * (16 * s + k) + 2)) (c 2) (c 3) (c 4) (c 5) (upd (c 6) (16 * s + k) 2) (c 7) (c 8) (c 9) (c 10) (c 11) (c 12) (c 13) (c 14) (c 15) (c 16) (c 17)) := by
  intro m
  induction m with
  | zero =>
    intro k c d h hk h1 ht
    have := sd_tn_pos hk h1
    omega
  | succ m ih =>
    intro k c d h hk h1 ht
    have hto := sd_tn_out hk h1
    obtain ⟨d1, hd1, w1⟩ := sd_Xbk 2 hs hk (by decide) h (fun _ _ => by rw [h1]; decide) (fun q => by rcases q with q | q <;> exact absurd q (by decide))
    have hl1 : d1 21 (16 * s + k) = c 7 (3 * (16 * s + k) + 2) := ((sd_va hd1 (e := 16 * s + k) (by omega)).1 (by rw [show sd_s c 6 (upd (c 6) (16 * s + k) (nI 2)) 6 (16 * s + k) = nI 2 from pk_us]; decide) (by rw [show sd_s c 6 (upd (c 6) (16 * s + k) (nI 2)) 6 (16 * s + k) = nI 2 from pk_us]; decide)).2.2
    have e16 : (16 : Int32) * nI s + nI k = nI (16 * s + k) := sd_i16 s k
    have ec : (nI (16 * s + k)).toNatClampNeg = 16 * s + k := sd_ch (by omega)
    have hin : vp_in (nI (16 * s + k)) 48 := sd_in (by omega)
    -- the first round of the component's loop
    have hX : ∀ (n : Nat) (post : SX → Prop), wpX_isOn (fun r_36 => (((r_36 = 0 → (wX_enlist_5 post (nI s) n (c 7 (3 * (16 * s + k) + 2)) 0 (d1 0 0) (d1 1 0) (d1 2 0) (d1 3 0) (d1 4 0) (d1 5 0) (d1 6 0) (d1 7) (d1 8) (d1 9) (d1 10) (d1 11) (d1 12) (d1 13) (d1 14) (d1 15) (d1 16) (d1 17) (d1 18) (d1 19) (d1 20) (d1 21) (d1 22) (d1 23) (d1 24) (d1 25) (d1 26) (d1 27) (d1 28) (d1 29) (d1 30))) ∧ (¬ r_36 = 0 → (((c 7 (3 * (16 * s + k) + 2) < 0 → (wX_enlist_5 post (nI s) n (c 7 (3 * (16 * s + k) + 2)) 0 (d1 0 0) (d1 1 0) (d1 2 0) (d1 3 0) (d1 4 0) (d1 5 0) (d1 6 0) (d1 7) (d1 8) (d1 9) (d1 10) (d1 11) (d1 12) (d1 13) (d1 14) (d1 15) (d1 16) (d1 17) (d1 18) (d1 19) (d1 20) (d1 21) (d1 22) (d1 23) (d1 24) (d1 25) (d1 26) (d1 27) (d1 28) (d1 29) (d1 30))) ∧ (¬ c 7 (3 * (16 * s + k) + 2) < 0 → (vp_in ((6 * nI s) + 1) 18 ∧ (wpX_has (fun r_71 => (((r_71 = 0 → (wX_enlist_5 post (nI s) n (c 7 (3 * (16 * s + k) + 2)) 0 (d1 0 0) (d1 1 0) (d1 2 0) (d1 3 0) (d1 4 0) (d1 5 0) (d1 6 0) (d1 7) (d1 8) (d1 9) (d1 10) (d1 11) (d1 12) (d1 13) (d1 14) (d1 15) (d1 16) (d1 17) (d1 18) (d1 19) (d1 20) (d1 21) (d1 22) (d1 23) (d1 24) (d1 25) (d1 26) (d1 27) (d1 28) (d1 29) (d1 30))) ∧ (¬ r_71 = 0 → (wX_enlist_5 post (nI s) n (c 7 (3 * (16 * s + k) + 2)) 1 (d1 0 0) (d1 1 0) (d1 2 0) (d1 3 0) (d1 4 0) (d1 5 0) (d1 6 0) (d1 7) (d1 8) (d1 9) (d1 10) (d1 11) (d1 12) (d1 13) (d1 14) (d1 15) (d1 16) (d1 17) (d1 18) (d1 19) (d1 20) (d1 21) (d1 22) (d1 23) (d1 24) (d1 25) (d1 26) (d1 27) (d1 28) (d1 29) (d1 30)))))) (d1 16 ((6 * nI s) + 1).toNatClampNeg) (c 7 (3 * (16 * s + k) + 2))))))))))) (sd_x d1) 0 →
        wX_enlist_5 post (nI s) (n + 1) (nI k) 1 (d 0 0) (d 1 0) (d 2 0) (d 3 0) (d 4 0) (d 5 0) (d 6 0) (d 7) (d 8) (d 9) (d 10) (d 11) (d 12) (d 13) (d 14) (d 15) (d 16) (d 17) (d 18) (d 19) (d 20) (d 21) (d 22) (d 23) (d 24) (d 25) (d 26) (d 27) (d 28) (d 29) (d 30) := by
      intro n post q
      refine br_f (by decide) (w1 _ ?_)
      rw [e16, ec]
      exact ⟨hin, nm_r hl1 q⟩
    have stop : (c 11 0 = 0 ∨ c 7 (3 * (16 * s + k) + 2) = -1 ∨ ∃ q, q < 16 ∧ c 7 (3 * (16 * s + k) + 2) = nI q ∧ ¬ upd (c 6) (16 * s + k) 2 (16 * s + q) = 1) →
        ∃ (K : Nat → Int32) (d' : sd_T), sd_L (sd_s c 6 K) d' ∧ sd_EN c s k K ∧
        (∀ (n : Nat) (post : SX → Prop), m + 1 < n → post (sd_x d') → wX_enlist_5 post (nI s) n (nI k) 1 (d 0 0) (d 1 0) (d 2 0) (d 3 0) (d 4 0) (d 5 0) (d 6 0) (d 7) (d 8) (d 9) (d 10) (d 11) (d 12) (d 13) (d 14) (d 15) (d 16) (d 17) (d 18) (d 19) (d 20) (d 21) (d 22) (d 23) (d 24) (d 25) (d 26) (d 27) (d 28) (d 29) (d 30)) ∧
        (∀ (n : Nat) (post : Int32 → SY → Prop), m + 1 < n → post 0 (sd_y (sd_s c 6 K)) → wY_persist_86 post (nI s) (c 0 0) (c 1 0) n (c 7 (3 * (16 * s + k) + 2)) (c 2) (c 3) (c 4) (c 5) (upd (c 6) (16 * s + k) 2) (c 7) (c 8) (c 9) (c 10) (c 11) (c 12) (c 13) (c 14) (c 15) (c 16) (c 17)) := by
      intro hz
      refine ⟨upd (c 6) (16 * s + k) 2, d1, hd1, sd_EN0 h1 hk ?_, fun n post hn hp => ?_, fun n post hn hp => ?_⟩
      · intro hm l hl e
        rcases hz with z | z | ⟨q, hq, eq, z⟩
        · rw [hm] at z; exact absurd z (by decide)
        · rw [z] at e; exact absurd e.symm (sd_nm1 (by omega))
        · rw [eq] at e
          have : q = l := (nI_eq (by omega) (by omega)).mp e
          rw [← this]; exact z
      · obtain ⟨n', rfl⟩ : ∃ n', n = n' + 2 := ⟨n - 2, by omega⟩
        refine hX (n' + 1) post (sd_Xon (i := 0) (by decide) hd1 ?_)
        show (c 11 0 = 0 → _) ∧ (¬ c 11 0 = 0 → _)
        rcases hz with z | z | ⟨q, hq, eq, z⟩
        · exact br_t z (br_t rfl hp)
        · exact br_c (fun _ => br_t rfl hp) (fun _ => br_t (by rw [z]; decide) (br_t rfl hp))
        · refine br_c (fun _ => br_t rfl hp) (fun _ => br_f (by rw [eq]; exact nI_pos (by omega)) ?_)
          rw [eq, sd_m6, sd_a1, sd_ch (n := 6 * s + 1) (by omega)]
          refine ⟨sd_in (by omega), sd_Xh0 (by omega) ?_ (br_t rfl (br_t rfl hp))⟩
          rw [sd_kb hd1 1 hs hq (by decide) (by decide)]
          exact decide_eq_false z
      · obtain ⟨n', rfl⟩ : ∃ n', n = n' + 1 := ⟨n - 1, by omega⟩
        rcases hz with z | z | ⟨q, hq, eq, z⟩
        · exact br_t z hp
        · exact br_c (fun _ => hp) (fun _ => br_t (by rw [z]; decide) hp)
        · refine br_c (fun _ => hp) (fun _ => br_f (by rw [eq]; exact nI_pos (by omega)) ?_)
          rw [eq, sd_i16, sd_ch (n := 16 * s + q) (by omega)]
          exact ⟨sd_in (by omega), br_f z hp⟩
    rcases sd_mo01 h (i := 0) (by decide) with z | z
    · exact stop (Or.inl z)
    · rcases (sd_elr h (e := 16 * s + k) (by omega)).1 with e | ⟨q, hq, eq⟩
      · exact stop (Or.inr (Or.inl e))
      · by_cases t : upd (c 6) (16 * s + k) 2 (16 * s + q) = 1
        · obtain ⟨K, d', hd', hen, wx, wy⟩ := ih q (sd_s c 6 (upd (c 6) (16 * s + k) 2)) d1 hd1 hq t (by show sd_tn (upd (c 6) (16 * s + k) 2) s ≤ m; omega)
          rw [sd_ss] at hd'
          rw [sd_ss] at wy
          refine ⟨K, d', hd', sd_EN1 h1 hk hq eq t hen, fun n post hn hp => ?_, fun n post hn hp => ?_⟩
          · obtain ⟨n', rfl⟩ : ∃ n', n = n' + 1 := ⟨n - 1, by omega⟩
            refine hX n' post (sd_Xon (i := 0) (by decide) hd1 ?_)
            show (c 11 0 = 0 → _) ∧ (¬ c 11 0 = 0 → _)
            refine br_f (by rw [z]; decide) (br_f (by rw [eq]; exact nI_pos (by omega)) ?_)
            rw [eq, sd_m6, sd_a1, sd_ch (n := 6 * s + 1) (by omega)]
            refine ⟨sd_in (by omega), sd_Xh1 (by omega) ?_ (br_f (by decide) (wx n' post (by omega) hp))⟩
            rw [sd_kb hd1 1 hs hq (by decide) (by decide)]
            exact decide_eq_true t
          · obtain ⟨n', rfl⟩ : ∃ n', n = n' + 1 := ⟨n - 1, by omega⟩
            refine br_f (by rw [z]; decide) (br_f (by rw [eq]; exact nI_pos (by omega)) ?_)
            rw [eq, sd_i16, sd_m3, sd_a2, sd_ch (n := 16 * s + q) (by omega), sd_ch (n := 3 * (16 * s + q) + 2) (by omega)]
            exact ⟨sd_in (by omega), br_t t ⟨sd_in (by omega), nm_e ⟨sd_in (by omega), nm_e (wy n' post (by omega) hp)⟩⟩⟩
        · exact stop (Or.inr (Or.inr ⟨q, hq, eq, t⟩))
theorem sd_Xen {s k : Nat} {c d : sd_T} (hs : s < 3) (hk : k < 16) (h : sd_L c d) (h1 : c 6 (16 * s + k) = 1) :
    ∃ (K : Nat → Int32) (d' : sd_T), sd_L (sd_s c 6 K) d' ∧ sd_EN c s k K ∧ (∀ post : SX → Prop, post (sd_x d') → wpX_enlist post (sd_x d) (nI s) (nI k)) ∧
    (∀ post : Int32 → SY → Prop, post 0 (sd_y (sd_s c 6 K)) → ∃ n : Nat, wY_persist_86 post (nI s) (c 0 0) (c 1 0) n (c 7 (3 * (16 * s + k) + 2)) (c 2) (c 3) (c 4) (c 5) (upd (c 6) (16 * s + k) 2) (c 7) (c 8) (c 9) (c 10) (c 11) (c 12) (c 13) (c 14) (c 15) (c 16) (c 17)) := by
  obtain ⟨K, d', hd', hen, wx, wy⟩ := sd_en hs 16 k c d h hk h1 (sd_c_le _ 16)
  refine ⟨K, d', hd', hen, fun post hp => ?_, fun post hp => ⟨17, wy 17 post (by decide) hp⟩⟩
  unfold wpX_enlist
  exact ⟨17, wx 17 _ (by decide) hp⟩
theorem i_vc_persist {k : Nat} {u : SX} {v : SY} (I : i_Rel k u v) (hk : k + 6 ≤ 3072) (v1 : Int32) (v2 : Int32) : wpX_persist (fun r u' => wpY_persist (fun r' v' => r' = r ∧ i_Rel (k + 6) u' v') v v1 v2) u v1 v2 := by
  obtain ⟨c, d, rfl, rfl, h⟩ := I
  unfold wpX_persist wpY_persist
  rcases sd_wr h v1 v2 with ⟨r, hr, wx, wy⟩ | ⟨s, r, hs, hr, rfl, rfl, wx, wy⟩
  · exact wx _ (br_f (sd_n1 hr) (wy _ (nm_e (br_f (sd_n1 hr) ⟨rfl, sd_fin h⟩))))
  · refine wx _ (br_t rfl (sd_Xsort (d := d) hs hr h ?_))
    have e16 : (16 : Int32) * nI s + nI r = nI (16 * s + r) := sd_i16 s r
    have ec : (nI (16 * s + r)).toNatClampNeg = 16 * s + r := sd_ch (by omega)
    have hin : vp_in (nI (16 * s + r)) 48 := sd_in (by omega)
    by_cases z0 : c 6 (16 * s + r) = 0
    · refine br_t z0 (wy _ (nm_r e16 (br_t rfl ⟨hin, ?_⟩)))
      rw [ec]
      exact br_t z0 ⟨rfl, sd_fin h⟩
    · refine br_f z0 ?_
      by_cases z1 : c 6 (16 * s + r) = 1
      · obtain ⟨K, d', hd', _, qx, qy⟩ := sd_Xen hs hr h z1
        have z5 : ¬ c 6 (16 * s + r) = 5 := by rw [z1]; decide
        refine br_t z1 (qx _ (br_f z5 (wy _ (nm_r e16 (br_t rfl ⟨hin, ?_⟩)))))
        rw [ec]
        refine br_f z0 ⟨hin, br_f z5 ?_⟩
        unfold wY_persist_52
        rw [sd_m3, sd_a2, ec, sd_ch (n := 3 * (16 * s + r) + 2) (by omega)]
        exact ⟨hin, br_t z1 ⟨hin, nm_e ⟨sd_in (by omega), nm_e (qy _ ⟨rfl, sd_fin hd'⟩)⟩⟩⟩
      · refine br_f z1 ?_
        by_cases z5 : c 6 (16 * s + r) = 5
        · obtain ⟨d', hd', qx⟩ := sd_Xbk 4 hs hr (by decide) h (fun _ _ => by rw [z5]; decide) (fun _ => Or.inr z5)
          refine br_t z5 (qx _ (wy _ (nm_r e16 (br_t rfl ⟨hin, ?_⟩))))
          rw [ec]
          refine br_f z0 ⟨hin, br_t z5 ⟨hin, nm_e ?_⟩⟩
          unfold wY_persist_52
          rw [ec, pk_us]
          exact ⟨hin, br_f (by decide) ⟨rfl, sd_fin hd'⟩⟩
        · refine br_f z5 (wy _ (nm_r e16 (br_t rfl ⟨hin, ?_⟩)))
          rw [ec]
          refine br_f z0 ⟨hin, br_f z5 ?_⟩
          unfold wY_persist_52
          rw [ec]
          exact ⟨hin, br_f z1 ⟨rfl, sd_fin h⟩⟩
end
section
/-! gather and save -/
theorem sd_dy4 {y6 y7 y8 : Nat → Int32} {e : Nat} (h : sd_dy y6 y7 y8 e = true) : y6 e = 4 := by
  unfold sd_dy at h
  rw [Bool.and_eq_true, decide_eq_true_eq] at h
  exact h.1
/-- an entity whose link is to be saved -/
def sd_op (c : sd_T) (s i : Nat) : Prop := c 6 (16 * s + i) = 2 ∨ sd_dy (c 6) (c 7) (c 8) (16 * s + i) = true
def sd_GS (c : sd_T) (s : Nat) (K : Nat → Int32) : Prop :=
  (∀ j, K j = c 6 j ∨ (c 6 j = 1 ∧ K j = 2)) ∧
  (∀ S : Nat → Prop, (∀ o l, o < 16 → l < 16 → sd_op c s o → c 7 (3 * (16 * s + o) + 2) = nI l → c 6 (16 * s + l) = 1 → S l) → (∀ a l, a < 16 → l < 16 → S a → c 7 (3 * (16 * s + a) + 2) = nI l → c 6 (16 * s + l) = 1 → S l) → ∀ j, ¬ K j = c 6 j → ∃ i, i < 16 ∧ j = 16 * s + i ∧ S i)
def sd_GC (c : sd_T) (s : Nat) (K : Nat → Int32) (k : Nat) : Prop := ∀ i l, i < 16 → l < 16 → (¬ K (16 * s + i) = c 6 (16 * s + i) ∨ (sd_op c s i ∧ i < k)) → c 7 (3 * (16 * s + i) + 2) = nI l → ¬ K (16 * s + l) = 1
def sd_G (c : sd_T) (s : Nat) (K : Nat → Int32) : Prop := sd_GS c s K ∧ sd_GC c s K 16
theorem sd_GS0 (c : sd_T) (s : Nat) : sd_GS c s (c 6) := ⟨fun _ => Or.inl rfl, fun _ _ _ _ hj => absurd rfl hj⟩
/-- there is but one closed set -/
theorem sd_G_u1 {c : sd_T} {s : Nat} {K1 K2 : Nat → Int32} (h1 : sd_G c s K1) (h2 : sd_G c s K2) {j : Nat} (hj : ¬ K1 j = c 6 j) : ¬ K2 j = c 6 j := by
  obtain ⟨i, hi, e, _, hS⟩ := h1.1.2 (fun i => c 6 (16 * s + i) = 1 ∧ ¬ K2 (16 * s + i) = 1) (fun o l ho hl hop hlk h => ⟨h, h2.2 o l ho hl (Or.inr ⟨hop, ho⟩) hlk⟩)
    (fun a l ha hl hSa hlk h => ⟨h, h2.2 a l ha hl (Or.inl (by rw [hSa.1]; exact hSa.2)) hlk⟩) j hj
  intro w
  have c1 : c 6 j = 1 := by
    rcases h1.1.1 j with q | q
    · exact absurd q hj
    · exact q.1
  rw [← e, w] at hS
  exact hS c1
theorem sd_G_u {c : sd_T} {s : Nat} {K1 K2 : Nat → Int32} (h1 : sd_G c s K1) (h2 : sd_G c s K2) : K1 = K2 := by
  funext j
  by_cases a : K1 j = c 6 j
  · by_cases b : K2 j = c 6 j
    · rw [a, b]
    · exact absurd a (sd_G_u1 h2 h1 b)
  · have b := sd_G_u1 h1 h2 a
    rcases h1.1.1 j with q | q
    · exact absurd q a
    · rcases h2.1.1 j with w | w
      · exact absurd w b
      · rw [q.2, w.2]
theorem sd_op_k {c : sd_T} {s i : Nat} (h : sd_op c s i) : c 6 (16 * s + i) = 2 ∨ c 6 (16 * s + i) = 4 := by
  rcases h with h | h
  · exact Or.inl h
  · exact Or.inr (sd_dy4 h)
/-- the chain of one is added -/
theorem sd_GS_en {c : sd_T} {s k q : Nat} {K K1 : Nat → Int32} (hk : k < 16) (hq : q < 16) (hop : sd_op c s k) (el : c 7 (3 * (16 * s + k) + 2) = nI q) (t : K (16 * s + q) = 1)
    (hm : c 11 0 = 1) (h : sd_GS c s K) (hc : sd_GC c s K k) (he : sd_EN (sd_s c 6 K) s q K1) : sd_GS c s K1 ∧ sd_GC c s K1 (k + 1) := by
  have t' : c 6 (16 * s + q) = 1 := by
    rcases h.1 (16 * s + q) with w | w
    · exact w.symm.trans t
    · exact w.1
  have c1 : ∀ l, K l = 1 → c 6 l = 1 := by
    intro l hl
    rcases h.1 l with w | w
    · exact w.symm.trans hl
    · exact w.1
  refine ⟨⟨?_, ?_⟩, ?_⟩
  · intro j
    have a : K1 j = K j ∨ (K j = 1 ∧ K1 j = 2) := he.1 j
    rcases a with a | a
    · rw [a]; exact h.1 j
    · exact Or.inr ⟨c1 j a.1, a.2⟩
  · intro S hst hcl j hj
    by_cases e : K1 j = K j
    · exact h.2 S hst hcl j (by rw [← e]; exact hj)
    · exact he.2.2.1 S (hst k q hk hq hop el t') (fun a l ha hl hSa hlk w => hcl a l ha hl hSa hlk (c1 _ w)) j e
  · intro i l hi hl hz hlk
    have a : K1 (16 * s + l) = K (16 * s + l) ∨ (K (16 * s + l) = 1 ∧ K1 (16 * s + l) = 2) := he.1 (16 * s + l)
    by_cases e : K1 (16 * s + i) = K (16 * s + i)
    · by_cases ik : i = k
      · rw [ik, el] at hlk
        have : q = l := (nI_eq (by omega) (by omega)).mp hlk
        rw [← this, show K1 (16 * s + q) = 2 from he.2.1]
        decide
      · have old : ¬ K (16 * s + l) = 1 := by
          refine hc i l hi hl ?_ hlk
          rcases hz with z | z
          · exact Or.inl (by rw [← e]; exact z)
          · exact Or.inr ⟨z.1, by omega⟩
        rcases a with a | a
        · rw [a]; exact old
        · rw [a.2]; decide
    · exact he.2.2.2 hm i l hi hl e hlk
theorem sd_Xga {s : Nat} (hs : s < 3) {c : sd_T} {x2 : Int32} (hx2 : ∀ i, i < 16 → (bt x2 i = true ↔ sd_op c s i)) (hm : c 11 0 = 1) : ∀ (m k : Nat) (K : Nat → Int32) (d : sd_T), k + m = 16 → sd_L (sd_s c 6 K) d → sd_GS c s K → sd_GC c s K k →
    ∃ (K' : Nat → Int32) (d' : sd_T), sd_L (sd_s c 6 K') d' ∧ sd_G c s K' ∧ ∀ (n : Nat) (post : Int32 → SX → Prop), m < n → post 0 (sd_x d') → wX_gather_21 post (nI s) x2 n (nI k) (d 0 0) (d 1 0) (d 2 0) (d 3 0) (d 4 0) (d 5 0) (d 6 0) (d 7) (d 8) (d 9) (d 10) (d 11) (d 12) (d 13) (d 14) (d 15) (d 16) (d 17) (d 18) (d 19) (d 20) (d 21) (d 22) (d 23) (d 24) (d 25) (d 26) (d 27) (d 28) (d 29) (d 30) := by
  intro m
  induction m with
  | zero =>
    intro k K d hk h hgs hgc
    obtain rfl : k = 16 := by omega
    refine ⟨K, d, h, ⟨hgs, hgc⟩, fun n post hn hp => ?_⟩
    obtain ⟨n', rfl⟩ : ∃ n', n = n' + 1 := ⟨n - 1, by omega⟩
    exact br_t (by decide) hp
  | succ m ih =>
    intro k K d hk h hgs hgc
    have hk16 : k < 16 := by omega
    have h16 : ¬ (16 : Int32) ≤ nI k := nI_ge (a := k) (b := 16) hk16 (by decide)
    have e16 : (16 : Int32) * nI s + nI k = nI (16 * s + k) := sd_i16 s k
    have ec : (nI (16 * s + k)).toNatClampNeg = 16 * s + k := sd_ch (by omega)
    have hin : vp_in (nI (16 * s + k)) 48 := sd_in (by omega)
    -- nothing to do at k
    have skip : sd_GC c s K (k + 1) → (∀ (n : Nat) (post : Int32 → SX → Prop), wX_gather_21 post (nI s) x2 n (nI (k + 1)) (d 0 0) (d 1 0) (d 2 0) (d 3 0) (d 4 0) (d 5 0) (d 6 0) (d 7) (d 8) (d 9) (d 10) (d 11) (d 12) (d 13) (d 14) (d 15) (d 16) (d 17) (d 18) (d 19) (d 20) (d 21) (d 22) (d 23) (d 24) (d 25) (d 26) (d 27) (d 28) (d 29) (d 30) → wX_gather_21 post (nI s) x2 (n + 1) (nI k) (d 0 0) (d 1 0) (d 2 0) (d 3 0) (d 4 0) (d 5 0) (d 6 0) (d 7) (d 8) (d 9) (d 10) (d 11) (d 12) (d 13) (d 14) (d 15) (d 16) (d 17) (d 18) (d 19) (d 20) (d 21) (d 22) (d 23) (d 24) (d 25) (d 26) (d 27) (d 28) (d 29) (d 30)) →
        ∃ (K' : Nat → Int32) (d' : sd_T), sd_L (sd_s c 6 K') d' ∧ sd_G c s K' ∧ ∀ (n : Nat) (post : Int32 → SX → Prop), m + 1 < n → post 0 (sd_x d') → wX_gather_21 post (nI s) x2 n (nI k) (d 0 0) (d 1 0) (d 2 0) (d 3 0) (d 4 0) (d 5 0) (d 6 0) (d 7) (d 8) (d 9) (d 10) (d 11) (d 12) (d 13) (d 14) (d 15) (d 16) (d 17) (d 18) (d 19) (d 20) (d 21) (d 22) (d 23) (d 24) (d 25) (d 26) (d 27) (d 28) (d 29) (d 30) := by
      intro hg hw
      obtain ⟨K', d', h', hg', w⟩ := ih (k + 1) K d (by omega) h hgs hg
      refine ⟨K', d', h', hg', fun n post hn hp => ?_⟩
      obtain ⟨n', rfl⟩ : ∃ n', n = n' + 1 := ⟨n - 1, by omega⟩
      exact hw n' post (w n' post (by omega) hp)
    cases hb : bt x2 k
    · have hno : ¬ sd_op c s k := fun w => by rw [(hx2 k hk16).mpr w] at hb; exact absurd hb (by decide)
      refine skip ?_ ?_
      · intro i l hi hl hz hlk
        refine hgc i l hi hl ?_ hlk
        rcases hz with z | z
        · exact Or.inl z
        · have : ¬ i = k := fun w => hno (by rw [← w]; exact z.1)
          exact Or.inr ⟨z.1, by omega⟩
      · intro n post q
        refine br_f h16 ?_
        rw [e16, ec]
        exact ⟨hin, nm_e (sd_Xh0 (by omega) hb (br_t rfl (nm_r (nI_1 k) q)))⟩
    · have hop : sd_op c s k := (hx2 k hk16).mp hb
      have hKk : K (16 * s + k) = c 6 (16 * s + k) := by
        rcases hgs.1 (16 * s + k) with w | w
        · exact w
        · rcases sd_op_k hop with z | z <;> rw [w.1] at z <;> exact absurd z (by decide)
      have hl : d 21 (16 * s + k) = c 7 (3 * (16 * s + k) + 2) := by
        have a := (sd_va h (e := 16 * s + k) (by omega)).1
        refine (a ?_ ?_).2.2
        · show ¬ K (16 * s + k) = 0
          rw [hKk]; rcases sd_op_k hop with z | z <;> rw [z] <;> decide
        · show ¬ K (16 * s + k) = 3
          rw [hKk]; rcases sd_op_k hop with z | z <;> rw [z] <;> decide
      have gck : (∀ l, l < 16 → c 7 (3 * (16 * s + k) + 2) = nI l → ¬ K (16 * s + l) = 1) → sd_GC c s K (k + 1) := by
        intro w i l hi hl hz hlk
        by_cases ik : i = k
        · rw [ik] at hlk; exact w l hl hlk
        · refine hgc i l hi hl ?_ hlk
          rcases hz with z | z
          · exact Or.inl z
          · exact Or.inr ⟨z.1, by omega⟩
      rcases (sd_elr h (e := 16 * s + k) (by omega)).1 with e | ⟨q, hq, eq⟩
      · have e' : c 7 (3 * (16 * s + k) + 2) = -1 := e
        refine skip (gck (fun l hl w => absurd (w.symm.trans e') (sd_nm1 (by omega)))) ?_
        intro n post q
        refine br_f h16 ?_
        rw [e16, ec, hl, e']
        exact ⟨hin, nm_e (sd_Xh1 (by omega) hb (br_f (by decide) (br_t (by decide) (nm_r (nI_1 k) q))))⟩
      · have eq' : c 7 (3 * (16 * s + k) + 2) = nI q := eq
        have e61 : (6 : Int32) * nI s + 1 = nI (6 * s + 1) := by rw [sd_m6, sd_a1]
        have hkb : bt (d 16 (6 * s + 1)) q = decide (K (16 * s + q) = 1) := sd_kb h 1 hs hq (by decide) (by decide)
        by_cases t : K (16 * s + q) = 1
        · obtain ⟨K1, d1, h1, hen, wx, _⟩ := sd_Xen hs hq h t
          rw [sd_ss] at h1
          obtain ⟨g1, g2⟩ := sd_GS_en hk16 hq hop eq' t hm hgs hgc hen
          obtain ⟨K', d', h', hg', w⟩ := ih (k + 1) K1 d1 (by omega) h1 g1 g2
          refine ⟨K', d', h', hg', fun n post hn hp => ?_⟩
          obtain ⟨n', rfl⟩ : ∃ n', n = n' + 1 := ⟨n - 1, by omega⟩
          refine br_f h16 ?_
          rw [e16, ec, hl, eq', e61, sd_ch (n := 6 * s + 1) (by omega)]
          refine ⟨hin, nm_e (sd_Xh1 (by omega) hb (br_f (by decide) (br_f (nI_pos (by omega)) ⟨sd_in (by omega), sd_Xh1 (by omega) (by rw [hkb]; exact decide_eq_true t) (br_f (by decide) (sd_Xon (i := 0) (by decide) h ?_))⟩)))⟩
          refine br_f ?_ (wx _ (nm_r (nI_1 k) (w n' post (by omega) hp)))
          show ¬ c 11 0 = 0
          rw [hm]; decide
        · refine skip (gck (fun l hl w => ?_)) ?_
          · have : q = l := (nI_eq (by omega) (by omega)).mp (eq'.symm.trans w)
            rw [← this]; exact t
          · intro n post w
            refine br_f h16 ?_
            rw [e16, ec, hl, eq', e61, sd_ch (n := 6 * s + 1) (by omega)]
            exact ⟨hin, nm_e (sd_Xh1 (by omega) hb (br_f (by decide) (br_f (nI_pos (by omega)) ⟨sd_in (by omega), sd_Xh0 (by omega) (by rw [hkb]; exact decide_eq_false t) (br_t rfl (nm_r (nI_1 k) w))⟩)))⟩
/-- without the mode: something hangs from k on -/
def sd_of (c : sd_T) (s k : Nat) : Prop := ∃ o l, k ≤ o ∧ o < 16 ∧ l < 16 ∧ sd_op c s o ∧ c 7 (3 * (16 * s + o) + 2) = nI l ∧ c 6 (16 * s + l) = 1
theorem sd_of_s {c : sd_T} {s k : Nat} (h : ¬ ∃ l, l < 16 ∧ sd_op c s k ∧ c 7 (3 * (16 * s + k) + 2) = nI l ∧ c 6 (16 * s + l) = 1) : sd_of c s k ↔ sd_of c s (k + 1) := by
  constructor
  · rintro ⟨o, l, h1, h2, h3, h4, h5, h6⟩
    refine ⟨o, l, ?_, h2, h3, h4, h5, h6⟩
    have : ¬ o = k := fun w => h ⟨l, h3, by rw [← w]; exact h4, by rw [← w]; exact h5, h6⟩
    omega
  · rintro ⟨o, l, h1, h⟩
    exact ⟨o, l, by omega, h⟩
theorem sd_Xga0 {s : Nat} (hs : s < 3) {c d : sd_T} {x2 : Int32} (hx2 : ∀ i, i < 16 → (bt x2 i = true ↔ sd_op c s i)) (hm : c 11 0 = 0) (h : sd_L c d) : ∀ (m k : Nat) (n : Nat) (post : Int32 → SX → Prop), k + m = 16 → m < n → (sd_of c s k → post (-7) (sd_x d)) → (¬ sd_of c s k → post 0 (sd_x d)) → wX_gather_21 post (nI s) x2 n (nI k) (d 0 0) (d 1 0) (d 2 0) (d 3 0) (d 4 0) (d 5 0) (d 6 0) (d 7) (d 8) (d 9) (d 10) (d 11) (d 12) (d 13) (d 14) (d 15) (d 16) (d 17) (d 18) (d 19) (d 20) (d 21) (d 22) (d 23) (d 24) (d 25) (d 26) (d 27) (d 28) (d 29) (d 30) := by
  intro m
  induction m with
  | zero =>
    intro k n post hk hn p7 p0
    obtain rfl : k = 16 := by omega
    obtain ⟨n', rfl⟩ : ∃ n', n = n' + 1 := ⟨n - 1, by omega⟩
    exact br_t (by decide) (p0 (fun ⟨o, l, h1, h2, _⟩ => by omega))
  | succ m ih =>
    intro k n post hk hn p7 p0
    obtain ⟨n', rfl⟩ : ∃ n', n = n' + 1 := ⟨n - 1, by omega⟩
    have hk16 : k < 16 := by omega
    have ec : (nI (16 * s + k)).toNatClampNeg = 16 * s + k := sd_ch (by omega)
    have skip : (¬ ∃ l, l < 16 ∧ sd_op c s k ∧ c 7 (3 * (16 * s + k) + 2) = nI l ∧ c 6 (16 * s + l) = 1) → wX_gather_21 post (nI s) x2 n' (nI (k + 1)) (d 0 0) (d 1 0) (d 2 0) (d 3 0) (d 4 0) (d 5 0) (d 6 0) (d 7) (d 8) (d 9) (d 10) (d 11) (d 12) (d 13) (d 14) (d 15) (d 16) (d 17) (d 18) (d 19) (d 20) (d 21) (d 22) (d 23) (d 24) (d 25) (d 26) (d 27) (d 28) (d 29) (d 30) := by
      intro w
      have e := sd_of_s w
      exact ih (k + 1) n' post (by omega) (by omega) (fun q => p7 (e.mpr q)) (fun q => p0 (fun z => q (e.mp z)))
    refine br_f (nI_ge (a := k) (b := 16) hk16 (by decide)) ?_
    rw [sd_i16, ec]
    refine ⟨sd_in (by omega), nm_e ?_⟩
    cases hb : bt x2 k
    · have hno : ¬ sd_op c s k := fun w => by rw [(hx2 k hk16).mpr w] at hb; exact absurd hb (by decide)
      exact sd_Xh0 (by omega) hb (br_t rfl (nm_r (nI_1 k) (skip (fun ⟨l, _, z, _⟩ => hno z))))
    · have hop : sd_op c s k := (hx2 k hk16).mp hb
      have hl : d 21 (16 * s + k) = c 7 (3 * (16 * s + k) + 2) := by
        refine ((sd_va h (e := 16 * s + k) (by omega)).1 ?_ ?_).2.2
        · rcases sd_op_k hop with z | z <;> rw [z] <;> decide
        · rcases sd_op_k hop with z | z <;> rw [z] <;> decide
      refine sd_Xh1 (by omega) hb (br_f (by decide) ?_)
      rw [hl]
      rcases (sd_elr h (e := 16 * s + k) (by omega)).1 with e | ⟨q, hq, eq⟩
      · rw [e]
        exact br_t (by decide) (nm_r (nI_1 k) (skip (fun ⟨l, _, _, z, _⟩ => absurd (z.symm.trans e) (sd_nm1 (by omega)))))
      · rw [eq, show (6 : Int32) * nI s + 1 = nI (6 * s + 1) from by rw [sd_m6, sd_a1], sd_ch (n := 6 * s + 1) (by omega)]
        refine br_f (nI_pos (by omega)) ⟨sd_in (by omega), ?_⟩
        have hkb : bt (d 16 (6 * s + 1)) q = decide (c 6 (16 * s + q) = 1) := sd_kb h 1 hs hq (by decide) (by decide)
        by_cases t : c 6 (16 * s + q) = 1
        · exact sd_Xh1 (by omega) (by rw [hkb]; exact decide_eq_true t) (br_f (by decide) (sd_Xon (i := 0) (by decide) h (br_t hm (p7 ⟨k, q, Nat.le_refl k, hk16, hq, hop, eq, t⟩))))
        · refine sd_Xh0 (by omega) (by rw [hkb]; exact decide_eq_false t) (br_t rfl (nm_r (nI_1 k) (skip ?_)))
          rintro ⟨l, hl, _, z, z1⟩
          have : q = l := (nI_eq (by omega) (by omega)).mp (eq.symm.trans z)
          exact t (by rw [this]; exact z1)
/-! save -/
theorem sd_lt1 {s : Nat} (hs : s < 3) : (16 : Int32) * nI s + (-1) < 16 * nI s := by
  match s, hs with
  | 0, _ => decide
  | 1, _ => decide
  | 2, _ => decide
  | n + 3, hn => omega
theorem sd_dyK {c : sd_T} {K y7 y8 : Nat → Int32} (h : ∀ j, K j = c 6 j ∨ (c 6 j = 1 ∧ K j = 2)) (e : Nat) : sd_dy K y7 y8 e = sd_dy (c 6) y7 y8 e := by
  unfold sd_dy
  have q : decide (K e = 4) = decide (c 6 e = 4) := by
    rcases h e with w | w
    · rw [w]
    · rw [w.1, w.2]; decide
  rw [q]
/-- one that is reached is new -/
theorem sd_GS_1 {c : sd_T} {s i q : Nat} {K : Nat → Int32} (hi : i < 16) (hq : q < 16) (hz : K (16 * s + i) = 2 ∨ sd_dy (c 6) (c 7) (c 8) (16 * s + i) = true) (el : c 7 (3 * (16 * s + i) + 2) = nI q) (t : K (16 * s + q) = 1) (h : sd_GS c s K) : sd_GS c s (upd K (16 * s + q) 2) := by
  have t' : c 6 (16 * s + q) = 1 := by
    rcases h.1 (16 * s + q) with w | w
    · exact w.symm.trans t
    · exact w.1
  refine ⟨?_, ?_⟩
  · intro j
    by_cases e : j = 16 * s + q
    · rw [e, pk_us]; exact Or.inr ⟨t', rfl⟩
    · rw [pk_un e]; exact h.1 j
  · intro S hst hcl j hj
    by_cases e : j = 16 * s + q
    · refine ⟨q, hq, e, ?_⟩
      by_cases o : sd_op c s i
      · exact hst i q hi hq o el t'
      · have hK : K (16 * s + i) = 2 := hz.resolve_right (fun w => o (Or.inr w))
        have hn : ¬ K (16 * s + i) = c 6 (16 * s + i) := fun w => o (Or.inl (w.symm.trans hK))
        obtain ⟨i', hi', e', hS⟩ := h.2 S hst hcl (16 * s + i) hn
        have : i' = i := by omega
        rw [this] at hS
        exact hcl i q hi hq hS el t'
    · rw [pk_un e] at hj
      exact h.2 S hst hcl j hj
def sd_cla (c : sd_T) (s : Nat) (K : Nat → Int32) (k : Nat) : Prop := ∀ i l, i < k → l < 16 → (K (16 * s + i) = 2 ∨ sd_dy (c 6) (c 7) (c 8) (16 * s + i) = true) → c 7 (3 * (16 * s + i) + 2) = nI l → ¬ K (16 * s + l) = 1
theorem sd_Ysv13 {s : Nat} (hs : s < 3) {c d : sd_T} (h : sd_L c d) (hm : c 11 0 = 1) {post : Int32 → SY → Prop} {J2 : Int32 → (Nat → Int32) → (Nat → Int32) → (Nat → Int32) → (Nat → Int32) → (Nat → Int32) → (Nat → Int32) → (Nat → Int32) → (Nat → Int32) → (Nat → Int32) → (Nat → Int32) → (Nat → Int32) → (Nat → Int32) → (Nat → Int32) → (Nat → Int32) → (Nat → Int32) → (Nat → Int32) → Prop} {K0 : Nat → Int32}
    (hJ : ∀ (K : Nat → Int32) (b : Nat), sd_GS c s K → ((b = 0 ∧ K = K0 ∧ sd_cla c s K 16) ∨ (b = 1 ∧ sd_tn K s < sd_tn K0 s)) → J2 (nI b) (c 2) (c 3) (c 4) (c 5) K (c 7) (c 8) (c 9) (c 10) (c 11) (c 12) (c 13) (c 14) (c 15) (c 16) (c 17)) :
    ∀ (m i : Nat) (K : Nat → Int32) (b n : Nat), i + m = 16 → m < n → sd_GS c s K → ((b = 0 ∧ K = K0 ∧ sd_cla c s K i) ∨ (b = 1 ∧ sd_tn K s < sd_tn K0 s)) → wY_save_13 post J2 (nI s) (c 0 0) (c 1 0) n (nI b) (nI (16 * s + i)) (c 2) (c 3) (c 4) (c 5) K (c 7) (c 8) (c 9) (c 10) (c 11) (c 12) (c 13) (c 14) (c 15) (c 16) (c 17) := by
  intro m
  induction m with
  | zero =>
    intro i K b n hi hn hg hb
    obtain rfl : i = 16 := by omega
    obtain ⟨n', rfl⟩ : ∃ n', n = n' + 1 := ⟨n - 1, by omega⟩
    refine br_t ?_ (hJ K b hg hb)
    rw [sd_m16, sd_a16]
    exact nI_le (Nat.le_refl _) (by omega)
  | succ m ih =>
    intro i K b n hi hn hg hb
    obtain ⟨n', rfl⟩ : ∃ n', n = n' + 1 := ⟨n - 1, by omega⟩
    have hi16 : i < 16 := by omega
    have hin : vp_in (nI (16 * s + i)) 48 := sd_in (by omega)
    have ec : (nI (16 * s + i)).toNatClampNeg = 16 * s + i := sd_ch (by omega)
    have e1 : nI (16 * s + i) + 1 = nI (16 * s + (i + 1)) := nI_1 (16 * s + i)
    have next : (∀ l, l < 16 → (K (16 * s + i) = 2 ∨ sd_dy (c 6) (c 7) (c 8) (16 * s + i) = true) → c 7 (3 * (16 * s + i) + 2) = nI l → ¬ K (16 * s + l) = 1) → wY_save_13 post J2 (nI s) (c 0 0) (c 1 0) n' (nI b) (nI (16 * s + (i + 1))) (c 2) (c 3) (c 4) (c 5) K (c 7) (c 8) (c 9) (c 10) (c 11) (c 12) (c 13) (c 14) (c 15) (c 16) (c 17) := by
      intro w
      refine ih (i + 1) K b n' (by omega) (by omega) hg ?_
      rcases hb with ⟨b0, e, hc⟩ | hb
      · refine Or.inl ⟨b0, e, ?_⟩
        intro i' l hi' hl hz hlk
        by_cases q : i' = i
        · subst q; exact w l hl hz hlk
        · exact hc i' l (by omega) hl hz hlk
      · exact Or.inr hb
    refine br_f ?_ ?_
    · rw [sd_m16, sd_a16]
      exact nI_ge (by omega) (by omega)
    · rw [sd_m3, sd_a2, sd_ch (n := 3 * (16 * s + i) + 2) (by omega)]
      refine ⟨sd_in (by omega), nm_e ?_⟩
      refine sd_Ydy (c := sd_s c 6 K) (by omega) ?_
      rw [ec]
      refine ⟨hin, ?_⟩
      have edy : sd_dy (sd_s c 6 K 6) (sd_s c 6 K 7) (sd_s c 6 K 8) (16 * s + i) = sd_dy (c 6) (c 7) (c 8) (16 * s + i) := sd_dyK hg.1 (16 * s + i)
      rw [edy]
      -- the link is looked at
      have look : (K (16 * s + i) = 2 ∨ sd_dy (c 6) (c 7) (c 8) (16 * s + i) = true) → wY_save_63 post J2 (wY_save_13 post J2 (nI s) (c 0 0) (c 1 0) n') (nI s) (nI b) (nI (16 * s + i)) (16 * nI s + c 7 (3 * (16 * s + i) + 2)) (c 0 0) (c 1 0) (c 2) (c 3) (c 4) (c 5) K (c 7) (c 8) (c 9) (c 10) (c 11) (c 12) (c 13) (c 14) (c 15) (c 16) (c 17) := by
        intro hz
        unfold wY_save_63
        rcases (sd_elr h (e := 16 * s + i) (by omega)).1 with e | ⟨q, hq, eq⟩
        · rw [e]
          exact br_t (sd_lt1 hs) (nm_r e1 (next (fun l hl _ w => absurd (w.symm.trans e) (sd_nm1 (by omega)))))
        · rw [eq, sd_i16, sd_m16, sd_ch (n := 16 * s + q) (by omega)]
          refine br_f (nI_nlt (by omega) (by omega)) ⟨sd_in (by omega), ?_⟩
          by_cases t : K (16 * s + q) = 1
          · refine br_t t (br_f (by rw [hm]; decide) ⟨sd_in (by omega), nm_e (nm_r e1 ?_)⟩)
            refine ih (i + 1) (upd K (16 * s + q) 2) 1 n' (by omega) (by omega) (sd_GS_1 hi16 hq hz eq t hg) (Or.inr ⟨rfl, ?_⟩)
            have a := sd_tn_out (s := s) hq t
            rcases hb with ⟨_, e, _⟩ | ⟨_, e⟩
            · rw [← e]; omega
            · omega
          · refine br_f t (nm_r e1 (next (fun l hl _ w => ?_)))
            have : q = l := (nI_eq (by omega) (by omega)).mp (eq.symm.trans w)
            rw [← this]; exact t
      by_cases k2 : K (16 * s + i) = 2
      · exact br_t k2 (look (Or.inl k2))
      · refine br_f k2 ?_
        cases hd : sd_dy (c 6) (c 7) (c 8) (16 * s + i)
        · exact br_t rfl (nm_r e1 (next (fun l hl z _ => by rcases z with z | z; exact absurd z k2; rw [hd] at z; exact absurd z (by decide))))
        · exact br_f (by decide) (look (Or.inr hd))
theorem sd_Ysv2 {s : Nat} (hs : s < 3) {c d : sd_T} (h : sd_L c d) (hm : c 11 0 = 1) {post : Int32 → SY → Prop} (hp : ∀ K', sd_G c s K' → post 0 (sd_y (sd_s c 6 K'))) :
    ∀ (t : Nat) (K : Nat → Int32) (n : Nat), sd_tn K s ≤ t → t + 1 < n → sd_GS c s K → wY_save_2 post (nI s) (c 0 0) (c 1 0) n 1 (c 2) (c 3) (c 4) (c 5) K (c 7) (c 8) (c 9) (c 10) (c 11) (c 12) (c 13) (c 14) (c 15) (c 16) (c 17) := by
  have fin : ∀ (K : Nat → Int32) (n : Nat), sd_GS c s K → sd_cla c s K 16 → 0 < n → wY_save_2 post (nI s) (c 0 0) (c 1 0) n 0 (c 2) (c 3) (c 4) (c 5) K (c 7) (c 8) (c 9) (c 10) (c 11) (c 12) (c 13) (c 14) (c 15) (c 16) (c 17) := by
    intro K n hg hc hn
    obtain ⟨n', rfl⟩ : ∃ n', n = n' + 1 := ⟨n - 1, by omega⟩
    refine br_t rfl (hp K ⟨hg, ?_⟩)
    intro i l hi hl hz hlk
    refine hc i l hi hl ?_ hlk
    rcases hz with z | ⟨z | z, _⟩
    · rcases hg.1 (16 * s + i) with w | w
      · exact absurd w z
      · exact Or.inl w.2
    · rcases hg.1 (16 * s + i) with w | w
      · exact Or.inl (w.trans z)
      · exact Or.inl w.2
    · exact Or.inr z
  intro t
  induction t with
  | zero =>
    intro K n ht hn hg
    obtain ⟨n', rfl⟩ : ∃ n', n = n' + 1 := ⟨n - 1, by omega⟩
    refine br_f (by decide) (nm_r (sd_m16 s) ⟨17, ?_⟩)
    refine sd_Ysv13 hs h hm (K0 := K) ?_ 16 0 K 0 17 (by decide) (by decide) hg (Or.inl ⟨rfl, rfl, fun i l hi => absurd hi (Nat.not_lt_zero i)⟩)
    intro K' b hg' hb
    rcases hb with ⟨b0, e, hc⟩ | ⟨b1, e⟩
    · subst b0; exact fin K' n' hg' hc (by omega)
    · omega
  | succ t ih =>
    intro K n ht hn hg
    obtain ⟨n', rfl⟩ : ∃ n', n = n' + 1 := ⟨n - 1, by omega⟩
    refine br_f (by decide) (nm_r (sd_m16 s) ⟨17, ?_⟩)
    refine sd_Ysv13 hs h hm (K0 := K) ?_ 16 0 K 0 17 (by decide) (by decide) hg (Or.inl ⟨rfl, rfl, fun i l hi => absurd hi (Nat.not_lt_zero i)⟩)
    intro K' b hg' hb
    rcases hb with ⟨b0, e, hc⟩ | ⟨b1, e⟩
    · subst b0; exact fin K' n' hg' hc (by omega)
    · subst b1; exact ih K' n' (by omega) (by omega) hg'
theorem sd_Ysv0 {s : Nat} (hs : s < 3) {c d : sd_T} (h : sd_L c d) (hm : c 11 0 = 0) {post : Int32 → SY → Prop} {J2 : Int32 → (Nat → Int32) → (Nat → Int32) → (Nat → Int32) → (Nat → Int32) → (Nat → Int32) → (Nat → Int32) → (Nat → Int32) → (Nat → Int32) → (Nat → Int32) → (Nat → Int32) → (Nat → Int32) → (Nat → Int32) → (Nat → Int32) → (Nat → Int32) → (Nat → Int32) → (Nat → Int32) → Prop} :
    ∀ (m i n : Nat), i + m = 16 → m < n → (sd_of c s i → post (-7) (sd_y c)) → (¬ sd_of c s i → J2 0 (c 2) (c 3) (c 4) (c 5) (c 6) (c 7) (c 8) (c 9) (c 10) (c 11) (c 12) (c 13) (c 14) (c 15) (c 16) (c 17)) → wY_save_13 post J2 (nI s) (c 0 0) (c 1 0) n 0 (nI (16 * s + i)) (c 2) (c 3) (c 4) (c 5) (c 6) (c 7) (c 8) (c 9) (c 10) (c 11) (c 12) (c 13) (c 14) (c 15) (c 16) (c 17) := by
  intro m
  induction m with
  | zero =>
    intro i n hi hn p7 p0
    obtain rfl : i = 16 := by omega
    obtain ⟨n', rfl⟩ : ∃ n', n = n' + 1 := ⟨n - 1, by omega⟩
    refine br_t ?_ (p0 (fun ⟨o, l, h1, h2, _⟩ => by omega))
    rw [sd_m16, sd_a16]
    exact nI_le (Nat.le_refl _) (by omega)
  | succ m ih =>
    intro i n hi hn p7 p0
    obtain ⟨n', rfl⟩ : ∃ n', n = n' + 1 := ⟨n - 1, by omega⟩
    have hi16 : i < 16 := by omega
    have hin : vp_in (nI (16 * s + i)) 48 := sd_in (by omega)
    have ec : (nI (16 * s + i)).toNatClampNeg = 16 * s + i := sd_ch (by omega)
    have e1 : nI (16 * s + i) + 1 = nI (16 * s + (i + 1)) := nI_1 (16 * s + i)
    have skip : (¬ ∃ l, l < 16 ∧ sd_op c s i ∧ c 7 (3 * (16 * s + i) + 2) = nI l ∧ c 6 (16 * s + l) = 1) → wY_save_13 post J2 (nI s) (c 0 0) (c 1 0) n' 0 (nI (16 * s + (i + 1))) (c 2) (c 3) (c 4) (c 5) (c 6) (c 7) (c 8) (c 9) (c 10) (c 11) (c 12) (c 13) (c 14) (c 15) (c 16) (c 17) := by
      intro w
      have e := sd_of_s w
      exact ih (i + 1) n' (by omega) (by omega) (fun q => p7 (e.mpr q)) (fun q => p0 (fun z => q (e.mp z)))
    refine br_f ?_ ?_
    · rw [sd_m16, sd_a16]
      exact nI_ge (by omega) (by omega)
    · rw [sd_m3, sd_a2, sd_ch (n := 3 * (16 * s + i) + 2) (by omega)]
      refine ⟨sd_in (by omega), nm_e ?_⟩
      refine sd_Ydy (c := c) (by omega) ?_
      rw [ec]
      refine ⟨hin, ?_⟩
      have look : sd_op c s i → wY_save_63 post J2 (wY_save_13 post J2 (nI s) (c 0 0) (c 1 0) n') (nI s) 0 (nI (16 * s + i)) (16 * nI s + c 7 (3 * (16 * s + i) + 2)) (c 0 0) (c 1 0) (c 2) (c 3) (c 4) (c 5) (c 6) (c 7) (c 8) (c 9) (c 10) (c 11) (c 12) (c 13) (c 14) (c 15) (c 16) (c 17) := by
        intro hz
        unfold wY_save_63
        rcases (sd_elr h (e := 16 * s + i) (by omega)).1 with e | ⟨q, hq, eq⟩
        · rw [e]
          exact br_t (sd_lt1 hs) (nm_r e1 (skip (fun ⟨l, _, _, w, _⟩ => absurd (w.symm.trans e) (sd_nm1 (by omega)))))
        · rw [eq, sd_i16, sd_m16, sd_ch (n := 16 * s + q) (by omega)]
          refine br_f (nI_nlt (by omega) (by omega)) ⟨sd_in (by omega), ?_⟩
          by_cases t : c 6 (16 * s + q) = 1
          · exact br_t t (br_t hm (p7 ⟨i, q, Nat.le_refl i, hi16, hq, hz, eq, t⟩))
          · refine br_f t (nm_r e1 (skip ?_))
            rintro ⟨l, hl, _, w, w1⟩
            have : q = l := (nI_eq (by omega) (by omega)).mp (eq.symm.trans w)
            exact t (by rw [this]; exact w1)
      by_cases k2 : c 6 (16 * s + i) = 2
      · exact br_t k2 (look (Or.inl k2))
      · refine br_f k2 ?_
        cases hd : sd_dy (c 6) (c 7) (c 8) (16 * s + i)
        · refine br_t rfl (nm_r e1 (skip ?_))
          rintro ⟨l, _, z | z, _⟩
          · exact k2 z
          · rw [hd] at z; exact absurd z (by decide)
        · exact br_f (by decide) (look (Or.inr hd))
/-- gather and save, on both sides -/
theorem sd_gath {s : Nat} {c d : sd_T} (hs : s < 3) (h : sd_L c d) : ∃ (a : Int32) (K : Nat → Int32) (d' : sd_T), sd_L (sd_s c 6 K) d' ∧ (∀ j, K j = c 6 j ∨ (c 6 j = 1 ∧ K j = 2)) ∧ (a = 0 ∨ a = -7) ∧
    (∀ post : Int32 → SX → Prop, post a (sd_x d') → wpX_gather post (sd_x d) (nI s)) ∧ (∀ post : Int32 → SY → Prop, post a (sd_y (sd_s c 6 K)) → wpY_save post (sd_y c) (nI s)) := by
  have e62 : (6 : Int32) * nI s + 2 = nI (6 * s + 2) := by rw [sd_m6, sd_a2]
  have es : (nI s).toNatClampNeg = s := sd_ch (by omega)
  have hx2 : ∀ i, i < 16 → (bt (d 16 (6 * s + 2) ||| d 17 s) i = true ↔ sd_op c s i) := by
    intro i hi
    rw [b_or, Bool.or_eq_true, sd_kb h 2 hs hi (by decide) (by decide), sd_db h hs hi, decide_eq_true_eq]
    exact Iff.rfl
  have hX : ∀ (n : Nat) (post : Int32 → SX → Prop), wX_gather_21 post (nI s) (d 16 (6 * s + 2) ||| d 17 s) n 0 (d 0 0) (d 1 0) (d 2 0) (d 3 0) (d 4 0) (d 5 0) (d 6 0) (d 7) (d 8) (d 9) (d 10) (d 11) (d 12) (d 13) (d 14) (d 15) (d 16) (d 17) (d 18) (d 19) (d 20) (d 21) (d 22) (d 23) (d 24) (d 25) (d 26) (d 27) (d 28) (d 29) (d 30) → wpX_gather post (sd_x d) (nI s) := by
    intro n post q
    unfold wpX_gather
    rw [e62, sd_ch (n := 6 * s + 2) (by omega), es]
    exact ⟨sd_in (by omega), sd_in hs, nm_e ⟨n, q⟩⟩
  rcases sd_mo01 h (i := 0) (by decide) with hm | hm
  · have e6 : sd_s c 6 (c 6) = c := sd_sid c 6
    by_cases o : sd_of c s 0
    · refine ⟨-7, c 6, d, by rw [e6]; exact h, fun _ => Or.inl rfl, Or.inr rfl, fun post hp => ?_, fun post hp => ?_⟩
      · exact hX 17 post (sd_Xga0 hs hx2 hm h 16 0 17 post (by decide) (by decide) (fun _ => hp) (fun w => absurd o w))
      · rw [e6] at hp
        unfold wpY_save
        exact ⟨2, br_f (by decide) (nm_r (sd_m16 s) ⟨17, sd_Ysv0 hs h hm 16 0 17 (by decide) (by decide) (fun _ => hp) (fun w => absurd o w)⟩)⟩
    · refine ⟨0, c 6, d, by rw [e6]; exact h, fun _ => Or.inl rfl, Or.inl rfl, fun post hp => ?_, fun post hp => ?_⟩
      · exact hX 17 post (sd_Xga0 hs hx2 hm h 16 0 17 post (by decide) (by decide) (fun w => absurd w o) (fun _ => hp))
      · rw [e6] at hp
        unfold wpY_save
        exact ⟨2, br_f (by decide) (nm_r (sd_m16 s) ⟨17, sd_Ysv0 hs h hm 16 0 17 (by decide) (by decide) (fun w => absurd w o) (fun _ => br_t rfl hp)⟩)⟩
  · obtain ⟨K, d', h', hg, w⟩ := sd_Xga hs hx2 hm 16 0 (c 6) d (by decide) (by rw [sd_sid]; exact h) (sd_GS0 c s) (fun i l hi hl hz => by rcases hz with z | z; exact absurd rfl z; omega)
    refine ⟨0, K, d', h', hg.1.1, Or.inl rfl, fun post hp => hX 17 post (w 17 post (by decide) hp), fun post hp => ?_⟩
    unfold wpY_save
    exact ⟨18, sd_Ysv2 hs h hm (fun K' hg' => by rw [sd_G_u hg' hg]; exact hp) 16 (c 6) 18 (sd_c_le _ 16) (by decide) (sd_GS0 c s)⟩
end
section
/-! fetch, linking, loose ones; spread -/
theorem sd_mg_o (c : sd_T) (s r f : Nat) (h6 : ¬ f = 6) (h7 : ¬ f = 7) (h8 : ¬ f = 8) (h9 : ¬ f = 9) : sd_mg c s r f = c f := by
  have nb : ∀ g, ¬ f = g → Nat.beq f g = false := fun g hg => by
    cases hb : Nat.beq f g
    · rfl
    · exact absurd (Nat.eq_of_beq_eq_true hb) hg
  unfold sd_mg
  rw [sd_sn _ _ _ _ (nb 9 h9), sd_sn _ _ _ _ (nb 8 h8), sd_sn _ _ _ _ (nb 7 h7), sd_sn _ _ _ _ (nb 6 h6)]
/-- rows of F are managed, those below n -/
def sd_ft (c : sd_T) (s : Nat) (F : Nat → Bool) : Nat → sd_T
  | 0 => c
  | n + 1 => if F n = true then sd_mg (sd_ft c s F n) s n else sd_ft c s F n
theorem sd_ft_t {c : sd_T} {s : Nat} {F : Nat → Bool} {n : Nat} (h : F n = true) : sd_ft c s F (n + 1) = sd_mg (sd_ft c s F n) s n := if_pos h
theorem sd_ft_f {c : sd_T} {s : Nat} {F : Nat → Bool} {n : Nat} (h : F n = false) : sd_ft c s F (n + 1) = sd_ft c s F n := if_neg (by rw [h]; decide)
theorem sd_ft_o (c : sd_T) (s : Nat) (F : Nat → Bool) (n f : Nat) (h6 : ¬ f = 6) (h7 : ¬ f = 7) (h8 : ¬ f = 8) (h9 : ¬ f = 9) : sd_ft c s F n f = c f := by
  induction n with
  | zero => rfl
  | succ n ih =>
    cases hF : F n
    · rw [sd_ft_f hF, ih]
    · rw [sd_ft_t hF, sd_mg_o _ _ _ _ h6 h7 h8 h9, ih]
theorem sd_ft_6 (c : sd_T) (s : Nat) (F : Nat → Bool) (n j : Nat) : sd_ft c s F n 6 j = if 16 * s ≤ j ∧ j < 16 * s + n ∧ F (j - 16 * s) = true then 4 else c 6 j := by
  induction n with
  | zero => rw [if_neg (by omega)]; rfl
  | succ n ih =>
    cases hF : F n
    · rw [sd_ft_f hF, ih]
      by_cases e : 16 * s ≤ j ∧ j < 16 * s + n ∧ F (j - 16 * s) = true
      · rw [if_pos e, if_pos ⟨e.1, by omega, e.2.2⟩]
      · rw [if_neg e, if_neg ?_]
        rintro ⟨a, b, q⟩
        by_cases w : j = 16 * s + n
        · rw [w, Nat.add_sub_cancel_left, hF] at q; exact absurd q (by decide)
        · exact e ⟨a, by omega, q⟩
    · rw [sd_ft_t hF]
      show upd (sd_ft c s F n 6) (16 * s + n) 4 j = _
      by_cases w : j = 16 * s + n
      · rw [w, pk_us, if_pos ⟨by omega, by omega, by rw [Nat.add_sub_cancel_left]; exact hF⟩]
      · rw [pk_un w, ih]
        by_cases e : 16 * s ≤ j ∧ j < 16 * s + n ∧ F (j - 16 * s) = true
        · rw [if_pos e, if_pos ⟨e.1, by omega, e.2.2⟩]
        · rw [if_neg e, if_neg (fun q => e ⟨q.1, by omega, q.2.2⟩)]
theorem sd_ft_7 (c : sd_T) (s : Nat) (F : Nat → Bool) (n i : Nat) (hi : i < 16) : sd_ft c s F n 7 (3 * (16 * s + i) + 2) = if i < n ∧ F i = true then c 4 (4 * sd_sg (c 5) s i + 2) else c 7 (3 * (16 * s + i) + 2) := by
  induction n with
  | zero => rw [if_neg (by omega)]; rfl
  | succ n ih =>
    cases hF : F n
    · rw [sd_ft_f hF, ih]
      by_cases e : i < n ∧ F i = true
      · rw [if_pos e, if_pos ⟨by omega, e.2⟩]
      · rw [if_neg e, if_neg ?_]
        rintro ⟨a, q⟩
        by_cases w : i = n
        · rw [w, hF] at q; exact absurd q (by decide)
        · exact e ⟨by omega, q⟩
    · rw [sd_ft_t hF]
      show sd_u3 (sd_ft c s F n 7) (3 * (16 * s + n)) _ _ (sd_ft c s F n 4 (4 * sd_sg (sd_ft c s F n 5) s n + 2)) (3 * (16 * s + i) + 2) = _
      by_cases w : i = n
      · rw [w, sd_u3_2, sd_ft_o _ _ _ _ 4 (by decide) (by decide) (by decide) (by decide), sd_ft_o _ _ _ _ 5 (by decide) (by decide) (by decide) (by decide), if_pos ⟨by omega, hF⟩]
      · rw [sd_u3_n (by omega), ih]
        by_cases e : i < n ∧ F i = true
        · rw [if_pos e, if_pos ⟨by omega, e.2⟩]
        · rw [if_neg e, if_neg (fun q => e ⟨by omega, q.2⟩)]
/-- rows that are fetched -/
def sd_F (c : sd_T) (s k : Nat) (i : Nat) : Bool := (decide (c 6 (16 * s + i) = 0) || decide (c 6 (16 * s + i) = 3)) && decide (c 2 (sd_sg (c 5) s i) = 1) && decide (c 4 (4 * sd_sg (c 5) s i + 2) = nI k)
theorem sd_F_t {c : sd_T} {s k i : Nat} (h : sd_F c s k i = true) : (c 6 (16 * s + i) = 0 ∨ c 6 (16 * s + i) = 3) ∧ c 2 (sd_sg (c 5) s i) = 1 ∧ c 4 (4 * sd_sg (c 5) s i + 2) = nI k := by
  unfold sd_F at h
  rw [Bool.and_eq_true, Bool.and_eq_true, Bool.or_eq_true, decide_eq_true_eq, decide_eq_true_eq, decide_eq_true_eq, decide_eq_true_eq] at h
  exact ⟨h.1.1, h.1.2, h.2⟩
theorem sd_F_i {c : sd_T} {s k i : Nat} (h1 : c 6 (16 * s + i) = 0 ∨ c 6 (16 * s + i) = 3) (h2 : c 2 (sd_sg (c 5) s i) = 1) (h3 : c 4 (4 * sd_sg (c 5) s i + 2) = nI k) : sd_F c s k i = true := by
  unfold sd_F
  rw [Bool.and_eq_true, Bool.and_eq_true, Bool.or_eq_true, decide_eq_true_eq, decide_eq_true_eq, decide_eq_true_eq, decide_eq_true_eq]
  exact ⟨⟨h1, h2⟩, h3⟩
theorem sd_F_f {c : sd_T} {s k i : Nat} (h : ¬ sd_F c s k i = true) : sd_F c s k i = false := by
  cases hb : sd_F c s k i
  · rfl
  · exact absurd hb h
theorem sd_Xft {c : sd_T} {s k : Nat} {x4 : Int32} (hs : s < 3) (hk : k < 16) (hx : ∀ i, i < 16 → (bt x4 i = true ↔ ((c 6 (16 * s + i) = 0 ∨ c 6 (16 * s + i) = 3) ∧ c 2 (sd_sg (c 5) s i) = 1))) : ∀ (m r : Nat) (d : sd_T), r + m = 16 → sd_L (sd_ft c s (sd_F c s k) r) d →
    ∃ d', sd_L (sd_ft c s (sd_F c s k) 16) d' ∧ ∀ (n : Nat) (post : SX → Prop), m < n → post (sd_x d') → wX_fetch_62 post (nI s) (nI k) x4 n (nI r) (d 0 0) (d 1 0) (d 2 0) (d 3 0) (d 4 0) (d 5 0) (d 6 0) (d 7) (d 8) (d 9) (d 10) (d 11) (d 12) (d 13) (d 14) (d 15) (d 16) (d 17) (d 18) (d 19) (d 20) (d 21) (d 22) (d 23) (d 24) (d 25) (d 26) (d 27) (d 28) (d 29) (d 30) := by
  intro m
  induction m with
  | zero =>
    intro r d hr h
    obtain rfl : r = 16 := by omega
    refine ⟨d, h, fun n post hn hp => ?_⟩
    obtain ⟨n', rfl⟩ : ∃ n', n = n' + 1 := ⟨n - 1, by omega⟩
    exact br_t (by decide) hp
  | succ m ih =>
    intro r d hr h
    have h16 : ¬ (16 : Int32) ≤ nI r := nI_ge (a := r) (b := 16) (by omega) (by decide)
    have e4 : sd_ft c s (sd_F c s k) r 4 = c 4 := sd_ft_o _ _ _ _ 4 (by decide) (by decide) (by decide) (by decide)
    have e5 : sd_ft c s (sd_F c s k) r 5 = c 5 := sd_ft_o _ _ _ _ 5 (by decide) (by decide) (by decide) (by decide)
    cases hb : bt x4 r
    · have hF : sd_F c s k r = false := sd_F_f (fun w => by
        have q := sd_F_t w
        rw [(hx r (by omega)).mpr ⟨q.1, q.2.1⟩] at hb
        exact absurd hb (by decide))
      obtain ⟨d', h', w⟩ := ih (r + 1) d (by omega) (by rw [sd_ft_f hF]; exact h)
      refine ⟨d', h', fun n post hn hp => ?_⟩
      obtain ⟨n', rfl⟩ : ∃ n', n = n' + 1 := ⟨n - 1, by omega⟩
      exact br_f h16 (sd_Xh0 (by omega) hb (br_t rfl (nm_r (nI_1 r) (w n' post (by omega) hp))))
    · obtain ⟨q1, q2⟩ := (hx r (by omega)).mp hb
      by_cases t : c 4 (4 * sd_sg (c 5) s r + 2) = nI k
      · have hF : sd_F c s k r = true := sd_F_i q1 q2 t
        obtain ⟨d1, h1, w1⟩ := sd_Xfill hs (r := r) (by omega) h (fun _ _ => trivial) (fun _ _ => trivial)
        obtain ⟨d', h', w⟩ := ih (r + 1) d1 (by omega) (by rw [sd_ft_t hF]; exact h1)
        refine ⟨d', h', fun n post hn hp => ?_⟩
        obtain ⟨n', rfl⟩ : ∃ n', n = n' + 1 := ⟨n - 1, by omega⟩
        refine br_f h16 (sd_Xh1 (by omega) hb (br_f (by decide) (sd_Xlk (d := d) hs (by omega) h.1 ?_)))
        rw [e4, e5]
        exact br_t t (w1 _ (nm_r (nI_1 r) (w n' post (by omega) hp)))
      · have hF : sd_F c s k r = false := sd_F_f (fun w => t (sd_F_t w).2.2)
        obtain ⟨d', h', w⟩ := ih (r + 1) d (by omega) (by rw [sd_ft_f hF]; exact h)
        refine ⟨d', h', fun n post hn hp => ?_⟩
        obtain ⟨n', rfl⟩ : ∃ n', n = n' + 1 := ⟨n - 1, by omega⟩
        refine br_f h16 (sd_Xh1 (by omega) hb (br_f (by decide) (sd_Xlk (d := d) hs (by omega) h.1 ?_)))
        rw [e4, e5]
        exact br_f t (nm_r (nI_1 r) (w n' post (by omega) hp))
theorem sd_Xfetch {c d : sd_T} {s k : Nat} (hs : s < 3) (hk : k < 16) (h : sd_L c d) : ∃ d', sd_L (sd_ft c s (sd_F c s k) 16) d' ∧ ∀ post : SX → Prop, post (sd_x d') → wpX_fetch post (sd_x d) (nI s) (nI k) := by
  have hx : ∀ i, i < 16 → (bt (sd_si d s &&& (((((d 16 (6 * s + 1)) ||| (d 16 (6 * s + 2))) ||| (d 16 (6 * s + 4))) ||| (d 16 (6 * s + 5))) ^^^ (-1))) i = true ↔ ((c 6 (16 * s + i) = 0 ∨ c 6 (16 * s + i) = 3) ∧ c 2 (sd_sg (c 5) s i) = 1)) := by
    intro i hi
    rw [b_and, sd_nt _ (by omega), b_or, b_or, b_or, sd_kb h 1 hs hi (by decide) (by decide), sd_kb h 2 hs hi (by decide) (by decide), sd_kb h 4 hs hi (by decide) (by decide), sd_kb h 5 hs hi (by decide) (by decide), sd_si_b hs hi h.1, sd_b1]
    rcases sd_kd h hs hi with z | z | z | z | z | z <;> rw [z] <;> cases bt (sd_si d s) i <;> decide
  obtain ⟨d', h', w⟩ := sd_Xft hs hk hx 16 0 d (by decide) h
  refine ⟨d', h', fun post hp => ?_⟩
  unfold wpX_fetch
  rw [show (6 : Int32) * nI s + 1 = nI (6 * s + 1) from by rw [sd_m6, sd_a1], show (6 : Int32) * nI s + 2 = nI (6 * s + 2) from by rw [sd_m6, sd_a2], show (6 : Int32) * nI s + 4 = nI (6 * s + 4) from by rw [sd_m6, sd_a4], show (6 : Int32) * nI s + 5 = nI (6 * s + 5) from by rw [sd_m6, sd_a5],
    sd_ch (n := 6 * s + 1) (by omega), sd_ch (n := 6 * s + 2) (by omega), sd_ch (n := 6 * s + 4) (by omega), sd_ch (n := 6 * s + 5) (by omega)]
  exact ⟨sd_in (by omega), sd_in (by omega), sd_in (by omega), sd_in (by omega), nm_e (sd_Xsi (d := d) hs (nm_e ⟨17, w 17 _ (by decide) hp⟩))⟩
theorem sd_Xlkg6 {c d : sd_T} {s k w : Nat} (hs : s < 3) (hk : k < 16) (h1 : 1 ≤ w) (h5 : w ≤ 5) (h3 : ¬ w = 3) (h : sd_L c d) : ∀ (m i : Nat) (x : Int32), i + m = 16 → (∀ j, j < 32 → bt x j = (decide (j < i) && decide (c 6 (16 * s + j) = nI w) && decide (c 7 (3 * (16 * s + j) + 2) = nI k))) →
    ∃ x', (∀ j, j < 32 → bt x' j = (decide (j < 16) && decide (c 6 (16 * s + j) = nI w) && decide (c 7 (3 * (16 * s + j) + 2) = nI k))) ∧ ∀ (n : Nat) (post : Int32 → Prop), m < n → post x' → wX_linking_6 post (nI s) (nI w) (nI k) (d 0 0) (d 1 0) (d 2 0) (d 3 0) (d 4 0) (d 5 0) (d 6 0) (d 7) (d 8) (d 9) (d 10) (d 11) (d 12) (d 13) (d 14) (d 15) (d 16) (d 17) (d 18) (d 19) (d 20) (d 21) (d 22) (d 23) (d 24) (d 25) (d 26) (d 27) (d 28) (d 29) (d 30) n x (nI i) := by
  intro m
  induction m with
  | zero =>
    intro i x hi hx
    obtain rfl : i = 16 := by omega
    refine ⟨x, hx, fun n post hn hp => ?_⟩
    obtain ⟨n', rfl⟩ : ∃ n', n = n' + 1 := ⟨n - 1, by omega⟩
    exact br_t (by decide) hp
  | succ m ih =>
    intro i x hi hx
    have hi16 : i < 16 := by omega
    have h16 : ¬ (16 : Int32) ≤ nI i := nI_ge (a := i) (b := 16) hi16 (by decide)
    have hkb := sd_kb h w hs hi16 h1 h5
    have lt1 : ∀ j, ¬ j = i → decide (j < i + 1) = decide (j < i) := fun j hj => by rw [Bool.eq_iff_iff, decide_eq_true_eq, decide_eq_true_eq]; omega
    by_cases t : c 6 (16 * s + i) = nI w
    · have hl : d 21 (16 * s + i) = c 7 (3 * (16 * s + i) + 2) := by
        refine ((sd_va h (e := 16 * s + i) (by omega)).1 ?_ ?_).2.2
        · rw [t]; exact sd_ne (b := 0) (by omega) (by omega) (by decide)
        · rw [t]; exact sd_ne (b := 3) (by omega) (by omega) (by decide)
      by_cases q : c 7 (3 * (16 * s + i) + 2) = nI k
      · obtain ⟨x', hx', w'⟩ := ih (i + 1) (x ||| ((1 : Int32) <<< (nI i &&& 31))) (by omega) (by
          intro j hj
          rw [sd_st _ (by omega) hj, hx j hj]
          by_cases e : j = i
          · rw [e, decide_eq_true t, decide_eq_true q, decide_eq_true (p := i = i) rfl, decide_eq_true (p := i < i + 1) (by omega)]; simp
          · rw [decide_eq_false e, lt1 j e]; simp)
        refine ⟨x', hx', fun n post hn hp => ?_⟩
        obtain ⟨n', rfl⟩ : ∃ n', n = n' + 1 := ⟨n - 1, by omega⟩
        refine br_f h16 ?_
        rw [sd_i6, sd_i16, sd_ch (n := 6 * s + w) (by omega), sd_ch (n := 16 * s + i) (by omega), hl]
        exact ⟨sd_in (by omega), sd_Xh1 (by omega) (by rw [hkb]; exact decide_eq_true t) (br_f (by decide) ⟨sd_in (by omega), br_t q (nm_e (nm_r (nI_1 i) (w' n' post (by omega) hp)))⟩)⟩
      · obtain ⟨x', hx', w'⟩ := ih (i + 1) x (by omega) (by
          intro j hj
          rw [hx j hj]
          by_cases e : j = i
          · rw [e, decide_eq_false q]; simp
          · rw [lt1 j e])
        refine ⟨x', hx', fun n post hn hp => ?_⟩
        obtain ⟨n', rfl⟩ : ∃ n', n = n' + 1 := ⟨n - 1, by omega⟩
        refine br_f h16 ?_
        rw [sd_i6, sd_i16, sd_ch (n := 6 * s + w) (by omega), sd_ch (n := 16 * s + i) (by omega), hl]
        exact ⟨sd_in (by omega), sd_Xh1 (by omega) (by rw [hkb]; exact decide_eq_true t) (br_f (by decide) ⟨sd_in (by omega), br_f q (nm_r (nI_1 i) (w' n' post (by omega) hp))⟩)⟩
    · obtain ⟨x', hx', w'⟩ := ih (i + 1) x (by omega) (by
        intro j hj
        rw [hx j hj]
        by_cases e : j = i
        · rw [e, decide_eq_false t]; simp
        · rw [lt1 j e])
      refine ⟨x', hx', fun n post hn hp => ?_⟩
      obtain ⟨n', rfl⟩ : ∃ n', n = n' + 1 := ⟨n - 1, by omega⟩
      refine br_f h16 ?_
      rw [sd_i6, sd_ch (n := 6 * s + w) (by omega)]
      exact ⟨sd_in (by omega), sd_Xh0 (by omega) (by rw [hkb]; exact decide_eq_false t) (br_t rfl (nm_r (nI_1 i) (w' n' post (by omega) hp)))⟩
theorem sd_Xlkg {c d : sd_T} {s k : Nat} (w : Nat) (hs : s < 3) (hk : k < 16) (h1 : 1 ≤ w) (h5 : w ≤ 5) (h3 : ¬ w = 3) (h : sd_L c d) :
    ∃ x', (∀ j, j < 32 → bt x' j = (decide (j < 16) && decide (c 6 (16 * s + j) = nI w) && decide (c 7 (3 * (16 * s + j) + 2) = nI k))) ∧ ∀ post : Int32 → Prop, post x' → wpX_linking post (sd_x d) (nI s) (nI w) (nI k) := by
  obtain ⟨x', hx', w'⟩ := sd_Xlkg6 hs hk h1 h5 h3 h 16 0 0 (by decide) (fun j _ => by rw [b_0, decide_eq_false (by omega)]; rfl)
  refine ⟨x', hx', fun post hp => ?_⟩
  unfold wpX_linking
  exact ⟨17, w' 17 post (by decide) hp⟩
/-- loose ones are transient -/
def sd_lo (y6 : Nat → Int32) (s n : Nat) (x5 : Int32) : Nat → Int32 := fun j => if 16 * s ≤ j ∧ j < 16 * s + n ∧ bt x5 (j - 16 * s) = true then 1 else y6 j
theorem sd_Xlo {c : sd_T} {s : Nat} {x5 x3 : Int32} (hs : s < 3) (hx : ∀ i, i < 16 → bt x5 i = true → c 6 (16 * s + i) = 2) : ∀ (m r : Nat) (d : sd_T), r + m = 16 → sd_L (sd_s c 6 (sd_lo (c 6) s r x5)) d →
    ∃ d', sd_L (sd_s c 6 (sd_lo (c 6) s 16 x5)) d' ∧ ∀ (n : Nat) (post : SX → Prop) (J4 : Int32 → Int32 → Int32 → Int32 → Int32 → Int32 → Int32 → Int32 → (Nat → Int32) → (Nat → Int32) → (Nat → Int32) → (Nat → Int32) → (Nat → Int32) → (Nat → Int32) → (Nat → Int32) → (Nat → Int32) → (Nat → Int32) → (Nat → Int32) → (Nat → Int32) → (Nat → Int32) → (Nat → Int32) → (Nat → Int32) → (Nat → Int32) → (Nat → Int32) → (Nat → Int32) → (Nat → Int32) → (Nat → Int32) → (Nat → Int32) → (Nat → Int32) → (Nat → Int32) → (Nat → Int32) → (Nat → Int32) → Prop), m < n → J4 x3 (d' 0 0) (d' 1 0) (d' 2 0) (d' 3 0) (d' 4 0) (d' 5 0) (d' 6 0) (d' 7) (d' 8) (d' 9) (d' 10) (d' 11) (d' 12) (d' 13) (d' 14) (d' 15) (d' 16) (d' 17) (d' 18) (d' 19) (d' 20) (d' 21) (d' 22) (d' 23) (d' 24) (d' 25) (d' 26) (d' 27) (d' 28) (d' 29) (d' 30) → wX_strike_80 post J4 (nI s) x3 x5 n (nI r) (d 0 0) (d 1 0) (d 2 0) (d 3 0) (d 4 0) (d 5 0) (d 6 0) (d 7) (d 8) (d 9) (d 10) (d 11) (d 12) (d 13) (d 14) (d 15) (d 16) (d 17) (d 18) (d 19) (d 20) (d 21) (d 22) (d 23) (d 24) (d 25) (d 26) (d 27) (d 28) (d 29) (d 30) := by
  intro m
  induction m with
  | zero =>
    intro r d hr h
    obtain rfl : r = 16 := by omega
    refine ⟨d, h, fun n post J4 hn hp => ?_⟩
    obtain ⟨n', rfl⟩ : ∃ n', n = n' + 1 := ⟨n - 1, by omega⟩
    exact br_t (by decide) hp
  | succ m ih =>
    intro r d hr h
    have hr16 : r < 16 := by omega
    have h16 : ¬ (16 : Int32) ≤ nI r := nI_ge (a := r) (b := 16) hr16 (by decide)
    cases hb : bt x5 r
    · have e : sd_lo (c 6) s r x5 = sd_lo (c 6) s (r + 1) x5 := by
        funext j
        unfold sd_lo
        by_cases z : 16 * s ≤ j ∧ j < 16 * s + r ∧ bt x5 (j - 16 * s) = true
        · rw [if_pos z, if_pos ⟨z.1, by omega, z.2.2⟩]
        · rw [if_neg z, if_neg ?_]
          rintro ⟨a, b, q⟩
          by_cases w : j = 16 * s + r
          · rw [w, Nat.add_sub_cancel_left, hb] at q; exact absurd q (by decide)
          · exact z ⟨a, by omega, q⟩
      rw [e] at h
      obtain ⟨d', h', w⟩ := ih (r + 1) d (by omega) h
      refine ⟨d', h', fun n post J4 hn hp => ?_⟩
      obtain ⟨n', rfl⟩ : ∃ n', n = n' + 1 := ⟨n - 1, by omega⟩
      exact br_f h16 (sd_Xh0 (by omega) hb (br_t rfl (nm_r (nI_1 r) (w n' post J4 (by omega) hp))))
    · have e2 : sd_lo (c 6) s r x5 (16 * s + r) = 2 := by
        unfold sd_lo
        rw [if_neg (by omega)]
        exact hx r hr16 hb
      obtain ⟨d1, h1, w1⟩ := sd_Xbk 1 hs hr16 (by decide) h (fun _ _ => by
        show ¬ sd_lo (c 6) s r x5 (16 * s + r) = 0 ∧ ¬ sd_lo (c 6) s r x5 (16 * s + r) = 3
        rw [e2]; decide) (fun q => by rcases q with q | q <;> exact absurd q (by decide))
      have e : upd (sd_lo (c 6) s r x5) (16 * s + r) 1 = sd_lo (c 6) s (r + 1) x5 := by
        funext j
        by_cases w : j = 16 * s + r
        · rw [w, pk_us]
          unfold sd_lo
          rw [if_pos ⟨by omega, by omega, by rw [Nat.add_sub_cancel_left]; exact hb⟩]
        · rw [pk_un w]
          unfold sd_lo
          by_cases z : 16 * s ≤ j ∧ j < 16 * s + r ∧ bt x5 (j - 16 * s) = true
          · rw [if_pos z, if_pos ⟨z.1, by omega, z.2.2⟩]
          · rw [if_neg z, if_neg (fun q => z ⟨q.1, by omega, q.2.2⟩)]
      rw [sd_ss] at h1
      have h2 : sd_L (sd_s c 6 (sd_lo (c 6) s (r + 1) x5)) d1 := by rw [← e]; exact h1
      obtain ⟨d', h', w⟩ := ih (r + 1) d1 (by omega) h2
      refine ⟨d', h', fun n post J4 hn hp => ?_⟩
      obtain ⟨n', rfl⟩ : ∃ n', n = n' + 1 := ⟨n - 1, by omega⟩
      exact br_f h16 (sd_Xh1 (by omega) hb (br_f (by decide) (w1 _ (nm_r (nI_1 r) (w n' post J4 (by omega) hp)))))
/-! spread -/
/-- the reference's kinds: the pending ones are removed -/
def sd_ky (y6 : Nat → Int32) (s : Nat) (o : Int32) : Nat → Int32 := fun j => if 16 * s ≤ j ∧ j < 16 * s + 16 ∧ bt o (j - 16 * s) = true then 5 else y6 j
theorem sd_ky_i {y6 : Nat → Int32} {s i : Nat} {o : Int32} (hi : i < 16) : sd_ky y6 s o (16 * s + i) = if bt o i = true then 5 else y6 (16 * s + i) := by
  unfold sd_ky
  rw [Nat.add_sub_cancel_left]
  by_cases z : bt o i = true
  · rw [if_pos z, if_pos ⟨by omega, by omega, z⟩]
  · rw [if_neg z, if_neg (fun q => z q.2.2)]
theorem sd_Y76 {post : SY → Prop} {J2 : Int32 → Int32 → Int32 → (Nat → Int32) → (Nat → Int32) → (Nat → Int32) → (Nat → Int32) → (Nat → Int32) → (Nat → Int32) → (Nat → Int32) → (Nat → Int32) → (Nat → Int32) → (Nat → Int32) → (Nat → Int32) → (Nat → Int32) → (Nat → Int32) → (Nat → Int32) → (Nat → Int32) → (Nat → Int32) → Prop} {C : sd_T} {s k r : Nat} (hs : s < 3) (hr : r < 16)
    (p4 : C 6 (16 * s + r) = 4 → C 7 (3 * (16 * s + r) + 2) = nI k → J2 (nI (r + 1)) (C 0 0) (C 1 0) (C 2) (C 3) (C 4) (C 5) (upd (C 6) (16 * s + r) 5) (C 7) (C 8) (C 9) (C 10) (C 11) (upd (C 12) r 1) (C 13) (C 14) (C 15) (C 16) (C 17))
    (p2 : C 6 (16 * s + r) = 2 → C 7 (3 * (16 * s + r) + 2) = nI k → J2 (nI (r + 1)) (C 0 0) (C 1 0) (C 2) (C 3) (C 4) (C 5) (upd (C 6) (16 * s + r) 1) (C 7) (C 8) (C 9) (C 10) (C 11) (C 12) (C 13) (C 14) (C 15) (C 16) (C 17))
    (p0 : (C 6 (16 * s + r) = 4 ∨ C 6 (16 * s + r) = 2 → ¬ C 7 (3 * (16 * s + r) + 2) = nI k) → J2 (nI (r + 1)) (C 0 0) (C 1 0) (C 2) (C 3) (C 4) (C 5) (C 6) (C 7) (C 8) (C 9) (C 10) (C 11) (C 12) (C 13) (C 14) (C 15) (C 16) (C 17)) :
    wY_spread_76 post J2 (nI s) (nI k) (nI r) (nI (16 * s + r)) (C 0 0) (C 1 0) (C 2) (C 3) (C 4) (C 5) (C 6) (C 7) (C 8) (C 9) (C 10) (C 11) (C 12) (C 13) (C 14) (C 15) (C 16) (C 17) := by
  have hin : vp_in (nI (16 * s + r)) 48 := sd_in (by omega)
  have ec : (nI (16 * s + r)).toNatClampNeg = 16 * s + r := sd_ch (by omega)
  have e32 : (3 : Int32) * nI (16 * s + r) + 2 = nI (3 * (16 * s + r) + 2) := by rw [sd_m3, sd_a2]
  unfold wY_spread_76
  rw [ec]
  refine ⟨hin, ?_⟩
  by_cases z4 : C 6 (16 * s + r) = 4
  · refine br_t z4 ?_
    unfold wY_spread_98
    rw [e32, sd_ch (n := 3 * (16 * s + r) + 2) (by omega), ec]
    refine ⟨sd_in (by omega), ?_⟩
    by_cases q : C 7 (3 * (16 * s + r) + 2) = nI k
    · refine br_t q ⟨hin, br_t z4 ⟨sd_in hr, ?_⟩⟩
      rw [sd_ch (n := r) (by omega), sd_nb1]
      refine nm_e ?_
      unfold wY_spread_134
      rw [ec]
      exact ⟨hin, br_f (by rw [z4]; decide) ⟨hin, nm_e (nm_r (nI_1 r) (p4 z4 q))⟩⟩
    · exact br_f q (nm_r (nI_1 r) (p0 (fun _ => q)))
  · refine br_f z4 ⟨hin, ?_⟩
    by_cases z2 : C 6 (16 * s + r) = 2
    · refine br_t z2 ?_
      unfold wY_spread_98
      rw [e32, sd_ch (n := 3 * (16 * s + r) + 2) (by omega), ec]
      refine ⟨sd_in (by omega), ?_⟩
      by_cases q : C 7 (3 * (16 * s + r) + 2) = nI k
      · refine br_t q ⟨hin, br_f z4 ?_⟩
        unfold wY_spread_134
        rw [ec]
        exact ⟨hin, br_t z2 ⟨hin, nm_e (nm_r (nI_1 r) (p2 z2 q))⟩⟩
      · exact br_f q (nm_r (nI_1 r) (p0 (fun _ => q)))
    · exact br_f z2 (nm_r (nI_1 r) (p0 (fun w => by rcases w with w | w; exact absurd w z4; exact absurd w z2)))
end
section
/-! spread as a whole, strike and remove in lockstep -/
theorem sd_Ysp {post : SY → Prop} {c d : sd_T} {s k : Nat} {o1 o2 : Int32} {K1 : Nat → Int32} (hs : s < 3) (hk : k < 16) (h : sd_L c d)
    (ho1 : ∀ i, i < 16 → bt o1 i = true → c 6 (16 * s + i) = 4)
    (ho2 : ∀ i, i < 16 → bt o2 i = (bt o1 i || (decide (sd_ft c s (sd_F c s k) 16 6 (16 * s + i) = 4) && decide (sd_ft c s (sd_F c s k) 16 7 (3 * (16 * s + i) + 2) = nI k))))
    (hKi : ∀ i, i < 16 → K1 (16 * s + i) = if sd_ft c s (sd_F c s k) 16 6 (16 * s + i) = 2 ∧ sd_ft c s (sd_F c s k) 16 7 (3 * (16 * s + i) + 2) = nI k then 1 else sd_ft c s (sd_F c s k) 16 6 (16 * s + i))
    (hKo : ∀ j, ¬ (16 * s ≤ j ∧ j < 16 * s + 16) → K1 j = c 6 j)
    (hp : ∀ L' : Nat → Int32, (∀ i, i < 16 → L' i = sd_b (bt o2 i)) → post (sd_y (sd_s (sd_s (sd_ft c s (sd_F c s k) 16) 6 (sd_ky K1 s o2)) 12 L'))) :
    ∀ (m r : Nat) (K L : Nat → Int32) (n : Nat), r + m = 16 → m < n → (∀ j, K j = if 16 * s ≤ j ∧ j < 16 * s + r then sd_ky K1 s o2 j else sd_ky (c 6) s o1 j) → (∀ i, i < 16 → L i = if i < r then sd_b (bt o2 i) else sd_b (bt o1 i)) →
    wY_spread_2 post (nI s) (nI k) n (nI r) ((sd_ft c s (sd_F c s k) r) 0 0) ((sd_ft c s (sd_F c s k) r) 1 0) ((sd_ft c s (sd_F c s k) r) 2) ((sd_ft c s (sd_F c s k) r) 3) ((sd_ft c s (sd_F c s k) r) 4) ((sd_ft c s (sd_F c s k) r) 5) K ((sd_ft c s (sd_F c s k) r) 7) ((sd_ft c s (sd_F c s k) r) 8) ((sd_ft c s (sd_F c s k) r) 9) ((sd_ft c s (sd_F c s k) r) 10) ((sd_ft c s (sd_F c s k) r) 11) L ((sd_ft c s (sd_F c s k) r) 13) ((sd_ft c s (sd_F c s k) r) 14) ((sd_ft c s (sd_F c s k) r) 15) ((sd_ft c s (sd_F c s k) r) 16) ((sd_ft c s (sd_F c s k) r) 17) := by
  intro m
  induction m with
  | zero =>
    intro r K L n hr hn hK hL
    obtain rfl : r = 16 := by omega
    obtain ⟨n', rfl⟩ : ∃ n', n = n' + 1 := ⟨n - 1, by omega⟩
    have e : K = sd_ky K1 s o2 := by
      funext j
      rw [hK j]
      by_cases z : 16 * s ≤ j ∧ j < 16 * s + 16
      · rw [if_pos z]
      · rw [if_neg z]
        unfold sd_ky
        rw [if_neg (fun q => z ⟨q.1, q.2.1⟩), if_neg (fun q => z ⟨q.1, q.2.1⟩), hKo j z]
    rw [e]
    exact br_t (by decide) (hp L (fun i hi => by rw [hL i hi, if_pos hi]))
  | succ m ih =>
    intro r K L n hr hn hK hL
    obtain ⟨n', rfl⟩ : ∃ n', n = n' + 1 := ⟨n - 1, by omega⟩
    have hr16 : r < 16 := by omega
    have e2 : sd_ft c s (sd_F c s k) r 2 = c 2 := sd_ft_o _ _ _ _ 2 (by decide) (by decide) (by decide) (by decide)
    have e4 : sd_ft c s (sd_F c s k) r 4 = c 4 := sd_ft_o _ _ _ _ 4 (by decide) (by decide) (by decide) (by decide)
    have e5 : sd_ft c s (sd_F c s k) r 5 = c 5 := sd_ft_o _ _ _ _ 5 (by decide) (by decide) (by decide) (by decide)
    have hin : vp_in (nI (16 * s + r)) 48 := sd_in (by omega)
    have ec : (nI (16 * s + r)).toNatClampNeg = 16 * s + r := sd_ch (by omega)
    have hq : sd_sg (c 5) s r < 32 := sd_sg_lt hr16
    have hKe : K (16 * s + r) = if bt o1 r = true then 5 else c 6 (16 * s + r) := by rw [hK, if_neg (by omega), sd_ky_i hr16]
    have h36 : sd_ft c s (sd_F c s k) 16 6 (16 * s + r) = if sd_F c s k r = true then 4 else c 6 (16 * s + r) := by
      rw [sd_ft_6, Nat.add_sub_cancel_left]
      by_cases z : sd_F c s k r = true
      · rw [if_pos z, if_pos ⟨by omega, by omega, z⟩]
      · rw [if_neg z, if_neg (fun q => z q.2.2)]
    have h37 : sd_ft c s (sd_F c s k) 16 7 (3 * (16 * s + r) + 2) = if sd_F c s k r = true then c 4 (4 * sd_sg (c 5) s r + 2) else c 7 (3 * (16 * s + r) + 2) := by
      rw [sd_ft_7 _ _ _ _ _ hr16]
      by_cases z : sd_F c s k r = true
      · rw [if_pos z, if_pos ⟨hr16, z⟩]
      · rw [if_neg z, if_neg (fun q => z q.2)]
    have h7r : sd_ft c s (sd_F c s k) r 7 (3 * (16 * s + r) + 2) = c 7 (3 * (16 * s + r) + 2) := by rw [sd_ft_7 _ _ _ _ _ hr16, if_neg (by omega)]
    -- the arrays one row further
    have stepK : ∀ K' : Nat → Int32, (∀ j, ¬ j = 16 * s + r → K' j = K j) → K' (16 * s + r) = sd_ky K1 s o2 (16 * s + r) → ∀ j, K' j = if 16 * s ≤ j ∧ j < 16 * s + (r + 1) then sd_ky K1 s o2 j else sd_ky (c 6) s o1 j := by
      intro K' h1 h2 j
      by_cases w : j = 16 * s + r
      · rw [w, if_pos (by omega)]; exact h2
      · rw [h1 j w, hK j]
        by_cases z : 16 * s ≤ j ∧ j < 16 * s + r
        · rw [if_pos z, if_pos (by omega)]
        · rw [if_neg z, if_neg (by omega)]
    have stepL : ∀ L' : Nat → Int32, (∀ i, ¬ i = r → L' i = L i) → L' r = sd_b (bt o2 r) → ∀ i, i < 16 → L' i = if i < r + 1 then sd_b (bt o2 i) else sd_b (bt o1 i) := by
      intro L' h1 h2 i hi
      by_cases w : i = r
      · rw [w, if_pos (by omega)]; exact h2
      · rw [h1 i w, hL i hi]
        by_cases z : i < r
        · rw [if_pos z, if_pos (by omega)]
        · rw [if_neg z, if_neg (by omega)]
    have hLr : L r = sd_b (bt o1 r) := by rw [hL r hr16, if_neg (by omega)]
    refine br_f (nI_ge (a := r) (b := 16) hr16 (by decide)) (nm_r (sd_i16 s r) ?_)
    refine sd_Ysg (c := sd_s (sd_s (sd_ft c s (sd_F c s k) r) 6 K) 12 L) hr16 ?_
    show vp_in _ 48 ∧ _
    rw [ec, show sd_s (sd_s (sd_ft c s (sd_F c s k) r) 6 K) 12 L 5 = c 5 from e5]
    refine ⟨hin, ?_⟩
    have i2 := ho2 r hr16
    have iK := hKi r hr16
    have ky2 : sd_ky K1 s o2 (16 * s + r) = if bt o2 r = true then 5 else K1 (16 * s + r) := sd_ky_i hr16
    by_cases b1 : bt o1 r = true
    · -- pending already
      have c4 := ho1 r hr16 b1
      have hF : sd_F c s k r = false := sd_F_f (fun w => by rcases (sd_F_t w).1 with q | q <;> rw [c4] at q <;> exact absurd q (by decide))
      rw [if_pos b1] at hKe
      rw [b1, Bool.true_or] at i2
      rw [if_pos i2] at ky2
      refine br_f (by rw [hKe]; decide) ⟨hin, br_f (by rw [hKe]; decide) ?_⟩
      have w := ih (r + 1) K L n' (by omega) (by omega) (stepK K (fun _ _ => rfl) (by rw [hKe, ky2])) (stepL L (fun _ _ => rfl) (by rw [hLr, b1, i2]))
      rw [sd_ft_f hF] at w
      refine sd_Y76 (C := sd_s (sd_s (sd_ft c s (sd_F c s k) r) 6 K) 12 L) hs hr16 (fun z => ?_) (fun z => ?_) (fun _ => w)
      · exact absurd (hKe.symm.trans z) (by decide)
      · exact absurd (hKe.symm.trans z) (by decide)
    · rw [if_neg b1] at hKe
      have b1f : bt o1 r = false := Bool.eq_false_iff.mpr b1
      rw [b1f, Bool.false_or] at i2
      by_cases hF : sd_F c s k r = true
      · -- fetched
        obtain ⟨q1, q2, q3⟩ := sd_F_t hF
        rw [if_pos hF] at h36 h37
        rw [h36, h37, decide_eq_true (p := (4 : Int32) = 4) rfl, decide_eq_true q3] at i2
        have i2' : bt o2 r = true := i2
        rw [if_pos i2'] at ky2
        have go : wY_spread_45 post (wY_spread_2 post (nI s) (nI k) n') (nI s) (nI k) (nI r) (nI (16 * s + r)) (nI (sd_sg (c 5) s r)) ((sd_ft c s (sd_F c s k) r) 0 0) ((sd_ft c s (sd_F c s k) r) 1 0) ((sd_ft c s (sd_F c s k) r) 2) ((sd_ft c s (sd_F c s k) r) 3) ((sd_ft c s (sd_F c s k) r) 4) ((sd_ft c s (sd_F c s k) r) 5) K ((sd_ft c s (sd_F c s k) r) 7) ((sd_ft c s (sd_F c s k) r) 8) ((sd_ft c s (sd_F c s k) r) 9) ((sd_ft c s (sd_F c s k) r) 10) ((sd_ft c s (sd_F c s k) r) 11) L ((sd_ft c s (sd_F c s k) r) 13) ((sd_ft c s (sd_F c s k) r) 14) ((sd_ft c s (sd_F c s k) r) 15) ((sd_ft c s (sd_F c s k) r) 16) ((sd_ft c s (sd_F c s k) r) 17) := by
          unfold wY_spread_45
          rw [sd_ch (n := sd_sg (c 5) s r) (by omega), show (4 : Int32) * nI (sd_sg (c 5) s r) + 2 = nI (4 * sd_sg (c 5) s r + 2) from by rw [sd_m4, sd_a2], sd_ch (n := 4 * sd_sg (c 5) s r + 2) (by omega), e2, e4]
          refine ⟨sd_in hq, br_f (by rw [q2]; decide) ⟨sd_in (by omega), br_t q3 ?_⟩⟩
          rw [← e2, ← e4]
          refine sd_Ymg (c := sd_s (sd_s (sd_ft c s (sd_F c s k) r) 6 K) 12 L) hs hr16 ?_
          have w := ih (r + 1) (upd (upd K (16 * s + r) 4) (16 * s + r) 5) (upd L r 1) n' (by omega) (by omega) (stepK _ (fun j hj => by rw [pk_un hj, pk_un hj]) (by rw [pk_us, ky2])) (stepL _ (fun i hi => pk_un hi) (by rw [pk_us, i2']; rfl))
          rw [sd_ft_t hF] at w
          refine sd_Y76 (C := sd_mg (sd_s (sd_s (sd_ft c s (sd_F c s k) r) 6 K) 12 L) s r) hs hr16 (fun _ _ => w) (fun z => ?_) (fun z => ?_)
          · exact absurd ((show upd K (16 * s + r) 4 (16 * s + r) = 4 from pk_us).symm.trans z) (by decide)
          · refine absurd ?_ (z (Or.inl pk_us))
            show sd_u3 _ _ _ _ (sd_ft c s (sd_F c s k) r 4 (4 * sd_sg (sd_ft c s (sd_F c s k) r 5) s r + 2)) _ = nI k
            rw [sd_u3_2, e4, e5]
            exact q3
        rcases q1 with q1 | q1
        · exact br_t (by rw [hKe]; exact q1) go
        · exact br_f (by rw [hKe, q1]; decide) ⟨hin, br_t (by rw [hKe]; exact q1) go⟩
      · have hF' := sd_F_f hF
        rw [if_neg hF] at h36 h37
        rw [h36, h37] at i2 iK
        -- the last step, for a kind that isn't touched by the fetch
        have last : wY_spread_76 post (wY_spread_2 post (nI s) (nI k) n') (nI s) (nI k) (nI r) (nI (16 * s + r)) ((sd_ft c s (sd_F c s k) r) 0 0) ((sd_ft c s (sd_F c s k) r) 1 0) ((sd_ft c s (sd_F c s k) r) 2) ((sd_ft c s (sd_F c s k) r) 3) ((sd_ft c s (sd_F c s k) r) 4) ((sd_ft c s (sd_F c s k) r) 5) K ((sd_ft c s (sd_F c s k) r) 7) ((sd_ft c s (sd_F c s k) r) 8) ((sd_ft c s (sd_F c s k) r) 9) ((sd_ft c s (sd_F c s k) r) 10) ((sd_ft c s (sd_F c s k) r) 11) L ((sd_ft c s (sd_F c s k) r) 13) ((sd_ft c s (sd_F c s k) r) 14) ((sd_ft c s (sd_F c s k) r) 15) ((sd_ft c s (sd_F c s k) r) 16) ((sd_ft c s (sd_F c s k) r) 17) := by
          refine sd_Y76 (C := sd_s (sd_s (sd_ft c s (sd_F c s k) r) 6 K) 12 L) hs hr16 (fun z4 zk => ?_) (fun z2 zk => ?_) (fun zn => ?_)
          · have z4' : c 6 (16 * s + r) = 4 := hKe.symm.trans z4
            have zk' : c 7 (3 * (16 * s + r) + 2) = nI k := h7r.symm.trans zk
            rw [decide_eq_true z4', decide_eq_true zk'] at i2
            have i2' : bt o2 r = true := i2
            rw [if_pos i2'] at ky2
            have w := ih (r + 1) (upd K (16 * s + r) 5) (upd L r 1) n' (by omega) (by omega) (stepK _ (fun j hj => pk_un hj) (by rw [pk_us, ky2])) (stepL _ (fun i hi => pk_un hi) (by rw [pk_us, i2']; rfl))
            rw [sd_ft_f hF'] at w
            exact w
          · have z2' : c 6 (16 * s + r) = 2 := hKe.symm.trans z2
            have zk' : c 7 (3 * (16 * s + r) + 2) = nI k := h7r.symm.trans zk
            rw [decide_eq_false (p := c 6 (16 * s + r) = 4) (by rw [z2']; decide), Bool.false_and] at i2
            rw [if_pos ⟨z2', zk'⟩] at iK
            rw [if_neg (by rw [i2]; decide), iK] at ky2
            have w := ih (r + 1) (upd K (16 * s + r) 1) L n' (by omega) (by omega) (stepK _ (fun j hj => pk_un hj) (by rw [pk_us, ky2])) (stepL L (fun _ _ => rfl) (by rw [hLr, b1f, i2]))
            rw [sd_ft_f hF'] at w
            exact w
          · have zn' : c 6 (16 * s + r) = 4 ∨ c 6 (16 * s + r) = 2 → ¬ c 7 (3 * (16 * s + r) + 2) = nI k := by
              intro q w
              refine zn ?_ (h7r.trans w)
              rcases q with q | q
              · exact Or.inl (hKe.trans q)
              · exact Or.inr (hKe.trans q)
            have i2' : bt o2 r = false := by
              rw [i2, Bool.and_eq_false_iff]
              by_cases q : c 6 (16 * s + r) = 4
              · exact Or.inr (decide_eq_false (zn' (Or.inl q)))
              · exact Or.inl (decide_eq_false q)
            rw [if_neg (fun q => zn' (Or.inr q.1) q.2)] at iK
            rw [if_neg (by rw [i2']; decide), iK] at ky2
            have w := ih (r + 1) K L n' (by omega) (by omega) (stepK K (fun _ _ => rfl) (by rw [hKe, ky2])) (stepL L (fun _ _ => rfl) (by rw [hLr, b1f, i2']))
            rw [sd_ft_f hF'] at w
            exact w
        have go : (c 6 (16 * s + r) = 0 ∨ c 6 (16 * s + r) = 3) → wY_spread_45 post (wY_spread_2 post (nI s) (nI k) n') (nI s) (nI k) (nI r) (nI (16 * s + r)) (nI (sd_sg (c 5) s r)) ((sd_ft c s (sd_F c s k) r) 0 0) ((sd_ft c s (sd_F c s k) r) 1 0) ((sd_ft c s (sd_F c s k) r) 2) ((sd_ft c s (sd_F c s k) r) 3) ((sd_ft c s (sd_F c s k) r) 4) ((sd_ft c s (sd_F c s k) r) 5) K ((sd_ft c s (sd_F c s k) r) 7) ((sd_ft c s (sd_F c s k) r) 8) ((sd_ft c s (sd_F c s k) r) 9) ((sd_ft c s (sd_F c s k) r) 10) ((sd_ft c s (sd_F c s k) r) 11) L ((sd_ft c s (sd_F c s k) r) 13) ((sd_ft c s (sd_F c s k) r) 14) ((sd_ft c s (sd_F c s k) r) 15) ((sd_ft c s (sd_F c s k) r) 16) ((sd_ft c s (sd_F c s k) r) 17) := by
          intro q1
          unfold wY_spread_45
          rw [sd_ch (n := sd_sg (c 5) s r) (by omega), show (4 : Int32) * nI (sd_sg (c 5) s r) + 2 = nI (4 * sd_sg (c 5) s r + 2) from by rw [sd_m4, sd_a2], sd_ch (n := 4 * sd_sg (c 5) s r + 2) (by omega)]
          refine ⟨sd_in hq, br_c (fun _ => last) (fun t => ⟨sd_in (by omega), br_f (fun w => hF (sd_F_i q1 ?_ ?_)) last⟩)⟩
          · rw [e2] at t
            exact (sd_th01 h hq).resolve_left t
          · rw [e4] at w; exact w
        by_cases k0 : c 6 (16 * s + r) = 0
        · exact br_t (by rw [hKe]; exact k0) (go (Or.inl k0))
        · by_cases k3 : c 6 (16 * s + r) = 3
          · exact br_f (by rw [hKe]; exact k0) ⟨hin, br_t (by rw [hKe]; exact k3) (go (Or.inr k3))⟩
          · exact br_f (by rw [hKe]; exact k0) ⟨hin, br_f (by rw [hKe]; exact k3) last⟩
/-! the least from above -/
def sd_nd (p : Nat → Bool) : Nat → Int32
  | 0 => -1
  | m + 1 => if p (15 - m) = true then nI (15 - m) else sd_nd p m
theorem sd_nd_s (p : Nat → Bool) (m : Nat) : sd_nd p (m + 1) = if p (15 - m) = true then nI (15 - m) else sd_nd p m := rfl
theorem sd_nd_n {p : Nat → Bool} : ∀ m, m ≤ 16 → (∀ i, 16 - m ≤ i → i < 16 → p i = false) → sd_nd p m = -1 := by
  intro m
  induction m with
  | zero => intro _ _; rfl
  | succ m ih =>
    intro hm h
    rw [sd_nd_s, if_neg (by rw [h (15 - m) (by omega) (by omega)]; decide)]
    exact ih (by omega) (fun i h1 h2 => h i (by omega) h2)
theorem sd_nd_l {p : Nat → Bool} {l : Nat} (hl : l < 16) (ht : p l = true) : ∀ m, m ≤ 16 → 16 - m ≤ l → (∀ i, 16 - m ≤ i → i < l → p i = false) → sd_nd p m = nI l := by
  intro m
  induction m with
  | zero => intro _ h _; omega
  | succ m ih =>
    intro hm h1 h
    rw [sd_nd_s]
    by_cases e : l = 15 - m
    · rw [← e, if_pos ht]
    · rw [if_neg (by rw [h (15 - m) (by omega) (by omega)]; decide)]
      exact ih (by omega) (by omega) (fun i a b => h i (by omega) b)
def sd_dx (m : Nat) : Int32 := if m < 16 then nI (15 - m) else -1
theorem sd_dx_s {m : Nat} (h : m < 16) : nI (15 - m) + (-1) = sd_dx (m + 1) := by
  unfold sd_dx
  by_cases e : m + 1 < 16
  · rw [if_pos e, show 15 - m = (15 - (m + 1)) + 1 from by omega, pk_m1]
  · rw [if_neg e, show 15 - m = 0 from by omega]; decide
theorem sd_Y210 {post : Int32 → SY → Prop} {J173 : Int32 → Int32 → Int32 → (Nat → Int32) → (Nat → Int32) → (Nat → Int32) → (Nat → Int32) → (Nat → Int32) → (Nat → Int32) → (Nat → Int32) → (Nat → Int32) → (Nat → Int32) → (Nat → Int32) → (Nat → Int32) → (Nat → Int32) → (Nat → Int32) → (Nat → Int32) → (Nat → Int32) → (Nat → Int32) → Prop} {C : sd_T} {s : Nat} {p : Nat → Bool} (hC : ∀ i, i < 16 → C 12 i = sd_b (p i)) (q : J173 (sd_nd p 16) (C 0 0) (C 1 0) (C 2) (C 3) (C 4) (C 5) (C 6) (C 7) (C 8) (C 9) (C 10) (C 11) (C 12) (C 13) (C 14) (C 15) (C 16) (C 17)) :
    ∀ t m n, m + t = 16 → t < n → wY_remove_210 post J173 (nI s) (C 0 0) (C 1 0) (C 2) (C 3) (C 4) (C 5) (C 6) (C 7) (C 8) (C 9) (C 10) (C 11) (C 12) (C 13) (C 14) (C 15) (C 16) (C 17) n (sd_nd p m) (sd_dx m) := by
  intro t
  induction t with
  | zero =>
    intro m n hm hn
    obtain rfl : m = 16 := by omega
    obtain ⟨n', rfl⟩ : ∃ n', n = n' + 1 := ⟨n - 1, by omega⟩
    exact br_t (by decide) q
  | succ t ih =>
    intro m n hm hn
    obtain ⟨n', rfl⟩ : ∃ n', n = n' + 1 := ⟨n - 1, by omega⟩
    have e : sd_dx m = nI (15 - m) := if_pos (by omega)
    have w := ih (m + 1) n' (by omega) (by omega)
    rw [e]
    refine br_f (nI_pos (by omega)) ?_
    rw [sd_ch (n := 15 - m) (by omega), hC (15 - m) (by omega)]
    refine ⟨sd_in (by omega), ?_⟩
    rw [sd_nd_s] at w
    cases hb : p (15 - m)
    · rw [if_neg (by rw [hb]; decide)] at w
      exact br_t rfl (nm_r (sd_dx_s (by omega)) w)
    · rw [if_pos hb] at w
      exact br_f (by decide) (nm_r (sd_dx_s (by omega)) w)
/-! strike -/
def sd_nr (y6 : Nat → Int32) (s : Nat) : Nat := sd_c (fun i => !decide (y6 (16 * s + i) = 5)) 16
theorem sd_ky0 {y6 : Nat → Int32} {s : Nat} {o : Int32} (h : ∀ i, i < 16 → bt o i = false) : sd_ky y6 s o = y6 := by
  funext j
  unfold sd_ky
  refine if_neg ?_
  rintro ⟨a, b, q⟩
  rw [h (j - 16 * s) (by omega)] at q
  exact absurd q (by decide)
theorem sd_str {s : Nat} (hs : s < 3) : ∀ (m : Nat) (o : Int32) (c d : sd_T), sd_L c d → c 11 1 = 1 → (∀ i, i < 16 → bt o i = true → c 6 (16 * s + i) = 4) → (∀ i, 16 ≤ i → i < 32 → bt o i = false) → sd_nr (c 6) s ≤ m →
    ∃ c' d', sd_L c' d' ∧ (∀ (n : Nat) (post : SX → Prop), m < n → post (sd_x d') → wX_strike_4 post (nI s) n o (d 0 0) (d 1 0) (d 2 0) (d 3 0) (d 4 0) (d 5 0) (d 6 0) (d 7) (d 8) (d 9) (d 10) (d 11) (d 12) (d 13) (d 14) (d 15) (d 16) (d 17) (d 18) (d 19) (d 20) (d 21) (d 22) (d 23) (d 24) (d 25) (d 26) (d 27) (d 28) (d 29) (d 30)) ∧
    (∀ (n : Nat) (post : Int32 → SY → Prop) (LF : Nat → Int32), m < n → (∀ i, i < 16 → LF i = sd_b (bt o i)) → (∀ L' : Nat → Int32, post 0 (sd_y (sd_s c' 12 L'))) → wY_remove_173 post (nI s) n (sd_nd (bt o) 16) (c 0 0) (c 1 0) (c 2) (c 3) (c 4) (c 5) (sd_ky (c 6) s o) (c 7) (c 8) (c 9) (c 10) (c 11) LF (c 13) (c 14) (c 15) (c 16) (c 17)) := by
  intro m
  induction m with
  | zero =>
    intro o c d h hm ho hoh hn
    have all5 : ∀ i, i < 16 → c 6 (16 * s + i) = 5 := by
      intro i hi
      have a := sd_c_0 (Nat.le_zero.mp hn) i hi
      rw [Bool.not_eq_false', decide_eq_true_eq] at a
      exact a
    have o0 : ∀ i, i < 16 → bt o i = false := by
      intro i hi
      cases hb : bt o i
      · rfl
      · have a := ho i hi hb
        rw [all5 i hi] at a
        exact absurd a (by decide)
    refine ⟨c, d, h, fun n post hn hp => ?_, fun n post LF hn hL hp => ?_⟩
    · obtain ⟨n', rfl⟩ : ∃ n', n = n' + 1 := ⟨n - 1, by omega⟩
      refine br_t (sd_z (fun i hi => ?_)) hp
      by_cases z : i < 16
      · exact o0 i z
      · exact hoh i (by omega) hi
    · obtain ⟨n', rfl⟩ : ∃ n', n = n' + 1 := ⟨n - 1, by omega⟩
      rw [sd_nd_n 16 (by decide) (fun i _ hi => o0 i hi), sd_ky0 o0]
      exact br_t (by decide) (hp LF)
  | succ m ih =>
    intro o c d h hm ho hoh hn
    by_cases o0 : ∀ i, i < 16 → bt o i = false
    · refine ⟨c, d, h, fun n post hn hp => ?_, fun n post LF hn hL hp => ?_⟩
      · obtain ⟨n', rfl⟩ : ∃ n', n = n' + 1 := ⟨n - 1, by omega⟩
        refine br_t (sd_z (fun i hi => ?_)) hp
        by_cases z : i < 16
        · exact o0 i z
        · exact hoh i (by omega) hi
      · obtain ⟨n', rfl⟩ : ∃ n', n = n' + 1 := ⟨n - 1, by omega⟩
        rw [sd_nd_n 16 (by decide) (fun i _ hi => o0 i hi), sd_ky0 o0]
        exact br_t (by decide) (hp LF)
    · have hkl : sd_l (bt o) 16 < 16 := by
        rcases Nat.lt_or_ge (sd_l (bt o) 16) 16 with q | q
        · exact q
        · exact absurd (fun i hi => sd_l_f (bt o) 16 i (by omega)) o0
      have hbk := sd_l_t (bt o) 16 hkl
      have hbl := fun i hi => sd_l_f (bt o) 16 i hi
      revert hkl hbk hbl
      generalize sd_l (bt o) 16 = k
      intro hk hbk hbl
      have k4 := ho k hk hbk
      obtain ⟨d1, h1, w1⟩ := sd_Xbk 5 hs hk (by decide) h (fun _ _ => by rw [k4]; decide) (fun _ => Or.inl k4)
      have h2 := sd_L_cn h1 0
      -- the state behind the pop
      revert h2
      generalize hd2 : sd_s d1 30 (upd (d1 30) 0 (d1 30 0 + 1)) = d2
      generalize hc2 : sd_cn (sd_s c 6 (upd (c 6) (16 * s + k) (nI 5))) 0 = c2
      intro h2
      have c26 : c2 6 = upd (c 6) (16 * s + k) 5 := by rw [← hc2]; rfl
      have c211 : c2 11 = c 11 := by rw [← hc2]; rfl
      obtain ⟨d3, h3, w3⟩ := sd_Xfetch hs hk h2
      obtain ⟨x4, hx4, wl4⟩ := sd_Xlkg 4 hs hk (by decide) (by decide) (by decide) h3
      obtain ⟨x2, hx2, wl2⟩ := sd_Xlkg 2 hs hk (by decide) (by decide) (by decide) h3
      have pop : ∀ i, i < 32 → bt (o &&& (o - 1)) i = (bt o i && !decide (i = k)) := fun i hi => sd_pop (by omega) hbk hbl hi
      have o1 : ∀ i, i < 16 → bt (o &&& (o - 1)) i = true → c2 6 (16 * s + i) = 4 := by
        intro i hi hb
        rw [pop i (by omega), Bool.and_eq_true, Bool.not_eq_true', decide_eq_false_iff_not] at hb
        rw [c26, pk_un (by omega)]
        exact ho i hi hb.1
      have lo0 : sd_lo (sd_ft c2 s (sd_F c2 s k) 16 6) s 0 x2 = sd_ft c2 s (sd_F c2 s k) 16 6 := by
        funext j
        exact if_neg (by omega)
      have hx2k : ∀ i, i < 16 → bt x2 i = true → sd_ft c2 s (sd_F c2 s k) 16 6 (16 * s + i) = 2 := by
        intro i hi hb
        rw [hx2 i (by omega), Bool.and_eq_true, Bool.and_eq_true, decide_eq_true_eq, decide_eq_true_eq, decide_eq_true_eq] at hb
        exact hb.1.2
      obtain ⟨d4, h4, w4⟩ := sd_Xlo (c := sd_ft c2 s (sd_F c2 s k) 16) (x5 := x2) (x3 := (o &&& (o - 1)) ||| x4) hs hx2k 16 0 d3 (by decide) (by rw [lo0, sd_sid]; exact h3)
      have loi : ∀ i, i < 16 → sd_lo (sd_ft c2 s (sd_F c2 s k) 16 6) s 16 x2 (16 * s + i) = if bt x2 i = true then 1 else sd_ft c2 s (sd_F c2 s k) 16 6 (16 * s + i) := by
        intro i hi
        unfold sd_lo
        rw [Nat.add_sub_cancel_left]
        by_cases z : bt x2 i = true
        · rw [if_pos z, if_pos ⟨by omega, by omega, z⟩]
        · rw [if_neg z, if_neg (fun q => z q.2.2)]
      have f6 : ∀ i, i < 16 → sd_ft c2 s (sd_F c2 s k) 16 6 (16 * s + i) = if sd_F c2 s k i = true then 4 else c2 6 (16 * s + i) := by
        intro i hi
        rw [sd_ft_6, Nat.add_sub_cancel_left]
        by_cases z : sd_F c2 s k i = true
        · rw [if_pos z, if_pos ⟨by omega, by omega, z⟩]
        · rw [if_neg z, if_neg (fun q => z q.2.2)]
      have o2 : ∀ i, i < 32 → bt ((o &&& (o - 1)) ||| x4) i = (bt (o &&& (o - 1)) i || (decide (i < 16) && decide (sd_ft c2 s (sd_F c2 s k) 16 6 (16 * s + i) = 4) && decide (sd_ft c2 s (sd_F c2 s k) 16 7 (3 * (16 * s + i) + 2) = nI k))) := by
        intro i hi
        rw [b_or, hx4 i hi]
        rfl
      obtain ⟨c', d', h', wx, wy⟩ := ih ((o &&& (o - 1)) ||| x4) _ d4 h4 (by
        show sd_ft c2 s (sd_F c2 s k) 16 11 1 = 1
        rw [sd_ft_o _ _ _ _ 11 (by decide) (by decide) (by decide) (by decide), c211]; exact hm) (by
        intro i hi hb
        show sd_lo (sd_ft c2 s (sd_F c2 s k) 16 6) s 16 x2 (16 * s + i) = 4
        have a4 : sd_ft c2 s (sd_F c2 s k) 16 6 (16 * s + i) = 4 := by
          rw [o2 i (by omega), Bool.or_eq_true, Bool.and_eq_true, Bool.and_eq_true, decide_eq_true_eq, decide_eq_true_eq] at hb
          rcases hb with hb | hb
          · rw [f6 i hi, o1 i hi hb]; split <;> rfl
          · exact hb.1.2
        rw [loi i hi, if_neg (fun q => by have := hx2k i hi q; rw [a4] at this; exact absurd this (by decide)), a4]) (by
        intro i h16 hi
        rw [o2 i hi, pop i hi, hoh i h16 hi, decide_eq_false (p := i < 16) (by omega)]; rfl) (by
        show sd_nr (sd_lo (sd_ft c2 s (sd_F c2 s k) 16 6) s 16 x2) s ≤ m
        have e1 : sd_nr (c 6) s = sd_nr (sd_lo (sd_ft c2 s (sd_F c2 s k) 16 6) s 16 x2) s + 1 := by
          refine sd_c_out (l := k) hk (by rw [k4]; decide) ?_
          intro i hi
          have e5 : (sd_lo (sd_ft c2 s (sd_F c2 s k) 16 6) s 16 x2 (16 * s + i) = 5) ↔ c2 6 (16 * s + i) = 5 := by
            rw [loi i hi]
            by_cases z : bt x2 i = true
            · have a2 := hx2k i hi z
              rw [if_pos z]
              rw [f6 i hi] at a2
              by_cases zF : sd_F c2 s k i = true
              · rw [if_pos zF] at a2; exact absurd a2 (by decide)
              · rw [if_neg zF] at a2; rw [a2]; decide
            · rw [if_neg z, f6 i hi]
              by_cases zF : sd_F c2 s k i = true
              · rw [if_pos zF]
                have a := (sd_F_t zF).1
                constructor
                · intro q; exact absurd q (by decide)
                · intro q; rcases a with a | a <;> rw [q] at a <;> exact absurd a (by decide)
              · rw [if_neg zF]
          by_cases e : i = k
          · have : c2 6 (16 * s + i) = 5 := by rw [e, c26, pk_us]
            rw [decide_eq_true (e5.mpr this), decide_eq_true e]; simp
          · have q : c2 6 (16 * s + i) = c 6 (16 * s + i) := by rw [c26, pk_un (by omega)]
            rw [decide_eq_false e]
            rw [q] at e5
            rw [show decide (sd_lo (sd_ft c2 s (sd_F c2 s k) 16 6) s 16 x2 (16 * s + i) = 5) = decide (c 6 (16 * s + i) = 5) from by rw [Bool.eq_iff_iff, decide_eq_true_eq, decide_eq_true_eq]; exact e5]
            simp
        omega)
      refine ⟨c', d', h', fun n post hn hp => ?_, fun n post LF hn hL hp => ?_⟩
      · obtain ⟨n', rfl⟩ : ∃ n', n = n' + 1 := ⟨n - 1, by omega⟩
        refine br_f (sd_nz hbk) (sd_Xleast (l := k) (by omega) hbk hbl (nm_e (w1 _ (sd_Xon (i := 1) (by decide) h1 ?_))))
        refine br_f (by show ¬ c 11 1 = 0; rw [hm]; decide) (nm_e ?_)
        subst hd2
        exact w3 _ (wl4 _ (nm_e (wl2 _ ⟨17, w4 17 _ _ (by decide) (wx n' post (by omega) hp)⟩)))
      · obtain ⟨n', rfl⟩ : ∃ n', n = n' + 1 := ⟨n - 1, by omega⟩
        rw [sd_nd_l hk hbk 16 (by decide) (by omega) (fun i _ hi => hbl i hi)]
        refine br_f (nI_pos (by omega)) ⟨sd_in hk, ?_⟩
        rw [sd_ch (n := k) (by omega), sd_nb0]
        refine nm_e (nm_e ?_)
        have eK : sd_ky (c 6) s o = sd_ky (c2 6) s (o &&& (o - 1)) := by
          funext j
          unfold sd_ky
          by_cases w : 16 * s ≤ j ∧ j < 16 * s + 16
          · have pj := pop (j - 16 * s) (by omega)
            by_cases e : j = 16 * s + k
            · have e' : j - 16 * s = k := by omega
              rw [e', hbk, decide_eq_true (p := k = k) rfl] at pj
              rw [e', if_pos ⟨w.1, w.2, hbk⟩, if_neg (fun q => by rw [pj] at q; exact absurd q.2.2 (by decide)), e, c26, pk_us]
            · rw [decide_eq_false (p := j - 16 * s = k) (by omega), Bool.not_false, Bool.and_true] at pj
              rw [pj, c26, pk_un e]
          · rw [if_neg (fun q => w ⟨q.1, q.2.1⟩), if_neg (fun q => w ⟨q.1, q.2.1⟩), c26, pk_un (by omega)]
        rw [eK]
        unfold wpY_spread
        subst hc2
        refine ⟨17, sd_Ysp (K1 := sd_lo (sd_ft (sd_cn (sd_s c 6 (upd (c 6) (16 * s + k) (nI 5))) 0) s (sd_F (sd_cn (sd_s c 6 (upd (c 6) (16 * s + k) (nI 5))) 0) s k) 16 6) s 16 x2) (o2 := (o &&& (o - 1)) ||| x4) hs hk h2 o1 ?_ ?_ ?_ ?_ 16 0 (sd_ky (sd_cn (sd_s c 6 (upd (c 6) (16 * s + k) (nI 5))) 0 6) s (o &&& (o - 1))) (upd LF k 0) 17 (by decide) (by decide) ?_ ?_⟩
        · intro i hi
          rw [o2 i (by omega), decide_eq_true hi, Bool.true_and]
        · intro i hi
          rw [loi i hi]
          by_cases z : bt x2 i = true
          · have a := z
            rw [hx2 i (by omega), Bool.and_eq_true, Bool.and_eq_true, decide_eq_true_eq, decide_eq_true_eq, decide_eq_true_eq] at a
            rw [if_pos z, if_pos ⟨a.1.2, a.2⟩]
          · rw [if_neg z, if_neg ?_]
            intro q
            apply z
            rw [hx2 i (by omega), decide_eq_true hi, decide_eq_true (p := _ = nI 2) q.1, decide_eq_true q.2]
            rfl
        · intro j hj
          unfold sd_lo
          rw [if_neg (fun q => hj ⟨q.1, q.2.1⟩), sd_ft_6, if_neg (fun q => hj ⟨q.1, q.2.1⟩)]
        · intro L' hL'
          exact ⟨17, sd_Y210 (p := bt ((o &&& (o - 1)) ||| x4)) (C := sd_s (sd_s (sd_ft (sd_cn (sd_s c 6 (upd (c 6) (16 * s + k) (nI 5))) 0) s (sd_F (sd_cn (sd_s c 6 (upd (c 6) (16 * s + k) (nI 5))) 0) s k) 16) 6 (sd_ky (sd_lo (sd_ft (sd_cn (sd_s c 6 (upd (c 6) (16 * s + k) (nI 5))) 0) s (sd_F (sd_cn (sd_s c 6 (upd (c 6) (16 * s + k) (nI 5))) 0) s k) 16 6) s 16 x2) s ((o &&& (o - 1)) ||| x4))) 12 L') hL' (wy n' post L' (by omega) hL' hp) 16 0 17 (by decide) (by decide)⟩
        · intro j
          rw [if_neg (by omega)]
        · intro i hi
          rw [if_neg (by omega), pop i (by omega)]
          by_cases e : i = k
          · rw [e, pk_us, hbk, decide_eq_true (p := k = k) rfl]; rfl
          · rw [pk_un e, hL i hi, decide_eq_false e, Bool.not_false, Bool.and_true]
end
section
/-! remove -/
theorem sd_Y116 {post : Int32 → SY → Prop} {c : sd_T} {s r : Nat} (hs : s < 3) (hr : r < 16)
    (hp : ∀ L : Nat → Int32, (∀ i, i < 16 → L i = 0) → (((c 11 1) = 0 → (∃ n173 : Nat, wY_remove_173 post (nI s) n173 (-1) (c 0 0) (c 1 0) (c 2) (c 3) (c 4) (c 5) (upd (c 6) (16 * s + r) 5) (c 7) (c 8) (c 9) (c 10) (c 11) (upd L r (vp_nar .boolean (c 11 1))) (c 13) (c 14) (c 15) (c 16) (c 17))) ∧ (¬ (c 11 1) = 0 → (∃ n173 : Nat, wY_remove_173 post (nI s) n173 (nI r) (c 0 0) (c 1 0) (c 2) (c 3) (c 4) (c 5) (upd (c 6) (16 * s + r) 5) (c 7) (c 8) (c 9) (c 10) (c 11) (upd L r (vp_nar .boolean (c 11 1))) (c 13) (c 14) (c 15) (c 16) (c 17))))) :
    ∀ (m j n : Nat) (L : Nat → Int32), j + m = 16 → m < n → (∀ i, i < j → L i = 0) → wY_remove_116 post (nI s) (nI r) (nI (16 * s + r)) (c 0 0) (c 1 0) n (nI j) (c 2) (c 3) (c 4) (c 5) (c 6) (c 7) (c 8) (c 9) (c 10) (c 11) L (c 13) (c 14) (c 15) (c 16) (c 17) := by
  intro m
  induction m with
  | zero =>
    intro j n L hj hn hL
    obtain rfl : j = 16 := by omega
    obtain ⟨n', rfl⟩ : ∃ n', n = n' + 1 := ⟨n - 1, by omega⟩
    refine br_t (by decide) ?_
    rw [sd_ch (n := 16 * s + r) (by omega), sd_ch (n := r) (by omega)]
    exact ⟨sd_in (by omega), nm_e ⟨sd_in hr, nm_e (hp L hL)⟩⟩
  | succ m ih =>
    intro j n L hj hn hL
    obtain ⟨n', rfl⟩ : ∃ n', n = n' + 1 := ⟨n - 1, by omega⟩
    refine br_f (nI_ge (a := j) (b := 16) (by omega) (by decide)) ?_
    rw [sd_ch (n := j) (by omega), sd_nb0]
    refine ⟨sd_in (by omega), nm_e (nm_r (nI_1 j) (ih (j + 1) n' _ (by omega) (by omega) ?_))⟩
    intro i hi
    by_cases e : i = j
    · rw [e, pk_us]
    · rw [pk_un e]; exact hL i (by omega)
/-- a managed entity is removed, on both sides -/
theorem sd_rem {c d : sd_T} {s r : Nat} (hs : s < 3) (hr : r < 16) (h : sd_L c d) (k4 : c 6 (16 * s + r) = 4) : ∃ c' d', sd_L c' d' ∧ (∀ post : SX → Prop, post (sd_x d') → wpX_strike post (sd_x d) (nI s) (nI r)) ∧
    (∀ post : Int32 → SY → Prop, (∀ L' : Nat → Int32, post 0 (sd_y (sd_s c' 12 L'))) → ∃ n : Nat, wY_remove_116 post (nI s) (nI r) (nI (16 * s + r)) (c 0 0) (c 1 0) n 0 (c 2) (c 3) (c 4) (c 5) (c 6) (c 7) (c 8) (c 9) (c 10) (c 11) (c 12) (c 13) (c 14) (c 15) (c 16) (c 17)) := by
  have hb : ∀ i, i < 32 → bt ((1 : Int32) <<< (nI r &&& 31)) i = decide (i = r) := fun i hi => sd_mk (by omega) hi
  have hbr : bt ((1 : Int32) <<< (nI r &&& 31)) r = true := by rw [hb r (by omega), decide_eq_true rfl]
  have hbl : ∀ i, i < r → bt ((1 : Int32) <<< (nI r &&& 31)) i = false := fun i hi => by rw [hb i (by omega), decide_eq_false (by omega)]
  rcases sd_mo01 h (i := 1) (by decide) with hm | hm
  · obtain ⟨d1, h1, w1⟩ := sd_Xbk 5 hs hr (by decide) h (fun _ _ => by rw [k4]; decide) (fun _ => Or.inl k4)
    refine ⟨_, d1, h1, fun post hp => ?_, fun post hp => ?_⟩
    · unfold wpX_strike
      refine nm_e ⟨2, br_f (sd_nz hbr) (sd_Xleast (l := r) (by omega) hbr hbl (nm_e (w1 _ (sd_Xon (i := 1) (by decide) h1 (br_t hm (br_t (sd_z ?_) hp))))))⟩
      intro i hi
      rw [sd_pop (by omega) hbr hbl hi, hb i hi]
      cases decide (i = r) <;> rfl
    · refine ⟨17, sd_Y116 hs hr ?_ 16 0 17 (c 12) (by decide) (by decide) (fun i hi => absurd hi (Nat.not_lt_zero i))⟩
      intro L _
      exact br_t hm ⟨1, br_t (by decide) (hp _)⟩
  · obtain ⟨c', d', h', wx, wy⟩ := sd_str hs 16 ((1 : Int32) <<< (nI r &&& 31)) c d h hm (by
      intro i hi q
      rw [hb i (by omega), decide_eq_true_eq] at q
      rw [q]; exact k4) (by
      intro i h16 hi
      rw [hb i hi, decide_eq_false (by omega)]) (sd_c_le _ 16)
    refine ⟨c', d', h', fun post hp => ?_, fun post hp => ?_⟩
    · unfold wpX_strike
      exact nm_e ⟨17, wx 17 post (by decide) hp⟩
    · refine ⟨17, sd_Y116 hs hr ?_ 16 0 17 (c 12) (by decide) (by decide) (fun i hi => absurd hi (Nat.not_lt_zero i))⟩
      intro L hL
      refine br_f (by rw [hm]; decide) ⟨17, ?_⟩
      have w := wy 17 post (upd L r (vp_nar .boolean (c 11 1))) (by decide) (by
        intro i hi
        rw [hb i (by omega)]
        by_cases e : i = r
        · rw [e, pk_us, hm, decide_eq_true (p := r = r) rfl]; decide
        · rw [pk_un e, hL i hi, decide_eq_false e]; rfl) hp
      rw [sd_nd_l hr hbr 16 (by decide) (by omega) (fun i _ hi => hbl i hi)] at w
      have eK : sd_ky (c 6) s ((1 : Int32) <<< (nI r &&& 31)) = upd (c 6) (16 * s + r) 5 := by
        funext j
        unfold sd_ky
        by_cases e : j = 16 * s + r
        · rw [e, pk_us, Nat.add_sub_cancel_left, if_pos ⟨by omega, by omega, hbr⟩]
        · rw [pk_un e]
          refine if_neg ?_
          rintro ⟨a, b, q⟩
          rw [hb _ (by omega), decide_eq_true_eq] at q
          exact e (by omega)
      rw [eK] at w
      exact w
/-- remove, for what is new or managed -/
theorem sd_rmv {c d : sd_T} {s r : Nat} (hs : s < 3) (hr : r < 16) (h : sd_L c d) (k24 : c 6 (16 * s + r) = 2 ∨ c 6 (16 * s + r) = 4) : ∃ c' d', sd_L c' d' ∧ (∀ post : Int32 → SX → Prop, post 0 (sd_x d') → wX_remove_42 post (nI s) (nI r) 0 (d 0 0) (d 1 0) (d 2 0) (d 3 0) (d 4 0) (d 5 0) (d 6 0) (d 7) (d 8) (d 9) (d 10) (d 11) (d 12) (d 13) (d 14) (d 15) (d 16) (d 17) (d 18) (d 19) (d 20) (d 21) (d 22) (d 23) (d 24) (d 25) (d 26) (d 27) (d 28) (d 29) (d 30)) ∧
    (∀ post : Int32 → SY → Prop, (∀ L' : Nat → Int32, post 0 (sd_y (sd_s c' 12 L'))) → wY_remove_82 post (nI s) (nI r) (nI (16 * s + r)) 1 (c 0 0) (c 1 0) (c 2) (c 3) (c 4) (c 5) (c 6) (c 7) (c 8) (c 9) (c 10) (c 11) (c 12) (c 13) (c 14) (c 15) (c 16) (c 17)) := by
  have hin : vp_in (nI (16 * s + r)) 48 := sd_in (by omega)
  have ec : (nI (16 * s + r)).toNatClampNeg = 16 * s + r := sd_ch (by omega)
  rcases k24 with k2 | k4
  · obtain ⟨d1, h1, w1⟩ := sd_Xbk 1 hs hr (by decide) h (fun _ _ => by rw [k2]; decide) (fun q => by rcases q with q | q <;> exact absurd q (by decide))
    refine ⟨_, d1, h1, fun post hp => ?_, fun post hp => ?_⟩
    · unfold wX_remove_42
      exact br_t rfl (sd_Xsort (d := d) hs hr h (br_t k2 (w1 _ (br_f (by rw [k2]; decide) hp))))
    · unfold wY_remove_82
      rw [ec]
      exact br_f (by decide) ⟨hin, br_t k2 ⟨hin, nm_e (hp (c 12))⟩⟩
  · obtain ⟨c', d', h', wx, wy⟩ := sd_rem hs hr h k4
    refine ⟨c', d', h', fun post hp => ?_, fun post hp => ?_⟩
    · unfold wX_remove_42
      exact br_t rfl (sd_Xsort (d := d) hs hr h (br_f (by rw [k4]; decide) (br_t k4 (wx _ hp))))
    · unfold wY_remove_82
      rw [ec]
      exact br_f (by decide) ⟨hin, br_f (by rw [k4]; decide) (wy post hp)⟩
theorem i_vc_remove {k : Nat} {u : SX} {v : SY} (I : i_Rel k u v) (hk : k + 6 ≤ 3072) (v1 : Int32) (v2 : Int32) : wpX_remove (fun r u' => wpY_remove (fun r' v' => r' = r ∧ i_Rel (k + 6) u' v') v v1 v2) u v1 v2 := by
  obtain ⟨c, d, rfl, rfl, h⟩ := I
  unfold wpX_remove wpY_remove
  rcases sd_wr h v1 v2 with ⟨r, hr, wx, wy⟩ | ⟨s, r, hs, hr, rfl, rfl, wx, wy⟩
  · exact wx _ (br_f (sd_n1 hr) (br_f (sd_n1 hr) (br_f (sd_n1 hr) (wy _ (nm_e (br_f (sd_n1 hr) ⟨rfl, sd_fin h⟩))))))
  · have e16 : (16 : Int32) * nI s + nI r = nI (16 * s + r) := sd_i16 s r
    have ec : (nI (16 * s + r)).toNatClampNeg = 16 * s + r := sd_ch (by omega)
    have hin : vp_in (nI (16 * s + r)) 48 := sd_in (by omega)
    have e61 : (6 : Int32) * nI s + 1 = nI (6 * s + 1) := by rw [sd_m6, sd_a1]
    have k1 : bt (d 16 (6 * s + 1)) r = decide (c 6 (16 * s + r) = 1) := sd_kb h 1 hs hr (by decide) (by decide)
    have m1 : ¬ (-1 : Int32) = 0 := by decide
    refine wx _ (br_t rfl ?_)
    rw [e61, sd_ch (n := 6 * s + 1) (by omega)]
    refine ⟨sd_in (by omega), ?_⟩
    by_cases z1 : c 6 (16 * s + r) = 1
    · refine sd_Xh1 (by omega) (by rw [k1]; exact decide_eq_true z1) (br_f (by decide) (br_f m1 (br_f m1 (wy _ (nm_r e16 (br_t rfl ⟨hin, ?_⟩))))))
      rw [ec]
      exact br_f (by rw [z1]; decide) ⟨hin, br_t z1 ⟨rfl, sd_fin h⟩⟩
    · refine sd_Xh0 (by omega) (by rw [k1]; exact decide_eq_false z1) (br_t rfl (br_t rfl ?_))
      by_cases z0 : c 6 (16 * s + r) = 0
      · refine sd_Xrch0 (d := d) hs hr h z0 (br_f m1 (wy _ (nm_r e16 (br_t rfl ⟨hin, ?_⟩))))
        rw [ec]
        exact br_t z0 ⟨rfl, sd_fin h⟩
      · by_cases z5 : c 6 (16 * s + r) = 5
        · refine sd_Xrch (d := d) hs hr h z0 (by rw [z5]; decide) (br_t rfl (sd_Xsort (d := d) hs hr h (br_f (by rw [z5]; decide) (br_f (by rw [z5]; decide) (wy _ (nm_r e16 (br_t rfl ⟨hin, ?_⟩)))))))
          rw [ec]
          exact br_f z0 ⟨hin, br_f z1 ⟨hin, br_t z5 ⟨rfl, sd_fin h⟩⟩⟩
        · by_cases z3 : c 6 (16 * s + r) = 3
          · obtain ⟨g, c', d', h', hg, _, tx, ty⟩ := sd_Tc hs hr h z3
            refine sd_Xrch3 (d := d) hs hr h z3 tx ?_
            cases g
            · refine br_f (by decide) (wy _ (nm_r e16 (br_t rfl ⟨hin, ?_⟩)))
              rw [ec]
              exact br_f z0 ⟨hin, br_f z1 ⟨hin, br_f z5 ⟨hin, br_t z3 (ty _ (br_t rfl (br_t rfl ⟨rfl, sd_fin h'⟩)))⟩⟩⟩
            · obtain ⟨c2, d2, h2, qx, qy⟩ := sd_rmv hs hr h' (Or.inr (hg rfl))
              refine qx _ (wy _ (nm_r e16 (br_t rfl ⟨hin, ?_⟩)))
              rw [ec]
              exact br_f z0 ⟨hin, br_f z1 ⟨hin, br_f z5 ⟨hin, br_t z3 (ty _ (br_f (by decide) (qy _ (fun L' => ⟨rfl, sd_fin (c := sd_s c2 12 L') h2⟩))))⟩⟩⟩
          · have k24 : c 6 (16 * s + r) = 2 ∨ c 6 (16 * s + r) = 4 := by
              rcases sd_kd h hs hr with q | q | q | q | q | q
              · exact absurd q z0
              · exact absurd q z1
              · exact Or.inl q
              · exact absurd q z3
              · exact Or.inr q
              · exact absurd q z5
            obtain ⟨c2, d2, h2, qx, qy⟩ := sd_rmv hs hr h k24
            refine sd_Xrch (d := d) hs hr h z0 z3 (qx _ (wy _ (nm_r e16 (br_t rfl ⟨hin, ?_⟩))))
            rw [ec]
            exact br_f z0 ⟨hin, br_f z1 ⟨hin, br_f z5 ⟨hin, br_f z3 (qy _ (fun L' => ⟨rfl, sd_fin (c := sd_s c2 12 L') h2⟩))⟩⟩⟩
end
section
/-! note, put, begin, update -/
def sd_no (c : sd_T) (m w r : Nat) : sd_T := sd_s (sd_s (sd_s c 15 (upd (upd (c 15) (2 * m) (nI w)) (2 * m + 1) (nI r))) 0 (fun _ => nI (m + 1))) 17 (upd (c 17) (2 + w) (c 17 (2 + w) + 1))
theorem sd_Yno {post : SY → Prop} {c : sd_T} {m w r : Nat} (hm : m < 48) (hw : w < 3) (e0 : c 0 0 = nI m) (hp : post (sd_y (sd_no c m w r))) : wpY_note post (sd_y c) (nI w) (nI r) := by
  have e2 : (2 : Int32) * c 0 0 = nI (2 * m) := by rw [e0, sd_m2]
  unfold wpY_note
  show vp_in (2 * c 0 0) 96 ∧ _
  rw [e2, sd_a1 (2 * m), sd_p2, sd_ch (n := 2 * m) (by omega), sd_ch (n := 2 * m + 1) (by omega), sd_ch (n := 2 + w) (by omega)]
  exact ⟨sd_in (by omega), nm_e ⟨sd_in (by omega), nm_e (nm_r (e' := nI (m + 1)) (by rw [e0, nI_1]) ⟨sd_in (by omega), sd_in (by omega), nm_e hp⟩)⟩⟩
theorem sd_Xno {c d : sd_T} {m w r : Nat} (hm : m < 48) (hw : w < 3) (hr : r < 16) (e0 : c 0 0 = nI m) (h : sd_L c d) : ∃ d', sd_L (sd_no c m w r) d' ∧ ∀ post : SX → Prop, post (sd_x d') → wpX_note post (sd_x d) (nI w) (nI r) := by
  have e4 : d 4 0 = nI m := h.2.2.2.1.trans e0
  have e30 : d 30 = c 17 := h.2.2.2.2.2.2.2.2.2.2.1
  refine ⟨sd_s (sd_s (sd_s (sd_s d 26 (upd (d 26) m (nI w))) 4 (fun _ => nI (m + 1))) 27 (upd (d 27) m (nI r))) 30 (upd (d 30) (2 + w) (d 30 (2 + w) + 1)), ⟨h.1, h.2.1, h.2.2.1, rfl, ⟨m + 1, by omega, rfl⟩, ?_, h.2.2.2.2.2.2.1, h.2.2.2.2.2.2.2.1, h.2.2.2.2.2.2.2.2.1, h.2.2.2.2.2.2.2.2.2.1, ?_, h.2.2.2.2.2.2.2.2.2.2.2⟩, fun post hp => ?_⟩
  · intro k
    have q := h.2.2.2.2.2.1 k
    show upd (d 26) m (nI w) k = upd (upd (c 15) (2 * m) (nI w)) (2 * m + 1) (nI r) (2 * k) ∧ upd (d 27) m (nI r) k = upd (upd (c 15) (2 * m) (nI w)) (2 * m + 1) (nI r) (2 * k + 1)
    by_cases e : k = m
    · rw [e, pk_us, pk_us, pk_us, pk_un (by omega), pk_us]; exact ⟨rfl, rfl⟩
    · rw [pk_un e, pk_un e, pk_un (by omega), pk_un (by omega), pk_un (by omega), pk_un (by omega)]; exact q
  · show upd (d 30) (2 + w) (d 30 (2 + w) + 1) = upd (c 17) (2 + w) (c 17 (2 + w) + 1)
    rw [e30]
  · unfold wpX_note
    show vp_in (d 4 0) 48 ∧ _
    rw [e4, sd_p2, sd_ch (n := m) (by omega), sd_ch (n := 2 + w) (by omega), sd_lrs (sd_lrI (n := w) (by omega)), sd_lrs (sd_lrI hr)]
    exact ⟨sd_in hm, nm_e (nm_r (nI_1 m) ⟨sd_in hm, nm_e ⟨sd_in (by omega), sd_in (by omega), nm_e hp⟩⟩)⟩
def sd_u4 (f : Nat → Int32) (i : Nat) (a b c e : Int32) : Nat → Int32 := upd (upd (upd (upd f i a) (i + 1) b) (i + 2) c) (i + 3) e
theorem sd_u4_0 {f : Nat → Int32} {i : Nat} {a b c e : Int32} : sd_u4 f i a b c e i = a := by unfold sd_u4; rw [pk_un (by omega), pk_un (by omega), pk_un (by omega), pk_us]
theorem sd_u4_1 {f : Nat → Int32} {i : Nat} {a b c e : Int32} : sd_u4 f i a b c e (i + 1) = b := by unfold sd_u4; rw [pk_un (by omega), pk_un (by omega), pk_us]
theorem sd_u4_2 {f : Nat → Int32} {i : Nat} {a b c e : Int32} : sd_u4 f i a b c e (i + 2) = c := by unfold sd_u4; rw [pk_un (by omega), pk_us]
theorem sd_u4_3 {f : Nat → Int32} {i : Nat} {a b c e : Int32} : sd_u4 f i a b c e (i + 3) = e := by unfold sd_u4; rw [pk_us]
theorem sd_u4_n {f : Nat → Int32} {i j : Nat} {a b c e : Int32} (h : j < i ∨ i + 3 < j) : sd_u4 f i a b c e j = f j := by unfold sd_u4; rw [pk_un (by omega), pk_un (by omega), pk_un (by omega), pk_un (by omega)]
theorem sd_u4_u {f : Nat → Int32} {i : Nat} {a b c e x : Int32} : upd (sd_u4 f i a b c e) (i + 2) x = sd_u4 f i a b x e := by
  funext j
  by_cases h2 : j = i + 2
  · rw [h2, pk_us, sd_u4_2]
  · rw [pk_un h2]
    by_cases h0 : j = i
    · rw [h0, sd_u4_0, sd_u4_0]
    · by_cases h1 : j = i + 1
      · rw [h1, sd_u4_1, sd_u4_1]
      · by_cases h3 : j = i + 3
        · rw [h3, sd_u4_3, sd_u4_3]
        · rw [sd_u4_n (by omega), sd_u4_n (by omega)]
/-- a row is locked by a session -/
def sd_lk (c : sd_T) (s r : Nat) : sd_T := sd_s (sd_s c 5 (upd (c 5) r (nI s))) 3 (upd (c 3) r 0)
/-- a row is written by a session -/
def sd_pt (c : sd_T) (s r : Nat) (l v : Int32) : sd_T := sd_s (sd_s (sd_lk c s r) 2 (upd (c 2) (16 + r) 1)) 4 (sd_u4 (c 4) (4 * (16 + r)) (c 7 (3 * (16 * s + r))) (c 7 (3 * (16 * s + r) + 1)) l v)
/-- locks, on both sides -/
theorem sd_RS_lk {x0 x1 x2 : Int32} {x7 x8 x9 x10 x11 x12 x13 x14 x15 y2 y3 y4 y5 : Nat → Int32} {s r : Nat} {x1' : Int32} {z11 z12 z13 z14 w2 w4 : Nat → Int32} (hs : s < 3) (hr : r < 16) (h : sd_RS x0 x1 x2 x7 x8 x9 x10 x11 x12 x13 x14 x15 y2 y3 y4 y5) (hb : sd_bu y5 s r = false)
    (h2 : ∀ r', r' < 16 → w2 r' = y2 r') (h2' : ∀ r', r' < 16 → w2 (16 + r') = sd_b (bt x1' r')) (h4 : ∀ j, j < 64 → w4 j = y4 j)
    (h4' : ∀ r', r' < 16 → w4 (4 * (16 + r')) = z11 r' ∧ w4 (4 * (16 + r') + 1) = z12 r' ∧ w4 (4 * (16 + r') + 2) = z13 r' ∧ w4 (4 * (16 + r') + 3) = z14 r') (hl : ∀ q, q < 32 → sd_lr (w4 (4 * q + 2))) :
    sd_RS x0 x1' (x2 &&& (((1 : Int32) <<< (nI r &&& 31)) ^^^ (-1))) x7 x8 x9 x10 z11 z12 z13 z14 (upd x15 s (x15 s ||| ((1 : Int32) <<< (nI r &&& 31)))) w2 (upd y3 r 0) w4 (upd y5 r (nI s)) := by
  refine ⟨?_, ?_, h4', hl, ?_, ?_⟩
  · intro r' hr'
    refine ⟨?_, h2' r' hr', ?_⟩
    · rw [h2 r' hr']; exact (h.1 r' hr').1
    · rw [sd_cl _ (by omega) (by omega)]
      by_cases e : r' = r
      · rw [e, pk_us, decide_eq_true (p := r = r) rfl]; cases bt x2 r <;> rfl
      · rw [pk_un e, decide_eq_false e, Bool.not_false, Bool.and_true]; exact (h.1 r' hr').2.2
  · intro r' hr'
    rw [h4 _ (by omega), h4 _ (by omega), h4 _ (by omega), h4 _ (by omega)]
    exact h.2.1 r' hr'
  · intro r' hr'
    obtain ⟨a, b⟩ := h.2.2.2.2.1 r' hr'
    by_cases e : r' = r
    · subst e
      rw [pk_us]
      refine ⟨?_, ?_⟩
      · match s, hs with
        | 0, _ => exact Or.inr (Or.inl rfl)
        | 1, _ => exact Or.inr (Or.inr (Or.inl rfl))
        | 2, _ => exact Or.inr (Or.inr (Or.inr rfl))
        | n + 3, hn => omega
      · intro t ht
        by_cases q : t = s
        · rw [q, pk_us, sd_st _ (by omega) (by omega), decide_eq_true (p := r' = r') rfl, Bool.or_true, decide_eq_true (p := nI s = nI s) rfl]
        · rw [pk_un q, b t ht, decide_eq_false (p := nI s = nI t) (sd_ne (fun w => q w.symm) (by omega) (by omega))]
          refine decide_eq_false (fun w => ?_)
          unfold sd_bu at hb
          rw [w, Bool.and_eq_false_iff] at hb
          rcases hb with hb | hb
          · rw [Bool.not_eq_false', decide_eq_true_eq] at hb
            exact sd_nm1 (by omega) hb
          · rw [Bool.not_eq_false', decide_eq_true_eq] at hb
            exact sd_ne q (by omega) (by omega) hb
    · rw [pk_un e]
      refine ⟨a, fun t ht => ?_⟩
      by_cases q : t = s
      · rw [q, pk_us, sd_st _ (by omega) (by omega), decide_eq_false (p := r' = r) e, Bool.or_false]; exact b s hs
      · rw [pk_un q]; exact b t ht
  · intro r' hr' h3
    by_cases e : r' = r
    · rw [e, pk_us] at h3; exact absurd h3 (by decide)
    · rw [pk_un e] at h3
      rw [pk_un e, h2 r' hr']
      exact h.2.2.2.2.2 r' hr' h3
theorem sd_Xpt {c d : sd_T} {s r : Nat} {l v : Int32} (hs : s < 3) (hr : r < 16) (h : sd_L c d) (hb : sd_bu (c 5) s r = false) (h0 : ¬ c 6 (16 * s + r) = 0) (h3 : ¬ c 6 (16 * s + r) = 3) (hl : sd_lr l) :
    ∃ d', sd_L (sd_pt c s r l v) d' ∧ ∀ post : SX → Prop, post (sd_x d') → wpX_put post (sd_x d) (nI s) (nI r) (nI (16 * s + r)) l v := by
  obtain ⟨v0, v1, v2⟩ := (sd_va h (e := 16 * s + r) (by omega)).1 h0 h3
  refine ⟨sd_s (sd_s (sd_s (sd_s (sd_s (sd_s (sd_s d 15 (upd (d 15) s (d 15 s ||| ((1 : Int32) <<< (nI r &&& 31))))) 2 (fun _ => d 2 0 &&& (((1 : Int32) <<< (nI r &&& 31)) ^^^ (-1)))) 1 (fun _ => d 1 0 ||| ((1 : Int32) <<< (nI r &&& 31)))) 11 (upd (d 11) r (c 7 (3 * (16 * s + r))))) 12 (upd (d 12) r (c 7 (3 * (16 * s + r) + 1)))) 13 (upd (d 13) r l)) 14 (upd (d 14) r v), ⟨?_, h.2.1, h.2.2⟩, fun post hp => ?_⟩
  · refine sd_RS_lk hs hr h.1 hb ?_ ?_ ?_ ?_ ?_
    · intro r' hr'
      exact pk_un (by omega)
    · intro r' hr'
      show upd (c 2) (16 + r) 1 (16 + r') = sd_b (bt (d 1 0 ||| ((1 : Int32) <<< (nI r &&& 31))) r')
      rw [sd_st _ (by omega) (by omega)]
      by_cases e : r' = r
      · rw [e, pk_us, decide_eq_true (p := r = r) rfl, Bool.or_true]; rfl
      · rw [pk_un (by omega), decide_eq_false e, Bool.or_false]; exact sd_st1 h hr'
    · intro j hj
      exact sd_u4_n (by omega)
    · intro r' hr'
      have q := h.1.2.2.1 r' hr'
      show sd_u4 _ _ _ _ _ _ _ = upd _ _ _ _ ∧ sd_u4 _ _ _ _ _ _ _ = upd _ _ _ _ ∧ sd_u4 _ _ _ _ _ _ _ = upd _ _ _ _ ∧ sd_u4 _ _ _ _ _ _ _ = upd _ _ _ _
      by_cases e : r' = r
      · rw [e, pk_us, pk_us, pk_us, pk_us, sd_u4_0, sd_u4_1, sd_u4_2, sd_u4_3]; exact ⟨rfl, rfl, rfl, rfl⟩
      · rw [pk_un e, pk_un e, pk_un e, pk_un e, sd_u4_n (by omega), sd_u4_n (by omega), sd_u4_n (by omega), sd_u4_n (by omega)]; exact q
    · intro q hq
      show sd_lr (sd_u4 _ _ _ _ _ _ _)
      by_cases e : q = 16 + r
      · rw [e, sd_u4_2]; exact hl
      · rw [sd_u4_n (by omega)]; exact h.1.2.2.2.1 q hq
  · unfold wpX_put
    rw [sd_ch (n := s) (by omega), sd_ch (n := r) (by omega), sd_ch (n := 16 * s + r) (by omega), sd_lrs hl]
    have hin : vp_in (nI (16 * s + r)) 48 := sd_in (by omega)
    exact ⟨sd_in hs, sd_in hs, nm_e (nm_e (nm_e ⟨hin, sd_in hr, nm_r (congrArg (upd (d 11) r) v0) ⟨hin, sd_in hr, nm_r (congrArg (upd (d 12) r) v1) ⟨sd_in hr, nm_e ⟨sd_in hr, nm_e hp⟩⟩⟩⟩))⟩
theorem sd_Ypt {post : SY → Prop} {c : sd_T} {s r : Nat} {v : Int32} (hs : s < 3) (hr : r < 16)
    (hp : post (sd_y (sd_s (sd_s c 2 (upd (c 2) (16 + r) 1)) 4 (sd_u4 (c 4) (4 * (16 + r)) (c 7 (3 * (16 * s + r))) (c 7 (3 * (16 * s + r) + 1)) (c 7 (3 * (16 * s + r) + 2)) v)))) : wpY_put post (sd_y c) (nI s) (nI r) v := by
  have st : ∀ (n k : Nat) (a : Nat → Int32), k < 3 → wY_put_13 post (nI s) (nI r) v (c 0 0) (c 1 0) n (nI (k + 1)) (upd (c 2) (16 + r) 1) (c 3) (upd a (4 * (16 + r) + k) (c 7 (3 * (16 * s + r) + k))) (c 5) (c 6) (c 7) (c 8) (c 9) (c 10) (c 11) (c 12) (c 13) (c 14) (c 15) (c 16) (c 17) → wY_put_13 post (nI s) (nI r) v (c 0 0) (c 1 0) (n + 1) (nI k) (upd (c 2) (16 + r) 1) (c 3) a (c 5) (c 6) (c 7) (c 8) (c 9) (c 10) (c 11) (c 12) (c 13) (c 14) (c 15) (c 16) (c 17) := by
    intro n k a hk q
    refine br_f (nI_ge (a := k) (b := 3) hk (by decide)) ?_
    rw [sd_i16, sd_i3, sd_p16, sd_i4, sd_ch (n := 3 * (16 * s + r) + k) (by omega), sd_ch (n := 4 * (16 + r) + k) (by omega)]
    exact ⟨sd_in (by omega), sd_in (by omega), nm_e (nm_r (nI_1 k) q)⟩
  unfold wpY_put
  rw [sd_p16, sd_ch (n := 16 + r) (by omega), sd_nb1]
  refine ⟨sd_in (by omega), nm_e ⟨4, st 3 0 (c 4) (by decide) (st 2 1 _ (by decide) (st 1 2 _ (by decide) (br_t (by decide) ?_)))⟩⟩
  rw [sd_p16, sd_m4, sd_a3, sd_ch (n := 4 * (16 + r) + 3) (by omega)]
  exact ⟨sd_in (by omega), nm_e hp⟩
/-! begin -/
theorem sd_bu_t {A B : Nat → Prop} {c d : sd_T} (h : sd_R A B c d) {s r : Nat} (hr : r < 16) (hb : sd_bu (c 5) s r = true) : ¬ c 5 r < 0 ∧ ¬ c 5 r = nI s := by
  unfold sd_bu at hb
  rw [Bool.and_eq_true, Bool.not_eq_true', Bool.not_eq_true', decide_eq_false_iff_not, decide_eq_false_iff_not] at hb
  refine ⟨?_, hb.2⟩
  rcases sd_lkr h hr with z | z | z | z
  · exact absurd z hb.1
  · rw [z]; decide
  · rw [z]; decide
  · rw [z]; decide
theorem sd_bu_f {y5 : Nat → Int32} {s r : Nat} (hb : sd_bu y5 s r = false) : y5 r = -1 ∨ y5 r = nI s := by
  unfold sd_bu at hb
  rw [Bool.and_eq_false_iff, Bool.not_eq_false', Bool.not_eq_false', decide_eq_true_eq, decide_eq_true_eq] at hb
  exact hb
theorem sd_Yb6 {post : Int32 → SY → Prop} {A B : Nat → Prop} {c d : sd_T} {s r : Nat} {v i : Int32} (hr : r < 16) (h : sd_R A B c d) (hb : sd_bu (c 5) s r = true) (hp : post (-6) (sd_y c)) : wpY_begin post (sd_y c) (nI s) (nI r) v i := by
  obtain ⟨a, b⟩ := sd_bu_t h hr hb
  unfold wpY_begin
  refine sd_Ysg (c := c) hr ⟨sd_in hr, ?_⟩
  rw [sd_ch (n := r) (by omega)]
  exact br_f a ⟨sd_in hr, br_f b hp⟩
theorem sd_Yb30 {post : Int32 → SY → Prop} {c : sd_T} {s r : Nat} {v i : Int32} (hs : s < 3) (hr : r < 16) (hb : sd_bu (c 5) s r = false) (hp : wY_begin_30 post (nI s) (nI r) v i (nI (sd_sg (c 5) s r)) (c 0 0) (c 1 0) (c 2) (c 3) (c 4) (c 5) (c 6) (c 7) (c 8) (c 9) (c 10) (c 11) (c 12) (c 13) (c 14) (c 15) (c 16) (c 17)) : wpY_begin post (sd_y c) (nI s) (nI r) v i := by
  unfold wpY_begin
  refine sd_Ysg (c := c) hr ⟨sd_in hr, ?_⟩
  rw [sd_ch (n := r) (by omega)]
  rcases sd_bu_f hb with z | z
  · exact br_t (by rw [z]; decide) hp
  · exact br_f (by rw [z]; exact nI_pos (by omega)) ⟨sd_in hr, br_t z hp⟩
theorem sd_Yb81 {post : Int32 → SY → Prop} {c : sd_T} {s r : Nat} (hr : r < 16) (hp : post 0 (sd_y (sd_lk c s r))) : wY_begin_81 post (nI s) (nI r) (c 0 0) (c 1 0) (c 2) (c 3) (c 4) (c 5) (c 6) (c 7) (c 8) (c 9) (c 10) (c 11) (c 12) (c 13) (c 14) (c 15) (c 16) (c 17) := by
  unfold wY_begin_81
  rw [sd_ch (n := r) (by omega), sd_nb0]
  exact ⟨sd_in hr, nm_e ⟨sd_in hr, nm_e hp⟩⟩
/-- begin of an insert -/
theorem sd_Yb0 {post : Int32 → SY → Prop} {A B : Nat → Prop} {c d : sd_T} {s r : Nat} {v : Int32} (hs : s < 3) (hr : r < 16) (h : sd_R A B c d) (hb : sd_bu (c 5) s r = false) (p5 : c 2 (sd_sg (c 5) s r) = 1 → post (-5) (sd_y c)) (p0 : c 2 (sd_sg (c 5) s r) = 0 → post 0 (sd_y (sd_lk c s r))) : wpY_begin post (sd_y c) (nI s) (nI r) v 0 := by
  have hq : sd_sg (c 5) s r < 32 := sd_sg_lt hr
  refine sd_Yb30 hs hr hb ?_
  unfold wY_begin_30
  rw [sd_ch (n := sd_sg (c 5) s r) (by omega)]
  refine br_t rfl ⟨sd_in hq, ?_⟩
  rcases sd_th01 h hq with z | z
  · refine br_t z ?_
    unfold wY_begin_48
    exact br_t rfl (sd_Yb81 hr (p0 z))
  · exact br_f (by rw [z]; decide) (p5 z)
/-- begin of an update or a delete -/
theorem sd_Yb1 {post : Int32 → SY → Prop} {A B : Nat → Prop} {c d : sd_T} {s r : Nat} {v : Int32} (hs : s < 3) (hr : r < 16) (h : sd_R A B c d) (hb : sd_bu (c 5) s r = false) (p4 : ¬ (c 2 (sd_sg (c 5) s r) = 1 ∧ c 4 (4 * sd_sg (c 5) s r + 3) = v) → post (-4) (sd_y c)) (p0 : c 2 (sd_sg (c 5) s r) = 1 → c 4 (4 * sd_sg (c 5) s r + 3) = v → post 0 (sd_y (sd_lk c s r))) : wpY_begin post (sd_y c) (nI s) (nI r) v 1 := by
  have hq : sd_sg (c 5) s r < 32 := sd_sg_lt hr
  refine sd_Yb30 hs hr hb ?_
  unfold wY_begin_30
  refine br_f (by decide) ?_
  unfold wY_begin_48
  rw [sd_m4, sd_a3, sd_ch (n := sd_sg (c 5) s r) (by omega), sd_ch (n := 4 * sd_sg (c 5) s r + 3) (by omega)]
  refine br_f (by decide) ⟨sd_in hq, ?_⟩
  rcases sd_th01 h hq with z | z
  · exact br_t z (p4 (fun w => by rw [z] at w; exact absurd w.1 (by decide)))
  · refine br_f (by rw [z]; decide) ⟨sd_in (by omega), ?_⟩
    by_cases e : c 4 (4 * sd_sg (c 5) s r + 3) = v
    · exact br_t e (sd_Yb81 hr (p0 z e))
    · exact br_f e (p4 (fun w => e w.2))
/-- check, on the component's side -/
theorem sd_Xck {post : Int32 → Prop} {A B : Nat → Prop} {c d : sd_T} {s r : Nat} {v : Int32} (hs : s < 3) (hr : r < 16) (h : sd_R A B c d) (p6 : sd_bu (c 5) s r = true → post (-6)) (p4 : sd_bu (c 5) s r = false → ¬ (c 2 (sd_sg (c 5) s r) = 1 ∧ c 4 (4 * sd_sg (c 5) s r + 3) = v) → post (-4))
    (p0 : sd_bu (c 5) s r = false → c 2 (sd_sg (c 5) s r) = 1 → c 4 (4 * sd_sg (c 5) s r + 3) = v → post 0) : wpX_check post (sd_x d) (nI s) (nI r) v := by
  unfold wpX_check
  refine sd_Xbu (d := d) hs hr h.1 ?_
  cases hb : sd_bu (c 5) s r
  · refine br_t rfl (sd_Xve (d := d) hs hr h.1 (sd_Xseen (d := d) hs hr h.1 ?_))
    rcases sd_th01 h (q := sd_sg (c 5) s r) (sd_sg_lt hr) with z | z
    · exact br_t z (p4 hb (fun w => by rw [z] at w; exact absurd w.1 (by decide)))
    · refine br_f (by rw [z]; decide) ?_
      by_cases e : c 4 (4 * sd_sg (c 5) s r + 3) = v
      · exact br_t e (p0 hb z e)
      · exact br_f e (p4 hb (fun w => e w.2))
  · exact br_f (by decide) (p6 hb)
/-- what a good update leaves -/
def sd_up (c : sd_T) (s r m : Nat) (v : Int32) : sd_T := sd_no (sd_pt c s r (c 7 (3 * (16 * s + r) + 2)) (v + 1)) m 1 r
/-- update, on both sides -/
theorem sd_upd {c d : sd_T} {s r m : Nat} {v : Int32} (hs : s < 3) (hr : r < 16) (hm : m < 48) (e0 : c 0 0 = nI m) (h : sd_L c d) (h0 : ¬ c 6 (16 * s + r) = 0) (h3 : ¬ c 6 (16 * s + r) = 3) : ∃ (a : Int32) (c' d' : sd_T), sd_L c' d' ∧ ((a = 0 ∧ c' = sd_up c s r m v) ∨ (¬ a = 0 ∧ c' = c)) ∧
    (∀ post : Int32 → SX → Prop, post a (sd_x d') → wpX_update post (sd_x d) (nI s) (nI r) v) ∧ (∀ post : Int32 → SY → Prop, post a (sd_y c') → wpY_update post (sd_y c) (nI s) (nI r) v) := by
  have hin : vp_in (nI (16 * s + r)) 48 := sd_in (by omega)
  cases hb : sd_bu (c 5) s r
  · by_cases z : c 2 (sd_sg (c 5) s r) = 1 ∧ c 4 (4 * sd_sg (c 5) s r + 3) = v
    · obtain ⟨v0, v1, v2⟩ := (sd_va h (e := 16 * s + r) (by omega)).1 h0 h3
      have hl : sd_lr (c 7 (3 * (16 * s + r) + 2)) := (sd_elr h (e := 16 * s + r) (by omega)).1
      obtain ⟨d1, h1, w1⟩ := sd_Xpt (l := c 7 (3 * (16 * s + r) + 2)) (v := v + 1) hs hr h hb h0 h3 hl
      obtain ⟨d2, h2, w2⟩ := sd_Xno (c := sd_pt c s r (c 7 (3 * (16 * s + r) + 2)) (v + 1)) (m := m) (w := 1) (r := r) hm (by decide) hr e0 h1
      refine ⟨0, _, d2, h2, Or.inl ⟨rfl, rfl⟩, fun post hp => ?_, fun post hp => ?_⟩
      · unfold wpX_update
        refine sd_Xck (d := d) hs hr h (fun q => by rw [hb] at q; exact absurd q (by decide)) (fun _ q => absurd z q) (fun _ _ _ => br_t rfl ?_)
        rw [sd_i16, sd_ch (n := 16 * s + r) (by omega), v2]
        exact ⟨hin, w1 _ (w2 _ hp)⟩
      · unfold wpY_update
        refine sd_Yb1 (c := c) hs hr h hb (fun q => absurd z q) (fun _ _ => br_t rfl (sd_Ypt (c := sd_lk c s r) hs hr (sd_Yno (c := sd_pt c s r (c 7 (3 * (16 * s + r) + 2)) (v + 1)) (w := 1) hm (by decide) e0 hp)))
    · refine ⟨-4, c, d, h, Or.inr ⟨by decide, rfl⟩, fun post hp => ?_, fun post hp => ?_⟩
      · unfold wpX_update
        exact sd_Xck (d := d) hs hr h (fun q => by rw [hb] at q; exact absurd q (by decide)) (fun _ _ => br_f (by decide) hp) (fun _ a b => absurd ⟨a, b⟩ z)
      · unfold wpY_update
        exact sd_Yb1 (c := c) hs hr h hb (fun _ => br_f (by decide) hp) (fun a b => absurd ⟨a, b⟩ z)
  · refine ⟨-6, c, d, h, Or.inr ⟨by decide, rfl⟩, fun post hp => ?_, fun post hp => ?_⟩
    · unfold wpX_update
      exact sd_Xck (d := d) hs hr h (fun _ => br_f (by decide) hp) (fun q => by rw [hb] at q; exact absurd q (by decide)) (fun q => by rw [hb] at q; exact absurd q (by decide))
    · unfold wpY_update
      exact sd_Yb6 (c := c) hr h hb (br_f (by decide) hp)
end
section
/-! the next of those left -/
/-- q is left and linked with r: from r to q (out), or from q to r -/
def sd_hh (c : sd_T) (s r : Nat) (out : Bool) (q : Nat) : Bool := !decide (c 12 q = 0) && !decide (q = r) && (bif out then decide (c 7 (3 * (16 * s + r) + 2) = nI q) else decide (c 8 (3 * (16 * s + q) + 2) = nI r))
def sd_hg (c : sd_T) (s r : Nat) (out : Bool) : Bool := sd_e (sd_hh c s r out) 16
theorem sd_Yhg {post : Int32 → Prop} {c : sd_T} {s r : Nat} {out : Bool} (hs : s < 3) (hr : r < 16) (hp : post (sd_b (sd_hg c s r out))) : wpY_hangs post (sd_y c) (nI s) (nI r) (sd_b out) := by
  have lp : ∀ m q n, q + m = 16 → m < n → (∀ i, i < q → sd_hh c s r out i = false) → wY_hangs_3 post (nI s) (nI r) (sd_b out) (c 0 0) (c 1 0) (c 2) (c 3) (c 4) (c 5) (c 6) (c 7) (c 8) (c 9) (c 10) (c 11) (c 12) (c 13) (c 14) (c 15) (c 16) (c 17) n (nI q) := by
    intro m
    induction m with
    | zero =>
      intro q n hq hn hf
      obtain rfl : q = 16 := by omega
      obtain ⟨n', rfl⟩ : ∃ n', n = n' + 1 := ⟨n - 1, by omega⟩
      have e : sd_hg c s r out = false := by
        cases hb : sd_hg c s r out
        · rfl
        · obtain ⟨i, hi, q⟩ := sd_e_t.mp hb
          rw [hf i hi] at q
          exact absurd q (by decide)
      rw [e] at hp
      exact br_t (by decide) hp
    | succ m ih =>
      intro q n hq hn hf
      obtain ⟨n', rfl⟩ : ∃ n', n = n' + 1 := ⟨n - 1, by omega⟩
      have hq16 : q < 16 := by omega
      have next : sd_hh c s r out q = false → wY_hangs_3 post (nI s) (nI r) (sd_b out) (c 0 0) (c 1 0) (c 2) (c 3) (c 4) (c 5) (c 6) (c 7) (c 8) (c 9) (c 10) (c 11) (c 12) (c 13) (c 14) (c 15) (c 16) (c 17) n' (nI (q + 1)) := by
        intro e
        refine ih (q + 1) n' (by omega) (by omega) ?_
        intro i hi
        by_cases w : i = q
        · rw [w]; exact e
        · exact hf i (by omega)
      have hit : sd_hh c s r out q = true → post 1 := by
        intro e
        have a : sd_hg c s r out = true := sd_e_t.mpr ⟨q, hq16, e⟩
        rw [a] at hp
        exact hp
      -- behind the link
      have go : ∀ (z0 : Int32) (t : Int32), (bif out then nI q else nI r) = t → (decide (z0 = t) = bif out then decide (c 7 (3 * (16 * s + r) + 2) = nI q) else decide (c 8 (3 * (16 * s + q) + 2) = nI r)) → wY_hangs_48 post (wY_hangs_3 post (nI s) (nI r) (sd_b out) (c 0 0) (c 1 0) (c 2) (c 3) (c 4) (c 5) (c 6) (c 7) (c 8) (c 9) (c 10) (c 11) (c 12) (c 13) (c 14) (c 15) (c 16) (c 17) n') (nI s) (nI r) (sd_b out) (nI q) z0 (c 0 0) (c 1 0) (c 2) (c 3) (c 4) (c 5) (c 6) (c 7) (c 8) (c 9) (c 10) (c 11) (c 12) (c 13) (c 14) (c 15) (c 16) (c 17) := by
        intro z0 t et ez
        unfold wY_hangs_48
        rw [sd_ch (n := q) (by omega)]
        refine ⟨sd_in hq16, ?_⟩
        by_cases z : c 12 q = 0
        · refine br_t z (nm_r (nI_1 q) (next ?_))
          unfold sd_hh
          rw [decide_eq_true z]; rfl
        · refine br_f z ?_
          by_cases w : q = r
          · refine br_t (by rw [w]) (nm_r (nI_1 q) (next ?_))
            unfold sd_hh
            rw [decide_eq_true w]; cases decide (c 12 q = 0) <;> rfl
          · refine br_f (sd_ne w (by omega) (by omega)) ?_
            have hv : sd_hh c s r out q = decide (z0 = t) := by
              unfold sd_hh
              rw [decide_eq_false z, decide_eq_false w, ez]; rfl
            have fin : wY_hangs_78 post (wY_hangs_3 post (nI s) (nI r) (sd_b out) (c 0 0) (c 1 0) (c 2) (c 3) (c 4) (c 5) (c 6) (c 7) (c 8) (c 9) (c 10) (c 11) (c 12) (c 13) (c 14) (c 15) (c 16) (c 17) n') (nI s) (nI r) (sd_b out) (nI q) t z0 (c 0 0) (c 1 0) (c 2) (c 3) (c 4) (c 5) (c 6) (c 7) (c 8) (c 9) (c 10) (c 11) (c 12) (c 13) (c 14) (c 15) (c 16) (c 17) := by
              unfold wY_hangs_78
              by_cases e : z0 = t
              · exact br_t e (hit (by rw [hv]; exact decide_eq_true e))
              · exact br_f e (nm_r (nI_1 q) (next (by rw [hv]; exact decide_eq_false e)))
            cases out
            · have et' : nI r = t := et
              rw [← et'] at fin
              exact br_t rfl fin
            · have et' : nI q = t := et
              rw [← et'] at fin
              exact br_f (by decide) fin
      refine br_f (nI_ge (a := q) (b := 16) hq16 (by decide)) ?_
      rw [sd_i16, sd_i16, sd_m3, sd_m3, sd_a2, sd_a2, sd_ch (n := 3 * (16 * s + q) + 2) (by omega), sd_ch (n := 3 * (16 * s + r) + 2) (by omega)]
      cases out
      · exact br_t rfl ⟨sd_in (by omega), go _ (nI r) rfl rfl⟩
      · exact br_f (by decide) ⟨sd_in (by omega), go _ (nI q) rfl rfl⟩
  unfold wpY_hangs
  exact ⟨17, lp 16 0 17 (by decide) (by decide) (fun i hi => absurd hi (Nat.not_lt_zero i))⟩
/-- left and free -/
def sd_fe (c : sd_T) (s : Nat) (out : Bool) (i : Nat) : Bool := !decide (c 12 i = 0) && !sd_hg c s i out
def sd_nx (c : sd_T) (s : Nat) (out : Bool) : Int32 := if sd_l (sd_fe c s out) 16 < 16 then nI (sd_l (sd_fe c s out) 16) else sd_nd (fun i => !decide (c 12 i = 0)) 16
theorem sd_Ynx33 {post : Int32 → Prop} {c : sd_T} {s : Nat} {out : Bool} (hs : s < 3) (hp : post (sd_nx c s out)) : ∀ m i n, i + m = 16 → m < n → (∀ j, j < i → sd_fe c s out j = false) → wY_next_33 post (nI s) (sd_b out) (sd_nd (fun i => !decide (c 12 i = 0)) 16) (c 0 0) (c 1 0) (c 2) (c 3) (c 4) (c 5) (c 6) (c 7) (c 8) (c 9) (c 10) (c 11) (c 12) (c 13) (c 14) (c 15) (c 16) (c 17) n (nI i) := by
  intro m
  induction m with
  | zero =>
    intro i n hi hn hf
    obtain rfl : i = 16 := by omega
    obtain ⟨n', rfl⟩ : ∃ n', n = n' + 1 := ⟨n - 1, by omega⟩
    have e : sd_l (sd_fe c s out) 16 = 16 := sd_l_n hf
    unfold sd_nx at hp
    rw [e] at hp
    exact br_t (by decide) hp
  | succ m ih =>
    intro i n hi hn hf
    obtain ⟨n', rfl⟩ : ∃ n', n = n' + 1 := ⟨n - 1, by omega⟩
    have hi16 : i < 16 := by omega
    have next : sd_fe c s out i = false → wY_next_33 post (nI s) (sd_b out) (sd_nd (fun i => !decide (c 12 i = 0)) 16) (c 0 0) (c 1 0) (c 2) (c 3) (c 4) (c 5) (c 6) (c 7) (c 8) (c 9) (c 10) (c 11) (c 12) (c 13) (c 14) (c 15) (c 16) (c 17) n' (nI (i + 1)) := by
      intro e
      refine ih (i + 1) n' (by omega) (by omega) ?_
      intro j hj
      by_cases w : j = i
      · rw [w]; exact e
      · exact hf j (by omega)
    refine br_f (nI_ge (a := i) (b := 16) hi16 (by decide)) ?_
    rw [sd_ch (n := i) (by omega)]
    refine ⟨sd_in hi16, ?_⟩
    by_cases z : c 12 i = 0
    · refine br_t z (br_t rfl (nm_r (nI_1 i) (next ?_)))
      unfold sd_fe
      rw [decide_eq_true z]; rfl
    · refine br_f z (sd_Yhg (c := c) hs hi16 ?_)
      cases hb : sd_hg c s i out
      · refine br_t rfl (br_f (by decide) ?_)
        have e : sd_fe c s out i = true := by unfold sd_fe; rw [decide_eq_false z, hb]; rfl
        have el : sd_l (sd_fe c s out) 16 = i := sd_l_u hi16 e hf
        unfold sd_nx at hp
        rw [el, if_pos hi16] at hp
        exact hp
      · refine br_f (by decide) (br_t rfl (nm_r (nI_1 i) (next ?_)))
        unfold sd_fe
        rw [hb]; cases decide (c 12 i = 0) <;> rfl
theorem sd_Ynx {post : Int32 → Prop} {c : sd_T} {s : Nat} {out : Bool} (hs : s < 3) (hp : post (sd_nx c s out)) : wpY_next post (sd_y c) (nI s) (sd_b out) := by
  have lp : ∀ t m n, m + t = 16 → t < n → wY_next_6 post (nI s) (sd_b out) (c 0 0) (c 1 0) (c 2) (c 3) (c 4) (c 5) (c 6) (c 7) (c 8) (c 9) (c 10) (c 11) (c 12) (c 13) (c 14) (c 15) (c 16) (c 17) n (sd_nd (fun i => !decide (c 12 i = 0)) m) (sd_dx m) := by
    intro t
    induction t with
    | zero =>
      intro m n hm hn
      obtain rfl : m = 16 := by omega
      obtain ⟨n', rfl⟩ : ∃ n', n = n' + 1 := ⟨n - 1, by omega⟩
      exact br_t (by decide) ⟨17, sd_Ynx33 hs hp 16 0 17 (by decide) (by decide) (fun j hj => absurd hj (Nat.not_lt_zero j))⟩
    | succ t ih =>
      intro m n hm hn
      obtain ⟨n', rfl⟩ : ∃ n', n = n' + 1 := ⟨n - 1, by omega⟩
      have e : sd_dx m = nI (15 - m) := if_pos (by omega)
      have w := ih (m + 1) n' (by omega) (by omega)
      rw [e]
      refine br_f (nI_pos (by omega)) ?_
      rw [sd_ch (n := 15 - m) (by omega)]
      refine ⟨sd_in (by omega), ?_⟩
      rw [sd_nd_s] at w
      by_cases z : c 12 (15 - m) = 0
      · rw [decide_eq_true z, if_neg (by decide)] at w
        exact br_t z (nm_r (sd_dx_s (by omega)) w)
      · rw [decide_eq_false z, if_pos (by decide)] at w
        exact br_f z (nm_r (sd_dx_s (by omega)) w)
  unfold wpY_next
  exact ⟨17, lp 16 0 17 (by decide) (by decide)⟩
/-! the component's sets for it -/
/-- left as bits -/
def sd_lf (c : sd_T) (L : Int32) : Prop := (∀ i, i < 16 → c 12 i = sd_b (bt L i)) ∧ (∀ i, 16 ≤ i → i < 32 → bt L i = false)
theorem sd_lf_z {c : sd_T} {L : Int32} (h : sd_lf c L) {i : Nat} (hi : i < 16) : (!decide (c 12 i = 0)) = bt L i := by
  rw [h.1 i hi]; cases bt L i <;> decide
theorem sd_hg_o {c : sd_T} {L : Int32} {s i : Nat} (h : sd_lf c L) (hi : i < 16) : (c 7 (3 * (16 * s + i) + 2) = -1 → sd_hg c s i true = false) ∧ (∀ l, l < 16 → c 7 (3 * (16 * s + i) + 2) = nI l → sd_hg c s i true = (bt L l && !decide (l = i))) := by
  have hv : ∀ q, q < 16 → sd_hh c s i true q = (bt L q && !decide (q = i) && decide (c 7 (3 * (16 * s + i) + 2) = nI q)) := by
    intro q hq
    unfold sd_hh
    rw [sd_lf_z h hq]; rfl
  have no : (∀ q, q < 16 → sd_hh c s i true q = false) → sd_hg c s i true = false := by
    intro w
    cases hb : sd_hg c s i true
    · rfl
    · obtain ⟨q, hq, e⟩ := sd_e_t.mp hb
      rw [w q hq] at e
      exact absurd e (by decide)
  refine ⟨fun e => no (fun q hq => ?_), fun l hl e => ?_⟩
  · rw [hv q hq, e, decide_eq_false (p := (-1 : Int32) = nI q) (fun w => sd_nm1 (a := q) (by omega) w.symm), Bool.and_false]
  · cases hb : (bt L l && !decide (l = i))
    · refine no (fun q hq => ?_)
      rw [hv q hq, e]
      by_cases w : q = l
      · rw [w, hb]; rfl
      · rw [decide_eq_false (p := nI l = nI q) (fun z => w ((nI_eq (by omega) (by omega)).mp z).symm), Bool.and_false]
    · refine sd_e_t.mpr ⟨l, hl, ?_⟩
      rw [hv l hl, hb, e, decide_eq_true (p := nI l = nI l) rfl]; rfl
/-- the set of those that are ready -/
theorem sd_Xrdy {c d : sd_T} {L : Int32} {s : Nat} (hs : s < 3) (h : sd_L c d) (hL : sd_lf c L) (hk : ∀ i, i < 16 → bt L i = true → c 6 (16 * s + i) = 2) : ∀ (m i : Nat) (x : Int32), i + m = 16 → (∀ j, j < 32 → bt x j = (decide (j < i) && sd_fe c s true j)) →
    ∃ x' : Int32, (∀ j, j < 32 → bt x' j = (decide (j < 16) && sd_fe c s true j)) ∧ ∀ (n : Nat) (post : Int32 → SX → Prop) (J2 : Int32 → Int32 → Int32 → Int32 → Int32 → Int32 → Int32 → Int32 → (Nat → Int32) → (Nat → Int32) → (Nat → Int32) → (Nat → Int32) → (Nat → Int32) → (Nat → Int32) → (Nat → Int32) → (Nat → Int32) → (Nat → Int32) → (Nat → Int32) → (Nat → Int32) → (Nat → Int32) → (Nat → Int32) → (Nat → Int32) → (Nat → Int32) → (Nat → Int32) → (Nat → Int32) → (Nat → Int32) → (Nat → Int32) → (Nat → Int32) → (Nat → Int32) → (Nat → Int32) → (Nat → Int32) → (Nat → Int32) → Prop), m < n →
      ((x' = 0 → wX_insertAll_89 post J2 (nI s) L x' L (d 0 0) (d 1 0) (d 2 0) (d 3 0) (d 4 0) (d 5 0) (d 6 0) (d 7) (d 8) (d 9) (d 10) (d 11) (d 12) (d 13) (d 14) (d 15) (d 16) (d 17) (d 18) (d 19) (d 20) (d 21) (d 22) (d 23) (d 24) (d 25) (d 26) (d 27) (d 28) (d 29) (d 30)) ∧ (¬ x' = 0 → wX_insertAll_89 post J2 (nI s) L x' x' (d 0 0) (d 1 0) (d 2 0) (d 3 0) (d 4 0) (d 5 0) (d 6 0) (d 7) (d 8) (d 9) (d 10) (d 11) (d 12) (d 13) (d 14) (d 15) (d 16) (d 17) (d 18) (d 19) (d 20) (d 21) (d 22) (d 23) (d 24) (d 25) (d 26) (d 27) (d 28) (d 29) (d 30))) → wX_insertAll_12 post J2 (nI s) L (d 0 0) (d 1 0) (d 2 0) (d 3 0) (d 4 0) (d 5 0) (d 6 0) (d 7) (d 8) (d 9) (d 10) (d 11) (d 12) (d 13) (d 14) (d 15) (d 16) (d 17) (d 18) (d 19) (d 20) (d 21) (d 22) (d 23) (d 24) (d 25) (d 26) (d 27) (d 28) (d 29) (d 30) n x (nI i) := by
  intro m
  induction m with
  | zero =>
    intro i x hi hx
    obtain rfl : i = 16 := by omega
    refine ⟨x, hx, fun n post J2 hn hp => ?_⟩
    obtain ⟨n', rfl⟩ : ∃ n', n = n' + 1 := ⟨n - 1, by omega⟩
    exact br_t (by decide) hp
  | succ m ih =>
    intro i x hi hx
    have hi16 : i < 16 := by omega
    have h16 : ¬ (16 : Int32) ≤ nI i := nI_ge (a := i) (b := 16) hi16 (by decide)
    have hin : vp_in (nI (16 * s + i)) 48 := sd_in (by omega)
    have ec : (nI (16 * s + i)).toNatClampNeg = 16 * s + i := sd_ch (by omega)
    have lt1 : ∀ j, ¬ j = i → decide (j < i + 1) = decide (j < i) := fun j hj => by rw [Bool.eq_iff_iff, decide_eq_true_eq, decide_eq_true_eq]; omega
    have fe : sd_fe c s true i = (bt L i && !sd_hg c s i true) := by unfold sd_fe; rw [sd_lf_z hL hi16]
    have no : sd_fe c s true i = false → ∃ x' : Int32, (∀ j, j < 32 → bt x' j = (decide (j < 16) && sd_fe c s true j)) ∧ ∀ (n : Nat) (post : Int32 → SX → Prop) (J2 : Int32 → Int32 → Int32 → Int32 → Int32 → Int32 → Int32 → Int32 → (Nat → Int32) → (Nat → Int32) → (Nat → Int32) → (Nat → Int32) → (Nat → Int32) → (Nat → Int32) → (Nat → Int32) → (Nat → Int32) → (Nat → Int32) → (Nat → Int32) → (Nat → Int32) → (Nat → Int32) → (Nat → Int32) → (Nat → Int32) → (Nat → Int32) → (Nat → Int32) → (Nat → Int32) → (Nat → Int32) → (Nat → Int32) → (Nat → Int32) → (Nat → Int32) → (Nat → Int32) → (Nat → Int32) → (Nat → Int32) → Prop), m < n →
        ((x' = 0 → wX_insertAll_89 post J2 (nI s) L x' L (d 0 0) (d 1 0) (d 2 0) (d 3 0) (d 4 0) (d 5 0) (d 6 0) (d 7) (d 8) (d 9) (d 10) (d 11) (d 12) (d 13) (d 14) (d 15) (d 16) (d 17) (d 18) (d 19) (d 20) (d 21) (d 22) (d 23) (d 24) (d 25) (d 26) (d 27) (d 28) (d 29) (d 30)) ∧ (¬ x' = 0 → wX_insertAll_89 post J2 (nI s) L x' x' (d 0 0) (d 1 0) (d 2 0) (d 3 0) (d 4 0) (d 5 0) (d 6 0) (d 7) (d 8) (d 9) (d 10) (d 11) (d 12) (d 13) (d 14) (d 15) (d 16) (d 17) (d 18) (d 19) (d 20) (d 21) (d 22) (d 23) (d 24) (d 25) (d 26) (d 27) (d 28) (d 29) (d 30))) → wX_insertAll_12 post J2 (nI s) L (d 0 0) (d 1 0) (d 2 0) (d 3 0) (d 4 0) (d 5 0) (d 6 0) (d 7) (d 8) (d 9) (d 10) (d 11) (d 12) (d 13) (d 14) (d 15) (d 16) (d 17) (d 18) (d 19) (d 20) (d 21) (d 22) (d 23) (d 24) (d 25) (d 26) (d 27) (d 28) (d 29) (d 30) n x (nI (i + 1)) := by
      intro e
      refine ih (i + 1) x (by omega) ?_
      intro j hj
      rw [hx j hj]
      by_cases w : j = i
      · rw [w, e, Bool.and_false, Bool.and_false]
      · rw [lt1 j w]
    have yes : sd_fe c s true i = true → ∃ x' : Int32, (∀ j, j < 32 → bt x' j = (decide (j < 16) && sd_fe c s true j)) ∧ ∀ (n : Nat) (post : Int32 → SX → Prop) (J2 : Int32 → Int32 → Int32 → Int32 → Int32 → Int32 → Int32 → Int32 → (Nat → Int32) → (Nat → Int32) → (Nat → Int32) → (Nat → Int32) → (Nat → Int32) → (Nat → Int32) → (Nat → Int32) → (Nat → Int32) → (Nat → Int32) → (Nat → Int32) → (Nat → Int32) → (Nat → Int32) → (Nat → Int32) → (Nat → Int32) → (Nat → Int32) → (Nat → Int32) → (Nat → Int32) → (Nat → Int32) → (Nat → Int32) → (Nat → Int32) → (Nat → Int32) → (Nat → Int32) → (Nat → Int32) → (Nat → Int32) → Prop), m < n →
        ((x' = 0 → wX_insertAll_89 post J2 (nI s) L x' L (d 0 0) (d 1 0) (d 2 0) (d 3 0) (d 4 0) (d 5 0) (d 6 0) (d 7) (d 8) (d 9) (d 10) (d 11) (d 12) (d 13) (d 14) (d 15) (d 16) (d 17) (d 18) (d 19) (d 20) (d 21) (d 22) (d 23) (d 24) (d 25) (d 26) (d 27) (d 28) (d 29) (d 30)) ∧ (¬ x' = 0 → wX_insertAll_89 post J2 (nI s) L x' x' (d 0 0) (d 1 0) (d 2 0) (d 3 0) (d 4 0) (d 5 0) (d 6 0) (d 7) (d 8) (d 9) (d 10) (d 11) (d 12) (d 13) (d 14) (d 15) (d 16) (d 17) (d 18) (d 19) (d 20) (d 21) (d 22) (d 23) (d 24) (d 25) (d 26) (d 27) (d 28) (d 29) (d 30))) → wX_insertAll_12 post J2 (nI s) L (d 0 0) (d 1 0) (d 2 0) (d 3 0) (d 4 0) (d 5 0) (d 6 0) (d 7) (d 8) (d 9) (d 10) (d 11) (d 12) (d 13) (d 14) (d 15) (d 16) (d 17) (d 18) (d 19) (d 20) (d 21) (d 22) (d 23) (d 24) (d 25) (d 26) (d 27) (d 28) (d 29) (d 30) n (x ||| ((1 : Int32) <<< (nI i &&& 31))) (nI (i + 1)) := by
      intro e
      refine ih (i + 1) _ (by omega) ?_
      intro j hj
      rw [sd_st _ (by omega) hj, hx j hj]
      by_cases w : j = i
      · rw [w, e, decide_eq_true (p := i = i) rfl, decide_eq_true (p := i < i + 1) (by omega)]; simp
      · rw [lt1 j w, decide_eq_false w, Bool.or_false]
    cases hb : bt L i
    · have e : sd_fe c s true i = false := by rw [fe, hb]; rfl
      obtain ⟨x', hx', w⟩ := no e
      refine ⟨x', hx', fun n post J2 hn hp => ?_⟩
      obtain ⟨n', rfl⟩ : ∃ n', n = n' + 1 := ⟨n - 1, by omega⟩
      refine br_f h16 ?_
      rw [sd_i16, ec]
      exact ⟨hin, nm_e (sd_Xh0 (by omega) hb (br_t rfl (nm_r (nI_1 i) (w n' post J2 (by omega) hp))))⟩
    · have k2 := hk i hi16 hb
      have hl : d 21 (16 * s + i) = c 7 (3 * (16 * s + i) + 2) := ((sd_va h (e := 16 * s + i) (by omega)).1 (by rw [k2]; decide) (by rw [k2]; decide)).2.2
      rcases (sd_elr h (e := 16 * s + i) (by omega)).1 with e | ⟨l, hl16, el⟩
      · have g := (sd_hg_o (s := s) hL hi16).1 e
        obtain ⟨x', hx', w⟩ := yes (by rw [fe, hb, g]; rfl)
        refine ⟨x', hx', fun n post J2 hn hp => ?_⟩
        obtain ⟨n', rfl⟩ : ∃ n', n = n' + 1 := ⟨n - 1, by omega⟩
        refine br_f h16 ?_
        rw [sd_i16, ec, hl, e]
        exact ⟨hin, nm_e (sd_Xh1 (by omega) hb (br_f (by decide) (br_t (by decide) (nm_e (nm_r (nI_1 i) (w n' post J2 (by omega) hp))))))⟩
      · have g := (sd_hg_o (s := s) hL hi16).2 l hl16 el
        have nl : ¬ nI l < 0 := nI_pos (by omega)
        by_cases li : l = i
        · obtain ⟨x', hx', w⟩ := yes (by rw [fe, hb, g, decide_eq_true li]; cases bt L l <;> rfl)
          refine ⟨x', hx', fun n post J2 hn hp => ?_⟩
          obtain ⟨n', rfl⟩ : ∃ n', n = n' + 1 := ⟨n - 1, by omega⟩
          refine br_f h16 ?_
          rw [sd_i16, ec, hl, el]
          exact ⟨hin, nm_e (sd_Xh1 (by omega) hb (br_f (by decide) (br_f nl (br_t (by rw [li]) (nm_e (nm_r (nI_1 i) (w n' post J2 (by omega) hp)))))))⟩
        · have nli : ¬ nI l = nI i := sd_ne li (by omega) (by omega)
          cases hbl : bt L l
          · obtain ⟨x', hx', w⟩ := yes (by rw [fe, hb, g, hbl]; rfl)
            refine ⟨x', hx', fun n post J2 hn hp => ?_⟩
            obtain ⟨n', rfl⟩ : ∃ n', n = n' + 1 := ⟨n - 1, by omega⟩
            refine br_f h16 ?_
            rw [sd_i16, ec, hl, el]
            exact ⟨hin, nm_e (sd_Xh1 (by omega) hb (br_f (by decide) (br_f nl (br_f nli (sd_Xh0 (by omega) hbl (br_t rfl (nm_e (nm_r (nI_1 i) (w n' post J2 (by omega) hp)))))))))⟩
          · obtain ⟨x', hx', w⟩ := no (by rw [fe, hb, g, hbl, decide_eq_false li]; rfl)
            refine ⟨x', hx', fun n post J2 hn hp => ?_⟩
            obtain ⟨n', rfl⟩ : ∃ n', n = n' + 1 := ⟨n - 1, by omega⟩
            refine br_f h16 ?_
            rw [sd_i16, ec, hl, el]
            exact ⟨hin, nm_e (sd_Xh1 (by omega) hb (br_f (by decide) (br_f nl (br_f nli (sd_Xh1 (by omega) hbl (br_f (by decide) (nm_r (nI_1 i) (w n' post J2 (by omega) hp))))))))⟩
end
section
/-! inserts -/
/-- the row is written as the entity is -/
def sd_ok (c : sd_T) (s i : Nat) : Prop := c 5 i = nI s ∧ c 4 (4 * (16 + i)) = c 7 (3 * (16 * s + i)) ∧ c 4 (4 * (16 + i) + 1) = c 7 (3 * (16 * s + i) + 1) ∧ c 4 (4 * (16 + i) + 2) = c 7 (3 * (16 * s + i) + 2)
/-- the insert loop -/
def sd_IL (c : sd_T) (s : Nat) (L : Int32) (n m : Nat) : Prop :=
  sd_lf c L ∧ (∀ i, i < 16 → bt L i = true → c 6 (16 * s + i) = 2) ∧ c 18 0 = nI n ∧ (∀ k, k < n → c 19 k = c 14 k ∧ ∃ r, r < 16 ∧ c 14 k = nI r ∧ c 6 (16 * s + r) = 2) ∧ c 0 0 = nI m ∧ n ≤ m ∧ m + sd_c (bt L) 16 ≤ 16 ∧
  (∀ i, i < 16 → c 6 (16 * s + i) = 2 → bt L i = false → sd_ok c s i ∨ ∃ k, k < n ∧ c 14 k = nI i)
def sd_fz (c c' : sd_T) : Prop := c' 6 = c 6 ∧ c' 7 = c 7 ∧ c' 8 = c 8 ∧ c' 9 = c 9 ∧ c' 13 = c 13
theorem sd_fz_t {a b c : sd_T} (h1 : sd_fz a b) (h2 : sd_fz b c) : sd_fz a c := ⟨h2.1.trans h1.1, h2.2.1.trans h1.2.1, h2.2.2.1.trans h1.2.2.1, h2.2.2.2.1.trans h1.2.2.2.1, h2.2.2.2.2.trans h1.2.2.2.2⟩
/-- the set without a row -/
def sd_wo (L : Int32) (r : Nat) : Int32 := L &&& (((1 : Int32) <<< (nI r &&& 31)) ^^^ (-1))
theorem sd_wo_b (L : Int32) {r i : Nat} (hr : r < 16) (hi : i < 32) : bt (sd_wo L r) i = (bt L i && !decide (i = r)) := sd_cl L (by omega) hi
theorem sd_wo_c {L : Int32} {r : Nat} (hr : r < 16) (hb : bt L r = true) : sd_c (bt L) 16 = sd_c (bt (sd_wo L r)) 16 + 1 := sd_c_out hr hb (fun i hi => sd_wo_b L hr (by omega))
theorem sd_wo_lf {c c' : sd_T} {L : Int32} {r : Nat} (hr : r < 16) (h : sd_lf c L) (e : c' 12 = upd (c 12) r 0) : sd_lf c' (sd_wo L r) := by
  refine ⟨fun i hi => ?_, fun i h16 hi => ?_⟩
  · rw [e, sd_wo_b L hr (by omega)]
    by_cases w : i = r
    · rw [w, pk_us, decide_eq_true (p := r = r) rfl]; cases bt L r <;> rfl
    · rw [pk_un w, decide_eq_false w, Bool.not_false, Bool.and_true]; exact h.1 i hi
  · rw [sd_wo_b L hr hi, h.2 i h16 hi]; rfl
/-- a row that was written stays so while another is written -/
theorem sd_ok_pt {c : sd_T} {s r i m w : Nat} {l v : Int32} (hi : ¬ i = r) (h : sd_ok c s i) : sd_ok (sd_no (sd_pt c s r l v) m w r) s i := by
  refine ⟨?_, ?_, ?_, ?_⟩
  · show upd (c 5) r (nI s) i = nI s
    rw [pk_un hi]; exact h.1
  · show sd_u4 _ _ _ _ _ _ _ = c 7 _
    rw [sd_u4_n (by omega)]; exact h.2.1
  · show sd_u4 _ _ _ _ _ _ _ = c 7 _
    rw [sd_u4_n (by omega)]; exact h.2.2.1
  · show sd_u4 _ _ _ _ _ _ _ = c 7 _
    rw [sd_u4_n (by omega)]; exact h.2.2.2
theorem sd_ok_us {c : sd_T} {s r m w : Nat} {v : Int32} : sd_ok (sd_no (sd_pt c s r (c 7 (3 * (16 * s + r) + 2)) v) m w r) s r := by
  refine ⟨pk_us, ?_, ?_, ?_⟩
  · show sd_u4 _ _ _ _ _ _ _ = c 7 _
    rw [sd_u4_0]
  · show sd_u4 _ _ _ _ _ _ _ = c 7 _
    rw [sd_u4_1]
  · show sd_u4 _ _ _ _ _ _ _ = c 7 _
    rw [sd_u4_2]
/-- what the reference has before the insert -/
def sd_cy (c : sd_T) (r n : Nat) (w : Bool) : sd_T := bif w then sd_s (sd_s c 12 (upd (c 12) r 0)) 14 (upd (c 14) n (nI r)) else sd_s c 12 (upd (c 12) r 0)
/-- the same with the ghosts -/
def sd_cw (c : sd_T) (r n : Nat) (w : Bool) : sd_T := bif w then sd_s (sd_s (sd_s (sd_s c 12 (upd (c 12) r 0)) 14 (upd (c 14) n (nI r))) 18 (fun _ => nI (n + 1))) 19 (upd (c 19) n (nI r)) else sd_s c 12 (upd (c 12) r 0)
/-- what a good insert leaves -/
def sd_in1 (c : sd_T) (s r n m : Nat) (w : Bool) : sd_T := sd_no (sd_pt (sd_cw c r n w) s r (bif w then -1 else c 7 (3 * (16 * s + r) + 2)) 0) m 0 r
theorem sd_IL_in {c : sd_T} {s r n m : Nat} {L : Int32} (w : Bool) (hr : r < 16) (hb : bt L r = true) (h : sd_IL c s L n m) : sd_IL (sd_in1 c s r n m w) s (sd_wo L r) (bif w then n + 1 else n) (m + 1) := by
  obtain ⟨hlf, hk, h18, h19, h0, hnm, hc, hok⟩ := h
  have hco := sd_wo_c hr hb
  have k2 := hk r hr hb
  have hkk : ∀ i, i < 16 → bt (sd_wo L r) i = true → c 6 (16 * s + i) = 2 := by
    intro i hi q
    rw [sd_wo_b L hr (by omega), Bool.and_eq_true] at q
    exact hk i hi q.1
  have hoi : ∀ i, i < 16 → ¬ i = r → bt (sd_wo L r) i = false → bt L i = false := by
    intro i hi q z
    rw [sd_wo_b L hr (by omega), decide_eq_false q, Bool.not_false, Bool.and_true] at z
    exact z
  cases w
  · refine ⟨sd_wo_lf hr hlf rfl, hkk, h18, h19, rfl, by show n ≤ m + 1; omega, by omega, ?_⟩
    intro i hi q z
    by_cases e : i = r
    · left; rw [e]; exact sd_ok_us (c := sd_s c 12 (upd (c 12) r 0))
    · rcases hok i hi q (hoi i hi e z) with a | a
      · exact Or.inl (sd_ok_pt (c := sd_s c 12 (upd (c 12) r 0)) e a)
      · exact Or.inr a
  · refine ⟨sd_wo_lf hr hlf rfl, hkk, rfl, ?_, rfl, by show n + 1 ≤ m + 1; omega, by omega, ?_⟩
    · intro k hk'
      show upd (c 19) n (nI r) k = upd (c 14) n (nI r) k ∧ ∃ r', r' < 16 ∧ upd (c 14) n (nI r) k = nI r' ∧ c 6 (16 * s + r') = 2
      by_cases e : k = n
      · rw [e, pk_us, pk_us]; exact ⟨rfl, r, hr, rfl, k2⟩
      · have hk2 : k < n + 1 := hk'
        rw [pk_un e, pk_un e]; exact h19 k (by omega)
    · intro i hi q z
      show _ ∨ ∃ k, k < n + 1 ∧ upd (c 14) n (nI r) k = nI i
      by_cases e : i = r
      · right; exact ⟨n, by omega, by rw [pk_us, e]⟩
      · rcases hok i hi q (hoi i hi e z) with a | ⟨k, hk1, hk2⟩
        · exact Or.inl (sd_ok_pt (c := sd_s (sd_s (sd_s (sd_s c 12 (upd (c 12) r 0)) 14 (upd (c 14) n (nI r))) 18 (fun _ => nI (n + 1))) 19 (upd (c 19) n (nI r))) e a)
        · exact Or.inr ⟨k, by omega, by rw [pk_un (by omega)]; exact hk2⟩
/-- insert, on the reference's side -/
theorem sd_Yin {post : Int32 → SY → Prop} {c d : sd_T} {s r m : Nat} (w : Bool) (hs : s < 3) (hr : r < 16) (hm : m < 48) (e0 : c 0 0 = nI m) (h : sd_L c d) (p6 : sd_bu (c 5) s r = true → post (-6) (sd_y c)) (p5 : sd_bu (c 5) s r = false → c 2 (sd_sg (c 5) s r) = 1 → post (-5) (sd_y c))
    (p0 : sd_bu (c 5) s r = false → c 2 (sd_sg (c 5) s r) = 0 → post 0 (sd_y (sd_no (sd_pt c s r (bif w then -1 else c 7 (3 * (16 * s + r) + 2)) 0) m 0 r))) : wpY_insert post (sd_y c) (nI s) (nI r) (sd_b w) := by
  unfold wpY_insert
  cases hb : sd_bu (c 5) s r
  · refine sd_Yb0 (c := c) hs hr h hb (fun z => br_f (by decide) (p5 hb z)) (fun z => br_t rfl (sd_Ypt (c := sd_lk c s r) hs hr ?_))
    have q := p0 hb z
    cases w
    · refine br_t rfl ?_
      unfold wY_insert_43
      exact sd_Yno (c := sd_pt c s r (c 7 (3 * (16 * s + r) + 2)) 0) (w := 0) hm (by decide) e0 q
    · refine br_f (by decide) ?_
      rw [sd_p16, sd_m4, sd_a2, sd_ch (n := 4 * (16 + r) + 2) (by omega)]
      refine ⟨sd_in (by omega), nm_r (e' := sd_u4 (c 4) (4 * (16 + r)) (c 7 (3 * (16 * s + r))) (c 7 (3 * (16 * s + r) + 1)) (-1) 0) sd_u4_u ?_⟩
      unfold wY_insert_43
      exact sd_Yno (c := sd_pt c s r (-1) 0) (w := 0) hm (by decide) e0 q
  · exact sd_Yb6 (c := c) hr h hb (br_f (by decide) (p6 hb))
theorem sd_cy_L {c d : sd_T} {r n : Nat} (w : Bool) (h : sd_L c d) : sd_L (sd_cy c r n w) d := by cases w <;> exact h
theorem sd_cy_fz {c : sd_T} {r n : Nat} (w : Bool) : sd_fz c (sd_cy c r n w) := by cases w <;> exact ⟨rfl, rfl, rfl, rfl, rfl⟩
theorem sd_cy_o {c : sd_T} {r n : Nat} (w : Bool) : sd_cy c r n w 5 = c 5 ∧ sd_cy c r n w 2 = c 2 ∧ sd_cy c r n w 0 = c 0 ∧ sd_cy c r n w 7 = c 7 := by cases w <;> exact ⟨rfl, rfl, rfl, rfl⟩
/-- one insert, on both sides -/
theorem sd_ins {c d : sd_T} {s r n m : Nat} {L : Int32} (hs : s < 3) (hr : r < 16) (hb : bt L r = true) (h : sd_L c d) (hI : sd_IL c s L n m) : ∃ (a : Int32) (cA dA : sd_T), sd_L cA dA ∧ sd_fz c cA ∧ (a = 0 → sd_IL cA s (sd_wo L r) (bif sd_hg c s r true then n + 1 else n) (m + 1)) ∧
    (∀ (post : Int32 → SX → Prop) (J2 : Int32 → Int32 → Int32 → Int32 → Int32 → Int32 → Int32 → Int32 → (Nat → Int32) → (Nat → Int32) → (Nat → Int32) → (Nat → Int32) → (Nat → Int32) → (Nat → Int32) → (Nat → Int32) → (Nat → Int32) → (Nat → Int32) → (Nat → Int32) → (Nat → Int32) → (Nat → Int32) → (Nat → Int32) → (Nat → Int32) → (Nat → Int32) → (Nat → Int32) → (Nat → Int32) → (Nat → Int32) → (Nat → Int32) → (Nat → Int32) → (Nat → Int32) → (Nat → Int32) → (Nat → Int32) → (Nat → Int32) → Prop) (x4 z0 : Int32), (sd_hg c s r true = true → x4 = 0) → (sd_hg c s r true = false → ¬ x4 = 0) → bt z0 r = true → (∀ i, i < r → bt z0 i = false) →
      (a = 0 → J2 (sd_wo L r) (dA 0 0) (dA 1 0) (dA 2 0) (dA 3 0) (dA 4 0) (dA 5 0) (dA 6 0) (dA 7) (dA 8) (dA 9) (dA 10) (dA 11) (dA 12) (dA 13) (dA 14) (dA 15) (dA 16) (dA 17) (dA 18) (dA 19) (dA 20) (dA 21) (dA 22) (dA 23) (dA 24) (dA 25) (dA 26) (dA 27) (dA 28) (dA 29) (dA 30)) → (¬ a = 0 → post a (sd_x dA)) → wX_insertAll_89 post J2 (nI s) L x4 z0 (d 0 0) (d 1 0) (d 2 0) (d 3 0) (d 4 0) (d 5 0) (d 6 0) (d 7) (d 8) (d 9) (d 10) (d 11) (d 12) (d 13) (d 14) (d 15) (d 16) (d 17) (d 18) (d 19) (d 20) (d 21) (d 22) (d 23) (d 24) (d 25) (d 26) (d 27) (d 28) (d 29) (d 30)) ∧
    (∀ post : Int32 → SY → Prop, post a (sd_y cA) → wpY_insert post (sd_y (sd_cy c r n (sd_hg c s r true))) (nI s) (nI r) (sd_b (sd_hg c s r true))) := by
  obtain ⟨hlf, hk, h18, h19, h0, hnm, hc, hok⟩ := hI
  have k2 := hk r hr hb
  have hco := sd_wo_c hr hb
  have hn16 : n < 16 := by omega
  have e5 : d 5 0 = nI n := h.2.2.2.2.2.2.2.2.2.2.2.1.trans h18
  have e28 : d 28 = c 19 := h.2.2.2.2.2.2.2.2.2.2.2.2
  have hcy := sd_cy_L (r := r) (n := n) (sd_hg c s r true) h
  obtain ⟨o5, o2, o0, o7⟩ := sd_cy_o (c := c) (r := r) (n := n) (sd_hg c s r true)
  have least : ∀ (z0 : Int32) (post : Int32 → Prop), bt z0 r = true → (∀ i, i < r → bt z0 i = false) → post (nI r) → wpX_least post z0 := fun z0 post z1 z2 q => sd_Xleast (l := r) (by omega) z1 z2 q
  cases hbu : sd_bu (c 5) s r
  · rcases sd_th01 h (q := sd_sg (c 5) s r) (sd_sg_lt hr) with z | z
    · -- it is inserted
      have hcw : ∃ dw, sd_L (sd_cw c r n (sd_hg c s r true)) dw ∧ ∀ (post : Int32 → SX → Prop) (J2 : Int32 → Int32 → Int32 → Int32 → Int32 → Int32 → Int32 → Int32 → (Nat → Int32) → (Nat → Int32) → (Nat → Int32) → (Nat → Int32) → (Nat → Int32) → (Nat → Int32) → (Nat → Int32) → (Nat → Int32) → (Nat → Int32) → (Nat → Int32) → (Nat → Int32) → (Nat → Int32) → (Nat → Int32) → (Nat → Int32) → (Nat → Int32) → (Nat → Int32) → (Nat → Int32) → (Nat → Int32) → (Nat → Int32) → (Nat → Int32) → (Nat → Int32) → (Nat → Int32) → (Nat → Int32) → (Nat → Int32) → Prop) (x4 : Int32), (sd_hg c s r true = true → x4 = 0) → (sd_hg c s r true = false → ¬ x4 = 0) →
          wX_insertAll_176 post J2 (nI s) L (nI r) (bif sd_hg c s r true then -1 else c 7 (3 * (16 * s + r) + 2)) (nI (16 * s + r)) (nI r) (nI s) (dw 0 0) (dw 1 0) (dw 2 0) (dw 3 0) (dw 4 0) (dw 5 0) (dw 6 0) (dw 7) (dw 8) (dw 9) (dw 10) (dw 11) (dw 12) (dw 13) (dw 14) (dw 15) (dw 16) (dw 17) (dw 18) (dw 19) (dw 20) (dw 21) (dw 22) (dw 23) (dw 24) (dw 25) (dw 26) (dw 27) (dw 28) (dw 29) (dw 30) →
          ((x4 = 0 → (∀ f_late_139 : Int32, f_late_139 = d 5 0 + 1 → (vp_in (d 5 0) 16 ∧ ∀ a_later_141 : Nat → Int32, a_later_141 = upd (d 28) (d 5 0).toNatClampNeg (vp_nar .byte (nI r).toInt8.toInt32) → (wX_insertAll_144 post J2 (nI s) L x4 (nI r) (d 0 0) (d 1 0) (d 2 0) (d 3 0) (d 4 0) f_late_139 (d 6 0) (d 7) (d 8) (d 9) (d 10) (d 11) (d 12) (d 13) (d 14) (d 15) (d 16) (d 17) (d 18) (d 19) (d 20) (d 21) (d 22) (d 23) (d 24) (d 25) (d 26) (d 27) a_later_141 (d 29) (d 30))))) ∧ (¬ x4 = 0 → (wX_insertAll_144 post J2 (nI s) L x4 (nI r) (d 0 0) (d 1 0) (d 2 0) (d 3 0) (d 4 0) (d 5 0) (d 6 0) (d 7) (d 8) (d 9) (d 10) (d 11) (d 12) (d 13) (d 14) (d 15) (d 16) (d 17) (d 18) (d 19) (d 20) (d 21) (d 22) (d 23) (d 24) (d 25) (d 26) (d 27) (d 28) (d 29) (d 30)))) := by
        have v2 := ((sd_va h (e := 16 * s + r) (by omega)).1 (by rw [k2]; decide) (by rw [k2]; decide)).2.2
        cases hg : sd_hg c s r true
        · refine ⟨d, h, fun post J2 x4 x1 x0 q => br_f (x0 rfl) ?_⟩
          unfold wX_insertAll_144
          rw [sd_i16, sd_ch (n := 16 * s + r) (by omega), v2]
          exact br_f (x0 rfl) ⟨sd_in (by omega), q⟩
        · refine ⟨sd_s (sd_s d 5 (fun _ => nI (n + 1))) 28 (upd (d 28) n (nI r)), ⟨h.1, h.2.1, h.2.2.1, h.2.2.2.1, h.2.2.2.2.1, h.2.2.2.2.2.1, h.2.2.2.2.2.2.1, h.2.2.2.2.2.2.2.1, h.2.2.2.2.2.2.2.2.1, h.2.2.2.2.2.2.2.2.2.1, h.2.2.2.2.2.2.2.2.2.2.1, rfl, ?_⟩, fun post J2 x4 x1 x0 q => br_t (x1 rfl) ?_⟩
          · show upd (d 28) n (nI r) = upd (c 19) n (nI r)
            rw [e28]
          · rw [e5, sd_ch (n := n) (by omega), sd_lrs (sd_lrI hr)]
            refine nm_r (nI_1 n) ⟨sd_in hn16, nm_e ?_⟩
            unfold wX_insertAll_144
            rw [sd_i16]
            exact br_t (x1 rfl) q
      obtain ⟨dw, hw, ww⟩ := hcw
      have w7 : sd_cw c r n (sd_hg c s r true) 7 = c 7 := by cases sd_hg c s r true <;> rfl
      have w6 : sd_cw c r n (sd_hg c s r true) 6 = c 6 := by cases sd_hg c s r true <;> rfl
      have w5 : sd_cw c r n (sd_hg c s r true) 5 = c 5 := by cases sd_hg c s r true <;> rfl
      have w0 : sd_cw c r n (sd_hg c s r true) 0 = c 0 := by cases sd_hg c s r true <;> rfl
      have hl : sd_lr (bif sd_hg c s r true then -1 else c 7 (3 * (16 * s + r) + 2)) := by
        cases sd_hg c s r true
        · exact (sd_elr h (e := 16 * s + r) (by omega)).1
        · exact sd_lr1
      obtain ⟨d1, h1, w1⟩ := sd_Xpt (v := 0) hs hr hw (by rw [w5]; exact hbu) (by rw [w6, k2]; decide) (by rw [w6, k2]; decide) hl
      obtain ⟨d2, h2, w2⟩ := sd_Xno (m := m) (w := 0) (r := r) (by omega) (by decide) hr (by show sd_cw c r n (sd_hg c s r true) 0 0 = nI m; rw [w0]; exact h0) h1
      refine ⟨0, sd_in1 c s r n m (sd_hg c s r true), d2, h2, ?_, fun _ => sd_IL_in _ hr hb ⟨hlf, hk, h18, h19, h0, hnm, hc, hok⟩, fun post J2 x4 z0 x1 x0 z1 z2 pJ pp => ?_, fun post hp => ?_⟩
      · cases hg : sd_hg c s r true <;> exact ⟨rfl, rfl, rfl, rfl, rfl⟩
      · unfold wX_insertAll_89
        refine least z0 _ z1 z2 (sd_Xbu (d := d) hs hr h.1 ?_)
        rw [hbu]
        refine br_t rfl (sd_Xseen (d := d) hs hr h.1 (br_t z ?_))
        refine ww post J2 x4 x1 x0 ?_
        unfold wX_insertAll_176
        exact w1 _ (w2 _ (nm_e (pJ rfl)))
      · refine sd_Yin _ hs hr (by omega : m < 48) (by rw [o0]; exact h0) hcy (fun q => by rw [o5, hbu] at q; exact absurd q (by decide)) (fun _ q => by rw [o5, o2, z] at q; exact absurd q (by decide)) (fun _ _ => ?_)
        rw [o7]
        unfold sd_in1 at hp
        cases hg : sd_hg c s r true
        · rw [hg] at hp; exact hp
        · rw [hg] at hp; exact hp
    · -- it is there
      refine ⟨-5, sd_cy c r n (sd_hg c s r true), d, hcy, sd_cy_fz _, fun q => absurd q (by decide), fun post J2 x4 z0 x1 x0 z1 z2 pJ pp => ?_, fun post hp => ?_⟩
      · unfold wX_insertAll_89
        refine least z0 _ z1 z2 (sd_Xbu (d := d) hs hr h.1 ?_)
        rw [hbu]
        exact br_t rfl (sd_Xseen (d := d) hs hr h.1 (br_f (by rw [z]; decide) (pp (by decide))))
      · exact sd_Yin _ hs hr (by omega : m < 48) (by rw [o0]; exact h0) hcy (fun q => by rw [o5, hbu] at q; exact absurd q (by decide)) (fun _ _ => hp) (fun _ q => by rw [o5, o2, z] at q; exact absurd q (by decide))
  · -- it is locked
    refine ⟨-6, sd_cy c r n (sd_hg c s r true), d, hcy, sd_cy_fz _, fun q => absurd q (by decide), fun post J2 x4 z0 x1 x0 z1 z2 pJ pp => ?_, fun post hp => ?_⟩
    · unfold wX_insertAll_89
      refine least z0 _ z1 z2 (sd_Xbu (d := d) hs hr h.1 ?_)
      rw [hbu]
      exact br_f (by decide) (pp (by decide))
    · exact sd_Yin _ hs hr (by omega : m < 48) (by rw [o0]; exact h0) hcy (fun _ => hp) (fun q => by rw [o5, hbu] at q; exact absurd q (by decide)) (fun q => by rw [o5, hbu] at q; exact absurd q (by decide))
/-- all inserts, on both sides -/
theorem sd_inl {s : Nat} (hs : s < 3) : ∀ (q : Nat) (c d : sd_T) (L : Int32) (n m : Nat), sd_L c d → sd_IL c s L n m → sd_c (bt L) 16 ≤ q →
    ∃ (a : Int32) (c' d' : sd_T) (n' m' : Nat), sd_L c' d' ∧ sd_fz c c' ∧ (a = 0 → sd_IL c' s 0 n' m') ∧
    (∀ (N : Nat) (post : Int32 → SX → Prop), q < N → post a (sd_x d') → wX_insertAll_2 post (nI s) N L (d 0 0) (d 1 0) (d 2 0) (d 3 0) (d 4 0) (d 5 0) (d 6 0) (d 7) (d 8) (d 9) (d 10) (d 11) (d 12) (d 13) (d 14) (d 15) (d 16) (d 17) (d 18) (d 19) (d 20) (d 21) (d 22) (d 23) (d 24) (d 25) (d 26) (d 27) (d 28) (d 29) (d 30)) ∧
    (∀ (N : Nat) (post : Int32 → SY → Prop), q < N → (∃ n141 : Nat, wY_inserts_141 post (nI s) (nI n') n141 a 0 (c' 0 0) (c' 1 0) (c' 2) (c' 3) (c' 4) (c' 5) (c' 6) (c' 7) (c' 8) (c' 9) (c' 10) (c' 11) (c' 12) (c' 13) (c' 14) (c' 15) (c' 16) (c' 17)) → wY_inserts_74 post (nI s) N 0 (nI n) (sd_nx c s true) (c 0 0) (c 1 0) (c 2) (c 3) (c 4) (c 5) (c 6) (c 7) (c 8) (c 9) (c 10) (c 11) (c 12) (c 13) (c 14) (c 15) (c 16) (c 17)) := by
  intro q
  have stop : ∀ (q : Nat) (c d : sd_T) (L : Int32) (n m : Nat), sd_L c d → sd_IL c s L n m → (∀ i, i < 16 → bt L i = false) → ∃ (a : Int32) (c' d' : sd_T) (n' m' : Nat), sd_L c' d' ∧ sd_fz c c' ∧ (a = 0 → sd_IL c' s 0 n' m') ∧
      (∀ (N : Nat) (post : Int32 → SX → Prop), q < N → post a (sd_x d') → wX_insertAll_2 post (nI s) N L (d 0 0) (d 1 0) (d 2 0) (d 3 0) (d 4 0) (d 5 0) (d 6 0) (d 7) (d 8) (d 9) (d 10) (d 11) (d 12) (d 13) (d 14) (d 15) (d 16) (d 17) (d 18) (d 19) (d 20) (d 21) (d 22) (d 23) (d 24) (d 25) (d 26) (d 27) (d 28) (d 29) (d 30)) ∧
      (∀ (N : Nat) (post : Int32 → SY → Prop), q < N → (∃ n141 : Nat, wY_inserts_141 post (nI s) (nI n') n141 a 0 (c' 0 0) (c' 1 0) (c' 2) (c' 3) (c' 4) (c' 5) (c' 6) (c' 7) (c' 8) (c' 9) (c' 10) (c' 11) (c' 12) (c' 13) (c' 14) (c' 15) (c' 16) (c' 17)) → wY_inserts_74 post (nI s) N 0 (nI n) (sd_nx c s true) (c 0 0) (c 1 0) (c 2) (c 3) (c 4) (c 5) (c 6) (c 7) (c 8) (c 9) (c 10) (c 11) (c 12) (c 13) (c 14) (c 15) (c 16) (c 17)) := by
    intro q c d L n m h hI hz
    have e0 : L = 0 := sd_z (fun i hi => by
      by_cases w : i < 16
      · exact hz i w
      · exact hI.1.2 i (by omega) hi)
    subst e0
    have lz : ∀ i, i < 16 → (!decide (c 12 i = 0)) = false := fun i hi => by rw [sd_lf_z hI.1 hi]; exact hz i hi
    have nx : sd_nx c s true = -1 := by
      unfold sd_nx
      rw [sd_l_n (p := sd_fe c s true) (fun i hi => by unfold sd_fe; rw [lz i hi]; rfl), if_neg (by decide)]
      exact sd_nd_n 16 (by decide) (fun i _ hi => lz i hi)
    refine ⟨0, c, d, n, m, h, ⟨rfl, rfl, rfl, rfl, rfl⟩, fun _ => hI, fun N post hN hp => ?_, fun N post hN hp => ?_⟩
    · obtain ⟨n', rfl⟩ : ∃ n', N = n' + 1 := ⟨N - 1, by omega⟩
      exact br_t rfl hp
    · obtain ⟨n', rfl⟩ : ∃ n', N = n' + 1 := ⟨N - 1, by omega⟩
      rw [nx]
      exact br_t (by decide) hp
  induction q with
  | zero =>
    intro c d L n m h hI hq
    exact stop 0 c d L n m h hI (sd_c_0 (Nat.le_zero.mp hq))
  | succ q ih =>
    intro c d L n m h hI hq
    by_cases hz : ∀ i, i < 16 → bt L i = false
    · exact stop (q + 1) c d L n m h hI hz
    · obtain ⟨rdy, hrdy, wr⟩ := sd_Xrdy hs h hI.1 hI.2.1 16 0 0 (by decide) (fun j _ => by rw [b_0, decide_eq_false (by omega)]; rfl)
      have hnz : ¬ L = 0 := by
        intro e
        apply hz
        intro i hi
        rw [e, b_0]
      -- the row, with what both sides know of it
      have row : ∃ r, r < 16 ∧ bt L r = true ∧ sd_nx c s true = nI r ∧ (sd_hg c s r true = true → rdy = 0) ∧ (sd_hg c s r true = false → ¬ rdy = 0) ∧ (rdy = 0 → ∀ i, i < r → bt L i = false) ∧ (¬ rdy = 0 → bt rdy r = true ∧ ∀ i, i < r → bt rdy i = false) := by
        by_cases hf : sd_l (sd_fe c s true) 16 < 16
        · have ht := sd_l_t _ 16 hf
          have hl := fun i hi => sd_l_f (sd_fe c s true) 16 i hi
          have enx : sd_nx c s true = nI (sd_l (sd_fe c s true) 16) := if_pos hf
          revert hf ht hl enx
          generalize sd_l (sd_fe c s true) 16 = r
          intro hf ht hl enx
          have hbr : bt rdy r = true := by rw [hrdy r (by omega), decide_eq_true hf, ht]; rfl
          have ht2 := ht
          unfold sd_fe at ht2
          rw [Bool.and_eq_true, Bool.not_eq_true', Bool.not_eq_true'] at ht2
          refine ⟨r, hf, ?_, enx, fun w => by rw [ht2.2] at w; exact absurd w (by decide), fun _ => sd_nz hbr, fun w => absurd w (sd_nz hbr), fun _ => ⟨hbr, fun i hi => ?_⟩⟩
          · rw [← sd_lf_z hI.1 hf, ht2.1]; rfl
          · rw [hrdy i (by omega), hl i hi, Bool.and_false]
        · have hall : ∀ i, i < 16 → sd_fe c s true i = false := by
            have le := sd_l_le (sd_fe c s true) 16
            exact fun i hi => sd_l_f (sd_fe c s true) 16 i (by omega)
          have r0 : rdy = 0 := sd_z (fun i hi => by
            rw [hrdy i hi]
            by_cases w : i < 16
            · rw [hall i w, Bool.and_false]
            · rw [decide_eq_false w]; rfl)
          have hkl : sd_l (bt L) 16 < 16 := by
            rcases Nat.lt_or_ge (sd_l (bt L) 16) 16 with w | w
            · exact w
            · exact absurd (fun i hi => sd_l_f (bt L) 16 i (by omega)) hz
          have ht := sd_l_t (bt L) 16 hkl
          have hl := fun i hi => sd_l_f (bt L) 16 i hi
          revert hkl ht hl
          generalize sd_l (bt L) 16 = r
          intro hr ht hl
          refine ⟨r, hr, ht, ?_, fun _ => r0, fun w => ?_, fun _ => hl, fun w => absurd r0 w⟩
          · unfold sd_nx
            rw [if_neg hf]
            exact sd_nd_l hr (by rw [sd_lf_z hI.1 hr]; exact ht) 16 (by decide) (by omega) (fun i _ hi => by rw [sd_lf_z hI.1 (by omega)]; exact hl i hi)
          · have a := hall r hr
            unfold sd_fe at a
            rw [sd_lf_z hI.1 hr, ht, w] at a
            exact absurd a (by decide)
      obtain ⟨r, hr, hb, enx, g1, g0, z0, z1⟩ := row
      obtain ⟨a, cA, dA, hA, hfz, hIA, wx, wy⟩ := sd_ins hs hr hb h hI
      have hco := sd_wo_c hr hb
      have hn16 : n < 16 := by have := hI.2.2.2.2.2.1; have := hI.2.2.2.2.2.2.1; omega
      -- the reference up to the insert
      have hY : ∀ (N : Nat) (post : Int32 → SY → Prop), wY_inserts_117 post (wY_inserts_74 post (nI s) N) (nI s) (nI (bif sd_hg c s r true then n + 1 else n)) (nI r) (sd_b (sd_hg c s r true)) ((sd_cy c r n (sd_hg c s r true)) 0 0) ((sd_cy c r n (sd_hg c s r true)) 1 0) ((sd_cy c r n (sd_hg c s r true)) 2) ((sd_cy c r n (sd_hg c s r true)) 3) ((sd_cy c r n (sd_hg c s r true)) 4) ((sd_cy c r n (sd_hg c s r true)) 5) ((sd_cy c r n (sd_hg c s r true)) 6) ((sd_cy c r n (sd_hg c s r true)) 7) ((sd_cy c r n (sd_hg c s r true)) 8) ((sd_cy c r n (sd_hg c s r true)) 9) ((sd_cy c r n (sd_hg c s r true)) 10) ((sd_cy c r n (sd_hg c s r true)) 11) ((sd_cy c r n (sd_hg c s r true)) 12) ((sd_cy c r n (sd_hg c s r true)) 13) ((sd_cy c r n (sd_hg c s r true)) 14) ((sd_cy c r n (sd_hg c s r true)) 15) ((sd_cy c r n (sd_hg c s r true)) 16) ((sd_cy c r n (sd_hg c s r true)) 17) → wY_inserts_74 post (nI s) (N + 1) 0 (nI n) (nI r) (c 0 0) (c 1 0) (c 2) (c 3) (c 4) (c 5) (c 6) (c 7) (c 8) (c 9) (c 10) (c 11) (c 12) (c 13) (c 14) (c 15) (c 16) (c 17) := by
        intro N post p
        refine br_f (nI_pos (by omega)) (br_t rfl (sd_Yhg (c := c) (out := true) hs hr ?_))
        rw [sd_ch (n := r) (by omega), sd_nb0]
        refine ⟨sd_in hr, nm_e ?_⟩
        cases hg : sd_hg c s r true
        · rw [hg] at p
          exact br_t rfl p
        · rw [hg] at p
          rw [sd_ch (n := n) (by omega)]
          exact br_f (by decide) (nm_r (nI_1 n) ⟨sd_in hn16, nm_e p⟩)
      by_cases a0 : a = 0
      · subst a0
        obtain ⟨a', c', d', n', m', h', hfz', hI', wx', wy'⟩ := ih cA dA (sd_wo L r) _ _ hA (hIA rfl) (by omega)
        refine ⟨a', c', d', n', m', h', sd_fz_t hfz hfz', hI', fun N post hN hp => ?_, fun N post hN hp => ?_⟩
        · obtain ⟨N', rfl⟩ : ∃ N', N = N' + 1 := ⟨N - 1, by omega⟩
          refine br_f hnz ⟨17, wr 17 post _ (by decide) (br_c (fun e => ?_) (fun e => ?_))⟩
          · exact wx post _ rdy L g1 g0 hb (z0 e) (fun _ => wx' N' post (by omega) hp) (fun w => absurd rfl w)
          · exact wx post _ rdy rdy g1 g0 (z1 e).1 (z1 e).2 (fun _ => wx' N' post (by omega) hp) (fun w => absurd rfl w)
        · obtain ⟨N', rfl⟩ : ∃ N', N = N' + 1 := ⟨N - 1, by omega⟩
          rw [enx]
          refine hY N' post ?_
          unfold wY_inserts_117
          exact wy _ (sd_Ynx (c := cA) (out := true) hs (wy' N' post (by omega) hp))
      · refine ⟨a, cA, dA, (bif sd_hg c s r true then n + 1 else n), m, hA, hfz, fun w => absurd w a0, fun N post hN hp => ?_, fun N post hN hp => ?_⟩
        · obtain ⟨N', rfl⟩ : ∃ N', N = N' + 1 := ⟨N - 1, by omega⟩
          refine br_f hnz ⟨17, wr 17 post _ (by decide) (br_c (fun e => ?_) (fun e => ?_))⟩
          · exact wx post _ rdy L g1 g0 hb (z0 e) (fun w => absurd w a0) (fun _ => hp)
          · exact wx post _ rdy rdy g1 g0 (z1 e).1 (z1 e).2 (fun w => absurd w a0) (fun _ => hp)
        · obtain ⟨N', rfl⟩ : ∃ N', N = N' + 2 := ⟨N - 2, by omega⟩
          rw [enx]
          refine hY (N' + 1) post ?_
          unfold wY_inserts_117
          refine wy _ (sd_Ynx (c := cA) (out := true) hs ?_)
          exact br_c (fun _ => hp) (fun _ => br_f a0 hp)
end
section
/-! updates of the changed and of the late ones -/
/-- dirty, as it stays through a flush -/
def sd_D (c : sd_T) (s i : Nat) : Bool := sd_dy (c 6) (c 7) (c 8) (16 * s + i)
theorem sd_D_fz {c c' : sd_T} (h : sd_fz c c') (s i : Nat) : sd_D c' s i = sd_D c s i := by unfold sd_D; rw [h.1, h.2.1, h.2.2.1]
/-- the update loops: late ones from k on are still owed, changed ones from r on -/
def sd_IU (c : sd_T) (s n k r m : Nat) : Prop :=
  c 18 0 = nI n ∧ (∀ j, j < n → c 19 j = c 14 j ∧ ∃ q, q < 16 ∧ c 14 j = nI q ∧ c 6 (16 * s + q) = 2) ∧ c 0 0 = nI m ∧ n ≤ 16 ∧ m ≤ 16 + sd_c (sd_D c s) r + k ∧
  (∀ i, i < 16 → c 6 (16 * s + i) = 2 → sd_ok c s i ∨ ∃ j, k ≤ j ∧ j < n ∧ c 14 j = nI i) ∧ (∀ i, i < r → sd_D c s i = true → sd_ok c s i)
theorem sd_up_fz (c : sd_T) (s r m : Nat) (v : Int32) : sd_fz c (sd_up c s r m v) := ⟨rfl, rfl, rfl, rfl, rfl⟩
theorem sd_ok_up {c : sd_T} {s r i m : Nat} {v : Int32} (h : sd_ok c s i ∨ i = r) : sd_ok (sd_up c s r m v) s i := by
  by_cases e : i = r
  · rw [e]; exact sd_ok_us
  · exact sd_ok_pt e (h.resolve_right e)
theorem sd_ul {s n : Nat} {x2 : Int32} (hs : s < 3) : ∀ (t r : Nat) (c d : sd_T) (m : Nat), r + t = 16 → sd_L c d → sd_IU c s n 0 r m → (∀ i, i < 16 → bt x2 i = sd_D c s i) → (∀ i, i < 16 → c 13 i = sd_b (sd_D c s i)) →
    ∃ (a : Int32) (c' d' : sd_T) (m' : Nat), sd_L c' d' ∧ sd_fz c c' ∧ (a = 0 → sd_IU c' s n 0 16 m') ∧
    (∀ (N : Nat) (post : Int32 → SX → Prop), t < N → (a = 0 → ∃ n54 : Nat, wX_updateAll_54 post (nI s) n54 0 (d' 0 0) (d' 1 0) (d' 2 0) (d' 3 0) (d' 4 0) (d' 5 0) (d' 6 0) (d' 7) (d' 8) (d' 9) (d' 10) (d' 11) (d' 12) (d' 13) (d' 14) (d' 15) (d' 16) (d' 17) (d' 18) (d' 19) (d' 20) (d' 21) (d' 22) (d' 23) (d' 24) (d' 25) (d' 26) (d' 27) (d' 28) (d' 29) (d' 30)) → (¬ a = 0 → post a (sd_x d')) → wX_updateAll_2 post (nI s) x2 N (nI r) (d 0 0) (d 1 0) (d 2 0) (d 3 0) (d 4 0) (d 5 0) (d 6 0) (d 7) (d 8) (d 9) (d 10) (d 11) (d 12) (d 13) (d 14) (d 15) (d 16) (d 17) (d 18) (d 19) (d 20) (d 21) (d 22) (d 23) (d 24) (d 25) (d 26) (d 27) (d 28) (d 29) (d 30)) ∧
    (∀ (N : Nat) (post : Int32 → SY → Prop), t < N → (∃ n191 : Nat, wY_inserts_191 post (nI s) (nI n) n191 a 0 (c' 0 0) (c' 1 0) (c' 2) (c' 3) (c' 4) (c' 5) (c' 6) (c' 7) (c' 8) (c' 9) (c' 10) (c' 11) (c' 12) (c' 13) (c' 14) (c' 15) (c' 16) (c' 17)) → wY_inserts_141 post (nI s) (nI n) N 0 (nI r) (c 0 0) (c 1 0) (c 2) (c 3) (c 4) (c 5) (c 6) (c 7) (c 8) (c 9) (c 10) (c 11) (c 12) (c 13) (c 14) (c 15) (c 16) (c 17)) := by
  intro t
  induction t with
  | zero =>
    intro r c d m hr h hI hx hc
    obtain rfl : r = 16 := by omega
    refine ⟨0, c, d, m, h, ⟨rfl, rfl, rfl, rfl, rfl⟩, fun _ => hI, fun N post hN p0 p1 => ?_, fun N post hN hp => ?_⟩
    · obtain ⟨N', rfl⟩ : ∃ N', N = N' + 1 := ⟨N - 1, by omega⟩
      exact br_t (by decide) (p0 rfl)
    · obtain ⟨N', rfl⟩ : ∃ N', N = N' + 1 := ⟨N - 1, by omega⟩
      exact br_t (by decide) hp
  | succ t ih =>
    intro r c d m hr h hI hx hc
    have hr16 : r < 16 := by omega
    have h16 : ¬ (16 : Int32) ≤ nI r := nI_ge (a := r) (b := 16) hr16 (by decide)
    obtain ⟨i1, i2, i3, i4, i5, i6, i7⟩ := hI
    cases hD : sd_D c s r
    · obtain ⟨a, c', d', m', h', hf', hI', wx, wy⟩ := ih (r + 1) c d m (by omega) h ⟨i1, i2, i3, i4, by rw [sd_c_s, hD]; simp; omega, i6, fun i hi q => by
        by_cases e : i = r
        · rw [e, hD] at q; exact absurd q (by decide)
        · exact i7 i (by omega) q⟩ hx hc
      refine ⟨a, c', d', m', h', hf', hI', fun N post hN p0 p1 => ?_, fun N post hN hp => ?_⟩
      · obtain ⟨N', rfl⟩ : ∃ N', N = N' + 1 := ⟨N - 1, by omega⟩
        exact br_f h16 (sd_Xh0 (by omega) (by rw [hx r hr16]; exact hD) (br_t rfl (nm_r (nI_1 r) (wx N' post (by omega) p0 p1))))
      · obtain ⟨N', rfl⟩ : ∃ N', N = N' + 1 := ⟨N - 1, by omega⟩
        refine br_f h16 (br_t rfl ⟨sd_in hr16, ?_⟩)
        rw [sd_ch (n := r) (by omega), hc r hr16, hD]
        exact br_t rfl (nm_r (nI_1 r) (wy N' post (by omega) hp))
    · have k4 : c 6 (16 * s + r) = 4 := sd_dy4 hD
      have v9 := ((sd_va h (e := 16 * s + r) (by omega)).2 (Or.inl k4)).2.2.2
      have hcl := sd_c_le (sd_D c s) r
      obtain ⟨a, c1, d1, h1, ha, ux, uy⟩ := sd_upd (m := m) (v := c 9 (16 * s + r)) hs hr16 (by omega) i3 h (by rw [k4]; decide) (by rw [k4]; decide)
      have ec : (nI (16 * s + r)).toNatClampNeg = 16 * s + r := sd_ch (by omega)
      -- both sides up to the update
      have hX : ∀ (N : Nat) (post : Int32 → SX → Prop), (a = 0 → wX_updateAll_2 post (nI s) x2 N (nI (r + 1)) (d1 0 0) (d1 1 0) (d1 2 0) (d1 3 0) (d1 4 0) (d1 5 0) (d1 6 0) (d1 7) (d1 8) (d1 9) (d1 10) (d1 11) (d1 12) (d1 13) (d1 14) (d1 15) (d1 16) (d1 17) (d1 18) (d1 19) (d1 20) (d1 21) (d1 22) (d1 23) (d1 24) (d1 25) (d1 26) (d1 27) (d1 28) (d1 29) (d1 30)) → (¬ a = 0 → post a (sd_x d1)) → wX_updateAll_2 post (nI s) x2 (N + 1) (nI r) (d 0 0) (d 1 0) (d 2 0) (d 3 0) (d 4 0) (d 5 0) (d 6 0) (d 7) (d 8) (d 9) (d 10) (d 11) (d 12) (d 13) (d 14) (d 15) (d 16) (d 17) (d 18) (d 19) (d 20) (d 21) (d 22) (d 23) (d 24) (d 25) (d 26) (d 27) (d 28) (d 29) (d 30) := by
        intro N post p0 p1
        refine br_f h16 (sd_Xh1 (by omega) (by rw [hx r hr16]; exact hD) (br_f (by decide) ?_))
        rw [sd_i16, ec, v9]
        exact ⟨sd_in (by omega), ux _ (br_c (fun z => nm_r (nI_1 r) (p0 z)) (fun z => p1 z))⟩
      have hY : ∀ (N : Nat) (post : Int32 → SY → Prop), wY_inserts_141 post (nI s) (nI n) N a (nI (r + 1)) (c1 0 0) (c1 1 0) (c1 2) (c1 3) (c1 4) (c1 5) (c1 6) (c1 7) (c1 8) (c1 9) (c1 10) (c1 11) (c1 12) (c1 13) (c1 14) (c1 15) (c1 16) (c1 17) → wY_inserts_141 post (nI s) (nI n) (N + 1) 0 (nI r) (c 0 0) (c 1 0) (c 2) (c 3) (c 4) (c 5) (c 6) (c 7) (c 8) (c 9) (c 10) (c 11) (c 12) (c 13) (c 14) (c 15) (c 16) (c 17) := by
        intro N post p
        refine br_f h16 (br_t rfl ⟨sd_in hr16, ?_⟩)
        rw [sd_ch (n := r) (by omega), hc r hr16, hD, sd_i16, ec]
        exact br_f (by decide) ⟨sd_in (by omega), uy _ (nm_r (nI_1 r) p)⟩
      rcases ha with ⟨a0, e⟩ | ⟨a0, e⟩
      · subst a0
        have fz1 : sd_fz c c1 := by rw [e]; exact sd_up_fz _ _ _ _ _
        have I1 : sd_IU c1 s n 0 (r + 1) (m + 1) := by
          subst e
          refine ⟨i1, i2, rfl, i4, ?_, ?_, ?_⟩
          · rw [sd_c_eq (p := sd_D (sd_up c s r m (c 9 (16 * s + r))) s) (q := sd_D c s) (fun i _ => sd_D_fz (sd_up_fz _ _ _ _ _) s i), sd_c_s, hD]; simp; omega
          · intro i hi q
            rcases i6 i hi q with w | w
            · exact Or.inl (sd_ok_up (Or.inl w))
            · exact Or.inr w
          · intro i hi q
            by_cases er : i = r
            · exact sd_ok_up (Or.inr er)
            · exact sd_ok_up (Or.inl (i7 i (by omega) q))
        obtain ⟨a', c', d', m', h', hf', hI', wx, wy⟩ := ih (r + 1) c1 d1 (m + 1) (by omega) h1 I1 (fun i hi => by rw [sd_D_fz fz1]; exact hx i hi) (fun i hi => by rw [fz1.2.2.2.2, sd_D_fz fz1]; exact hc i hi)
        refine ⟨a', c', d', m', h', sd_fz_t fz1 hf', hI', fun N post hN p0 p1 => ?_, fun N post hN hp => ?_⟩
        · obtain ⟨N', rfl⟩ : ∃ N', N = N' + 1 := ⟨N - 1, by omega⟩
          exact hX N' post (fun _ => wx N' post (by omega) p0 p1) (fun z => absurd rfl z)
        · obtain ⟨N', rfl⟩ : ∃ N', N = N' + 1 := ⟨N - 1, by omega⟩
          exact hY N' post (wy N' post (by omega) hp)
      · refine ⟨a, c1, d1, m, h1, by rw [e]; exact ⟨rfl, rfl, rfl, rfl, rfl⟩, fun z => absurd z a0, fun N post hN p0 p1 => ?_, fun N post hN hp => ?_⟩
        · obtain ⟨N', rfl⟩ : ∃ N', N = N' + 1 := ⟨N - 1, by omega⟩
          exact hX N' post (fun z => absurd z a0) p1
        · obtain ⟨N', rfl⟩ : ∃ N', N = N' + 2 := ⟨N - 2, by omega⟩
          exact hY (N' + 1) post (br_c (fun _ => hp) (fun _ => br_f a0 hp))
/-- the late ones -/
theorem sd_ll {s n : Nat} (hs : s < 3) : ∀ (t k : Nat) (c d : sd_T) (m : Nat), k + t = n → sd_L c d → sd_IU c s n k 16 m →
    ∃ (a : Int32) (c' d' : sd_T) (m' : Nat), sd_L c' d' ∧ sd_fz c c' ∧ (a = 0 → sd_IU c' s n n 16 m') ∧
    (∀ (N : Nat) (post : Int32 → SX → Prop), t < N → post a (sd_x d') → wX_updateAll_54 post (nI s) N (nI k) (d 0 0) (d 1 0) (d 2 0) (d 3 0) (d 4 0) (d 5 0) (d 6 0) (d 7) (d 8) (d 9) (d 10) (d 11) (d 12) (d 13) (d 14) (d 15) (d 16) (d 17) (d 18) (d 19) (d 20) (d 21) (d 22) (d 23) (d 24) (d 25) (d 26) (d 27) (d 28) (d 29) (d 30)) ∧
    (∀ (N : Nat) (post : Int32 → SY → Prop), t < N → post a (sd_y c') → wY_inserts_191 post (nI s) (nI n) N 0 (nI k) (c 0 0) (c 1 0) (c 2) (c 3) (c 4) (c 5) (c 6) (c 7) (c 8) (c 9) (c 10) (c 11) (c 12) (c 13) (c 14) (c 15) (c 16) (c 17)) := by
  intro t
  induction t with
  | zero =>
    intro k c d m hk h hI
    obtain rfl : k = n := by omega
    have e5 : d 5 0 = nI k := h.2.2.2.2.2.2.2.2.2.2.2.1.trans hI.1
    refine ⟨0, c, d, m, h, ⟨rfl, rfl, rfl, rfl, rfl⟩, fun _ => hI, fun N post hN hp => ?_, fun N post hN hp => ?_⟩
    · obtain ⟨N', rfl⟩ : ∃ N', N = N' + 1 := ⟨N - 1, by omega⟩
      refine br_t ?_ hp
      rw [e5]
      exact nI_le (Nat.le_refl _) (by have := hI.2.2.2.1; omega)
    · obtain ⟨N', rfl⟩ : ∃ N', N = N' + 1 := ⟨N - 1, by omega⟩
      exact br_t (nI_le (Nat.le_refl _) (by have := hI.2.2.2.1; omega)) hp
  | succ t ih =>
    intro k c d m hk h hI
    obtain ⟨i1, i2, i3, i4, i5, i6, i7⟩ := hI
    have e5 : d 5 0 = nI n := h.2.2.2.2.2.2.2.2.2.2.2.1.trans i1
    have e28 : d 28 = c 19 := h.2.2.2.2.2.2.2.2.2.2.2.2
    obtain ⟨j1, r, hr, j2, k2⟩ := i2 k (by omega)
    have hcl := sd_c_le (sd_D c s) 16
    obtain ⟨a, c1, d1, h1, ha, ux, uy⟩ := sd_upd (m := m) (v := 0) hs hr (by omega) i3 h (by rw [k2]; decide) (by rw [k2]; decide)
    have hX : ∀ (N : Nat) (post : Int32 → SX → Prop), (a = 0 → wX_updateAll_54 post (nI s) N (nI (k + 1)) (d1 0 0) (d1 1 0) (d1 2 0) (d1 3 0) (d1 4 0) (d1 5 0) (d1 6 0) (d1 7) (d1 8) (d1 9) (d1 10) (d1 11) (d1 12) (d1 13) (d1 14) (d1 15) (d1 16) (d1 17) (d1 18) (d1 19) (d1 20) (d1 21) (d1 22) (d1 23) (d1 24) (d1 25) (d1 26) (d1 27) (d1 28) (d1 29) (d1 30)) → (¬ a = 0 → post a (sd_x d1)) → wX_updateAll_54 post (nI s) (N + 1) (nI k) (d 0 0) (d 1 0) (d 2 0) (d 3 0) (d 4 0) (d 5 0) (d 6 0) (d 7) (d 8) (d 9) (d 10) (d 11) (d 12) (d 13) (d 14) (d 15) (d 16) (d 17) (d 18) (d 19) (d 20) (d 21) (d 22) (d 23) (d 24) (d 25) (d 26) (d 27) (d 28) (d 29) (d 30) := by
      intro N post p0 p1
      refine br_f ?_ ⟨sd_in (by omega), ?_⟩
      · rw [e5]; exact nI_ge (by omega) (by omega)
      · rw [sd_ch (n := k) (by omega), e28, j1, j2]
        rw [← e28]
        exact ux _ (br_c (fun z => nm_r (nI_1 k) (p0 z)) (fun z => p1 z))
    have hY : ∀ (N : Nat) (post : Int32 → SY → Prop), wY_inserts_191 post (nI s) (nI n) N a (nI (k + 1)) (c1 0 0) (c1 1 0) (c1 2) (c1 3) (c1 4) (c1 5) (c1 6) (c1 7) (c1 8) (c1 9) (c1 10) (c1 11) (c1 12) (c1 13) (c1 14) (c1 15) (c1 16) (c1 17) → wY_inserts_191 post (nI s) (nI n) (N + 1) 0 (nI k) (c 0 0) (c 1 0) (c 2) (c 3) (c 4) (c 5) (c 6) (c 7) (c 8) (c 9) (c 10) (c 11) (c 12) (c 13) (c 14) (c 15) (c 16) (c 17) := by
      intro N post p
      refine br_f (nI_ge (by omega) (by omega)) (br_t rfl ⟨sd_in (by omega), ?_⟩)
      rw [sd_ch (n := k) (by omega), j2]
      exact uy _ (nm_r (nI_1 k) p)
    rcases ha with ⟨a0, e⟩ | ⟨a0, e⟩
    · subst a0
      have fz1 : sd_fz c c1 := by rw [e]; exact sd_up_fz _ _ _ _ _
      have I1 : sd_IU c1 s n (k + 1) 16 (m + 1) := by
        subst e
        refine ⟨i1, i2, rfl, i4, ?_, ?_, ?_⟩
        · rw [sd_c_eq (p := sd_D (sd_up c s r m 0) s) (q := sd_D c s) (fun i _ => sd_D_fz (sd_up_fz _ _ _ _ _) s i)]; omega
        · intro i hi q
          rcases i6 i hi q with w | ⟨j, hj1, hj2, hj3⟩
          · exact Or.inl (sd_ok_up (Or.inl w))
          · by_cases ej : j = k
            · rw [ej, j2] at hj3
              exact Or.inl (sd_ok_up (Or.inr ((nI_eq (by omega) (by omega)).mp hj3).symm))
            · exact Or.inr ⟨j, by omega, hj2, hj3⟩
        · intro i hi q
          exact sd_ok_up (Or.inl (i7 i hi q))
      obtain ⟨a', c', d', m', h', hf', hI', wx, wy⟩ := ih (k + 1) c1 d1 (m + 1) (by omega) h1 I1
      refine ⟨a', c', d', m', h', sd_fz_t fz1 hf', hI', fun N post hN hp => ?_, fun N post hN hp => ?_⟩
      · obtain ⟨N', rfl⟩ : ∃ N', N = N' + 1 := ⟨N - 1, by omega⟩
        exact hX N' post (fun _ => wx N' post (by omega) hp) (fun z => absurd rfl z)
      · obtain ⟨N', rfl⟩ : ∃ N', N = N' + 1 := ⟨N - 1, by omega⟩
        exact hY N' post (wy N' post (by omega) hp)
    · refine ⟨a, c1, d1, m, h1, by rw [e]; exact ⟨rfl, rfl, rfl, rfl, rfl⟩, fun z => absurd z a0, fun N post hN hp => ?_, fun N post hN hp => ?_⟩
      · obtain ⟨N', rfl⟩ : ∃ N', N = N' + 1 := ⟨N - 1, by omega⟩
        exact hX N' post (fun z => absurd z a0) (fun _ => hp)
      · obtain ⟨N', rfl⟩ : ∃ N', N = N' + 2 := ⟨N - 2, by omega⟩
        exact hY (N' + 1) post (br_c (fun _ => hp) (fun _ => br_f a0 hp))
end
section
/-! deletes -/
theorem sd_e_s (p : Nat → Bool) (n : Nat) : sd_e p (n + 1) = (sd_e p n || p n) := rfl
theorem sd_e_eq {p q : Nat → Bool} {n : Nat} (h : ∀ i, i < n → p i = q i) : sd_e p n = sd_e q n := by
  induction n with
  | zero => rfl
  | succ n ih => rw [sd_e_s, sd_e_s, ih (fun i hi => h i (by omega)), h n (by omega)]
/-- i links to j, and is left -/
def sd_hb (c : sd_T) (s : Nat) (L : Int32) (j i : Nat) : Bool := bt L i && !decide (i = j) && decide (c 8 (3 * (16 * s + i) + 2) = nI j)
theorem sd_hb_g {c : sd_T} {s : Nat} {L : Int32} (h : sd_lf c L) (j : Nat) : sd_e (sd_hb c s L j) 16 = sd_hg c s j false := by
  refine sd_e_eq (fun i hi => ?_)
  unfold sd_hb sd_hh
  rw [sd_lf_z h hi]; rfl
theorem sd_Xhld {c d : sd_T} {L : Int32} {s : Nat} (hs : s < 3) (h : sd_L c d) (hL : sd_lf c L) (hk : ∀ i, i < 16 → bt L i = true → c 6 (16 * s + i) = 5) : ∀ (m i : Nat) (x : Int32), i + m = 16 → (∀ j, j < 16 → bt x j = sd_e (sd_hb c s L j) i) →
    ∃ x' : Int32, (∀ j, j < 32 → bt (L &&& (x' ^^^ (-1))) j = (decide (j < 16) && sd_fe c s false j)) ∧ ∀ (n : Nat) (post : Int32 → SX → Prop) (J2 : Int32 → Int32 → Int32 → Int32 → Int32 → Int32 → Int32 → Int32 → (Nat → Int32) → (Nat → Int32) → (Nat → Int32) → (Nat → Int32) → (Nat → Int32) → (Nat → Int32) → (Nat → Int32) → (Nat → Int32) → (Nat → Int32) → (Nat → Int32) → (Nat → Int32) → (Nat → Int32) → (Nat → Int32) → (Nat → Int32) → (Nat → Int32) → (Nat → Int32) → (Nat → Int32) → (Nat → Int32) → (Nat → Int32) → (Nat → Int32) → (Nat → Int32) → (Nat → Int32) → (Nat → Int32) → (Nat → Int32) → Prop), m < n →
      (((L &&& (x' ^^^ (-1))) = 0 → wX_deleteAll_88 post J2 (nI s) L L (d 0 0) (d 1 0) (d 2 0) (d 3 0) (d 4 0) (d 5 0) (d 6 0) (d 7) (d 8) (d 9) (d 10) (d 11) (d 12) (d 13) (d 14) (d 15) (d 16) (d 17) (d 18) (d 19) (d 20) (d 21) (d 22) (d 23) (d 24) (d 25) (d 26) (d 27) (d 28) (d 29) (d 30)) ∧ (¬ (L &&& (x' ^^^ (-1))) = 0 → wX_deleteAll_88 post J2 (nI s) L (L &&& (x' ^^^ (-1))) (d 0 0) (d 1 0) (d 2 0) (d 3 0) (d 4 0) (d 5 0) (d 6 0) (d 7) (d 8) (d 9) (d 10) (d 11) (d 12) (d 13) (d 14) (d 15) (d 16) (d 17) (d 18) (d 19) (d 20) (d 21) (d 22) (d 23) (d 24) (d 25) (d 26) (d 27) (d 28) (d 29) (d 30))) → wX_deleteAll_12 post J2 (nI s) L (d 0 0) (d 1 0) (d 2 0) (d 3 0) (d 4 0) (d 5 0) (d 6 0) (d 7) (d 8) (d 9) (d 10) (d 11) (d 12) (d 13) (d 14) (d 15) (d 16) (d 17) (d 18) (d 19) (d 20) (d 21) (d 22) (d 23) (d 24) (d 25) (d 26) (d 27) (d 28) (d 29) (d 30) n x (nI i) := by
  intro m
  induction m with
  | zero =>
    intro i x hi hx
    obtain rfl : i = 16 := by omega
    refine ⟨x, ?_, fun n post J2 hn hp => ?_⟩
    · intro j hj
      rw [b_and, sd_nt _ hj]
      by_cases w : j < 16
      · rw [hx j w, sd_hb_g hL, decide_eq_true w, Bool.true_and]
        unfold sd_fe
        rw [sd_lf_z hL w]
      · rw [hL.2 j (by omega) hj, decide_eq_false w]; rfl
    · obtain ⟨n', rfl⟩ : ∃ n', n = n' + 1 := ⟨n - 1, by omega⟩
      exact br_t (by decide) hp
  | succ m ih =>
    intro i x hi hx
    have hi16 : i < 16 := by omega
    have h16 : ¬ (16 : Int32) ≤ nI i := nI_ge (a := i) (b := 16) hi16 (by decide)
    have hin : vp_in (nI (16 * s + i)) 48 := sd_in (by omega)
    have ec : (nI (16 * s + i)).toNatClampNeg = 16 * s + i := sd_ch (by omega)
    -- nothing is held by i
    have no : (∀ j, j < 16 → sd_hb c s L j i = false) → ∃ x' : Int32, (∀ j, j < 32 → bt (L &&& (x' ^^^ (-1))) j = (decide (j < 16) && sd_fe c s false j)) ∧ ∀ (n : Nat) (post : Int32 → SX → Prop) (J2 : Int32 → Int32 → Int32 → Int32 → Int32 → Int32 → Int32 → Int32 → (Nat → Int32) → (Nat → Int32) → (Nat → Int32) → (Nat → Int32) → (Nat → Int32) → (Nat → Int32) → (Nat → Int32) → (Nat → Int32) → (Nat → Int32) → (Nat → Int32) → (Nat → Int32) → (Nat → Int32) → (Nat → Int32) → (Nat → Int32) → (Nat → Int32) → (Nat → Int32) → (Nat → Int32) → (Nat → Int32) → (Nat → Int32) → (Nat → Int32) → (Nat → Int32) → (Nat → Int32) → (Nat → Int32) → (Nat → Int32) → Prop), m < n →
        (((L &&& (x' ^^^ (-1))) = 0 → wX_deleteAll_88 post J2 (nI s) L L (d 0 0) (d 1 0) (d 2 0) (d 3 0) (d 4 0) (d 5 0) (d 6 0) (d 7) (d 8) (d 9) (d 10) (d 11) (d 12) (d 13) (d 14) (d 15) (d 16) (d 17) (d 18) (d 19) (d 20) (d 21) (d 22) (d 23) (d 24) (d 25) (d 26) (d 27) (d 28) (d 29) (d 30)) ∧ (¬ (L &&& (x' ^^^ (-1))) = 0 → wX_deleteAll_88 post J2 (nI s) L (L &&& (x' ^^^ (-1))) (d 0 0) (d 1 0) (d 2 0) (d 3 0) (d 4 0) (d 5 0) (d 6 0) (d 7) (d 8) (d 9) (d 10) (d 11) (d 12) (d 13) (d 14) (d 15) (d 16) (d 17) (d 18) (d 19) (d 20) (d 21) (d 22) (d 23) (d 24) (d 25) (d 26) (d 27) (d 28) (d 29) (d 30))) → wX_deleteAll_12 post J2 (nI s) L (d 0 0) (d 1 0) (d 2 0) (d 3 0) (d 4 0) (d 5 0) (d 6 0) (d 7) (d 8) (d 9) (d 10) (d 11) (d 12) (d 13) (d 14) (d 15) (d 16) (d 17) (d 18) (d 19) (d 20) (d 21) (d 22) (d 23) (d 24) (d 25) (d 26) (d 27) (d 28) (d 29) (d 30) n x (nI (i + 1)) := by
      intro w
      refine ih (i + 1) x (by omega) ?_
      intro j hj
      rw [hx j hj, sd_e_s, w j hj, Bool.or_false]
    cases hb : bt L i
    · obtain ⟨x', hx', w⟩ := no (fun j _ => by unfold sd_hb; rw [hb]; rfl)
      refine ⟨x', hx', fun n post J2 hn hp => ?_⟩
      obtain ⟨n', rfl⟩ : ∃ n', n = n' + 1 := ⟨n - 1, by omega⟩
      refine br_f h16 ?_
      rw [sd_i16, ec]
      exact ⟨hin, nm_e (sd_Xh0 (by omega) hb (br_t rfl (nm_r (nI_1 i) (w n' post J2 (by omega) hp))))⟩
    · have k5 := hk i hi16 hb
      have hl : d 24 (16 * s + i) = c 8 (3 * (16 * s + i) + 2) := ((sd_va h (e := 16 * s + i) (by omega)).2 (Or.inr k5)).2.2.1
      rcases (sd_elr h (e := 16 * s + i) (by omega)).2.1 with e | ⟨l, hl16, el⟩
      · obtain ⟨x', hx', w⟩ := no (fun j _ => by unfold sd_hb; rw [e, decide_eq_false (p := (-1 : Int32) = nI j) (fun w => sd_nm1 (a := j) (by omega) w.symm), Bool.and_false])
        refine ⟨x', hx', fun n post J2 hn hp => ?_⟩
        obtain ⟨n', rfl⟩ : ∃ n', n = n' + 1 := ⟨n - 1, by omega⟩
        refine br_f h16 ?_
        rw [sd_i16, ec, hl, e]
        exact ⟨hin, nm_e (sd_Xh1 (by omega) hb (br_f (by decide) (br_t (by decide) (nm_r (nI_1 i) (w n' post J2 (by omega) hp)))))⟩
      · have nl : ¬ nI l < 0 := nI_pos (by omega)
        by_cases li : l = i
        · obtain ⟨x', hx', w⟩ := no (fun j _ => by
            unfold sd_hb
            rw [el, hb]
            by_cases q : i = j
            · rw [decide_eq_true q]; rfl
            · rw [decide_eq_false (p := nI l = nI j) (sd_ne (by omega) (by omega) (by omega)), Bool.and_false])
          refine ⟨x', hx', fun n post J2 hn hp => ?_⟩
          obtain ⟨n', rfl⟩ : ∃ n', n = n' + 1 := ⟨n - 1, by omega⟩
          refine br_f h16 ?_
          rw [sd_i16, ec, hl, el]
          exact ⟨hin, nm_e (sd_Xh1 (by omega) hb (br_f (by decide) (br_f nl (br_t (by rw [li]) (nm_r (nI_1 i) (w n' post J2 (by omega) hp))))))⟩
        · have nli : ¬ nI l = nI i := sd_ne li (by omega) (by omega)
          obtain ⟨x', hx', w⟩ := ih (i + 1) (x ||| ((1 : Int32) <<< (nI l &&& 31))) (by omega) (by
            intro j hj
            rw [sd_st _ (by omega) (by omega), hx j hj, sd_e_s]
            congr 1
            unfold sd_hb
            rw [el, hb]
            by_cases q : j = l
            · rw [q, decide_eq_true (p := l = l) rfl, decide_eq_true (p := nI l = nI l) rfl, decide_eq_false (p := i = l) (fun w => li w.symm)]; rfl
            · rw [decide_eq_false q, decide_eq_false (p := nI l = nI j) (sd_ne (fun w => q w.symm) (by omega) (by omega)), Bool.and_false])
          refine ⟨x', hx', fun n post J2 hn hp => ?_⟩
          obtain ⟨n', rfl⟩ : ∃ n', n = n' + 1 := ⟨n - 1, by omega⟩
          refine br_f h16 ?_
          rw [sd_i16, ec, hl, el]
          exact ⟨hin, nm_e (sd_Xh1 (by omega) hb (br_f (by decide) (br_f nl (br_f nli (nm_e (nm_r (nI_1 i) (w n' post J2 (by omega) hp)))))))⟩
/-- the delete loop -/
def sd_ID (c : sd_T) (s : Nat) (L : Int32) (m : Nat) : Prop :=
  sd_lf c L ∧ (∀ i, i < 16 → bt L i = true → c 6 (16 * s + i) = 5) ∧ c 0 0 = nI m ∧ m + sd_c (bt L) 16 ≤ 48 ∧ (∀ i, i < 16 → c 6 (16 * s + i) = 2 ∨ sd_D c s i = true → sd_ok c s i)
/-- what a good delete leaves -/
def sd_dl (c : sd_T) (s r m : Nat) : sd_T := sd_no (sd_s (sd_lk (sd_s c 12 (upd (c 12) r 0)) s r) 2 (upd (c 2) (16 + r) 0)) m 2 r
theorem sd_dl_fz (c : sd_T) (s r m : Nat) : sd_fz c (sd_dl c s r m) := ⟨rfl, rfl, rfl, rfl, rfl⟩
theorem sd_ID_dl {c : sd_T} {s r m : Nat} {L : Int32} (hr : r < 16) (hb : bt L r = true) (h : sd_ID c s L m) : sd_ID (sd_dl c s r m) s (sd_wo L r) (m + 1) := by
  obtain ⟨hlf, hk, h0, hc, hok⟩ := h
  have hco := sd_wo_c hr hb
  have k5 := hk r hr hb
  refine ⟨sd_wo_lf hr hlf rfl, ?_, rfl, by omega, ?_⟩
  · intro i hi q
    rw [sd_wo_b L hr (by omega), Bool.and_eq_true] at q
    exact hk i hi q.1
  · intro i hi q
    have e : ¬ i = r := by
      intro w
      rcases q with q | q
      · have q' : c 6 (16 * s + i) = 2 := q
        rw [w, k5] at q'; exact absurd q' (by decide)
      · have q' : c 6 (16 * s + i) = 4 := sd_dy4 q
        rw [w, k5] at q'; exact absurd q' (by decide)
    have o := hok i hi q
    refine ⟨?_, o.2.1, o.2.2.1, o.2.2.2⟩
    show upd (c 5) r (nI s) i = nI s
    rw [pk_un e]; exact o.1
/-- one delete, on both sides -/
theorem sd_del {c d : sd_T} {s r m : Nat} {L : Int32} (hs : s < 3) (hr : r < 16) (hb : bt L r = true) (h : sd_L c d) (hI : sd_ID c s L m) : ∃ (a : Int32) (cA dA : sd_T), sd_L cA dA ∧ sd_fz c cA ∧ (a = 0 → sd_ID cA s (sd_wo L r) (m + 1)) ∧
    (∀ (post : Int32 → SX → Prop) (J2 : Int32 → Int32 → Int32 → Int32 → Int32 → Int32 → Int32 → Int32 → (Nat → Int32) → (Nat → Int32) → (Nat → Int32) → (Nat → Int32) → (Nat → Int32) → (Nat → Int32) → (Nat → Int32) → (Nat → Int32) → (Nat → Int32) → (Nat → Int32) → (Nat → Int32) → (Nat → Int32) → (Nat → Int32) → (Nat → Int32) → (Nat → Int32) → (Nat → Int32) → (Nat → Int32) → (Nat → Int32) → (Nat → Int32) → (Nat → Int32) → (Nat → Int32) → (Nat → Int32) → (Nat → Int32) → (Nat → Int32) → Prop) (z0 : Int32), bt z0 r = true → (∀ i, i < r → bt z0 i = false) →
      (a = 0 → J2 (sd_wo L r) (dA 0 0) (dA 1 0) (dA 2 0) (dA 3 0) (dA 4 0) (dA 5 0) (dA 6 0) (dA 7) (dA 8) (dA 9) (dA 10) (dA 11) (dA 12) (dA 13) (dA 14) (dA 15) (dA 16) (dA 17) (dA 18) (dA 19) (dA 20) (dA 21) (dA 22) (dA 23) (dA 24) (dA 25) (dA 26) (dA 27) (dA 28) (dA 29) (dA 30)) → (¬ a = 0 → post a (sd_x dA)) → wX_deleteAll_88 post J2 (nI s) L z0 (d 0 0) (d 1 0) (d 2 0) (d 3 0) (d 4 0) (d 5 0) (d 6 0) (d 7) (d 8) (d 9) (d 10) (d 11) (d 12) (d 13) (d 14) (d 15) (d 16) (d 17) (d 18) (d 19) (d 20) (d 21) (d 22) (d 23) (d 24) (d 25) (d 26) (d 27) (d 28) (d 29) (d 30)) ∧
    (∀ (N : Nat) (post : Int32 → SY → Prop), (a = 0 → wY_deletes_49 post (nI s) N 0 (sd_nx cA s false) (cA 0 0) (cA 1 0) (cA 2) (cA 3) (cA 4) (cA 5) (cA 6) (cA 7) (cA 8) (cA 9) (cA 10) (cA 11) (cA 12) (cA 13) (cA 14) (cA 15) (cA 16) (cA 17)) → (¬ a = 0 → post a (sd_y cA)) → wY_deletes_49 post (nI s) (N + 1) 0 (nI r) (c 0 0) (c 1 0) (c 2) (c 3) (c 4) (c 5) (c 6) (c 7) (c 8) (c 9) (c 10) (c 11) (c 12) (c 13) (c 14) (c 15) (c 16) (c 17)) := by
  obtain ⟨hlf, hk, h0, hc, hok⟩ := hI
  have k5 := hk r hr hb
  have hco := sd_wo_c hr hb
  have hm : m < 48 := by omega
  have hin : vp_in (nI (16 * s + r)) 48 := sd_in (by omega)
  have ec : (nI (16 * s + r)).toNatClampNeg = 16 * s + r := sd_ch (by omega)
  have v9 := ((sd_va h (e := 16 * s + r) (by omega)).2 (Or.inr k5)).2.2.2
  have hcy : sd_L (sd_s c 12 (upd (c 12) r 0)) d := h
  have hX : ∀ (post : Int32 → SX → Prop) (J2 : Int32 → Int32 → Int32 → Int32 → Int32 → Int32 → Int32 → Int32 → (Nat → Int32) → (Nat → Int32) → (Nat → Int32) → (Nat → Int32) → (Nat → Int32) → (Nat → Int32) → (Nat → Int32) → (Nat → Int32) → (Nat → Int32) → (Nat → Int32) → (Nat → Int32) → (Nat → Int32) → (Nat → Int32) → (Nat → Int32) → (Nat → Int32) → (Nat → Int32) → (Nat → Int32) → (Nat → Int32) → (Nat → Int32) → (Nat → Int32) → (Nat → Int32) → (Nat → Int32) → (Nat → Int32) → (Nat → Int32) → Prop) (z0 : Int32), bt z0 r = true → (∀ i, i < r → bt z0 i = false) →
      wpX_check (fun r_6 => (((r_6 = 0 → (vp_in (nI s) 3 ∧ (vp_in (nI s) 3 ∧ ∀ a_locked_41 : Nat → Int32, a_locked_41 = upd (d 15) s ((d 15 s) ||| ((1 : Int32) <<< (nI r &&& 31))) → (∀ f_cached_42 : Int32, f_cached_42 = d 2 0 &&& (((1 : Int32) <<< (nI r &&& 31)) ^^^ (-1)) → (∀ f_overThere_43 : Int32, f_overThere_43 = d 1 0 &&& (((1 : Int32) <<< (nI r &&& 31)) ^^^ (-1)) → (wpX_note (fun u => match u with | (f_there_45, f_overThere_46, f_cached_47, f_modes_48, f_many_49, f_late_50, f_foundMany_51, a_first_52, a_second_53, a_links_54, a_versions_55, a_overFirst_56, a_overSecond_57, a_overLinks_58, a_overVersions_59, a_locked_60, a_sorts_61, a_dirty_62, a_broken_63, a_eFirst_64, a_eSecond_65, a_eLink_66, a_sFirst_67, a_sSecond_68, a_sLink_69, a_sVersion_70, a_done_71, a_doneRow_72, a_later_73, a_hits_74, a_counts_75) => (∀ x3_76 : Int32, x3_76 = L &&& (((1 : Int32) <<< (nI r &&& 31)) ^^^ (-1)) → (J2 x3_76 f_there_45 f_overThere_46 f_cached_47 f_modes_48 f_many_49 f_late_50 f_foundMany_51 a_first_52 a_second_53 a_links_54 a_versions_55 a_overFirst_56 a_overSecond_57 a_overLinks_58 a_overVersions_59 a_locked_60 a_sorts_61 a_dirty_62 a_broken_63 a_eFirst_64 a_eSecond_65 a_eLink_66 a_sFirst_67 a_sSecond_68 a_sLink_69 a_sVersion_70 a_done_71 a_doneRow_72 a_later_73 a_hits_74 a_counts_75))) (sd_x (sd_s (sd_s (sd_s d 15 a_locked_41) 2 (fun _ => f_cached_42)) 1 (fun _ => f_overThere_43))) 2 (nI r))))))) ∧ (¬ r_6 = 0 → (post r_6 (sd_x d)))))) (sd_x d) (nI s) (nI r) (c 9 (16 * s + r)) → wX_deleteAll_88 post J2 (nI s) L z0 (d 0 0) (d 1 0) (d 2 0) (d 3 0) (d 4 0) (d 5 0) (d 6 0) (d 7) (d 8) (d 9) (d 10) (d 11) (d 12) (d 13) (d 14) (d 15) (d 16) (d 17) (d 18) (d 19) (d 20) (d 21) (d 22) (d 23) (d 24) (d 25) (d 26) (d 27) (d 28) (d 29) (d 30) := by
    intro post J2 z0 z1 z2 q
    unfold wX_deleteAll_88
    refine sd_Xleast (l := r) (by omega) z1 z2 ?_
    rw [sd_i16, ec, v9, sd_ch (n := s) (by omega)]
    exact ⟨hin, q⟩
  have hY : ∀ (N : Nat) (post : Int32 → SY → Prop), wpY_begin (fun r_26 u => match u with | (f_done_27, f_finds_28, a_there_29, a_cached_30, a_rows_31, a_locked_32, a_kind_33, a_now_34, a_before_35, a_version_36, a_broken_37, a_modes_38, a_left_39, a_late_40, a_order_41, a_statements_42, a_rowsFound_43, a_counts_44) => (((r_26 = 0 → (vp_in (16 + nI r) 32 ∧ ∀ a_there_47 : Nat → Int32, a_there_47 = upd a_there_29 (16 + nI r).toNatClampNeg (vp_nar .boolean 0) → (wpY_note (fun u => match u with | (f_done_49, f_finds_50, a_there_51, a_cached_52, a_rows_53, a_locked_54, a_kind_55, a_now_56, a_before_57, a_version_58, a_broken_59, a_modes_60, a_left_61, a_late_62, a_order_63, a_statements_64, a_rowsFound_65, a_counts_66) => (wpY_next (fun r_67 => (wY_deletes_49 post (nI s) N r_26 r_67 f_done_49 f_finds_50 a_there_51 a_cached_52 a_rows_53 a_locked_54 a_kind_55 a_now_56 a_before_57 a_version_58 a_broken_59 a_modes_60 a_left_61 a_late_62 a_order_63 a_statements_64 a_rowsFound_65 a_counts_66)) (f_done_49, f_finds_50, a_there_51, a_cached_52, a_rows_53, a_locked_54, a_kind_55, a_now_56, a_before_57, a_version_58, a_broken_59, a_modes_60, a_left_61, a_late_62, a_order_63, a_statements_64, a_rowsFound_65, a_counts_66) (nI s) 0)) (f_done_27, f_finds_28, a_there_47, a_cached_30, a_rows_31, a_locked_32, a_kind_33, a_now_34, a_before_35, a_version_36, a_broken_37, a_modes_38, a_left_39, a_late_40, a_order_41, a_statements_42, a_rowsFound_43, a_counts_44) 2 (nI r)))) ∧ (¬ r_26 = 0 → (post r_26 (f_done_27, f_finds_28, a_there_29, a_cached_30, a_rows_31, a_locked_32, a_kind_33, a_now_34, a_before_35, a_version_36, a_broken_37, a_modes_38, a_left_39, a_late_40, a_order_41, a_statements_42, a_rowsFound_43, a_counts_44)))))) (sd_y (sd_s c 12 (upd (c 12) r 0))) (nI s) (nI r) (c 9 (16 * s + r)) 1 → wY_deletes_49 post (nI s) (N + 1) 0 (nI r) (c 0 0) (c 1 0) (c 2) (c 3) (c 4) (c 5) (c 6) (c 7) (c 8) (c 9) (c 10) (c 11) (c 12) (c 13) (c 14) (c 15) (c 16) (c 17) := by
    intro N post q
    refine br_f (nI_pos (by omega)) (br_t rfl ?_)
    rw [sd_ch (n := r) (by omega), sd_nb0]
    refine ⟨sd_in hr, nm_e ?_⟩
    rw [sd_i16, ec]
    rw [sd_nb0] at q
    exact ⟨hin, q⟩
  cases hbu : sd_bu (c 5) s r
  · by_cases z : c 2 (sd_sg (c 5) s r) = 1 ∧ c 4 (4 * sd_sg (c 5) s r + 3) = c 9 (16 * s + r)
    · have h1 : sd_L (sd_s (sd_lk (sd_s c 12 (upd (c 12) r 0)) s r) 2 (upd (c 2) (16 + r) 0)) (sd_s (sd_s (sd_s d 15 (upd (d 15) s (d 15 s ||| ((1 : Int32) <<< (nI r &&& 31))))) 2 (fun _ => d 2 0 &&& (((1 : Int32) <<< (nI r &&& 31)) ^^^ (-1)))) 1 (fun _ => d 1 0 &&& (((1 : Int32) <<< (nI r &&& 31)) ^^^ (-1)))) := by
        refine ⟨sd_RS_lk hs hr h.1 hbu ?_ ?_ (fun _ _ => rfl) h.1.2.2.1 h.1.2.2.2.1, h.2.1, h.2.2⟩
        · intro r' hr'
          exact pk_un (by omega)
        · intro r' hr'
          show upd (c 2) (16 + r) 0 (16 + r') = sd_b (bt (d 1 0 &&& (((1 : Int32) <<< (nI r &&& 31)) ^^^ (-1))) r')
          rw [sd_cl _ (by omega) (by omega)]
          by_cases e : r' = r
          · rw [e, pk_us, decide_eq_true (p := r = r) rfl]; cases bt (d 1 0) r <;> rfl
          · rw [pk_un (by omega), decide_eq_false e, Bool.not_false, Bool.and_true]; exact sd_st1 h hr'
      obtain ⟨d2, h2, w2⟩ := sd_Xno (c := sd_s (sd_lk (sd_s c 12 (upd (c 12) r 0)) s r) 2 (upd (c 2) (16 + r) 0)) (m := m) (w := 2) (r := r) hm (by decide) hr h0 h1
      refine ⟨0, sd_dl c s r m, d2, h2, sd_dl_fz _ _ _ _, fun _ => sd_ID_dl hr hb ⟨hlf, hk, h0, hc, hok⟩, fun post J2 z0 z1 z2 pJ pp => ?_, fun N post p0 p1 => ?_⟩
      · refine hX post J2 z0 z1 z2 (sd_Xck (d := d) hs hr h (fun q => by rw [hbu] at q; exact absurd q (by decide)) (fun _ q => absurd z q) (fun _ _ _ => br_t rfl ⟨sd_in hs, sd_in hs, nm_e (nm_e (nm_e ?_))⟩))
        exact w2 _ (nm_e (pJ rfl))
      · refine hY N post (sd_Yb1 (c := sd_s c 12 (upd (c 12) r 0)) hs hr hcy hbu (fun q => absurd z q) (fun _ _ => br_t rfl ?_))
        rw [sd_p16, sd_ch (n := 16 + r) (by omega), sd_nb0]
        refine ⟨sd_in (by omega), nm_e ?_⟩
        exact sd_Yno (c := sd_s (sd_lk (sd_s c 12 (upd (c 12) r 0)) s r) 2 (upd (c 2) (16 + r) 0)) (w := 2) hm (by decide) h0 (sd_Ynx (c := sd_dl c s r m) (out := false) hs (p0 rfl))
    · refine ⟨-4, _, d, hcy, ⟨rfl, rfl, rfl, rfl, rfl⟩, fun q => absurd q (by decide), fun post J2 z0 z1 z2 pJ pp => ?_, fun N post p0 p1 => ?_⟩
      · exact hX post J2 z0 z1 z2 (sd_Xck (d := d) hs hr h (fun q => by rw [hbu] at q; exact absurd q (by decide)) (fun _ _ => br_f (by decide) (pp (by decide))) (fun _ a b => absurd ⟨a, b⟩ z))
      · exact hY N post (sd_Yb1 (c := sd_s c 12 (upd (c 12) r 0)) hs hr hcy hbu (fun _ => br_f (by decide) (p1 (by decide))) (fun a b => absurd ⟨a, b⟩ z))
  · refine ⟨-6, _, d, hcy, ⟨rfl, rfl, rfl, rfl, rfl⟩, fun q => absurd q (by decide), fun post J2 z0 z1 z2 pJ pp => ?_, fun N post p0 p1 => ?_⟩
    · exact hX post J2 z0 z1 z2 (sd_Xck (d := d) hs hr h (fun _ => br_f (by decide) (pp (by decide))) (fun q => by rw [hbu] at q; exact absurd q (by decide)) (fun q => by rw [hbu] at q; exact absurd q (by decide)))
    · exact hY N post (sd_Yb6 (c := sd_s c 12 (upd (c 12) r 0)) hr hcy hbu (br_f (by decide) (p1 (by decide))))
/-- all deletes, on both sides -/
theorem sd_dll {s : Nat} (hs : s < 3) : ∀ (q : Nat) (c d : sd_T) (L : Int32) (m : Nat), sd_L c d → sd_ID c s L m → sd_c (bt L) 16 ≤ q →
    ∃ (a : Int32) (c' d' : sd_T), sd_L c' d' ∧ sd_fz c c' ∧ (a = 0 → ∀ i, i < 16 → c' 6 (16 * s + i) = 2 ∨ sd_D c' s i = true → sd_ok c' s i) ∧
    (∀ (N : Nat) (post : Int32 → SX → Prop), q < N → post a (sd_x d') → wX_deleteAll_2 post (nI s) N L (d 0 0) (d 1 0) (d 2 0) (d 3 0) (d 4 0) (d 5 0) (d 6 0) (d 7) (d 8) (d 9) (d 10) (d 11) (d 12) (d 13) (d 14) (d 15) (d 16) (d 17) (d 18) (d 19) (d 20) (d 21) (d 22) (d 23) (d 24) (d 25) (d 26) (d 27) (d 28) (d 29) (d 30)) ∧
    (∀ (N : Nat) (post : Int32 → SY → Prop), q < N → post a (sd_y c') → wY_deletes_49 post (nI s) N 0 (sd_nx c s false) (c 0 0) (c 1 0) (c 2) (c 3) (c 4) (c 5) (c 6) (c 7) (c 8) (c 9) (c 10) (c 11) (c 12) (c 13) (c 14) (c 15) (c 16) (c 17)) := by
  intro q
  have stop : ∀ (q : Nat) (c d : sd_T) (L : Int32) (m : Nat), sd_L c d → sd_ID c s L m → (∀ i, i < 16 → bt L i = false) → ∃ (a : Int32) (c' d' : sd_T), sd_L c' d' ∧ sd_fz c c' ∧ (a = 0 → ∀ i, i < 16 → c' 6 (16 * s + i) = 2 ∨ sd_D c' s i = true → sd_ok c' s i) ∧
      (∀ (N : Nat) (post : Int32 → SX → Prop), q < N → post a (sd_x d') → wX_deleteAll_2 post (nI s) N L (d 0 0) (d 1 0) (d 2 0) (d 3 0) (d 4 0) (d 5 0) (d 6 0) (d 7) (d 8) (d 9) (d 10) (d 11) (d 12) (d 13) (d 14) (d 15) (d 16) (d 17) (d 18) (d 19) (d 20) (d 21) (d 22) (d 23) (d 24) (d 25) (d 26) (d 27) (d 28) (d 29) (d 30)) ∧
      (∀ (N : Nat) (post : Int32 → SY → Prop), q < N → post a (sd_y c') → wY_deletes_49 post (nI s) N 0 (sd_nx c s false) (c 0 0) (c 1 0) (c 2) (c 3) (c 4) (c 5) (c 6) (c 7) (c 8) (c 9) (c 10) (c 11) (c 12) (c 13) (c 14) (c 15) (c 16) (c 17)) := by
    intro q c d L m h hI hz
    have e0 : L = 0 := sd_z (fun i hi => by
      by_cases w : i < 16
      · exact hz i w
      · exact hI.1.2 i (by omega) hi)
    have lz : ∀ i, i < 16 → (!decide (c 12 i = 0)) = false := fun i hi => by rw [sd_lf_z hI.1 hi]; exact hz i hi
    have nx : sd_nx c s false = -1 := by
      unfold sd_nx
      rw [sd_l_n (p := sd_fe c s false) (fun i hi => by unfold sd_fe; rw [lz i hi]; rfl), if_neg (by decide)]
      exact sd_nd_n 16 (by decide) (fun i _ hi => lz i hi)
    refine ⟨0, c, d, h, ⟨rfl, rfl, rfl, rfl, rfl⟩, fun _ => hI.2.2.2.2, fun N post hN hp => ?_, fun N post hN hp => ?_⟩
    · obtain ⟨n', rfl⟩ : ∃ n', N = n' + 1 := ⟨N - 1, by omega⟩
      exact br_t e0 hp
    · obtain ⟨n', rfl⟩ : ∃ n', N = n' + 1 := ⟨N - 1, by omega⟩
      rw [nx]
      exact br_t (by decide) hp
  induction q with
  | zero =>
    intro c d L m h hI hq
    exact stop 0 c d L m h hI (sd_c_0 (Nat.le_zero.mp hq))
  | succ q ih =>
    intro c d L m h hI hq
    by_cases hz : ∀ i, i < 16 → bt L i = false
    · exact stop (q + 1) c d L m h hI hz
    · obtain ⟨hld, hhld, wr⟩ := sd_Xhld hs h hI.1 hI.2.1 16 0 0 (by decide) (fun j _ => b_0 j)
      have hnz : ¬ L = 0 := by
        intro e
        apply hz
        intro i hi
        rw [e, b_0]
      have row : ∃ r, r < 16 ∧ bt L r = true ∧ sd_nx c s false = nI r ∧ ((L &&& (hld ^^^ (-1))) = 0 → ∀ i, i < r → bt L i = false) ∧ (¬ (L &&& (hld ^^^ (-1))) = 0 → bt (L &&& (hld ^^^ (-1))) r = true ∧ ∀ i, i < r → bt (L &&& (hld ^^^ (-1))) i = false) := by
        by_cases hf : sd_l (sd_fe c s false) 16 < 16
        · have ht := sd_l_t _ 16 hf
          have hl := fun i hi => sd_l_f (sd_fe c s false) 16 i hi
          have enx : sd_nx c s false = nI (sd_l (sd_fe c s false) 16) := if_pos hf
          revert hf ht hl enx
          generalize sd_l (sd_fe c s false) 16 = r
          intro hf ht hl enx
          have hbr : bt (L &&& (hld ^^^ (-1))) r = true := by rw [hhld r (by omega), decide_eq_true hf, ht]; rfl
          have hbL := hbr
          rw [b_and, Bool.and_eq_true] at hbL
          refine ⟨r, hf, hbL.1, enx, fun w => absurd w (sd_nz hbr), fun _ => ⟨hbr, fun i hi => ?_⟩⟩
          rw [hhld i (by omega), hl i hi, Bool.and_false]
        · have hall : ∀ i, i < 16 → sd_fe c s false i = false := by
            have le := sd_l_le (sd_fe c s false) 16
            exact fun i hi => sd_l_f (sd_fe c s false) 16 i (by omega)
          have r0 : (L &&& (hld ^^^ (-1))) = 0 := sd_z (fun i hi => by
            rw [hhld i hi]
            by_cases w : i < 16
            · rw [hall i w, Bool.and_false]
            · rw [decide_eq_false w]; rfl)
          have hkl : sd_l (bt L) 16 < 16 := by
            rcases Nat.lt_or_ge (sd_l (bt L) 16) 16 with w | w
            · exact w
            · exact absurd (fun i hi => sd_l_f (bt L) 16 i (by omega)) hz
          have ht := sd_l_t (bt L) 16 hkl
          have hl := fun i hi => sd_l_f (bt L) 16 i hi
          revert hkl ht hl
          generalize sd_l (bt L) 16 = r
          intro hr ht hl
          refine ⟨r, hr, ht, ?_, fun _ => hl, fun w => absurd r0 w⟩
          unfold sd_nx
          rw [if_neg hf]
          exact sd_nd_l hr (by rw [sd_lf_z hI.1 hr]; exact ht) 16 (by decide) (by omega) (fun i _ hi => by rw [sd_lf_z hI.1 (by omega)]; exact hl i hi)
      obtain ⟨r, hr, hb, enx, z0, z1⟩ := row
      obtain ⟨a, cA, dA, hA, hfz, hIA, wx, wy⟩ := sd_del hs hr hb h hI
      have hco := sd_wo_c hr hb
      by_cases a0 : a = 0
      · subst a0
        obtain ⟨a', c', d', h', hfz', hI', wx', wy'⟩ := ih cA dA (sd_wo L r) _ hA (hIA rfl) (by omega)
        refine ⟨a', c', d', h', sd_fz_t hfz hfz', hI', fun N post hN hp => ?_, fun N post hN hp => ?_⟩
        · obtain ⟨N', rfl⟩ : ∃ N', N = N' + 1 := ⟨N - 1, by omega⟩
          refine br_f hnz ⟨17, wr 17 post _ (by decide) (br_c (fun e => ?_) (fun e => ?_))⟩
          · exact wx post _ L hb (z0 e) (fun _ => wx' N' post (by omega) hp) (fun w => absurd rfl w)
          · exact wx post _ _ (z1 e).1 (z1 e).2 (fun _ => wx' N' post (by omega) hp) (fun w => absurd rfl w)
        · obtain ⟨N', rfl⟩ : ∃ N', N = N' + 1 := ⟨N - 1, by omega⟩
          rw [enx]
          exact wy N' post (fun _ => wy' N' post (by omega) hp) (fun w => absurd rfl w)
      · refine ⟨a, cA, dA, hA, hfz, fun w => absurd w a0, fun N post hN hp => ?_, fun N post hN hp => ?_⟩
        · obtain ⟨N', rfl⟩ : ∃ N', N = N' + 1 := ⟨N - 1, by omega⟩
          refine br_f hnz ⟨17, wr 17 post _ (by decide) (br_c (fun e => ?_) (fun e => ?_))⟩
          · exact wx post _ L hb (z0 e) (fun w => absurd w a0) (fun _ => hp)
          · exact wx post _ _ (z1 e).1 (z1 e).2 (fun w => absurd w a0) (fun _ => hp)
        · obtain ⟨N', rfl⟩ : ∃ N', N = N' + 1 := ⟨N - 1, by omega⟩
          rw [enx]
          exact wy N' post (fun w => absurd w a0) (fun _ => hp)
/-! links to rows that aren't there -/
def sd_fb (c : sd_T) (s r : Nat) : Bool := decide (c 2 (sd_sg (c 5) s r) = 1) && (!decide (c 4 (4 * sd_sg (c 5) s r + 2) < 0) && decide (c 2 (sd_sg (c 5) s (c 4 (4 * sd_sg (c 5) s r + 2)).toNatClampNeg) = 0))
theorem sd_Xda {post : Int32 → Prop} {c d : sd_T} {s : Nat} (hs : s < 3) (h : sd_L c d) (hp : post (sd_b (sd_e (sd_fb c s) 16))) : wpX_isDangling post (sd_x d) (nI s) := by
  have lp : ∀ m r n, r + m = 16 → m < n → (∀ i, i < r → sd_fb c s i = false) → wX_isDangling_8 post (nI s) (sd_si d s) (d 0 0) (d 1 0) (d 2 0) (d 3 0) (d 4 0) (d 5 0) (d 6 0) (d 7) (d 8) (d 9) (d 10) (d 11) (d 12) (d 13) (d 14) (d 15) (d 16) (d 17) (d 18) (d 19) (d 20) (d 21) (d 22) (d 23) (d 24) (d 25) (d 26) (d 27) (d 28) (d 29) (d 30) n (nI r) := by
    intro m
    induction m with
    | zero =>
      intro r n hr hn hf
      obtain rfl : r = 16 := by omega
      obtain ⟨n', rfl⟩ : ∃ n', n = n' + 1 := ⟨n - 1, by omega⟩
      have e : sd_e (sd_fb c s) 16 = false := by
        cases hb : sd_e (sd_fb c s) 16
        · rfl
        · obtain ⟨i, hi, q⟩ := sd_e_t.mp hb
          rw [hf i hi] at q
          exact absurd q (by decide)
      rw [e] at hp
      exact br_t (by decide) hp
    | succ m ih =>
      intro r n hr hn hf
      obtain ⟨n', rfl⟩ : ∃ n', n = n' + 1 := ⟨n - 1, by omega⟩
      have hr16 : r < 16 := by omega
      have next : sd_fb c s r = false → wX_isDangling_8 post (nI s) (sd_si d s) (d 0 0) (d 1 0) (d 2 0) (d 3 0) (d 4 0) (d 5 0) (d 6 0) (d 7) (d 8) (d 9) (d 10) (d 11) (d 12) (d 13) (d 14) (d 15) (d 16) (d 17) (d 18) (d 19) (d 20) (d 21) (d 22) (d 23) (d 24) (d 25) (d 26) (d 27) (d 28) (d 29) (d 30) n' (nI (r + 1)) := by
        intro e
        refine ih (r + 1) n' (by omega) (by omega) ?_
        intro i hi
        by_cases w : i = r
        · rw [w]; exact e
        · exact hf i (by omega)
      have hb := sd_si_b hs hr16 h.1
      refine br_f (nI_ge (a := r) (b := 16) hr16 (by decide)) ?_
      cases z : bt (sd_si d s) r
      · rw [z] at hb
        refine sd_Xh0 (by omega) z (br_t rfl (nm_r (nI_1 r) (next ?_)))
        unfold sd_fb
        rw [decide_eq_false (p := _ = 1) (by rw [hb]; decide)]; rfl
      · rw [z] at hb
        have hb1 : c 2 (sd_sg (c 5) s r) = 1 := hb
        refine sd_Xh1 (by omega) z (br_f (by decide) (sd_Xlk (d := d) hs hr16 h.1 ?_))
        rcases sd_rlr h (q := sd_sg (c 5) s r) (sd_sg_lt hr16) with e | ⟨l, hl, e⟩
        · rw [e]
          refine br_t (by decide) (nm_r (nI_1 r) (next ?_))
          unfold sd_fb
          rw [e, hb1]; rfl
        · rw [e]
          have hbl := sd_si_b hs hl h.1
          have fb : sd_fb c s r = decide (c 2 (sd_sg (c 5) s l) = 0) := by
            unfold sd_fb
            rw [e, hb1, sd_ch (n := l) (by omega), decide_eq_false (nI_pos (n := l) (by omega)), decide_eq_true (p := (1 : Int32) = 1) rfl]; rfl
          refine br_f (nI_pos (by omega)) ?_
          cases zl : bt (sd_si d s) l
          · rw [zl] at hbl
            refine sd_Xh0 (by omega) zl (br_t rfl ?_)
            have e1 : sd_e (sd_fb c s) 16 = true := sd_e_t.mpr ⟨r, hr16, by rw [fb]; exact decide_eq_true hbl⟩
            rw [e1] at hp
            exact hp
          · rw [zl] at hbl
            exact sd_Xh1 (by omega) zl (br_f (by decide) (nm_r (nI_1 r) (next (by rw [fb]; exact decide_eq_false (by rw [hbl]; decide)))))
  unfold wpX_isDangling
  exact sd_Xsi (d := d) hs ⟨17, lp 16 0 17 (by decide) (by decide) (fun i hi => absurd hi (Nat.not_lt_zero i))⟩
theorem sd_Yfo {post : Int32 → Prop} {c d : sd_T} {s : Nat} (hs : s < 3) (h : sd_L c d) (hp : post (sd_b (sd_e (sd_fb c s) 16))) : wpY_isForeign post (sd_y c) (nI s) := by
  have lp : ∀ m r n, r + m = 16 → m < n → (∀ i, i < r → sd_fb c s i = false) → wY_isForeign_2 post (nI s) (c 0 0) (c 1 0) (c 2) (c 3) (c 4) (c 5) (c 6) (c 7) (c 8) (c 9) (c 10) (c 11) (c 12) (c 13) (c 14) (c 15) (c 16) (c 17) n (nI r) := by
    intro m
    induction m with
    | zero =>
      intro r n hr hn hf
      obtain rfl : r = 16 := by omega
      obtain ⟨n', rfl⟩ : ∃ n', n = n' + 1 := ⟨n - 1, by omega⟩
      have e : sd_e (sd_fb c s) 16 = false := by
        cases hb : sd_e (sd_fb c s) 16
        · rfl
        · obtain ⟨i, hi, q⟩ := sd_e_t.mp hb
          rw [hf i hi] at q
          exact absurd q (by decide)
      rw [e] at hp
      exact br_t (by decide) hp
    | succ m ih =>
      intro r n hr hn hf
      obtain ⟨n', rfl⟩ : ∃ n', n = n' + 1 := ⟨n - 1, by omega⟩
      have hr16 : r < 16 := by omega
      have hq : sd_sg (c 5) s r < 32 := sd_sg_lt hr16
      have next : sd_fb c s r = false → wY_isForeign_2 post (nI s) (c 0 0) (c 1 0) (c 2) (c 3) (c 4) (c 5) (c 6) (c 7) (c 8) (c 9) (c 10) (c 11) (c 12) (c 13) (c 14) (c 15) (c 16) (c 17) n' (nI (r + 1)) := by
        intro e
        refine ih (r + 1) n' (by omega) (by omega) ?_
        intro i hi
        by_cases w : i = r
        · rw [w]; exact e
        · exact hf i (by omega)
      refine br_f (nI_ge (a := r) (b := 16) hr16 (by decide)) (sd_Ysg (c := c) hr16 ?_)
      rw [show (4 : Int32) * nI (sd_sg (c 5) s r) + 2 = nI (4 * sd_sg (c 5) s r + 2) from by rw [sd_m4, sd_a2], sd_ch (n := 4 * sd_sg (c 5) s r + 2) (by omega)]
      refine ⟨sd_in (by omega), nm_e ?_⟩
      rcases sd_rlr h hq with e | ⟨l, hl, e⟩
      · rw [e]
        refine br_f (by decide) ?_
        unfold wY_isForeign_43
        rw [sd_ch (n := sd_sg (c 5) s r) (by omega)]
        have fb : sd_fb c s r = false := by unfold sd_fb; rw [e]; cases decide (c 2 (sd_sg (c 5) s r) = 1) <;> rfl
        exact ⟨sd_in hq, br_c (fun _ => nm_r (nI_1 r) (next fb)) (fun _ => br_t (by decide) (nm_r (nI_1 r) (next fb)))⟩
      · rw [e]
        have hql : sd_sg (c 5) s l < 32 := sd_sg_lt hl
        refine br_t (nI_pos' (by omega)) (sd_Ysg (c := c) hl ?_)
        unfold wY_isForeign_43
        rw [sd_ch (n := sd_sg (c 5) s r) (by omega), sd_ch (n := sd_sg (c 5) s l) (by omega)]
        refine ⟨sd_in hq, ?_⟩
        rcases sd_th01 h hq with z | z
        · refine br_t z (nm_r (nI_1 r) (next ?_))
          unfold sd_fb
          rw [z]; rfl
        · have fb : sd_fb c s r = decide (c 2 (sd_sg (c 5) s l) = 0) := by
            unfold sd_fb
            rw [e, z, sd_ch (n := l) (by omega), decide_eq_false (nI_pos (n := l) (by omega)), decide_eq_true (p := (1 : Int32) = 1) rfl]; rfl
          refine br_f (by rw [z]; decide) (br_f (nI_pos (by omega)) ⟨sd_in hql, ?_⟩)
          by_cases zl : c 2 (sd_sg (c 5) s l) = 0
          · refine br_t zl ?_
            have e1 : sd_e (sd_fb c s) 16 = true := sd_e_t.mpr ⟨r, hr16, by rw [fb]; exact decide_eq_true zl⟩
            rw [e1] at hp
            exact hp
          · exact br_f zl (nm_r (nI_1 r) (next (by rw [fb]; exact decide_eq_false zl)))
  unfold wpY_isForeign
  exact ⟨17, lp 16 0 17 (by decide) (by decide) (fun i hi => absurd hi (Nat.not_lt_zero i))⟩
end
section
/-! flush -/
/-- settle is manage, where the row is as the entity -/
theorem sd_Xset {c d : sd_T} {s r : Nat} (hs : s < 3) (hr : r < 16) (h : sd_L c d) (h0 : ¬ c 6 (16 * s + r) = 0) (h3 : ¬ c 6 (16 * s + r) = 3) (hok : sd_ok c s r) :
    ∃ d', sd_L (sd_mg c s r) d' ∧ ∀ post : SX → Prop, post (sd_x d') → wpX_settle post (sd_x d) (nI s) (nI r) := by
  have he : vp_in (nI (16 * s + r)) 48 := sd_in (by omega)
  have eg : sd_sg (c 5) s r = 16 + r := if_pos hok.1
  obtain ⟨v0, v1, v2⟩ := (sd_va h (e := 16 * s + r) (by omega)).1 h0 h3
  have hlr : sd_lr (c 4 (4 * sd_sg (c 5) s r + 2)) := sd_rlr h (sd_sg_lt hr)
  have e0 : d 19 (16 * s + r) = c 4 (4 * sd_sg (c 5) s r) := by rw [eg]; exact v0.trans hok.2.1.symm
  have e1 : d 20 (16 * s + r) = c 4 (4 * sd_sg (c 5) s r + 1) := by rw [eg]; exact v1.trans hok.2.2.1.symm
  have e2 : d 21 (16 * s + r) = c 4 (4 * sd_sg (c 5) s r + 2) := by rw [eg]; exact v2.trans hok.2.2.2.symm
  have e3 : d 14 r = c 4 (4 * sd_sg (c 5) s r + 3) := by rw [eg]; exact (h.1.2.2.1 r hr).2.2.2.symm
  have hl21 := (sd_elr h (e := 16 * s + r) (by omega)).2.2
  obtain ⟨d', hd, w⟩ := sd_Xbec (c := sd_mg c s r) (d := sd_s (sd_s (sd_s (sd_s d 22 (upd (d 22) (16 * s + r) (d 19 (16 * s + r)))) 23 (upd (d 23) (16 * s + r) (d 20 (16 * s + r)))) 24 (upd (d 24) (16 * s + r) (d 21 (16 * s + r)))) 25 (upd (d 25) (16 * s + r) (d 14 r))) 4 hs hr (by decide) (by
      refine ⟨h.1, ?_, h.2.2⟩
      refine sd_RE_al (e0 := 16 * s + r) h.2.1 (fun _ _ => trivial) (fun _ _ => trivial) ⟨4, by decide, pk_us⟩ ⟨?_, ?_, hl21⟩ (sd_al_r _ _) (sd_al_r _ _) (sd_al_r _ _) (sd_al_u _ _ _) (sd_al_u _ _ _) (sd_al_u _ _ _) (sd_al_u _ _ _) (sd_al_u _ _ _) (sd_al3_u _ _ _ _ _) (sd_al3_u _ _ _ _ _) (sd_al_u _ _ _)
      · show sd_lr (sd_u3 _ _ _ _ _ _); rw [sd_u3_2]; exact hlr
      · show sd_lr (sd_u3 _ _ _ _ _ _); rw [sd_u3_2]; exact hlr) (by
      refine ⟨fun _ _ => ⟨?_, ?_, ?_⟩, fun _ => ⟨?_, ?_, ?_, ?_⟩⟩
      · show d 19 _ = sd_u3 _ _ _ _ _ _; rw [sd_u3_0]; exact e0
      · show d 20 _ = sd_u3 _ _ _ _ _ _; rw [sd_u3_1]; exact e1
      · show d 21 _ = sd_u3 _ _ _ _ _ _; rw [sd_u3_2]; exact e2
      · show upd _ _ _ _ = sd_u3 _ _ _ _ _ _; rw [pk_us, sd_u3_0]; exact e0
      · show upd _ _ _ _ = sd_u3 _ _ _ _ _ _; rw [pk_us, sd_u3_1]; exact e1
      · show upd _ _ _ _ = sd_u3 _ _ _ _ _ _; rw [pk_us, sd_u3_2]; exact e2
      · show upd _ _ _ _ = upd _ _ _ _; rw [pk_us, pk_us]; exact e3) pk_us
  refine ⟨d', hd, fun post hp => ?_⟩
  unfold wpX_settle
  refine nm_r (e' := nI (16 * s + r)) (sd_i16 s r) ?_
  rw [sd_ch (n := 16 * s + r) (by omega), sd_ch (n := r) (by omega)]
  exact ⟨he, he, nm_e ⟨he, he, nm_e ⟨he, he, nm_r (congrArg (upd (d 24) (16 * s + r)) (sd_lrn hl21)) ⟨sd_in hr, he, nm_e (w _ hp)⟩⟩⟩⟩
theorem sd_D_mg {c : sd_T} {s r i : Nat} (hi : ¬ i = r) : sd_D (sd_mg c s r) s i = sd_D c s i := by
  unfold sd_D
  exact sd_dy_al (e0 := 16 * s + r) (by omega) (sd_al_u _ _ _) (sd_al3_u _ _ _ _ _) (sd_al3_u _ _ _ _ _)
theorem sd_ok_mg {c : sd_T} {s r i : Nat} (hi : ¬ i = r) (h : sd_ok c s i) : sd_ok (sd_mg c s r) s i := by
  have e := sd_al3_u (16 * s + r) (c 7) (c 4 (4 * sd_sg (c 5) s r)) (c 4 (4 * sd_sg (c 5) s r + 1)) (c 4 (4 * sd_sg (c 5) s r + 2)) (16 * s + i) (by omega)
  exact ⟨h.1, h.2.1.trans e.1.symm, h.2.2.1.trans e.2.1.symm, h.2.2.2.trans e.2.2.symm⟩
theorem sd_D_k0 {c : sd_T} {s r i : Nat} {v : Int32} (hi : ¬ i = r) : sd_D (sd_s c 6 (upd (c 6) (16 * s + r) v)) s i = sd_D c s i := by
  unfold sd_D
  exact sd_dy_al (e0 := 16 * s + r) (by omega) (sd_al_u _ _ _) (sd_al3_r _ _) (sd_al3_r _ _)
/-- the entities after a good flush -/
theorem sd_fnl {s : Nat} {x2 x3 x5 : Int32} (hs : s < 3) : ∀ (t k : Nat) (c d : sd_T), k + t = 16 → sd_L c d → (∀ i, k ≤ i → i < 16 → (bt (x5 ||| x2) i = true ↔ (c 6 (16 * s + i) = 2 ∨ sd_D c s i = true))) → (∀ i, k ≤ i → i < 16 → (bt x3 i = true ↔ c 6 (16 * s + i) = 5)) →
    (∀ i, k ≤ i → i < 16 → (c 6 (16 * s + i) = 2 ∨ sd_D c s i = true) → sd_ok c s i) →
    ∃ (c' d' : sd_T), sd_L c' d' ∧ (∀ (N : Nat) (post : Int32 → SX → Prop), t < N → post 0 (sd_x d') → wX_flushed_131 post (nI s) x2 x3 x5 N (nI k) (d 0 0) (d 1 0) (d 2 0) (d 3 0) (d 4 0) (d 5 0) (d 6 0) (d 7) (d 8) (d 9) (d 10) (d 11) (d 12) (d 13) (d 14) (d 15) (d 16) (d 17) (d 18) (d 19) (d 20) (d 21) (d 22) (d 23) (d 24) (d 25) (d 26) (d 27) (d 28) (d 29) (d 30)) ∧
    (∀ (N : Nat) (post : Int32 → SY → Prop), t < N → post 0 (sd_y c') → wY_flushed_66 post (nI s) N (nI k) (c 0 0) (c 1 0) (c 2) (c 3) (c 4) (c 5) (c 6) (c 7) (c 8) (c 9) (c 10) (c 11) (c 12) (c 13) (c 14) (c 15) (c 16) (c 17)) := by
  intro t
  induction t with
  | zero =>
    intro k c d hk h _ _ _
    obtain rfl : k = 16 := by omega
    refine ⟨c, d, h, fun N post hN hp => ?_, fun N post hN hp => ?_⟩
    · obtain ⟨N', rfl⟩ : ∃ N', N = N' + 1 := ⟨N - 1, by omega⟩
      exact br_t (by decide) hp
    · obtain ⟨N', rfl⟩ : ∃ N', N = N' + 1 := ⟨N - 1, by omega⟩
      exact br_t (by decide) hp
  | succ t ih =>
    intro k c d hk h b1 b2 hok
    have hk16 : k < 16 := by omega
    have h16 : ¬ (16 : Int32) ≤ nI k := nI_ge (a := k) (b := 16) hk16 (by decide)
    have ec : (nI (16 * s + k)).toNatClampNeg = 16 * s + k := sd_ch (by omega)
    have hin : vp_in (nI (16 * s + k)) 48 := sd_in (by omega)
    have q1 := b1 k (Nat.le_refl k) hk16
    have q2 := b2 k (Nat.le_refl k) hk16
    by_cases k5 : c 6 (16 * s + k) = 5
    · have hn : bt (x5 ||| x2) k = false := by
        cases hb : bt (x5 ||| x2) k
        · rfl
        · rcases q1.mp hb with w | w
          · rw [k5] at w; exact absurd w (by decide)
          · have := sd_dy4 w; rw [k5] at this; exact absurd this (by decide)
      obtain ⟨d1, h1, w1⟩ := sd_Xbk 0 hs hk16 (by decide) h (fun a => absurd rfl a) (fun a => by rcases a with a | a <;> exact absurd a (by decide))
      have e6 : ∀ i, ¬ i = k → sd_s c 6 (upd (c 6) (16 * s + k) (nI 0)) 6 (16 * s + i) = c 6 (16 * s + i) := fun i hi => pk_un (by omega)
      obtain ⟨c', d', h', wx, wy⟩ := ih (k + 1) _ d1 (by omega) h1 (fun i hi hi2 => by rw [e6 i (by omega), sd_D_k0 (by omega)]; exact b1 i (by omega) hi2) (fun i hi hi2 => by rw [e6 i (by omega)]; exact b2 i (by omega) hi2) (fun i hi hi2 q => by rw [e6 i (by omega), sd_D_k0 (by omega)] at q; exact hok i (by omega) hi2 q)
      refine ⟨c', d', h', fun N post hN hp => ?_, fun N post hN hp => ?_⟩
      · obtain ⟨N', rfl⟩ : ∃ N', N = N' + 1 := ⟨N - 1, by omega⟩
        refine br_f h16 (sd_Xh0 (by omega) hn (br_t rfl ?_))
        unfold wX_flushed_157
        exact sd_Xh1 (by omega) (q2.mpr k5) (br_f (by decide) (w1 _ (nm_r (nI_1 k) (wx N' post (by omega) hp))))
      · obtain ⟨N', rfl⟩ : ∃ N', N = N' + 1 := ⟨N - 1, by omega⟩
        refine br_f h16 (nm_r (sd_i16 s k) ⟨hin, ?_⟩)
        rw [ec]
        exact br_t k5 ⟨hin, nm_e (nm_r (nI_1 k) (wy N' post (by omega) hp))⟩
    · have hn3 : bt x3 k = false := by
        cases hb : bt x3 k
        · rfl
        · exact absurd (q2.mp hb) k5
      by_cases z : c 6 (16 * s + k) = 2 ∨ sd_D c s k = true
      · have k24 : c 6 (16 * s + k) = 2 ∨ c 6 (16 * s + k) = 4 := by
          rcases z with z | z
          · exact Or.inl z
          · exact Or.inr (sd_dy4 z)
        obtain ⟨d1, h1, w1⟩ := sd_Xset hs hk16 h (by rcases k24 with w | w <;> rw [w] <;> decide) (by rcases k24 with w | w <;> rw [w] <;> decide) (hok k (Nat.le_refl k) hk16 z)
        have e6 : ∀ i, ¬ i = k → sd_mg c s k 6 (16 * s + i) = c 6 (16 * s + i) := fun i hi => pk_un (by omega)
        obtain ⟨c', d', h', wx, wy⟩ := ih (k + 1) _ d1 (by omega) h1 (fun i hi hi2 => by rw [e6 i (by omega), sd_D_mg (by omega)]; exact b1 i (by omega) hi2) (fun i hi hi2 => by rw [e6 i (by omega)]; exact b2 i (by omega) hi2) (fun i hi hi2 q => by rw [e6 i (by omega), sd_D_mg (by omega)] at q; exact sd_ok_mg (by omega) (hok i (by omega) hi2 q))
        refine ⟨c', d', h', fun N post hN hp => ?_, fun N post hN hp => ?_⟩
        · obtain ⟨N', rfl⟩ : ∃ N', N = N' + 1 := ⟨N - 1, by omega⟩
          refine br_f h16 (sd_Xh1 (by omega) (q1.mpr z) (br_f (by decide) (w1 _ ?_)))
          unfold wX_flushed_157
          exact sd_Xh0 (by omega) hn3 (br_t rfl (nm_r (nI_1 k) (wx N' post (by omega) hp)))
        · obtain ⟨N', rfl⟩ : ∃ N', N = N' + 1 := ⟨N - 1, by omega⟩
          have go : wY_flushed_122 post (wY_flushed_66 post (nI s) N') (nI s) (nI k) (c 0 0) (c 1 0) (c 2) (c 3) (c 4) (c 5) (c 6) (c 7) (c 8) (c 9) (c 10) (c 11) (c 12) (c 13) (c 14) (c 15) (c 16) (c 17) := by
            unfold wY_flushed_122
            exact sd_Ymg (c := c) hs hk16 (nm_r (nI_1 k) (wy N' post (by omega) hp))
          refine br_f h16 (nm_r (sd_i16 s k) ⟨hin, ?_⟩)
          rw [ec]
          refine br_f k5 ⟨hin, ?_⟩
          by_cases w2 : c 6 (16 * s + k) = 2
          · exact br_t w2 go
          · refine br_f w2 (sd_Ydy (c := c) (by omega) ?_)
            have zD : sd_dy (c 6) (c 7) (c 8) (16 * s + k) = true := z.resolve_left w2
            rw [zD]
            exact br_f (by decide) go
      · have hn : bt (x5 ||| x2) k = false := by
          cases hb : bt (x5 ||| x2) k
          · rfl
          · exact absurd (q1.mp hb) z
        obtain ⟨c', d', h', wx, wy⟩ := ih (k + 1) c d (by omega) h (fun i hi hi2 => b1 i (by omega) hi2) (fun i hi hi2 => b2 i (by omega) hi2) (fun i hi hi2 q => hok i (by omega) hi2 q)
        refine ⟨c', d', h', fun N post hN hp => ?_, fun N post hN hp => ?_⟩
        · obtain ⟨N', rfl⟩ : ∃ N', N = N' + 1 := ⟨N - 1, by omega⟩
          refine br_f h16 (sd_Xh0 (by omega) hn (br_t rfl ?_))
          unfold wX_flushed_157
          exact sd_Xh0 (by omega) hn3 (br_t rfl (nm_r (nI_1 k) (wx N' post (by omega) hp)))
        · obtain ⟨N', rfl⟩ : ∃ N', N = N' + 1 := ⟨N - 1, by omega⟩
          refine br_f h16 (nm_r (sd_i16 s k) ⟨hin, ?_⟩)
          rw [ec]
          refine br_f k5 ⟨hin, br_f (fun w => z (Or.inl w)) (sd_Ydy (c := c) (by omega) ?_)⟩
          have zD : sd_dy (c 6) (c 7) (c 8) (16 * s + k) = false := by
            cases hb : sd_dy (c 6) (c 7) (c 8) (16 * s + k)
            · rfl
            · exact absurd (Or.inr hb) z
          rw [zD]
          exact br_t rfl (nm_r (nI_1 k) (wy N' post (by omega) hp))
/-- a flush that fails -/
theorem sd_fai {c d : sd_T} {s : Nat} {a x2 x3 x5 : Int32} (hs : s < 3) (h : sd_L c d) (ha : ¬ a = 0) : ∃ c' d', sd_L c' d' ∧ (∀ post : Int32 → SX → Prop, post a (sd_x d') → wX_flushed_106 post (nI s) x2 x3 a x5 (d 0 0) (d 1 0) (d 2 0) (d 3 0) (d 4 0) (d 5 0) (d 6 0) (d 7) (d 8) (d 9) (d 10) (d 11) (d 12) (d 13) (d 14) (d 15) (d 16) (d 17) (d 18) (d 19) (d 20) (d 21) (d 22) (d 23) (d 24) (d 25) (d 26) (d 27) (d 28) (d 29) (d 30)) ∧ (∀ post : Int32 → SY → Prop, post a (sd_y c') → wY_flushed_46 post (nI s) a (c 0 0) (c 1 0) (c 2) (c 3) (c 4) (c 5) (c 6) (c 7) (c 8) (c 9) (c 10) (c 11) (c 12) (c 13) (c 14) (c 15) (c 16) (c 17)) := by
  refine ⟨sd_s (sd_s c 5 (sd_un (c 5) s 16)) 10 (upd (c 10) s 1), sd_s (sd_s d 18 (upd (d 18) s 1)) 15 (upd (d 15) s 0), ⟨sd_RS_un hs h.1, h.2.1, h.2.2.1, h.2.2.2.1, h.2.2.2.2.1, h.2.2.2.2.2.1, h.2.2.2.2.2.2.1, h.2.2.2.2.2.2.2.1, h.2.2.2.2.2.2.2.2.1, ?_, h.2.2.2.2.2.2.2.2.2.2⟩, fun post hp => ?_, fun post hp => ?_⟩
  · show upd (d 18) s 1 = upd (c 10) s 1
    rw [show d 18 = c 10 from h.2.2.2.2.2.2.2.2.2.1]
  · unfold wX_flushed_106
    rw [sd_ch (n := s) (by omega), sd_nb1]
    exact br_f ha ⟨sd_in hs, nm_e ⟨sd_in hs, nm_e hp⟩⟩
  · unfold wY_flushed_46
    refine br_f ha (sd_Yun (c := c) hs ?_)
    refine ⟨sd_in hs, ?_⟩
    rw [sd_ch (n := s) (by omega), sd_nb1]
    exact nm_e hp
/-- behind the deletes -/
theorem sd_fl4 {c d : sd_T} {s : Nat} {x2 x3 x5 : Int32} (hs : s < 3) (h : sd_L c d) (b1 : ∀ i, i < 16 → (bt (x5 ||| x2) i = true ↔ (c 6 (16 * s + i) = 2 ∨ sd_D c s i = true))) (b2 : ∀ i, i < 16 → (bt x3 i = true ↔ c 6 (16 * s + i) = 5))
    (hok : ∀ i, i < 16 → c 6 (16 * s + i) = 2 ∨ sd_D c s i = true → sd_ok c s i) : ∃ (a : Int32) (c' d' : sd_T), sd_L c' d' ∧ (∀ post : Int32 → SX → Prop, post a (sd_x d') → wX_flushed_89 post (nI s) x2 x3 0 x5 (d 0 0) (d 1 0) (d 2 0) (d 3 0) (d 4 0) (d 5 0) (d 6 0) (d 7) (d 8) (d 9) (d 10) (d 11) (d 12) (d 13) (d 14) (d 15) (d 16) (d 17) (d 18) (d 19) (d 20) (d 21) (d 22) (d 23) (d 24) (d 25) (d 26) (d 27) (d 28) (d 29) (d 30)) ∧ (∀ post : Int32 → SY → Prop, post a (sd_y c') → wY_flushed_31 post (nI s) 0 (c 0 0) (c 1 0) (c 2) (c 3) (c 4) (c 5) (c 6) (c 7) (c 8) (c 9) (c 10) (c 11) (c 12) (c 13) (c 14) (c 15) (c 16) (c 17)) := by
  cases hf : sd_e (sd_fb c s) 16
  · obtain ⟨c', d', h', wx, wy⟩ := sd_fnl (x2 := x2) (x3 := x3) (x5 := x5) hs 16 0 c d (by decide) h (fun i _ hi => b1 i hi) (fun i _ hi => b2 i hi) (fun i _ hi q => hok i hi q)
    refine ⟨0, c', d', h', fun post hp => ?_, fun post hp => ?_⟩
    · unfold wX_flushed_89
      refine br_t rfl (sd_Xda (d := d) hs h ?_)
      rw [hf]
      exact br_t rfl (br_t rfl ⟨17, wx 17 post (by decide) hp⟩)
    · unfold wY_flushed_31
      refine br_t rfl (sd_Yfo (c := c) hs h ?_)
      rw [hf]
      exact br_t rfl (br_t rfl ⟨17, wy 17 post (by decide) hp⟩)
  · obtain ⟨c', d', h', wx, wy⟩ := sd_fai (a := -8) (x2 := x2) (x3 := x3) (x5 := x5) hs h (by decide)
    refine ⟨-8, c', d', h', fun post hp => ?_, fun post hp => ?_⟩
    · unfold wX_flushed_89
      refine br_t rfl (sd_Xda (d := d) hs h ?_)
      rw [hf]
      exact br_f (by decide) (wx post hp)
    · unfold wY_flushed_31
      refine br_t rfl (sd_Yfo (c := c) hs h ?_)
      rw [hf]
      exact br_f (by decide) (wy post hp)
/-! arrays that are filled up to n -/
def sd_pf (f g : Nat → Int32) (n : Nat) : Nat → Int32 := fun i => if i < n then f i else g i
theorem sd_pf_0 (f g : Nat → Int32) : sd_pf f g 0 = g := by
  funext i
  exact if_neg (Nat.not_lt_zero i)
theorem sd_pf_s (f g : Nat → Int32) (n : Nat) : upd (sd_pf f g n) n (f n) = sd_pf f g (n + 1) := by
  funext i
  by_cases e : i = n
  · rw [e, pk_us]
    exact (if_pos (by omega)).symm
  · rw [pk_un e]
    unfold sd_pf
    by_cases w : i < n
    · rw [if_pos w, if_pos (by omega)]
    · rw [if_neg w, if_neg (by omega)]
theorem sd_Yde {post : Int32 → SY → Prop} {c : sd_T} {s : Nat} (hs : s < 3) (hp : ∃ n49 : Nat, wY_deletes_49 post (nI s) n49 0 (sd_nx (sd_s c 12 (sd_pf (fun i => sd_b (decide (c 6 (16 * s + i) = 5))) (c 12) 16)) s false) (c 0 0) (c 1 0) (c 2) (c 3) (c 4) (c 5) (c 6) (c 7) (c 8) (c 9) (c 10) (c 11) (sd_pf (fun i => sd_b (decide (c 6 (16 * s + i) = 5))) (c 12) 16) (c 13) (c 14) (c 15) (c 16) (c 17)) : wpY_deletes post (sd_y c) (nI s) := by
  have lp : ∀ m j n, j + m = 16 → m < n → wY_deletes_4 post (nI s) 0 (c 0 0) (c 1 0) n (nI j) (c 2) (c 3) (c 4) (c 5) (c 6) (c 7) (c 8) (c 9) (c 10) (c 11) (sd_pf (fun i => sd_b (decide (c 6 (16 * s + i) = 5))) (c 12) j) (c 13) (c 14) (c 15) (c 16) (c 17) := by
    intro m
    induction m with
    | zero =>
      intro j n hj hn
      obtain rfl : j = 16 := by omega
      obtain ⟨n', rfl⟩ : ∃ n', n = n' + 1 := ⟨n - 1, by omega⟩
      exact br_t (by decide) (sd_Ynx (c := sd_s c 12 (sd_pf (fun i => sd_b (decide (c 6 (16 * s + i) = 5))) (c 12) 16)) (out := false) hs hp)
    | succ m ih =>
      intro j n hj hn
      obtain ⟨n', rfl⟩ : ∃ n', n = n' + 1 := ⟨n - 1, by omega⟩
      have e := sd_pf_s (fun i => sd_b (decide (c 6 (16 * s + i) = 5))) (c 12) j
      refine br_f (nI_ge (a := j) (b := 16) (by omega) (by decide)) ?_
      rw [sd_i16, sd_ch (n := 16 * s + j) (by omega), sd_ch (n := j) (by omega), sd_nb0, sd_nb1]
      refine ⟨sd_in (by omega), br_c (fun z => ⟨sd_in (by omega), nm_r ?_ (nm_r (nI_1 j) (ih (j + 1) n' (by omega) (by omega)))⟩) (fun z => ⟨sd_in (by omega), nm_r ?_ (nm_r (nI_1 j) (ih (j + 1) n' (by omega) (by omega)))⟩)⟩
      · rw [← e]
        show upd _ j 1 = upd _ j (sd_b (decide (c 6 (16 * s + j) = 5)))
        rw [decide_eq_true z]; rfl
      · rw [← e]
        show upd _ j 0 = upd _ j (sd_b (decide (c 6 (16 * s + j) = 5)))
        rw [decide_eq_false z]; rfl
  have w := lp 16 0 17 (by decide) (by decide)
  rw [sd_pf_0] at w
  unfold wpY_deletes
  exact ⟨17, w⟩
theorem sd_Yis {post : Int32 → SY → Prop} {c : sd_T} {s : Nat} (hs : s < 3) (hp : ∃ n74 : Nat, wY_inserts_74 post (nI s) n74 0 0 (sd_nx (sd_s (sd_s c 12 (sd_pf (fun i => sd_b (decide (c 6 (16 * s + i) = 2))) (c 12) 16)) 13 (sd_pf (fun i => sd_b (sd_D c s i)) (c 13) 16)) s true) (c 0 0) (c 1 0) (c 2) (c 3) (c 4) (c 5) (c 6) (c 7) (c 8) (c 9) (c 10) (c 11) (sd_pf (fun i => sd_b (decide (c 6 (16 * s + i) = 2))) (c 12) 16) (sd_pf (fun i => sd_b (sd_D c s i)) (c 13) 16) (c 14) (c 15) (c 16) (c 17)) : wpY_inserts post (sd_y c) (nI s) := by
  have lp : ∀ m j n, j + m = 16 → m < n → wY_inserts_7 post (nI s) 0 0 (c 0 0) (c 1 0) n (nI j) (c 2) (c 3) (c 4) (c 5) (c 6) (c 7) (c 8) (c 9) (c 10) (c 11) (sd_pf (fun i => sd_b (decide (c 6 (16 * s + i) = 2))) (c 12) j) (sd_pf (fun i => sd_b (sd_D c s i)) (c 13) j) (c 14) (c 15) (c 16) (c 17) := by
    intro m
    induction m with
    | zero =>
      intro j n hj hn
      obtain rfl : j = 16 := by omega
      obtain ⟨n', rfl⟩ : ∃ n', n = n' + 1 := ⟨n - 1, by omega⟩
      exact br_t (by decide) (sd_Ynx (c := sd_s (sd_s c 12 (sd_pf (fun i => sd_b (decide (c 6 (16 * s + i) = 2))) (c 12) 16)) 13 (sd_pf (fun i => sd_b (sd_D c s i)) (c 13) 16)) (out := true) hs hp)
    | succ m ih =>
      intro j n hj hn
      obtain ⟨n', rfl⟩ : ∃ n', n = n' + 1 := ⟨n - 1, by omega⟩
      have e := sd_pf_s (fun i => sd_b (decide (c 6 (16 * s + i) = 2))) (c 12) j
      have e2 := sd_pf_s (fun i => sd_b (sd_D c s i)) (c 13) j
      have w := ih (j + 1) n' (by omega) (by omega)
      rw [← e, ← e2] at w
      have go : ∀ z0 : Int32, z0 = sd_b (decide (c 6 (16 * s + j) = 2)) → wY_inserts_41 post (wY_inserts_7 post (nI s) 0 0 (c 0 0) (c 1 0) n') (nI s) 0 0 (nI j) z0 (nI j) (c 0 0) (c 1 0) (c 2) (c 3) (c 4) (c 5) (c 6) (c 7) (c 8) (c 9) (c 10) (c 11) (sd_pf (fun i => sd_b (decide (c 6 (16 * s + i) = 2))) (c 12) j) (sd_pf (fun i => sd_b (sd_D c s i)) (c 13) j) (c 14) (c 15) (c 16) (c 17) := by
        intro z0 ez
        unfold wY_inserts_41
        rw [sd_i16, ez, sd_nb, sd_ch (n := j) (by omega)]
        refine ⟨sd_in (by omega), nm_e (sd_Ydy (c := sd_s (sd_s c 12 (upd (sd_pf (fun i => sd_b (decide (c 6 (16 * s + i) = 2))) (c 12) j) j (sd_b (decide (c 6 (16 * s + j) = 2))))) 13 (sd_pf (fun i => sd_b (sd_D c s i)) (c 13) j)) (by omega) ⟨sd_in (by omega), ?_⟩)⟩
        rw [sd_nb]
        exact nm_e (nm_r (nI_1 j) w)
      refine br_f (nI_ge (a := j) (b := 16) (by omega) (by decide)) ?_
      rw [sd_i16, sd_ch (n := 16 * s + j) (by omega)]
      exact ⟨sd_in (by omega), br_c (fun z => go 1 (by rw [decide_eq_true z]; rfl)) (fun z => go 0 (by rw [decide_eq_false z]; rfl))⟩
  have w := lp 16 0 17 (by decide) (by decide)
  rw [sd_pf_0, sd_pf_0] at w
  unfold wpY_inserts
  exact ⟨17, w⟩
/-- behind the updates -/
theorem sd_fl3 {c d : sd_T} {s m : Nat} {x2 x3 x5 : Int32} (hs : s < 3) (h : sd_L c d) (b1 : ∀ i, i < 16 → (bt (x5 ||| x2) i = true ↔ (c 6 (16 * s + i) = 2 ∨ sd_D c s i = true))) (b2 : ∀ i, i < 16 → (bt x3 i = true ↔ c 6 (16 * s + i) = 5)) (b3 : ∀ i, 16 ≤ i → i < 32 → bt x3 i = false)
    (h0 : c 0 0 = nI m) (hm : m ≤ 32 + sd_c (sd_D c s) 16) (hok : ∀ i, i < 16 → c 6 (16 * s + i) = 2 ∨ sd_D c s i = true → sd_ok c s i) :
    ∃ (a : Int32) (c' d' : sd_T), sd_L c' d' ∧ (∀ post : Int32 → SX → Prop, post a (sd_x d') → wX_flushed_76 post (nI s) x2 x3 0 x5 (d 0 0) (d 1 0) (d 2 0) (d 3 0) (d 4 0) (d 5 0) (d 6 0) (d 7) (d 8) (d 9) (d 10) (d 11) (d 12) (d 13) (d 14) (d 15) (d 16) (d 17) (d 18) (d 19) (d 20) (d 21) (d 22) (d 23) (d 24) (d 25) (d 26) (d 27) (d 28) (d 29) (d 30)) ∧ (∀ post : Int32 → SY → Prop, post a (sd_y c') → wY_flushed_21 post (nI s) 0 (c 0 0) (c 1 0) (c 2) (c 3) (c 4) (c 5) (c 6) (c 7) (c 8) (c 9) (c 10) (c 11) (c 12) (c 13) (c 14) (c 15) (c 16) (c 17)) := by
  have hb3 : ∀ i, i < 16 → bt x3 i = decide (c 6 (16 * s + i) = 5) := fun i hi => by rw [Bool.eq_iff_iff, decide_eq_true_eq]; exact b2 i hi
  have hI : sd_ID (sd_s c 12 (sd_pf (fun i => sd_b (decide (c 6 (16 * s + i) = 5))) (c 12) 16)) s x3 m := by
    refine ⟨⟨fun i hi => ?_, b3⟩, fun i hi q => (b2 i hi).mp q, h0, ?_, hok⟩
    · show sd_pf (fun i => sd_b (decide (c 6 (16 * s + i) = 5))) (c 12) 16 i = _
      rw [hb3 i hi]
      exact if_pos hi
    · have e := sd_c_2 (p := bt x3) (q := sd_D c s) (n := 16) (by
        intro i hi
        rw [hb3 i hi]
        cases hD : sd_D c s i
        · rw [Bool.and_false]
        · rw [sd_dy4 hD]; decide)
      omega
  obtain ⟨a, c1, d1, h1, fz1, ok1, wx1, wy1⟩ := sd_dll hs 16 (sd_s c 12 (sd_pf (fun i => sd_b (decide (c 6 (16 * s + i) = 5))) (c 12) 16)) d x3 m h hI (sd_c_le _ 16)
  have hX : ∀ (post : Int32 → SX → Prop), wX_flushed_89 post (nI s) x2 x3 a x5 (d1 0 0) (d1 1 0) (d1 2 0) (d1 3 0) (d1 4 0) (d1 5 0) (d1 6 0) (d1 7) (d1 8) (d1 9) (d1 10) (d1 11) (d1 12) (d1 13) (d1 14) (d1 15) (d1 16) (d1 17) (d1 18) (d1 19) (d1 20) (d1 21) (d1 22) (d1 23) (d1 24) (d1 25) (d1 26) (d1 27) (d1 28) (d1 29) (d1 30) → wX_flushed_76 post (nI s) x2 x3 0 x5 (d 0 0) (d 1 0) (d 2 0) (d 3 0) (d 4 0) (d 5 0) (d 6 0) (d 7) (d 8) (d 9) (d 10) (d 11) (d 12) (d 13) (d 14) (d 15) (d 16) (d 17) (d 18) (d 19) (d 20) (d 21) (d 22) (d 23) (d 24) (d 25) (d 26) (d 27) (d 28) (d 29) (d 30) := by
    intro post q
    unfold wX_flushed_76 wpX_deleteAll
    exact br_t rfl ⟨17, wx1 17 _ (by decide) q⟩
  have hY : ∀ (post : Int32 → SY → Prop), wY_flushed_31 post (nI s) a (c1 0 0) (c1 1 0) (c1 2) (c1 3) (c1 4) (c1 5) (c1 6) (c1 7) (c1 8) (c1 9) (c1 10) (c1 11) (c1 12) (c1 13) (c1 14) (c1 15) (c1 16) (c1 17) → wY_flushed_21 post (nI s) 0 (c 0 0) (c 1 0) (c 2) (c 3) (c 4) (c 5) (c 6) (c 7) (c 8) (c 9) (c 10) (c 11) (c 12) (c 13) (c 14) (c 15) (c 16) (c 17) := by
    intro post q
    unfold wY_flushed_21
    exact br_t rfl (sd_Yde (c := c) hs ⟨17, wy1 17 _ (by decide) q⟩)
  by_cases a0 : a = 0
  · subst a0
    have e6 : c1 6 = c 6 := fz1.1
    have eD : ∀ i, sd_D c1 s i = sd_D c s i := fun i => sd_D_fz fz1 s i
    obtain ⟨a', c', d', h', wx, wy⟩ := sd_fl4 (x2 := x2) (x3 := x3) (x5 := x5) hs h1 (fun i hi => by rw [e6, eD]; exact b1 i hi) (fun i hi => by rw [e6]; exact b2 i hi) (ok1 rfl)
    exact ⟨a', c', d', h', fun post hp => hX post (wx post hp), fun post hp => hY post (wy post hp)⟩
  · obtain ⟨c', d', h', wx, wy⟩ := sd_fai (a := a) (x2 := x2) (x3 := x3) (x5 := x5) hs h1 a0
    refine ⟨a, c', d', h', fun post hp => hX post ?_, fun post hp => hY post ?_⟩
    · unfold wX_flushed_89
      exact br_f a0 (wx post hp)
    · unfold wY_flushed_31
      exact br_f a0 (wy post hp)
/-- from the inserts on -/
theorem sd_fl2 {c d : sd_T} {s : Nat} {x2 x3 x5 : Int32} (hs : s < 3) (h : sd_L c d) (h0 : c 0 0 = 0) (h18 : c 18 0 = 0) (b5 : ∀ i, i < 16 → bt x5 i = decide (c 6 (16 * s + i) = 2)) (b5h : ∀ i, 16 ≤ i → i < 32 → bt x5 i = false) (bD : ∀ i, i < 16 → bt x2 i = sd_D c s i)
    (b2 : ∀ i, i < 16 → (bt x3 i = true ↔ c 6 (16 * s + i) = 5)) (b3 : ∀ i, 16 ≤ i → i < 32 → bt x3 i = false) :
    ∃ (a : Int32) (c' d' : sd_T), sd_L c' d' ∧ (∀ post : Int32 → SX → Prop, post a (sd_x d') → wpX_insertAll (fun r u => match u with | (p0, p1, p2, p3, p4, p5, p6, p7, p8, p9, p10, p11, p12, p13, p14, p15, p16, p17, p18, p19, p20, p21, p22, p23, p24, p25, p26, p27, p28, p29, p30) => wX_flushed_63 post (nI s) x2 x3 r x5 p0 p1 p2 p3 p4 p5 p6 p7 p8 p9 p10 p11 p12 p13 p14 p15 p16 p17 p18 p19 p20 p21 p22 p23 p24 p25 p26 p27 p28 p29 p30) (sd_x d) (nI s) x5) ∧ (∀ post : Int32 → SY → Prop, post a (sd_y c') → wpY_inserts (fun r u => match u with | (p0, p1, p2, p3, p4, p5, p6, p7, p8, p9, p10, p11, p12, p13, p14, p15, p16, p17) => wY_flushed_21 post (nI s) r p0 p1 p2 p3 p4 p5 p6 p7 p8 p9 p10 p11 p12 p13 p14 p15 p16 p17) (sd_y c) (nI s)) := by
  have hI : sd_IL (sd_s (sd_s c 12 (sd_pf (fun i => sd_b (decide (c 6 (16 * s + i) = 2))) (c 12) 16)) 13 (sd_pf (fun i => sd_b (sd_D c s i)) (c 13) 16)) s x5 0 0 := by
    refine ⟨⟨fun i hi => ?_, b5h⟩, fun i hi q => ?_, h18, fun k hk => absurd hk (Nat.not_lt_zero k), h0, Nat.le_refl 0, ?_, fun i hi q z => ?_⟩
    · show sd_pf (fun i => sd_b (decide (c 6 (16 * s + i) = 2))) (c 12) 16 i = _
      rw [b5 i hi]
      exact if_pos hi
    · rw [b5 i hi, decide_eq_true_eq] at q; exact q
    · have := sd_c_le (bt x5) 16; omega
    · rw [b5 i hi, decide_eq_false_iff_not] at z; exact absurd q z
  obtain ⟨a1, c1, d1, n1, m1, h1, fz1, hI1, wx1, wy1⟩ := sd_inl hs 16 (sd_s (sd_s c 12 (sd_pf (fun i => sd_b (decide (c 6 (16 * s + i) = 2))) (c 12) 16)) 13 (sd_pf (fun i => sd_b (sd_D c s i)) (c 13) 16)) d x5 0 0 h hI (sd_c_le _ 16)
  have hX1 : ∀ (post : Int32 → SX → Prop), wX_flushed_63 post (nI s) x2 x3 a1 x5 (d1 0 0) (d1 1 0) (d1 2 0) (d1 3 0) (d1 4 0) (d1 5 0) (d1 6 0) (d1 7) (d1 8) (d1 9) (d1 10) (d1 11) (d1 12) (d1 13) (d1 14) (d1 15) (d1 16) (d1 17) (d1 18) (d1 19) (d1 20) (d1 21) (d1 22) (d1 23) (d1 24) (d1 25) (d1 26) (d1 27) (d1 28) (d1 29) (d1 30) → wpX_insertAll (fun r u => match u with | (p0, p1, p2, p3, p4, p5, p6, p7, p8, p9, p10, p11, p12, p13, p14, p15, p16, p17, p18, p19, p20, p21, p22, p23, p24, p25, p26, p27, p28, p29, p30) => wX_flushed_63 post (nI s) x2 x3 r x5 p0 p1 p2 p3 p4 p5 p6 p7 p8 p9 p10 p11 p12 p13 p14 p15 p16 p17 p18 p19 p20 p21 p22 p23 p24 p25 p26 p27 p28 p29 p30) (sd_x d) (nI s) x5 := by
    intro post q
    unfold wpX_insertAll
    exact ⟨17, wx1 17 _ (by decide) q⟩
  have hY1 : ∀ (post : Int32 → SY → Prop), (∃ n141 : Nat, wY_inserts_141 (fun r u => match u with | (p0, p1, p2, p3, p4, p5, p6, p7, p8, p9, p10, p11, p12, p13, p14, p15, p16, p17) => wY_flushed_21 post (nI s) r p0 p1 p2 p3 p4 p5 p6 p7 p8 p9 p10 p11 p12 p13 p14 p15 p16 p17) (nI s) (nI n1) n141 a1 0 (c1 0 0) (c1 1 0) (c1 2) (c1 3) (c1 4) (c1 5) (c1 6) (c1 7) (c1 8) (c1 9) (c1 10) (c1 11) (c1 12) (c1 13) (c1 14) (c1 15) (c1 16) (c1 17)) → wpY_inserts (fun r u => match u with | (p0, p1, p2, p3, p4, p5, p6, p7, p8, p9, p10, p11, p12, p13, p14, p15, p16, p17) => wY_flushed_21 post (nI s) r p0 p1 p2 p3 p4 p5 p6 p7 p8 p9 p10 p11 p12 p13 p14 p15 p16 p17) (sd_y c) (nI s) := by
    intro post q
    exact sd_Yis (c := c) hs ⟨17, wy1 17 _ (by decide) q⟩
  -- a failure, from here on
  have bad : ∀ (a : Int32) (cb db : sd_T), ¬ a = 0 → sd_L cb db → ∃ c' d', sd_L c' d' ∧ (∀ post : Int32 → SX → Prop, post a (sd_x d') → wX_flushed_76 post (nI s) x2 x3 a x5 (db 0 0) (db 1 0) (db 2 0) (db 3 0) (db 4 0) (db 5 0) (db 6 0) (db 7) (db 8) (db 9) (db 10) (db 11) (db 12) (db 13) (db 14) (db 15) (db 16) (db 17) (db 18) (db 19) (db 20) (db 21) (db 22) (db 23) (db 24) (db 25) (db 26) (db 27) (db 28) (db 29) (db 30)) ∧ (∀ post : Int32 → SY → Prop, post a (sd_y c') → wY_flushed_21 post (nI s) a (cb 0 0) (cb 1 0) (cb 2) (cb 3) (cb 4) (cb 5) (cb 6) (cb 7) (cb 8) (cb 9) (cb 10) (cb 11) (cb 12) (cb 13) (cb 14) (cb 15) (cb 16) (cb 17)) := by
    intro a cb db a0 hb
    obtain ⟨c', d', h', wx, wy⟩ := sd_fai (a := a) (x2 := x2) (x3 := x3) (x5 := x5) hs hb a0
    refine ⟨c', d', h', fun post hp => ?_, fun post hp => ?_⟩
    · unfold wX_flushed_76 wX_flushed_89
      exact br_f a0 (br_f a0 (wx post hp))
    · unfold wY_flushed_21 wY_flushed_31
      exact br_f a0 (br_f a0 (wy post hp))
  by_cases z1 : a1 = 0
  · subst z1
    obtain ⟨j1, j2, j3, j4, j5, j6, j7, j8⟩ := hI1 rfl
    have e6 : c1 6 = c 6 := fz1.1
    have eD : ∀ i, sd_D c1 s i = sd_D c s i := fun i => sd_D_fz fz1 s i
    have hU : sd_IU c1 s n1 0 0 m1 := ⟨j3, j4, j5, by omega, by have := sd_c_le (bt 0) 16; omega, fun i hi q => by
      rcases j8 i hi q (b_0 i) with w | ⟨k, hk, ek⟩
      · exact Or.inl w
      · exact Or.inr ⟨k, by omega, hk, ek⟩, fun i hi => absurd hi (Nat.not_lt_zero i)⟩
    have e13 : c1 13 = sd_pf (fun i => sd_b (sd_D c s i)) (c 13) 16 := fz1.2.2.2.2
    obtain ⟨a2, c2, d2, m2, h2, fz2, hI2, wx2, wy2⟩ := sd_ul (x2 := x2) (n := n1) hs 16 0 c1 d1 m1 (by decide) h1 hU (fun i hi => by rw [eD]; exact bD i hi) (fun i hi => by rw [e13, eD]; exact if_pos hi)
    by_cases z2 : a2 = 0
    · subst z2
      obtain ⟨a3, c3, d3, m3, h3, fz3, hI3, wx3, wy3⟩ := sd_ll (n := n1) hs n1 0 c2 d2 m2 (by omega) h2 (hI2 rfl)
      have hX3 : ∀ (post : Int32 → SX → Prop), wX_flushed_76 post (nI s) x2 x3 a3 x5 (d3 0 0) (d3 1 0) (d3 2 0) (d3 3 0) (d3 4 0) (d3 5 0) (d3 6 0) (d3 7) (d3 8) (d3 9) (d3 10) (d3 11) (d3 12) (d3 13) (d3 14) (d3 15) (d3 16) (d3 17) (d3 18) (d3 19) (d3 20) (d3 21) (d3 22) (d3 23) (d3 24) (d3 25) (d3 26) (d3 27) (d3 28) (d3 29) (d3 30) → wX_flushed_63 post (nI s) x2 x3 0 x5 (d1 0 0) (d1 1 0) (d1 2 0) (d1 3 0) (d1 4 0) (d1 5 0) (d1 6 0) (d1 7) (d1 8) (d1 9) (d1 10) (d1 11) (d1 12) (d1 13) (d1 14) (d1 15) (d1 16) (d1 17) (d1 18) (d1 19) (d1 20) (d1 21) (d1 22) (d1 23) (d1 24) (d1 25) (d1 26) (d1 27) (d1 28) (d1 29) (d1 30) := by
        intro post q
        unfold wX_flushed_63 wpX_updateAll
        exact br_t rfl ⟨17, wx2 17 _ (by decide) (fun _ => ⟨n1 + 1, wx3 (n1 + 1) _ (by omega) q⟩) (fun w => absurd rfl w)⟩
      by_cases z3 : a3 = 0
      · subst z3
        obtain ⟨u1, u2, u3, u4, u5, u6, u7⟩ := hI3 rfl
        have g6 : c3 6 = c 6 := fz3.1.trans (fz2.1.trans e6)
        have gD : ∀ i, sd_D c3 s i = sd_D c s i := fun i => (sd_D_fz fz3 s i).trans ((sd_D_fz fz2 s i).trans (eD i))
        obtain ⟨a', c', d', h', wx, wy⟩ := sd_fl3 (x2 := x2) (x3 := x3) (x5 := x5) hs h3 (fun i hi => by rw [g6, gD, b_or, Bool.or_eq_true, b5 i hi, bD i hi, decide_eq_true_eq]) (fun i hi => by rw [g6]; exact b2 i hi) b3 u3 (by omega) (fun i hi q => by
          rcases q with q | q
          · rcases u6 i hi q with w | ⟨j, hj1, hj2, _⟩
            · exact w
            · omega
          · exact u7 i hi q)
        refine ⟨a', c', d', h', fun post hp => hX1 post (hX3 post (wx post hp)), fun post hp => hY1 post ⟨17, wy2 17 _ (by decide) ⟨n1 + 1, wy3 (n1 + 1) _ (by omega) (wy post hp)⟩⟩⟩
      · obtain ⟨c', d', h', wx, wy⟩ := bad a3 c3 d3 z3 h3
        refine ⟨a3, c', d', h', fun post hp => hX1 post (hX3 post (wx post hp)), fun post hp => hY1 post ⟨17, wy2 17 _ (by decide) ⟨n1 + 1, wy3 (n1 + 1) _ (by omega) (wy post hp)⟩⟩⟩
    · obtain ⟨c', d', h', wx, wy⟩ := bad a2 c2 d2 z2 h2
      refine ⟨a2, c', d', h', fun post hp => hX1 post ?_, fun post hp => hY1 post ⟨17, wy2 17 _ (by decide) ⟨1, br_c (fun _ => wy post hp) (fun _ => br_f z2 (wy post hp))⟩⟩⟩
      unfold wX_flushed_63 wpX_updateAll
      exact br_t rfl ⟨17, wx2 17 _ (by decide) (fun w => absurd w z2) (fun _ => wx post hp)⟩
  · obtain ⟨c', d', h', wx, wy⟩ := bad a1 c1 d1 z1 h1
    refine ⟨a1, c', d', h', fun post hp => hX1 post ?_, fun post hp => hY1 post ⟨1, br_f (by decide) (br_f z1 ⟨1, br_c (fun _ => wy post hp) (fun _ => br_f z1 (wy post hp))⟩)⟩⟩
    unfold wX_flushed_63
    exact br_f z1 (wx post hp)
/-- flushed, on both sides -/
theorem sd_flu {c d : sd_T} {s : Nat} (hs : s < 3) (h : sd_L c d) : ∃ (a : Int32) (c' d' : sd_T), sd_L c' d' ∧ (∀ post : Int32 → SX → Prop, post a (sd_x d') → wpX_flushed post (sd_x d) (nI s)) ∧ (∀ post : Int32 → SY → Prop, post a (sd_y c') → wpY_flushed post (sd_y c) (nI s)) := by
  have h0 : sd_L (sd_s (sd_s c 0 (fun _ => 0)) 18 (fun _ => 0)) (sd_s (sd_s d 4 (fun _ => 0)) 5 (fun _ => 0)) := ⟨h.1, h.2.1, h.2.2.1, rfl, ⟨0, by decide, rfl⟩, h.2.2.2.2.2.1, h.2.2.2.2.2.2.1, h.2.2.2.2.2.2.2.1, h.2.2.2.2.2.2.2.2.1, h.2.2.2.2.2.2.2.2.2.1, h.2.2.2.2.2.2.2.2.2.2.1, rfl, h.2.2.2.2.2.2.2.2.2.2.2.2⟩
  obtain ⟨a1, K, d1, h1, hK, ha1, wx1, wy1⟩ := sd_gath hs h0
  have hK' : ∀ j, K j = c 6 j ∨ (c 6 j = 1 ∧ K j = 2) := hK
  have e62 : (6 : Int32) * nI s + 2 = nI (6 * s + 2) := by rw [sd_m6, sd_a2]
  have e65 : (6 : Int32) * nI s + 5 = nI (6 * s + 5) := by rw [sd_m6, sd_a5]
  by_cases z1 : a1 = 0
  · subst z1
    obtain ⟨a, c', d', h', wx, wy⟩ := sd_fl2 (x2 := d 17 s) (x3 := d 16 (6 * s + 5)) (x5 := d1 16 (6 * s + 2)) hs h1 rfl rfl (fun i hi => sd_kb h1 2 hs hi (by decide) (by decide)) (fun i h16 _ => sd_kh h1 (by omega) h16) (fun i hi => by
      rw [sd_db h hs hi]
      exact (sd_dyK (c := c) hK' (16 * s + i)).symm) (fun i hi => by
      rw [sd_kb h 5 hs hi (by decide) (by decide), decide_eq_true_eq]
      show c 6 (16 * s + i) = 5 ↔ K (16 * s + i) = 5
      rcases hK' (16 * s + i) with w | w
      · rw [w]
      · rw [w.1, w.2]; decide) (fun i h16 _ => sd_kh h (by omega) h16)
    refine ⟨a, c', d', h', fun post hp => ?_, fun post hp => ?_⟩
    · unfold wpX_flushed
      rw [e62, e65, sd_ch (n := s) (by omega), sd_ch (n := 6 * s + 5) (by omega), sd_ch (n := 6 * s + 2) (by omega)]
      exact ⟨sd_in hs, nm_e ⟨sd_in (by omega), nm_e (wx1 _ ⟨sd_in (by omega), nm_e (br_t rfl (wx post hp))⟩)⟩⟩
    · unfold wpY_flushed
      exact wy1 _ (br_t rfl (wy post hp))
  · obtain ⟨c', d', h', wx, wy⟩ := sd_fai (a := a1) (x2 := d 17 s) (x3 := d 16 (6 * s + 5)) (x5 := d1 16 (6 * s + 2)) hs h1 z1
    refine ⟨a1, c', d', h', fun post hp => ?_, fun post hp => ?_⟩
    · unfold wpX_flushed
      rw [e62, e65, sd_ch (n := s) (by omega), sd_ch (n := 6 * s + 5) (by omega), sd_ch (n := 6 * s + 2) (by omega)]
      refine ⟨sd_in hs, nm_e ⟨sd_in (by omega), nm_e (wx1 _ ⟨sd_in (by omega), nm_e (br_f z1 ?_)⟩)⟩⟩
      exact br_f z1 (br_f z1 (br_f z1 (wx post hp)))
    · unfold wpY_flushed
      exact wy1 _ (br_f z1 (br_f z1 (br_f z1 (wy post hp))))
end
section
/-! flush, find -/
/-- the check of a session alone -/
theorem sd_wr0 {c d : sd_T} (h : sd_L c d) (x : Int32) :
    (∃ r : Int32, (r = -1 ∨ r = -2) ∧ (∀ post : Int32 → Prop, post r → wpX_wrong post (sd_x d) x 0) ∧ (∀ post : Int32 → Prop, post r → wpY_state post (sd_y c) x 0)) ∨
    (∃ s : Nat, s < 3 ∧ x = nI s ∧ (∀ post : Int32 → Prop, post 0 → wpX_wrong post (sd_x d) (nI s) 0) ∧ (∀ post : Int32 → Prop, post 0 → wpY_state post (sd_y c) (nI s) 0)) := by
  rcases sd_wr h x 0 with w | ⟨s, r, hs, hr, ex, er, wx, wy⟩
  · exact Or.inl w
  · rw [← er] at wx wy
    exact Or.inr ⟨s, hs, ex, wx, wy⟩
theorem i_vc_flush {k : Nat} {u : SX} {v : SY} (I : i_Rel k u v) (hk : k + 6 ≤ 3072) (v1 : Int32) : wpX_flush (fun r u' => wpY_flush (fun r' v' => r' = r ∧ i_Rel (k + 6) u' v') v v1) u v1 := by
  obtain ⟨c, d, rfl, rfl, h⟩ := I
  unfold wpX_flush wpY_flush
  rcases sd_wr0 h v1 with ⟨r, hr, wx, wy⟩ | ⟨s, hs, rfl, wx, wy⟩
  · exact wx _ (br_f (sd_n1 hr) (wy _ (br_f (sd_n1 hr) ⟨rfl, sd_fin h⟩)))
  · obtain ⟨a, c', d', h', qx, qy⟩ := sd_flu hs h
    exact wx _ (br_t rfl (qx _ (wy _ (br_t rfl (qy _ ⟨rfl, sd_fin h'⟩)))))
/-- the value of a row that is looked at -/
theorem sd_Xfv {c d : sd_T} {s r w : Nat} {v : Int32} {post : Int32 → SX → Prop} {J : Int32 → Int32 → Int32 → Int32 → Int32 → Int32 → Int32 → Int32 → (Nat → Int32) → (Nat → Int32) → (Nat → Int32) → (Nat → Int32) → (Nat → Int32) → (Nat → Int32) → (Nat → Int32) → (Nat → Int32) → (Nat → Int32) → (Nat → Int32) → (Nat → Int32) → (Nat → Int32) → (Nat → Int32) → (Nat → Int32) → (Nat → Int32) → (Nat → Int32) → (Nat → Int32) → (Nat → Int32) → (Nat → Int32) → (Nat → Int32) → (Nat → Int32) → (Nat → Int32) → (Nat → Int32) → (Nat → Int32) → Prop} (hs : s < 3) (hr : r < 16) (hw : w < 3) (h : sd_L c d)
    (hp : wX_find_161 post J (nI s) (nI w) v (nI r) (c 4 (4 * sd_sg (c 5) s r + w)) (d 0 0) (d 1 0) (d 2 0) (d 3 0) (d 4 0) (d 5 0) (d 6 0) (d 7) (d 8) (d 9) (d 10) (d 11) (d 12) (d 13) (d 14) (d 15) (d 16) (d 17) (d 18) (d 19) (d 20) (d 21) (d 22) (d 23) (d 24) (d 25) (d 26) (d 27) (d 28) (d 29) (d 30)) :
    vp_in (nI s) 3 ∧ (wpX_has (fun r_73 => (((nI w = 2 → (wpX_linkOf (fun r_155 => (wX_find_161 post J (nI s) (nI w) v (nI r) r_155 (d 0 0) (d 1 0) (d 2 0) (d 3 0) (d 4 0) (d 5 0) (d 6 0) (d 7) (d 8) (d 9) (d 10) (d 11) (d 12) (d 13) (d 14) (d 15) (d 16) (d 17) (d 18) (d 19) (d 20) (d 21) (d 22) (d 23) (d 24) (d 25) (d 26) (d 27) (d 28) (d 29) (d 30))) (sd_x d) (nI s) (nI r))) ∧ (¬ nI w = 2 → (((nI w = 0 → (((r_73 = 0 → (vp_in (nI r) 16 ∧ (wX_find_161 post J (nI s) (nI w) v (nI r) (d 7 (nI r).toNatClampNeg) (d 0 0) (d 1 0) (d 2 0) (d 3 0) (d 4 0) (d 5 0) (d 6 0) (d 7) (d 8) (d 9) (d 10) (d 11) (d 12) (d 13) (d 14) (d 15) (d 16) (d 17) (d 18) (d 19) (d 20) (d 21) (d 22) (d 23) (d 24) (d 25) (d 26) (d 27) (d 28) (d 29) (d 30)))) ∧ (¬ r_73 = 0 → (vp_in (nI r) 16 ∧ (wX_find_161 post J (nI s) (nI w) v (nI r) (d 11 (nI r).toNatClampNeg) (d 0 0) (d 1 0) (d 2 0) (d 3 0) (d 4 0) (d 5 0) (d 6 0) (d 7) (d 8) (d 9) (d 10) (d 11) (d 12) (d 13) (d 14) (d 15) (d 16) (d 17) (d 18) (d 19) (d 20) (d 21) (d 22) (d 23) (d 24) (d 25) (d 26) (d 27) (d 28) (d 29) (d 30))))))) ∧ (¬ nI w = 0 → (((r_73 = 0 → (vp_in (nI r) 16 ∧ (wX_find_161 post J (nI s) (nI w) v (nI r) (d 8 (nI r).toNatClampNeg) (d 0 0) (d 1 0) (d 2 0) (d 3 0) (d 4 0) (d 5 0) (d 6 0) (d 7) (d 8) (d 9) (d 10) (d 11) (d 12) (d 13) (d 14) (d 15) (d 16) (d 17) (d 18) (d 19) (d 20) (d 21) (d 22) (d 23) (d 24) (d 25) (d 26) (d 27) (d 28) (d 29) (d 30)))) ∧ (¬ r_73 = 0 → (vp_in (nI r) 16 ∧ (wX_find_161 post J (nI s) (nI w) v (nI r) (d 12 (nI r).toNatClampNeg) (d 0 0) (d 1 0) (d 2 0) (d 3 0) (d 4 0) (d 5 0) (d 6 0) (d 7) (d 8) (d 9) (d 10) (d 11) (d 12) (d 13) (d 14) (d 15) (d 16) (d 17) (d 18) (d 19) (d 20) (d 21) (d 22) (d 23) (d 24) (d 25) (d 26) (d 27) (d 28) (d 29) (d 30))))))))))))) (d 15 (nI s).toNatClampNeg) (nI r)) := by
  have hl := sd_lkb h hs hr
  have er : (nI r).toNatClampNeg = r := sd_ch (by omega)
  refine ⟨sd_in hs, ?_⟩
  rw [er, sd_ch (n := s) (by omega)]
  by_cases z : c 5 r = nI s
  · have eg : sd_sg (c 5) s r = 16 + r := if_pos z
    have q := h.1.2.2.1 r hr
    refine sd_Xh1 (by omega) (by rw [hl, decide_eq_true z]) ?_
    match w, hw with
    | 0, _ =>
      rw [eg, Nat.add_zero, q.1] at hp
      exact br_f (by decide) (br_t (by decide) (br_f (by decide) ⟨sd_in hr, hp⟩))
    | 1, _ =>
      rw [eg, q.2.1] at hp
      exact br_f (by decide) (br_f (by decide) (br_f (by decide) ⟨sd_in hr, hp⟩))
    | 2, _ => exact br_t (by decide) (sd_Xlk (d := d) hs hr h.1 hp)
    | n + 3, hn => omega
  · have eg : sd_sg (c 5) s r = r := if_neg z
    have q := h.1.2.1 r hr
    refine sd_Xh0 (by omega) (by rw [hl, decide_eq_false z]) ?_
    match w, hw with
    | 0, _ =>
      rw [eg, Nat.add_zero, q.1] at hp
      exact br_f (by decide) (br_t (by decide) (br_t rfl ⟨sd_in hr, hp⟩))
    | 1, _ =>
      rw [eg, q.2.1] at hp
      exact br_f (by decide) (br_f (by decide) (br_t rfl ⟨sd_in hr, hp⟩))
    | 2, _ => exact br_t (by decide) (sd_Xlk (d := d) hs hr h.1 hp)
    | n + 3, hn => omega
theorem sd_fdl {s w : Nat} {v : Int32} (hs : s < 3) (hw : w < 3) : ∀ (t r : Nat) (c d : sd_T) (f : Nat), r + t = 16 → sd_L c d → c 1 0 = nI f → f ≤ r →
    ∃ (a : Int32) (c' d' : sd_T), sd_L c' d' ∧ (∀ (N : Nat) (post : Int32 → SX → Prop), t < N → post a (sd_x d') → wX_find_62 post (nI s) (nI w) v N (nI r) (d 0 0) (d 1 0) (d 2 0) (d 3 0) (d 4 0) (d 5 0) (d 6 0) (d 7) (d 8) (d 9) (d 10) (d 11) (d 12) (d 13) (d 14) (d 15) (d 16) (d 17) (d 18) (d 19) (d 20) (d 21) (d 22) (d 23) (d 24) (d 25) (d 26) (d 27) (d 28) (d 29) (d 30)) ∧
    (∀ (N : Nat) (post : Int32 → SY → Prop), t < N → post a (sd_y c') → wY_find_59 post (nI s) (nI w) v N (nI r) (c 0 0) (c 1 0) (c 2) (c 3) (c 4) (c 5) (c 6) (c 7) (c 8) (c 9) (c 10) (c 11) (c 12) (c 13) (c 14) (c 15) (c 16) (c 17)) := by
  intro t
  induction t with
  | zero =>
    intro r c d f hr h e1 hf
    obtain rfl : r = 16 := by omega
    have e6 : d 6 0 = c 1 0 := h.2.2.2.2.2.2.1
    refine ⟨c 1 0, c, d, h, fun N post hN hp => ?_, fun N post hN hp => ?_⟩
    · obtain ⟨N', rfl⟩ : ∃ N', N = N' + 1 := ⟨N - 1, by omega⟩
      refine br_t (by decide) ?_
      show post (d 6 0) (sd_x d)
      rw [e6]
      exact hp
    · obtain ⟨N', rfl⟩ : ∃ N', N = N' + 1 := ⟨N - 1, by omega⟩
      exact br_t (by decide) hp
  | succ t ih =>
    intro r c d f hr h e1 hf
    have hr16 : r < 16 := by omega
    have h16 : ¬ (16 : Int32) ≤ nI r := nI_ge (a := r) (b := 16) hr16 (by decide)
    have e6 : d 6 0 = nI f := h.2.2.2.2.2.2.1.trans e1
    have e29 : d 29 = c 16 := h.2.2.2.2.2.2.2.2.1
    have hq : sd_sg (c 5) s r < 32 := sd_sg_lt hr16
    have eq4 : (4 : Int32) * nI (sd_sg (c 5) s r) + nI w = nI (4 * sd_sg (c 5) s r + w) := sd_i4 _ w
    rcases sd_th01 h hq with z | z
    · obtain ⟨a, c', d', h', wx, wy⟩ := ih (r + 1) c d f (by omega) h e1 (by omega)
      refine ⟨a, c', d', h', fun N post hN hp => ?_, fun N post hN hp => ?_⟩
      · obtain ⟨N', rfl⟩ : ∃ N', N = N' + 1 := ⟨N - 1, by omega⟩
        exact br_f h16 (sd_Xseen (d := d) hs hr16 h.1 (br_t z (nm_r (nI_1 r) (wx N' post (by omega) hp))))
      · obtain ⟨N', rfl⟩ : ∃ N', N = N' + 1 := ⟨N - 1, by omega⟩
        refine br_f h16 (nm_r (sd_i16 s r) (sd_Ysg (c := c) hr16 ?_))
        rw [sd_ch (n := sd_sg (c 5) s r) (by omega)]
        exact ⟨sd_in hq, br_t z (nm_r (nI_1 r) (wy N' post (by omega) hp))⟩
    · have z' : ¬ c 2 (sd_sg (c 5) s r) = 0 := by rw [z]; decide
      -- both sides up to the value
      have hX : ∀ (N : Nat) (post : Int32 → SX → Prop), wX_find_161 post (wX_find_62 post (nI s) (nI w) v N) (nI s) (nI w) v (nI r) (c 4 (4 * sd_sg (c 5) s r + w)) (d 0 0) (d 1 0) (d 2 0) (d 3 0) (d 4 0) (d 5 0) (d 6 0) (d 7) (d 8) (d 9) (d 10) (d 11) (d 12) (d 13) (d 14) (d 15) (d 16) (d 17) (d 18) (d 19) (d 20) (d 21) (d 22) (d 23) (d 24) (d 25) (d 26) (d 27) (d 28) (d 29) (d 30) → wX_find_62 post (nI s) (nI w) v (N + 1) (nI r) (d 0 0) (d 1 0) (d 2 0) (d 3 0) (d 4 0) (d 5 0) (d 6 0) (d 7) (d 8) (d 9) (d 10) (d 11) (d 12) (d 13) (d 14) (d 15) (d 16) (d 17) (d 18) (d 19) (d 20) (d 21) (d 22) (d 23) (d 24) (d 25) (d 26) (d 27) (d 28) (d 29) (d 30) := by
        intro N post p
        exact br_f h16 (sd_Xseen (d := d) hs hr16 h.1 (br_f z' (sd_Xfv hs hr16 hw h p)))
      have hin : vp_in (nI (16 * s + r)) 48 := sd_in (by omega)
      have ec : (nI (16 * s + r)).toNatClampNeg = 16 * s + r := sd_ch (by omega)
      by_cases t1 : c 4 (4 * sd_sg (c 5) s r + w) = v
      · -- a hit
        have h1 : sd_L (sd_s (sd_s c 1 (fun _ => nI (f + 1))) 16 (upd (c 16) f (nI r))) (sd_s (sd_s d 6 (fun _ => nI (f + 1))) 29 (upd (d 29) f (nI r))) := by
          refine ⟨h.1, h.2.1, h.2.2.1, h.2.2.2.1, h.2.2.2.2.1, h.2.2.2.2.2.1, rfl, ⟨f + 1, by omega, rfl⟩, ?_, h.2.2.2.2.2.2.2.2.2⟩
          show upd (d 29) f (nI r) = upd (c 16) f (nI r)
          rw [e29]
        have hX2 : ∀ (post : Int32 → SX → Prop) (J : Int32 → Int32 → Int32 → Int32 → Int32 → Int32 → Int32 → Int32 → (Nat → Int32) → (Nat → Int32) → (Nat → Int32) → (Nat → Int32) → (Nat → Int32) → (Nat → Int32) → (Nat → Int32) → (Nat → Int32) → (Nat → Int32) → (Nat → Int32) → (Nat → Int32) → (Nat → Int32) → (Nat → Int32) → (Nat → Int32) → (Nat → Int32) → (Nat → Int32) → (Nat → Int32) → (Nat → Int32) → (Nat → Int32) → (Nat → Int32) → (Nat → Int32) → (Nat → Int32) → (Nat → Int32) → (Nat → Int32) → Prop),
            (((c 6 (16 * s + r) = 0 → (wX_find_211 post J (nI s) (nI w) v (nI r) (d 0 0) (d 1 0) (d 2 0) (d 3 0) (d 4 0) (d 5 0) (nI (f + 1)) (d 7) (d 8) (d 9) (d 10) (d 11) (d 12) (d 13) (d 14) (d 15) (d 16) (d 17) (d 18) (d 19) (d 20) (d 21) (d 22) (d 23) (d 24) (d 25) (d 26) (d 27) (d 28) (upd (d 29) f (nI r)) (d 30))) ∧ (¬ c 6 (16 * s + r) = 0 → (((c 6 (16 * s + r) = 3 → (wX_find_211 post J (nI s) (nI w) v (nI r) (d 0 0) (d 1 0) (d 2 0) (d 3 0) (d 4 0) (d 5 0) (nI (f + 1)) (d 7) (d 8) (d 9) (d 10) (d 11) (d 12) (d 13) (d 14) (d 15) (d 16) (d 17) (d 18) (d 19) (d 20) (d 21) (d 22) (d 23) (d 24) (d 25) (d 26) (d 27) (d 28) (upd (d 29) f (nI r)) (d 30))) ∧ (¬ c 6 (16 * s + r) = 3 → (J (nI (r + 1)) (d 0 0) (d 1 0) (d 2 0) (d 3 0) (d 4 0) (d 5 0) (nI (f + 1)) (d 7) (d 8) (d 9) (d 10) (d 11) (d 12) (d 13) (d 14) (d 15) (d 16) (d 17) (d 18) (d 19) (d 20) (d 21) (d 22) (d 23) (d 24) (d 25) (d 26) (d 27) (d 28) (upd (d 29) f (nI r)) (d 30)))))))) → wX_find_161 post J (nI s) (nI w) v (nI r) (c 4 (4 * sd_sg (c 5) s r + w)) (d 0 0) (d 1 0) (d 2 0) (d 3 0) (d 4 0) (d 5 0) (d 6 0) (d 7) (d 8) (d 9) (d 10) (d 11) (d 12) (d 13) (d 14) (d 15) (d 16) (d 17) (d 18) (d 19) (d 20) (d 21) (d 22) (d 23) (d 24) (d 25) (d 26) (d 27) (d 28) (d 29) (d 30) := by
          intro post J p
          unfold wX_find_161
          rw [e6, sd_ch (n := f) (by omega), sd_lrs (sd_lrI hr16)]
          refine br_t t1 (nm_r (nI_1 f) ⟨sd_in (by omega), nm_e (sd_Xsort (c := sd_s (sd_s c 1 (fun _ => nI (f + 1))) 16 (upd (c 16) f (nI r))) (d := sd_s (sd_s d 6 (fun _ => nI (f + 1))) 29 (upd (d 29) f (nI r))) hs hr16 h1 ?_)⟩)
          exact ⟨p.1, fun n0 => ⟨(p.2 n0).1, fun n3 => nm_r (nI_1 r) ((p.2 n0).2 n3)⟩⟩
        have hY2 : ∀ (N : Nat) (post : Int32 → SY → Prop), (((c 6 (16 * s + r)) = 0 → (wY_find_151 post (wY_find_59 post (nI s) (nI w) v N) (nI s) (nI w) v (nI r) (c 0 0) (nI (f + 1)) (c 2) (c 3) (c 4) (c 5) (c 6) (c 7) (c 8) (c 9) (c 10) (c 11) (c 12) (c 13) (c 14) (c 15) (upd (c 16) f (nI r)) (c 17))) ∧ (¬ (c 6 (16 * s + r)) = 0 → ((((c 6 (16 * s + r)) = 3 → (wY_find_151 post (wY_find_59 post (nI s) (nI w) v N) (nI s) (nI w) v (nI r) (c 0 0) (nI (f + 1)) (c 2) (c 3) (c 4) (c 5) (c 6) (c 7) (c 8) (c 9) (c 10) (c 11) (c 12) (c 13) (c 14) (c 15) (upd (c 16) f (nI r)) (c 17))) ∧ (¬ (c 6 (16 * s + r)) = 3 → (wY_find_59 post (nI s) (nI w) v N (nI (r + 1)) (c 0 0) (nI (f + 1)) (c 2) (c 3) (c 4) (c 5) (c 6) (c 7) (c 8) (c 9) (c 10) (c 11) (c 12) (c 13) (c 14) (c 15) (upd (c 16) f (nI r)) (c 17))))))) → wY_find_59 post (nI s) (nI w) v (N + 1) (nI r) (c 0 0) (c 1 0) (c 2) (c 3) (c 4) (c 5) (c 6) (c 7) (c 8) (c 9) (c 10) (c 11) (c 12) (c 13) (c 14) (c 15) (c 16) (c 17) := by
          intro N post p
          refine br_f h16 (nm_r (sd_i16 s r) (sd_Ysg (c := c) hr16 ?_))
          rw [eq4, sd_ch (n := sd_sg (c 5) s r) (by omega), sd_ch (n := 4 * sd_sg (c 5) s r + w) (by omega), e1, sd_ch (n := f) (by omega), ec]
          refine ⟨sd_in hq, br_f z' ⟨sd_in (by omega), br_t t1 (nm_r (nI_1 f) ⟨sd_in (by omega), nm_e ⟨hin, ?_⟩⟩)⟩⟩
          exact ⟨p.1, fun n0 => ⟨hin, (p.2 n0).1, fun n3 => nm_r (nI_1 r) ((p.2 n0).2 n3)⟩⟩
        by_cases k03 : c 6 (16 * s + r) = 0 ∨ c 6 (16 * s + r) = 3
        · obtain ⟨d2, h2, w2⟩ := sd_Xfill hs hr16 h1 (fun _ _ => trivial) (fun _ _ => trivial)
          obtain ⟨a, c', d', h', wx, wy⟩ := ih (r + 1) _ d2 (f + 1) (by omega) h2 rfl (by omega)
          refine ⟨a, c', d', h', fun N post hN hp => ?_, fun N post hN hp => ?_⟩
          · obtain ⟨N', rfl⟩ : ∃ N', N = N' + 1 := ⟨N - 1, by omega⟩
            refine hX N' post (hX2 post _ ?_)
            have go : wX_find_211 post (wX_find_62 post (nI s) (nI w) v N') (nI s) (nI w) v (nI r) (d 0 0) (d 1 0) (d 2 0) (d 3 0) (d 4 0) (d 5 0) (nI (f + 1)) (d 7) (d 8) (d 9) (d 10) (d 11) (d 12) (d 13) (d 14) (d 15) (d 16) (d 17) (d 18) (d 19) (d 20) (d 21) (d 22) (d 23) (d 24) (d 25) (d 26) (d 27) (d 28) (upd (d 29) f (nI r)) (d 30) := by
              unfold wX_find_211
              exact w2 _ (nm_r (nI_1 r) (wx N' post (by omega) hp))
            rcases k03 with q | q
            · exact br_t q go
            · exact br_f (by rw [q]; decide) (br_t q go)
          · obtain ⟨N', rfl⟩ : ∃ N', N = N' + 1 := ⟨N - 1, by omega⟩
            refine hY2 N' post ?_
            have go : wY_find_151 post (wY_find_59 post (nI s) (nI w) v N') (nI s) (nI w) v (nI r) (c 0 0) (nI (f + 1)) (c 2) (c 3) (c 4) (c 5) (c 6) (c 7) (c 8) (c 9) (c 10) (c 11) (c 12) (c 13) (c 14) (c 15) (upd (c 16) f (nI r)) (c 17) := by
              unfold wY_find_151
              exact sd_Ymg (c := sd_s (sd_s c 1 (fun _ => nI (f + 1))) 16 (upd (c 16) f (nI r))) hs hr16 (nm_r (nI_1 r) (wy N' post (by omega) hp))
            rcases k03 with q | q
            · exact br_t q go
            · exact br_f (by rw [q]; decide) (br_t q go)
        · obtain ⟨a, c', d', h', wx, wy⟩ := ih (r + 1) _ _ (f + 1) (by omega) h1 rfl (by omega)
          refine ⟨a, c', d', h', fun N post hN hp => ?_, fun N post hN hp => ?_⟩
          · obtain ⟨N', rfl⟩ : ∃ N', N = N' + 1 := ⟨N - 1, by omega⟩
            exact hX N' post (hX2 post _ (br_f (fun q => k03 (Or.inl q)) (br_f (fun q => k03 (Or.inr q)) (wx N' post (by omega) hp))))
          · obtain ⟨N', rfl⟩ : ∃ N', N = N' + 1 := ⟨N - 1, by omega⟩
            exact hY2 N' post (br_f (fun q => k03 (Or.inl q)) (br_f (fun q => k03 (Or.inr q)) (wy N' post (by omega) hp)))
      · obtain ⟨a, c', d', h', wx, wy⟩ := ih (r + 1) c d f (by omega) h e1 (by omega)
        refine ⟨a, c', d', h', fun N post hN hp => ?_, fun N post hN hp => ?_⟩
        · obtain ⟨N', rfl⟩ : ∃ N', N = N' + 1 := ⟨N - 1, by omega⟩
          refine hX N' post ?_
          unfold wX_find_161
          exact br_f t1 (nm_r (nI_1 r) (wx N' post (by omega) hp))
        · obtain ⟨N', rfl⟩ : ∃ N', N = N' + 1 := ⟨N - 1, by omega⟩
          refine br_f h16 (nm_r (sd_i16 s r) (sd_Ysg (c := c) hr16 ?_))
          rw [eq4, sd_ch (n := sd_sg (c 5) s r) (by omega), sd_ch (n := 4 * sd_sg (c 5) s r + w) (by omega)]
          exact ⟨sd_in hq, br_f z' ⟨sd_in (by omega), br_f t1 (nm_r (nI_1 r) (wy N' post (by omega) hp))⟩⟩
theorem i_vc_find {k : Nat} {u : SX} {v : SY} (I : i_Rel k u v) (hk : k + 6 ≤ 3072) (v1 : Int32) (v2 : Int32) (v3 : Int32) : wpX_find (fun r u' => wpY_find (fun r' v' => r' = r ∧ i_Rel (k + 6) u' v') v v1 v2 v3) u v1 v2 v3 := by
  obtain ⟨c, d, rfl, rfl, h⟩ := I
  unfold wpX_find wpY_find
  have m1 : ¬ (-1 : Int32) = 0 := by decide
  rcases sd_wr0 h v1 with ⟨r, hr, wx, wy⟩ | ⟨s, hs, rfl, wx, wy⟩
  · exact wx _ (br_f (sd_n1 hr) (br_f (sd_n1 hr) (br_f (sd_n1 hr) (wy _ (br_f (sd_n1 hr) ⟨rfl, sd_fin h⟩)))))
  · refine wx _ (br_t rfl ?_)
    rcases sd_ix v2 3 (by decide) with hx | ⟨w, hw, rfl⟩
    · exact sd_Xw0 hx (br_t rfl (br_f m1 (br_f m1 (wy _ (br_t rfl (sd_Yw0 hx (br_t rfl ⟨rfl, sd_fin h⟩)))))))
    · obtain ⟨a, c1, d1, h1, qx, qy⟩ := sd_flu hs h
      refine sd_Xw1 (n := 3) hw (by decide) (br_f (by decide) (br_t rfl (qx _ ?_)))
      by_cases z : a = 0
      · subst z
        have e30 : d1 30 = c1 17 := h1.2.2.2.2.2.2.2.2.2.2.1
        have h2 : sd_L (sd_s (sd_cn c1 0) 1 (fun _ => 0)) (sd_s (sd_s d1 30 (upd (d1 30) 0 (d1 30 0 + 1))) 6 (fun _ => 0)) := by
          have q := sd_L_cn h1 0
          exact ⟨q.1, q.2.1, q.2.2.1, q.2.2.2.1, q.2.2.2.2.1, q.2.2.2.2.2.1, rfl, ⟨0, by decide, rfl⟩, q.2.2.2.2.2.2.2.2⟩
        obtain ⟨b, c', d', h', rx, ry⟩ := sd_fdl (v := v3) hs hw 16 0 _ _ 0 (by decide) h2 rfl (by decide)
        exact br_t rfl (nm_e ⟨17, rx 17 _ (by decide) (wy _ (br_t rfl (sd_Yw1 (n := 3) hw (by decide) (br_f (by decide) (qy _ (br_t rfl (nm_e ⟨17, ry 17 _ (by decide) ⟨rfl, sd_fin h'⟩⟩)))))))⟩)
      · exact br_f z (wy _ (br_t rfl (sd_Yw1 (n := 3) hw (by decide) (br_f (by decide) (qy _ (br_f z ⟨rfl, sd_fin h1⟩))))))
end
section
/-! commit -/
/-- the component's rows, copied where the bit is set, below n -/
def sd_cm (f g : Nat → Int32) (x : Int32) (n : Nat) : Nat → Int32 := fun i => if i < n ∧ bt x i = true then g i else f i
theorem sd_cm_t {f g : Nat → Int32} {x : Int32} {n : Nat} (h : bt x n = true) : upd (sd_cm f g x n) n (g n) = sd_cm f g x (n + 1) := by
  funext i
  by_cases e : i = n
  · rw [e, pk_us]
    exact (if_pos ⟨by omega, h⟩).symm
  · rw [pk_un e]
    unfold sd_cm
    by_cases w : i < n ∧ bt x i = true
    · rw [if_pos w, if_pos ⟨by omega, w.2⟩]
    · rw [if_neg w, if_neg (fun q => w ⟨by omega, q.2⟩)]
theorem sd_cm_f {f g : Nat → Int32} {x : Int32} {n : Nat} (h : bt x n = false) : sd_cm f g x n = sd_cm f g x (n + 1) := by
  funext i
  unfold sd_cm
  by_cases w : i < n ∧ bt x i = true
  · rw [if_pos w, if_pos ⟨by omega, w.2⟩]
  · rw [if_neg w, if_neg ?_]
    intro q
    by_cases e : i = n
    · rw [e, h] at q; exact absurd q.2 (by decide)
    · exact w ⟨by omega, q.2⟩
theorem sd_cm_0 (f g : Nat → Int32) (x : Int32) : sd_cm f g x 0 = f := by
  funext i
  exact if_neg (fun q => absurd q.1 (Nat.not_lt_zero i))
theorem sd_Xcm {post : Int32 → SX → Prop} {c d : sd_T} {s : Nat} (hs : s < 3) (h : sd_L c d)
    (hp : post 0 (sd_x (sd_s (sd_s (sd_s (sd_s (sd_s (sd_s (sd_s d 7 (sd_cm (d 7) (d 11) (d 15 s) 16)) 8 (sd_cm (d 8) (d 12) (d 15 s) 16)) 9 (sd_cm (d 9) (d 13) (d 15 s) 16)) 10 (sd_cm (d 10) (d 14) (d 15 s) 16)) 0 (fun _ => (d 0 0 &&& (d 15 s ^^^ (-1))) ||| (d 1 0 &&& d 15 s))) 2 (fun _ => d 2 0 ||| (((d 0 0 &&& (d 15 s ^^^ (-1))) ||| (d 1 0 &&& d 15 s)) &&& d 15 s))) 15 (upd (d 15) s 0)))) :
    ∀ m j n, j + m = 16 → m < n → wX_commit_33 post (nI s) (d 15 s) (d 0 0) (d 1 0) (d 2 0) (d 3 0) (d 4 0) (d 5 0) (d 6 0) n (nI j) (sd_cm (d 7) (d 11) (d 15 s) j) (sd_cm (d 8) (d 12) (d 15 s) j) (sd_cm (d 9) (d 13) (d 15 s) j) (sd_cm (d 10) (d 14) (d 15 s) j) (d 11) (d 12) (d 13) (d 14) (d 15) (d 16) (d 17) (d 18) (d 19) (d 20) (d 21) (d 22) (d 23) (d 24) (d 25) (d 26) (d 27) (d 28) (d 29) (d 30) := by
  intro m
  induction m with
  | zero =>
    intro j n hj hn
    obtain rfl : j = 16 := by omega
    obtain ⟨n', rfl⟩ : ∃ n', n = n' + 1 := ⟨n - 1, by omega⟩
    refine br_t (by decide) (nm_e (nm_e ?_))
    rw [sd_ch (n := s) (by omega)]
    exact ⟨sd_in hs, nm_e hp⟩
  | succ m ih =>
    intro j n hj hn
    obtain ⟨n', rfl⟩ : ∃ n', n = n' + 1 := ⟨n - 1, by omega⟩
    have hj16 : j < 16 := by omega
    have w := ih (j + 1) n' (by omega) (by omega)
    refine br_f (nI_ge (a := j) (b := 16) hj16 (by decide)) ?_
    cases hb : bt (d 15 s) j
    · rw [← sd_cm_f hb, ← sd_cm_f hb, ← sd_cm_f hb, ← sd_cm_f hb] at w
      exact sd_Xh0 (by omega) hb (br_t rfl (nm_r (nI_1 j) w))
    · have hl : sd_lr (d 13 j) := by
        have q := sd_rlr h (q := 16 + j) (by omega)
        rw [(h.1.2.2.1 j hj16).2.2.1] at q
        exact q
      refine sd_Xh1 (by omega) hb (br_f (by decide) ?_)
      rw [sd_ch (n := j) (by omega), sd_lrn hl]
      have hi : vp_in (nI j) 16 := sd_in hj16
      exact ⟨hi, hi, nm_r (sd_cm_t hb) ⟨hi, hi, nm_r (sd_cm_t hb) ⟨hi, hi, nm_r (sd_cm_t hb) ⟨hi, hi, nm_r (sd_cm_t hb) (nm_r (nI_1 j) w)⟩⟩⟩⟩
/-! the reference -/
def sd_c2 (c : sd_T) (s n : Nat) : Nat → Int32 := fun j => if j < n ∧ c 5 j = nI s then c 2 (16 + j) else c 2 j
def sd_c3 (c : sd_T) (s n : Nat) : Nat → Int32 := fun j => if j < n ∧ c 5 j = nI s then c 2 (16 + j) else c 3 j
def sd_c4 (c : sd_T) (s n : Nat) : Nat → Int32 := fun j => if j < 4 * n ∧ c 5 (j / 4) = nI s then c 4 (j + 64) else c 4 j
theorem sd_c4_t {c : sd_T} {s n : Nat} (hn : n < 16) (h : c 5 n = nI s) : upd (upd (upd (upd (sd_c4 c s n) (4 * n) (c 4 (4 * (16 + n)))) (4 * n + 1) (c 4 (4 * (16 + n) + 1))) (4 * n + 2) (c 4 (4 * (16 + n) + 2))) (4 * n + 3) (c 4 (4 * (16 + n) + 3)) = sd_c4 c s (n + 1) := by
  funext j
  have e : ∀ k, k < 4 → sd_c4 c s (n + 1) (4 * n + k) = c 4 (4 * (16 + n) + k) := by
    intro k hk
    unfold sd_c4
    rw [if_pos ⟨by omega, by rw [show (4 * n + k) / 4 = n from by omega]; exact h⟩, show 4 * n + k + 64 = 4 * (16 + n) + k from by omega]
  by_cases w3 : j = 4 * n + 3
  · rw [w3, pk_us]; exact (e 3 (by decide)).symm
  · rw [pk_un w3]
    by_cases w2 : j = 4 * n + 2
    · rw [w2, pk_us]; exact (e 2 (by decide)).symm
    · rw [pk_un w2]
      by_cases w1 : j = 4 * n + 1
      · rw [w1, pk_us]; exact (e 1 (by decide)).symm
      · rw [pk_un w1]
        by_cases w0 : j = 4 * n
        · rw [w0, pk_us]; exact (e 0 (by decide)).symm
        · rw [pk_un w0]
          unfold sd_c4
          by_cases z : j < 4 * n ∧ c 5 (j / 4) = nI s
          · rw [if_pos z, if_pos ⟨by omega, z.2⟩]
          · rw [if_neg z, if_neg (fun q => z ⟨by omega, q.2⟩)]
theorem sd_c4_f {c : sd_T} {s n : Nat} (h : ¬ c 5 n = nI s) : sd_c4 c s n = sd_c4 c s (n + 1) := by
  funext j
  unfold sd_c4
  by_cases z : j < 4 * n ∧ c 5 (j / 4) = nI s
  · rw [if_pos z, if_pos ⟨by omega, z.2⟩]
  · rw [if_neg z, if_neg ?_]
    intro q
    by_cases e : j / 4 = n
    · rw [e] at q; exact h q.2
    · exact z ⟨by omega, q.2⟩
theorem sd_cc_t {c : sd_T} {s n : Nat} (g : Nat → Int32) (h : c 5 n = nI s) : upd (fun j => if j < n ∧ c 5 j = nI s then c 2 (16 + j) else g j) n (c 2 (16 + n)) = fun j => if j < n + 1 ∧ c 5 j = nI s then c 2 (16 + j) else g j := by
  funext j
  by_cases e : j = n
  · rw [e, pk_us, if_pos ⟨by omega, h⟩]
  · rw [pk_un e]
    by_cases z : j < n ∧ c 5 j = nI s
    · rw [if_pos z, if_pos ⟨by omega, z.2⟩]
    · rw [if_neg z, if_neg (fun q => z ⟨by omega, q.2⟩)]
theorem sd_cc_f {c : sd_T} {s n : Nat} (g : Nat → Int32) (h : ¬ c 5 n = nI s) : (fun j => if j < n ∧ c 5 j = nI s then c 2 (16 + j) else g j) = fun j => if j < n + 1 ∧ c 5 j = nI s then c 2 (16 + j) else g j := by
  funext j
  by_cases z : j < n ∧ c 5 j = nI s
  · rw [if_pos z, if_pos ⟨by omega, z.2⟩]
  · rw [if_neg z, if_neg ?_]
    intro q
    by_cases e : j = n
    · rw [e] at q; exact h q.2
    · exact z ⟨by omega, q.2⟩
theorem sd_Ycm {post : Int32 → SY → Prop} {c d : sd_T} {s : Nat} (hs : s < 3) (h : sd_L c d) (hp : post 0 (sd_y (sd_s (sd_s (sd_s (sd_s c 2 (sd_c2 c s 16)) 3 (sd_c3 c s 16)) 4 (sd_c4 c s 16)) 5 (sd_un (c 5) s 16)))) :
    ∀ m j n, j + m = 16 → m < n → wY_commit_14 post (nI s) (c 0 0) (c 1 0) n (nI j) (sd_c2 c s j) (sd_c3 c s j) (sd_c4 c s j) (sd_un (c 5) s j) (c 6) (c 7) (c 8) (c 9) (c 10) (c 11) (c 12) (c 13) (c 14) (c 15) (c 16) (c 17) := by
  intro m
  induction m with
  | zero =>
    intro j n hj hn
    obtain rfl : j = 16 := by omega
    obtain ⟨n', rfl⟩ : ∃ n', n = n' + 1 := ⟨n - 1, by omega⟩
    exact br_t (by decide) hp
  | succ m ih =>
    intro j n hj hn
    obtain ⟨n', rfl⟩ : ∃ n', n = n' + 1 := ⟨n - 1, by omega⟩
    have hj16 : j < 16 := by omega
    have w := ih (j + 1) n' (by omega) (by omega)
    have i16 : vp_in (nI j) 16 := sd_in hj16
    have i32 : vp_in (nI j) 32 := sd_in (by omega)
    have eu : sd_un (c 5) s j j = c 5 j := if_neg (by omega)
    obtain ⟨u1, u2⟩ := sd_un_s (c 5) s j hs
    rw [eu] at u1 u2
    refine br_f (nI_ge (a := j) (b := 16) hj16 (by decide)) ?_
    rw [sd_ch (n := j) (by omega), eu]
    refine ⟨i16, ?_⟩
    by_cases z : c 5 j = nI s
    · have e2 : sd_c2 c s j (16 + j) = c 2 (16 + j) := if_neg (by omega)
      have th : vp_nar .boolean (c 2 (16 + j)) = c 2 (16 + j) := by rw [sd_st1 h hj16]; exact sd_nb _
      have t2 : upd (sd_c2 c s j) j (c 2 (16 + j)) = sd_c2 c s (j + 1) := sd_cc_t (c 2) z
      have t3 : upd (sd_c3 c s j) j (c 2 (16 + j)) = sd_c3 c s (j + 1) := sd_cc_t (c 3) z
      refine br_t z ⟨i16, nm_r (u1 z) ?_⟩
      rw [sd_p16, sd_ch (n := 16 + j) (by omega), e2, th]
      refine ⟨sd_in (by omega), i32, nm_e ⟨i32, i16, ?_⟩⟩
      rw [pk_us, th]
      refine nm_r t3 ⟨5, ?_⟩
      rw [t2]
      have st : ∀ (N k : Nat) (a : Nat → Int32), k < 4 → wY_commit_70 post (wY_commit_14 post (nI s) (c 0 0) (c 1 0) n') (nI s) (nI j) (c 0 0) (c 1 0) N (nI (k + 1)) (sd_c2 c s (j + 1)) (sd_c3 c s (j + 1)) (upd a (4 * j + k) (a (4 * (16 + j) + k))) (sd_un (c 5) s (j + 1)) (c 6) (c 7) (c 8) (c 9) (c 10) (c 11) (c 12) (c 13) (c 14) (c 15) (c 16) (c 17) → wY_commit_70 post (wY_commit_14 post (nI s) (c 0 0) (c 1 0) n') (nI s) (nI j) (c 0 0) (c 1 0) (N + 1) (nI k) (sd_c2 c s (j + 1)) (sd_c3 c s (j + 1)) a (sd_un (c 5) s (j + 1)) (c 6) (c 7) (c 8) (c 9) (c 10) (c 11) (c 12) (c 13) (c 14) (c 15) (c 16) (c 17) := by
        intro N k a hk q
        refine br_f (nI_ge (a := k) (b := 4) hk (by decide)) ?_
        rw [sd_p16, sd_i4, sd_i4, sd_ch (n := 4 * (16 + j) + k) (by omega), sd_ch (n := 4 * j + k) (by omega)]
        exact ⟨sd_in (by omega), sd_in (by omega), nm_e (nm_r (nI_1 k) q)⟩
      refine st 4 0 _ (by decide) (st 3 1 _ (by decide) (st 2 2 _ (by decide) (st 1 3 _ (by decide) (br_t (by decide) (nm_r (nI_1 j) ?_)))))
      have hi : ∀ k, k < 4 → sd_c4 c s j (4 * (16 + j) + k) = c 4 (4 * (16 + j) + k) := fun k hk => if_neg (by omega)
      have e4 := sd_c4_t hj16 z
      rw [← e4] at w
      have k0 : sd_c4 c s j (4 * (16 + j) + 0) = c 4 (4 * (16 + j)) := hi 0 (by decide)
      rw [pk_un (j := 4 * (16 + j) + 3) (by omega), pk_un (j := 4 * (16 + j) + 3) (by omega), pk_un (j := 4 * (16 + j) + 3) (by omega), pk_un (j := 4 * (16 + j) + 2) (by omega), pk_un (j := 4 * (16 + j) + 2) (by omega), pk_un (j := 4 * (16 + j) + 1) (by omega), hi 1 (by decide), hi 2 (by decide), hi 3 (by decide), k0]
      exact w
    · refine br_f z (nm_r (nI_1 j) ?_)
      have f2 : sd_c2 c s j = sd_c2 c s (j + 1) := sd_cc_f (c 2) z
      have f3 : sd_c3 c s j = sd_c3 c s (j + 1) := sd_cc_f (c 3) z
      rw [f2, f3, sd_c4_f z, u2 z]
      exact w
/-- what is committed is alike -/
theorem sd_RS_cm {c d : sd_T} {s : Nat} (hs : s < 3) (h : sd_L c d) : sd_L (sd_s (sd_s (sd_s (sd_s c 2 (sd_c2 c s 16)) 3 (sd_c3 c s 16)) 4 (sd_c4 c s 16)) 5 (sd_un (c 5) s 16))
    (sd_s (sd_s (sd_s (sd_s (sd_s (sd_s (sd_s d 7 (sd_cm (d 7) (d 11) (d 15 s) 16)) 8 (sd_cm (d 8) (d 12) (d 15 s) 16)) 9 (sd_cm (d 9) (d 13) (d 15 s) 16)) 10 (sd_cm (d 10) (d 14) (d 15 s) 16)) 0 (fun _ => (d 0 0 &&& (d 15 s ^^^ (-1))) ||| (d 1 0 &&& d 15 s))) 2 (fun _ => d 2 0 ||| (((d 0 0 &&& (d 15 s ^^^ (-1))) ||| (d 1 0 &&& d 15 s)) &&& d 15 s))) 15 (upd (d 15) s 0)) := by
  have hu := sd_RS_un hs h.1
  refine ⟨⟨?_, ?_, ?_, ?_, hu.2.2.2.2.1, ?_⟩, h.2.1, h.2.2⟩
  · intro r hr
    have hl := sd_lkb h hs hr
    have q := h.1.1 r hr
    show sd_c2 c s 16 r = sd_b (bt ((d 0 0 &&& (d 15 s ^^^ (-1))) ||| (d 1 0 &&& d 15 s)) r) ∧ sd_c2 c s 16 (16 + r) = sd_b (bt (d 1 0) r) ∧ sd_c3 c s 16 r = sd_b (bt (d 2 0 ||| (((d 0 0 &&& (d 15 s ^^^ (-1))) ||| (d 1 0 &&& d 15 s)) &&& d 15 s)) r)
    have e2 : sd_c2 c s 16 (16 + r) = c 2 (16 + r) := if_neg (by omega)
    rw [e2, b_or, b_or, b_and, b_and, b_and, b_or, b_and, b_and, sd_nt _ (by omega), hl]
    by_cases z : c 5 r = nI s
    · have a2 : sd_c2 c s 16 r = c 2 (16 + r) := if_pos ⟨hr, z⟩
      have a3 : sd_c3 c s 16 r = c 2 (16 + r) := if_pos ⟨hr, z⟩
      have c0 : bt (d 2 0) r = false := by
        cases hb : bt (d 2 0) r
        · rfl
        · have w := sd_cch h hr (by rw [q.2.2, hb]; rfl)
          rw [z] at w
          exact absurd w.2 (sd_nm1 (by omega))
      rw [a2, a3, q.2.1, decide_eq_true z, c0]
      refine ⟨?_, rfl, ?_⟩ <;> cases bt (d 0 0) r <;> cases bt (d 1 0) r <;> rfl
    · have a2 : sd_c2 c s 16 r = c 2 r := if_neg (fun w => z w.2)
      have a3 : sd_c3 c s 16 r = c 3 r := if_neg (fun w => z w.2)
      rw [a2, a3, q.1, q.2.1, q.2.2, decide_eq_false z]
      refine ⟨?_, rfl, ?_⟩ <;> cases bt (d 0 0) r <;> cases bt (d 1 0) r <;> cases bt (d 2 0) r <;> rfl
  · intro r hr
    have hl := sd_lkb h hs hr
    have q := h.1.2.1 r hr
    have q2 := h.1.2.2.1 r hr
    show sd_c4 c s 16 (4 * r) = sd_cm (d 7) (d 11) (d 15 s) 16 r ∧ sd_c4 c s 16 (4 * r + 1) = sd_cm (d 8) (d 12) (d 15 s) 16 r ∧ sd_c4 c s 16 (4 * r + 2) = sd_cm (d 9) (d 13) (d 15 s) 16 r ∧ sd_c4 c s 16 (4 * r + 3) = sd_cm (d 10) (d 14) (d 15 s) 16 r
    have e : ∀ k, k < 4 → (4 * r + k) / 4 = r := fun k hk => by omega
    by_cases z : c 5 r = nI s
    · have a : ∀ k, k < 4 → sd_c4 c s 16 (4 * r + k) = c 4 (4 * (16 + r) + k) := by
        intro k hk
        unfold sd_c4
        rw [if_pos ⟨by omega, by rw [e k hk]; exact z⟩, show 4 * r + k + 64 = 4 * (16 + r) + k from by omega]
      have b : ∀ f g : Nat → Int32, sd_cm f g (d 15 s) 16 r = g r := fun f g => if_pos ⟨hr, by rw [hl, decide_eq_true z]⟩
      rw [b, b, b, b, a 1 (by decide), a 2 (by decide), a 3 (by decide)]
      exact ⟨(a 0 (by decide)).trans q2.1, q2.2.1, q2.2.2.1, q2.2.2.2⟩
    · have a : ∀ k, k < 4 → sd_c4 c s 16 (4 * r + k) = c 4 (4 * r + k) := by
        intro k hk
        unfold sd_c4
        rw [if_neg (fun w => z (by have w2 := w.2; rw [e k hk] at w2; exact w2))]
      have b : ∀ f g : Nat → Int32, sd_cm f g (d 15 s) 16 r = f r := fun f g => if_neg (fun w => by rw [hl, decide_eq_false z] at w; exact absurd w.2 (by decide))
      rw [b, b, b, b, a 1 (by decide), a 2 (by decide), a 3 (by decide)]
      exact ⟨(a 0 (by decide)).trans q.1, q.2.1, q.2.2.1, q.2.2.2⟩
  · intro r hr
    have q2 := h.1.2.2.1 r hr
    show sd_c4 c s 16 (4 * (16 + r)) = d 11 r ∧ sd_c4 c s 16 (4 * (16 + r) + 1) = d 12 r ∧ sd_c4 c s 16 (4 * (16 + r) + 2) = d 13 r ∧ sd_c4 c s 16 (4 * (16 + r) + 3) = d 14 r
    have a : ∀ j, 64 ≤ j → sd_c4 c s 16 j = c 4 j := fun j hj => if_neg (by omega)
    rw [a _ (by omega), a _ (by omega), a _ (by omega), a _ (by omega)]
    exact q2
  · intro q hq
    show sd_lr (sd_c4 c s 16 (4 * q + 2))
    unfold sd_c4
    split
    · rename_i w
      rw [show 4 * q + 2 + 64 = 4 * (16 + q) + 2 from by omega]
      exact h.1.2.2.2.1 (16 + q) (by omega)
    · exact h.1.2.2.2.1 q hq
  · intro r hr h3
    have h3' : sd_c3 c s 16 r = 1 := h3
    show sd_c2 c s 16 r = 1 ∧ sd_un (c 5) s 16 r = -1
    unfold sd_c3 at h3'
    unfold sd_c2 sd_un
    by_cases z : c 5 r = nI s
    · rw [if_pos ⟨hr, z⟩] at h3' ⊢
      rw [if_pos ⟨hr, z⟩]
      exact ⟨h3', rfl⟩
    · rw [if_neg (fun w => z w.2)] at h3' ⊢
      rw [if_neg (fun w => z w.2)]
      exact h.1.2.2.2.2.2 r hr h3'
theorem sd_cmt {c d : sd_T} {s : Nat} (hs : s < 3) (h : sd_L c d) : ∃ c' d', sd_L c' d' ∧ (∀ post : Int32 → SX → Prop, post 0 (sd_x d') → wX_commit_17 post (nI s) 0 (d 0 0) (d 1 0) (d 2 0) (d 3 0) (d 4 0) (d 5 0) (d 6 0) (d 7) (d 8) (d 9) (d 10) (d 11) (d 12) (d 13) (d 14) (d 15) (d 16) (d 17) (d 18) (d 19) (d 20) (d 21) (d 22) (d 23) (d 24) (d 25) (d 26) (d 27) (d 28) (d 29) (d 30)) ∧ (∀ post : Int32 → SY → Prop, post 0 (sd_y c') → ∃ n14 : Nat, wY_commit_14 post (nI s) (c 0 0) (c 1 0) n14 0 (c 2) (c 3) (c 4) (c 5) (c 6) (c 7) (c 8) (c 9) (c 10) (c 11) (c 12) (c 13) (c 14) (c 15) (c 16) (c 17)) := by
  have es : (nI s).toNatClampNeg = s := sd_ch (by omega)
  have e2 : sd_c2 c s 0 = c 2 := by funext j; exact if_neg (fun q => absurd q.1 (Nat.not_lt_zero j))
  have e3 : sd_c3 c s 0 = c 3 := by funext j; exact if_neg (fun q => absurd q.1 (Nat.not_lt_zero j))
  have e4 : sd_c4 c s 0 = c 4 := by funext j; exact if_neg (by omega)
  have e5 : sd_un (c 5) s 0 = c 5 := by funext j; exact if_neg (fun q => absurd q.1 (Nat.not_lt_zero j))
  refine ⟨_, _, sd_RS_cm hs h, fun post hp => ?_, fun post hp => ?_⟩
  · have w := sd_Xcm hs h hp 16 0 17 (by decide) (by decide)
    rw [sd_cm_0, sd_cm_0, sd_cm_0, sd_cm_0] at w
    unfold wX_commit_17
    rw [es]
    exact br_t rfl ⟨sd_in hs, nm_e ⟨17, w⟩⟩
  · have w := sd_Ycm hs h hp 16 0 17 (by decide) (by decide)
    rw [e2, e3, e4, e5] at w
    exact ⟨17, w⟩
theorem i_vc_commit {k : Nat} {u : SX} {v : SY} (I : i_Rel k u v) (hk : k + 6 ≤ 3072) (v1 : Int32) : wpX_commit (fun r u' => wpY_commit (fun r' v' => r' = r ∧ i_Rel (k + 6) u' v') v v1) u v1 := by
  obtain ⟨c, d, rfl, rfl, h⟩ := I
  unfold wpX_commit wpY_commit wpY_flush
  rcases sd_wr0 h v1 with ⟨r, hr, wx, wy⟩ | ⟨s, hs, rfl, wx, wy⟩
  · exact wx _ (br_f (sd_n1 hr) (br_f (sd_n1 hr) (wy _ (br_f (sd_n1 hr) (br_f (sd_n1 hr) ⟨rfl, sd_fin h⟩)))))
  · obtain ⟨a, c1, d1, h1, qx, qy⟩ := sd_flu hs h
    refine wx _ (br_t rfl (qx _ ?_))
    by_cases z : a = 0
    · subst z
      obtain ⟨c', d', h', rx, ry⟩ := sd_cmt hs h1
      exact rx _ (wy _ (br_t rfl (qy _ (br_t rfl (ry _ ⟨rfl, sd_fin h'⟩)))))
    · exact br_f z (wy _ (br_t rfl (qy _ (br_f z ⟨rfl, sd_fin h1⟩))))
end
