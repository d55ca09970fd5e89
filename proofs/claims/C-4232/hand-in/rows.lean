section
/-! ===== Int32 by its bits: bt x i ===== -/
def bt (x : Int32) (i : Nat) : Bool := x.toBitVec.getLsbD i
theorem b_ext {x y : Int32} (h : ∀ i, i < 32 → bt x i = bt y i) : x = y := Int32.toBitVec_inj.mp (BitVec.eq_of_getLsbD_eq (fun i hi => h i hi))
theorem b_or (x y : Int32) (i : Nat) : bt (x ||| y) i = (bt x i || bt y i) := by unfold bt; rw [Int32.toBitVec_or, BitVec.getLsbD_or]
theorem b_and (x y : Int32) (i : Nat) : bt (x &&& y) i = (bt x i && bt y i) := by unfold bt; rw [Int32.toBitVec_and, BitVec.getLsbD_and]
theorem b_xor (x y : Int32) (i : Nat) : bt (x ^^^ y) i = (bt x i ^^ bt y i) := by unfold bt; rw [Int32.toBitVec_xor, BitVec.getLsbD_xor]
theorem b_big {x : Int32} {i : Nat} (h : 32 ≤ i) : bt x i = false := BitVec.getLsbD_of_ge _ _ h
theorem b_255 (i : Nat) : bt 255 i = decide (i < 8) := by
  rcases Nat.lt_or_ge i 32 with h | h
  · exact (by decide +kernel : ∀ i, i < 32 → bt 255 i = decide (i < 8)) i h
  · rw [b_big h, decide_eq_false (by omega)]
theorem b_65535 (i : Nat) : bt 65535 i = decide (i < 16) := by
  rcases Nat.lt_or_ge i 32 with h | h
  · exact (by decide +kernel : ∀ i, i < 32 → bt 65535 i = decide (i < 16)) i h
  · rw [b_big h, decide_eq_false (by omega)]
theorem b_m1 : ∀ i, i < 32 → bt (-1) i = true := by decide +kernel
theorem b_0 (i : Nat) : bt 0 i = false := BitVec.getLsbD_zero
theorem s_l : ∀ n, n < 32 → ((nI n &&& 31).toBitVec.smod 32).toNat = n := by decide +kernel
theorem s_u : ∀ n, n < 32 → (((nI n).toUInt32 &&& Int32.toUInt32 31).toBitVec % 32).toNat = n := by decide +kernel
theorem b_shl (n : Nat) (hn : n < 32) (x : Int32) {i : Nat} (hi : i < 32) : bt (x <<< (nI n &&& 31)) i = (decide (n ≤ i) && bt x (i - n)) := by
  unfold bt
  rw [Int32.toBitVec_shiftLeft]
  show (x.toBitVec <<< ((nI n &&& 31).toBitVec.smod 32).toNat).getLsbD i = _
  rw [s_l n hn, BitVec.getLsbD_shiftLeft]
  rcases Nat.lt_or_ge i n with h | h
  · simp [h, Nat.not_le.mpr h]
  · simp [hi, h, Nat.not_lt.mpr h]
theorem b_ushr (n : Nat) (hn : n < 32) (x : Int32) (i : Nat) : bt ((x.toUInt32 >>> ((nI n).toUInt32 &&& Int32.toUInt32 31)).toInt32) i = bt x (n + i) := by
  show (x.toUInt32 >>> ((nI n).toUInt32 &&& Int32.toUInt32 31)).toBitVec.getLsbD i = x.toUInt32.toBitVec.getLsbD (n + i)
  rw [UInt32.toBitVec_shiftRight]
  show (x.toUInt32.toBitVec >>> (((nI n).toUInt32 &&& Int32.toUInt32 31).toBitVec % 32).toNat).getLsbD i = _
  rw [s_u n hn, BitVec.getLsbD_ushiftRight]
theorem b_sshr (n : Nat) (hn : n < 32) (x : Int32) {i : Nat} (hi : i < 32) : bt (x >>> (nI n &&& 31)) i = if n + i < 32 then bt x (n + i) else bt x 31 := by
  unfold bt
  rw [Int32.toBitVec_shiftRight]
  show (x.toBitVec.sshiftRight ((nI n &&& 31).toBitVec.smod 32).toNat).getLsbD i = _
  rw [s_l n hn, BitVec.getLsbD_sshiftRight, BitVec.msb_eq_getLsbD_last]
  simp [hi]
theorem b_shl8 (x : Int32) {i : Nat} (hi : i < 32) : bt (x <<< ((8 : Int32) &&& 31)) i = (decide (8 ≤ i) && bt x (i - 8)) := b_shl 8 (by omega) x hi
theorem b_shl16 (x : Int32) {i : Nat} (hi : i < 32) : bt (x <<< ((16 : Int32) &&& 31)) i = (decide (16 ≤ i) && bt x (i - 16)) := b_shl 16 (by omega) x hi
theorem b_shl24 (x : Int32) {i : Nat} (hi : i < 32) : bt (x <<< ((24 : Int32) &&& 31)) i = (decide (24 ≤ i) && bt x (i - 24)) := b_shl 24 (by omega) x hi
theorem b_sshr8 (x : Int32) {i : Nat} (hi : i < 32) : bt (x >>> ((8 : Int32) &&& 31)) i = if 8 + i < 32 then bt x (8 + i) else bt x 31 := b_sshr 8 (by omega) x hi
theorem pk_us {f : Nat → Int32} {k : Nat} {x : Int32} : upd f k x k = x := if_pos rfl
theorem pk_un {f : Nat → Int32} {k j : Nat} {x : Int32} (h : j ≠ k) : upd f k x j = f j := if_neg h
theorem pk_sub {a b : Nat} (h : b ≤ a) : nI a - nI b = nI (a - b) := by
  obtain ⟨c, rfl⟩ : ∃ c, a = c + b := ⟨a - b, by omega⟩
  rw [← nI_add, Int32.add_sub_cancel, Nat.add_sub_cancel]
theorem pk_m1 (n : Nat) : nI (n + 1) + (-1) = nI n := by
  rw [← nI_1, Int32.add_assoc, show (1 : Int32) + (-1) = 0 from rfl, Int32.add_zero]
theorem pk_mul (a b : Nat) : nI a * nI b = nI (a * b) := (Int32.ofNat_mul a b).symm
theorem pk_div {a d : Nat} (ha : a < 2 ^ 31) (h0 : 0 < d) (hd : d < 2 ^ 31) : nI a / nI d = nI (a / d) := by
  apply Int32.toInt_inj.mp
  rw [lg_idiv_nonneg (by rw [nI_toInt ha]; omega) (by rw [nI_toInt hd]; omega), nI_toInt ha, nI_toInt hd, nI_toInt (Nat.lt_of_le_of_lt (Nat.div_le_self a d) ha)]
  first | rfl | exact (Int.natCast_ediv _ _).symm
theorem pk_rem {a d : Nat} (ha : a < 2 ^ 31) (h0 : 0 < d) (hd : d < 2 ^ 31) : nI a - nI a / nI d * nI d = nI (a % d) := by
  rw [pk_div ha h0 hd, pk_mul, pk_sub (Nat.div_mul_le_self a d)]
  exact congrArg nI (by have := Nat.div_add_mod' a d; omega)
theorem pk_sub_toInt {a b : Nat} (ha : a < 2 ^ 30) (hb : b < 2 ^ 30) : (nI a - nI b).toInt = (a : Int) - b := by
  rw [Int32.toInt_sub, nI_toInt (by omega), nI_toInt (by omega)]
  exact Int.bmod_eq_of_le (by omega) (by omega)
theorem pk_sneg {a b : Nat} (hb : b < 2 ^ 30) (h : a < b) : nI a - nI b < 0 := by
  rw [Int32.lt_iff_toInt_lt, pk_sub_toInt (by omega) hb, show (0 : Int32).toInt = 0 from by decide]
  omega
theorem pk_ix (x : Int32) {n : Nat} (hn : n < 2 ^ 31) : x < 0 ∨ nI n ≤ x ∨ ∃ j : Nat, j < n ∧ x = nI j := by
  by_cases h : x < 0
  · exact Or.inl h
  · obtain ⟨j, hj, rfl⟩ := nI_of h
    by_cases h2 : j < n
    · exact Or.inr (Or.inr ⟨j, h2, rfl⟩)
    · exact Or.inr (Or.inl (nI_le (by omega) hj))
theorem pk_le {x y : Int32} {A B : Prop} (a b : Nat) (f : a ≤ b → A) (g : b < a → B) (hx : x = nI a := by rfl) (hy : y = nI b := by rfl) (ha : a < 2 ^ 31 := by omega) (hb : b < 2 ^ 31 := by omega) : (x ≤ y → A) ∧ (¬ x ≤ y → B) := by
  subst hx hy
  rw [nI_leI ha hb]
  exact ⟨f, fun z => g (by omega)⟩
theorem pk_lt {x y : Int32} {A B : Prop} (a b : Nat) (f : a < b → A) (g : b ≤ a → B) (hx : x = nI a := by rfl) (hy : y = nI b := by rfl) (ha : a < 2 ^ 31 := by omega) (hb : b < 2 ^ 31 := by omega) : (x < y → A) ∧ (¬ x < y → B) := by
  subst hx hy
  rw [nI_ltI ha hb]
  exact ⟨f, fun z => g (by omega)⟩
theorem pk_eq {x y : Int32} {A B : Prop} (a b : Nat) (f : a = b → A) (g : a ≠ b → B) (hx : x = nI a := by rfl) (hy : y = nI b := by rfl) (ha : a < 2 ^ 31 := by omega) (hb : b < 2 ^ 31 := by omega) : (x = y → A) ∧ (¬ x = y → B) := by
  subst hx hy
  rw [nI_eq ha hb]
  exact ⟨f, g⟩
theorem pk_in {x : Int32} (n N : Nat) (h : n < N) (hx : x = nI n := by rfl) (hN : N < 2 ^ 31 := by omega) : vp_in x N := by
  subst hx
  exact vp_in_nI h hN
theorem pk_cl {x : Int32} (n : Nat) (hx : x = nI n := by rfl) (h : n < 2 ^ 31 := by omega) : x.toNatClampNeg = n := by
  subst hx
  exact nI_clamp h
theorem pk_vb (z : Int32) : vp_nar .byte z.toInt8.toInt32 = z.toInt8.toInt32 := by rw [vp_nar_byte]; simp
end
section
/-! bits and small numbers -/
theorem rt_b1 (i : Nat) : bt 1 i = decide (i = 0) := by
  rcases Nat.lt_or_ge i 32 with h | h
  · exact (by decide +kernel : ∀ i, i < 32 → bt 1 i = decide (i = 0)) i h
  · rw [b_big h, decide_eq_false (by omega)]
theorem rt_bit (x : Int32) {n : Nat} (hn : n < 32) : (x >>> (nI n &&& 31)) &&& 1 = if bt x n = true then 1 else 0 := by
  apply b_ext
  intro i hi
  rw [b_and, b_sshr n hn x hi, rt_b1]
  by_cases h0 : i = 0
  · subst h0
    rw [if_pos (by omega)]
    cases hb : bt x (n + 0)
    · rw [if_neg (by decide), b_0]; rfl
    · rw [if_pos rfl, rt_b1]; rfl
  · rw [decide_eq_false h0, Bool.and_false]
    by_cases hb : bt x n = true
    · rw [if_pos hb, rt_b1, decide_eq_false h0]
    · rw [if_neg hb, b_0]
theorem rt_bit0 (x : Int32) {n : Nat} (hn : n < 32) : (x >>> (nI n &&& 31)) &&& 1 = 0 ↔ bt x n = false := by
  rw [rt_bit x hn]
  cases h : bt x n
  · simp
  · simp
theorem rt_bit1 (x : Int32) {n : Nat} (hn : n < 32) : (x >>> (nI n &&& 31)) &&& 1 = 1 ↔ bt x n = true := by
  rw [rt_bit x hn]
  cases h : bt x n
  · simp
  · simp
theorem rt_one {n i : Nat} (hn : n < 32) (hi : i < 32) : bt ((1 : Int32) <<< (nI n &&& 31)) i = decide (i = n) := by
  rw [b_shl n hn 1 hi, rt_b1]
  by_cases h : i = n
  · subst h; simp
  · rw [decide_eq_false h]
    by_cases h2 : n ≤ i
    · rw [decide_eq_false (show ¬ i - n = 0 by omega), Bool.and_false]
    · rw [decide_eq_false h2, Bool.false_and]
theorem rt_not (x : Int32) {i : Nat} (hi : i < 32) : bt (x ^^^ (-1)) i = !bt x i := by
  rw [b_xor, b_m1 i hi]
  cases bt x i <;> rfl
/-- a bit set or cleared -/
def rt_sb (b x : Int32) (p : Nat) : Int32 := if b = 0 then x &&& (((1 : Int32) <<< (nI p &&& 31)) ^^^ (-1)) else x ||| ((1 : Int32) <<< (nI p &&& 31))
theorem rt_sb0 {b x : Int32} {p : Nat} (h : b = 0) : rt_sb b x p = x &&& (((1 : Int32) <<< (nI p &&& 31)) ^^^ (-1)) := if_pos h
theorem rt_sb1 {b x : Int32} {p : Nat} (h : ¬ b = 0) : rt_sb b x p = x ||| ((1 : Int32) <<< (nI p &&& 31)) := if_neg h
theorem rt_sbt (b x : Int32) {p i : Nat} (hp : p < 32) (hi : i < 32) : bt (rt_sb b x p) i = if i = p then decide (¬ b = 0) else bt x i := by
  by_cases h : b = 0
  · rw [rt_sb0 h, b_and, rt_not _ hi, rt_one hp hi]
    by_cases e : i = p
    · rw [if_pos e, decide_eq_true e, decide_eq_false (by simpa using h)]; simp
    · rw [if_neg e, decide_eq_false e]; simp
  · rw [rt_sb1 h, b_or, rt_one hp hi]
    by_cases e : i = p
    · rw [if_pos e, decide_eq_true e, decide_eq_true h]; simp
    · rw [if_neg e, decide_eq_false e]; simp
theorem rt_undo (a b x : Int32) {p : Nat} (hp : p < 32) (h : ¬ b = 0 ↔ bt x p = true) : rt_sb b (rt_sb a x p) p = x := by
  apply b_ext
  intro i hi
  rw [rt_sbt _ _ hp hi]
  by_cases e : i = p
  · subst e
    rw [if_pos rfl]
    by_cases hb : b = 0
    · rw [decide_eq_false (by simpa using hb)]
      cases hx : bt x i
      · rfl
      · exact absurd hb (h.mpr hx)
    · rw [decide_eq_true hb, h.mp hb]
  · rw [if_neg e, rt_sbt _ _ hp hi, if_neg e]
theorem rt_i8 : ∀ n, n < 128 → (nI n).toInt8.toInt32 = nI n := by decide +kernel
theorem rt_nb {n : Nat} (h : n < 128) : vp_nar .byte (nI n).toInt8.toInt32 = nI n := by rw [pk_vb, rt_i8 n h]
theorem rt_nz {b : Int32} (h : b = 0 ∨ b = 1) : vp_nar .boolean b = b := by
  rcases h with rfl | rfl <;> rfl
theorem rt_bn (b : Bool) : (¬ b = true) ↔ b = false := by cases b <;> simp
theorem rt_d8 {a : Nat} (ha : a < 2 ^ 31) : nI a - nI a / 8 * 8 = nI (a % 8) := pk_rem (d := 8) ha (by omega) (by omega)
theorem rt_d3 {a : Nat} (ha : a < 2 ^ 31) : nI a - nI a / 3 * 3 = nI (a % 3) := pk_rem (d := 3) ha (by omega) (by omega)
theorem rt_d18 {a : Nat} (ha : a < 2 ^ 31) : nI a - nI a / 18 * 18 = nI (a % 18) := pk_rem (d := 18) ha (by omega) (by omega)
theorem rt_q3 {a : Nat} (ha : a < 2 ^ 31) : nI a / 3 = nI (a / 3) := pk_div (d := 3) ha (by omega) (by omega)
theorem rt_q18 {a : Nat} (ha : a < 2 ^ 31) : nI a / 18 = nI (a / 18) := pk_div (d := 18) ha (by omega) (by omega)
theorem rt_m18 (a b : Nat) : (18 : Int32) * nI a + nI b = nI (18 * a + b) := by
  rw [show (18 : Int32) = nI 18 from rfl, pk_mul, nI_add]
theorem rt_m3 (a b : Nat) : (3 : Int32) * nI a + nI b = nI (3 * a + b) := by
  rw [show (3 : Int32) = nI 3 from rfl, pk_mul, nI_add]
theorem rt_mm3 (a : Nat) : nI a * 3 = nI (a * 3) := by
  rw [show (3 : Int32) = nI 3 from rfl, pk_mul]
theorem rt_n8 : ¬ (8 : Int32) = 0 := by decide
theorem rt_n3 : ¬ (3 : Int32) = 0 := by decide
theorem rt_n18 : ¬ (18 : Int32) = 0 := by decide
theorem rt_n1 : ¬ (1 : Int32) = 0 := by decide
theorem rt_mask {i : Nat} (hi : i < 32) : bt 262143 i = decide (i < 18) := (by decide +kernel : ∀ i, i < 32 → bt 262143 i = decide (i < 18)) i hi
theorem rt_b18 {i : Nat} (hi : i < 32) : bt 262144 i = decide (i = 18) := (by decide +kernel : ∀ i, i < 32 → bt 262144 i = decide (i = 18)) i hi
end
section
/-! the graph: who passes members to whom, distances, reach, counts; no program in sight -/
/-- members of h belong to g at once -/
def gr_P (N R : Nat → Int32) (h g : Nat) : Prop := h < 18 ∧ g < 18 ∧ (bt (N g) h = true ∨ (h / 3 = g / 3 ∧ bt (R (g % 3)) (h % 3) = true))
/-- h comes to g in at most n steps -/
def gr_D (N R : Nat → Int32) : Nat → Nat → Nat → Prop
  | 0 => fun h g => h = g
  | n + 1 => fun h g => gr_D N R n h g ∨ ∃ b, gr_P N R h b ∧ gr_D N R n b g
def gr_R (N R : Nat → Int32) (h g : Nat) : Prop := ∃ n, gr_D N R n h g
/-- how many i below n have p -/
noncomputable def gr_c (p : Nat → Prop) : Nat → Nat
  | 0 => 0
  | n + 1 => gr_c p n + @ite Nat (p n) (Classical.propDecidable (p n)) 1 0
theorem gr_c_t {p : Nat → Prop} {n : Nat} (h : p n) : gr_c p (n + 1) = gr_c p n + 1 := by
  show gr_c p n + @ite Nat (p n) (Classical.propDecidable (p n)) 1 0 = _
  rw [if_pos h]
theorem gr_c_f {p : Nat → Prop} {n : Nat} (h : ¬ p n) : gr_c p (n + 1) = gr_c p n := by
  show gr_c p n + @ite Nat (p n) (Classical.propDecidable (p n)) 1 0 = _
  rw [if_neg h, Nat.add_zero]
theorem gr_c_le (p : Nat → Prop) : ∀ n, gr_c p n ≤ n := by
  intro n
  induction n with
  | zero => exact Nat.le_refl _
  | succ n ih =>
    by_cases h : p n
    · rw [gr_c_t h]; omega
    · rw [gr_c_f h]; omega
theorem gr_c_mono {p q : Nat → Prop} : ∀ n, (∀ i, i < n → p i → q i) → gr_c p n ≤ gr_c q n := by
  intro n
  induction n with
  | zero => exact fun _ => Nat.le_refl _
  | succ n ih =>
    intro h
    have i1 := ih (fun i hi => h i (by omega))
    by_cases hp : p n
    · rw [gr_c_t hp, gr_c_t (h n (by omega) hp)]; omega
    · rw [gr_c_f hp]
      by_cases hq : q n
      · rw [gr_c_t hq]; omega
      · rw [gr_c_f hq]; omega
theorem gr_c_lt {p q : Nat → Prop} : ∀ n, (∀ i, i < n → p i → q i) → ∀ j, j < n → ¬ p j → q j → gr_c p n < gr_c q n := by
  intro n
  induction n with
  | zero => intro _ j hj; omega
  | succ n ih =>
    intro h j hj hp hq
    have i0 := gr_c_mono n (fun i hi => h i (by omega))
    by_cases e : j = n
    · subst e
      rw [gr_c_f hp, gr_c_t hq]; omega
    · have i1 := ih (fun i hi => h i (by omega)) j (by omega) hp hq
      by_cases hpn : p n
      · rw [gr_c_t hpn, gr_c_t (h n (by omega) hpn)]; omega
      · rw [gr_c_f hpn]
        by_cases hqn : q n
        · rw [gr_c_t hqn]; omega
        · rw [gr_c_f hqn]; omega
theorem gr_c_pos {p : Nat → Prop} {n j : Nat} (hj : j < n) (h : p j) : 1 ≤ gr_c p n := by
  have := gr_c_lt (p := fun _ => False) (q := p) n (fun _ _ z => z.elim) j hj (fun z => z) h
  omega
theorem gr_c_eq {p q : Nat → Prop} {n : Nat} (h : ∀ i, i < n → (p i ↔ q i)) : gr_c p n = gr_c q n :=
  Nat.le_antisymm (gr_c_mono n fun i hi => (h i hi).mp) (gr_c_mono n fun i hi => (h i hi).mpr)
/-- a count of a disjoint pair -/
theorem gr_c_or {p q r : Nat → Prop} : ∀ n, (∀ i, i < n → (r i ↔ p i ∨ q i)) → (∀ i, i < n → p i → ¬ q i) → gr_c r n = gr_c p n + gr_c q n := by
  intro n
  induction n with
  | zero => exact fun _ _ => rfl
  | succ n ih =>
    intro h hd
    have i1 := ih (fun i hi => h i (by omega)) (fun i hi => hd i (by omega))
    have hn := h n (by omega)
    by_cases hp : p n
    · rw [gr_c_t hp, gr_c_f (hd n (by omega) hp), gr_c_t (hn.mpr (Or.inl hp))]; omega
    · by_cases hq : q n
      · rw [gr_c_f hp, gr_c_t hq, gr_c_t (hn.mpr (Or.inr hq))]; omega
      · rw [gr_c_f hp, gr_c_f hq, gr_c_f (fun z => (hn.mp z).elim hp hq)]; omega
/-- sums -/
def gr_s (f : Nat → Nat) : Nat → Nat
  | 0 => 0
  | n + 1 => gr_s f n + f n
theorem gr_s_eq {f g : Nat → Nat} : ∀ n, (∀ i, i < n → f i = g i) → gr_s f n = gr_s g n := by
  intro n
  induction n with
  | zero => exact fun _ => rfl
  | succ n ih =>
    intro h
    show gr_s f n + f n = gr_s g n + g n
    rw [ih (fun i hi => h i (by omega)), h n (by omega)]
theorem gr_s_add (f g : Nat → Nat) : ∀ n, gr_s (fun i => f i + g i) n = gr_s f n + gr_s g n := by
  intro n
  induction n with
  | zero => rfl
  | succ n ih =>
    show gr_s (fun i => f i + g i) n + (f n + g n) = (gr_s f n + f n) + (gr_s g n + g n)
    rw [ih]; omega
theorem gr_s_0 : ∀ n, gr_s (fun _ => 0) n = 0 := by
  intro n
  induction n with
  | zero => rfl
  | succ n ih => show gr_s (fun _ => 0) n + 0 = 0; rw [ih]
theorem gr_s_c (p : Nat → Prop) : ∀ n, gr_s (fun i => @ite Nat (p i) (Classical.propDecidable (p i)) 1 0) n = gr_c p n := by
  intro n
  induction n with
  | zero => rfl
  | succ n ih =>
    show gr_s (fun i => @ite Nat (p i) (Classical.propDecidable (p i)) 1 0) n + @ite Nat (p n) (Classical.propDecidable (p n)) 1 0 = gr_c p n + @ite Nat (p n) (Classical.propDecidable (p n)) 1 0
    rw [ih]
theorem gr_swap (Q : Nat → Nat → Prop) (m : Nat) : ∀ n, gr_s (fun g => gr_c (fun p => Q g p) m) n = gr_s (fun p => gr_c (fun g => Q g p) n) m := by
  intro n
  induction n with
  | zero => exact (gr_s_0 m).symm
  | succ n ih =>
    show gr_s (fun g => gr_c (fun p => Q g p) m) n + gr_c (fun p => Q n p) m = gr_s (fun p => gr_c (fun g => Q g p) n + @ite Nat (Q n p) (Classical.propDecidable (Q n p)) 1 0) m
    rw [gr_s_add, ih, gr_s_c]
theorem gr_s_le {f : Nat → Nat} {k : Nat} (h : ∀ i, f i ≤ k) : ∀ n, gr_s f n ≤ k * n := by
  intro n
  induction n with
  | zero => exact Nat.le_refl _
  | succ n ih =>
    show gr_s f n + f n ≤ k * (n + 1)
    have := h n
    rw [Nat.mul_succ]; omega
section
variable {N R : Nat → Int32}
theorem gr_D_lt {n h g : Nat} (hg : g < 18) (d : gr_D N R n h g) : h < 18 := by
  induction n generalizing h with
  | zero => cases d; exact hg
  | succ n ih =>
    rcases d with d | ⟨b, p, _⟩
    · exact ih d
    · exact p.1
theorem gr_D_up {n m h g : Nat} (hm : n ≤ m) (d : gr_D N R n h g) : gr_D N R m h g := by
  induction m with
  | zero => have : n = 0 := by omega
            subst this; exact d
  | succ m ih =>
    by_cases e : n = m + 1
    · subst e; exact d
    · exact Or.inl (ih (by omega))
theorem gr_D_snoc {n h b g : Nat} (d : gr_D N R n h b) (p : gr_P N R b g) : gr_D N R (n + 1) h g := by
  induction n generalizing h with
  | zero => cases d; exact Or.inr ⟨g, p, rfl⟩
  | succ n ih =>
    rcases d with d | ⟨c, pc, d⟩
    · exact Or.inl (ih d)
    · exact Or.inr ⟨c, pc, ih d⟩
theorem gr_D_last {n h g : Nat} (d : gr_D N R (n + 1) h g) : gr_D N R n h g ∨ ∃ b, gr_D N R n h b ∧ gr_P N R b g := by
  induction n generalizing h with
  | zero =>
    rcases d with d | ⟨c, pc, d⟩
    · exact Or.inl d
    · cases d; exact Or.inr ⟨h, rfl, pc⟩
  | succ n ih =>
    rcases d with d | ⟨c, pc, d⟩
    · exact Or.inl d
    · rcases ih d with e | ⟨b, e, pb⟩
      · exact Or.inl (Or.inr ⟨c, pc, e⟩)
      · exact Or.inr ⟨b, Or.inr ⟨c, pc, e⟩, pb⟩
theorem gr_D_cl {g : Nat} (hg : g < 18) : ∀ n, n + 1 ≤ gr_c (fun h => gr_D N R n h g) 18 ∨ (∀ h, gr_D N R (n + 1) h g → gr_D N R n h g) := by
  intro n
  induction n with
  | zero => exact Or.inl (gr_c_pos hg rfl)
  | succ n ih =>
    by_cases hc : ∀ h, gr_D N R (n + 1) h g → gr_D N R n h g
    · refine Or.inr fun h d => ?_
      rcases d with d | ⟨b, p, d⟩
      · exact d
      · exact Or.inr ⟨b, p, hc b d⟩
    · rcases ih with i | i
      · refine Or.inl ?_
        obtain ⟨h, hh⟩ := Classical.not_forall.mp hc
        obtain ⟨d1, d2⟩ := Classical.not_imp.mp hh
        have := gr_c_lt (p := fun h => gr_D N R n h g) (q := fun h => gr_D N R (n + 1) h g) 18 (fun i _ d => Or.inl d) h (gr_D_lt hg d1) d2 d1
        omega
      · exact absurd i hc
theorem gr_D18 {h g : Nat} (hg : g < 18) (r : gr_R N R h g) : gr_D N R 18 h g := by
  have c : ∀ h, gr_D N R 19 h g → gr_D N R 18 h g := by
    rcases gr_D_cl (N := N) (R := R) hg 18 with i | i
    · have := gr_c_le (fun h => gr_D N R 18 h g) 18
      omega
    · exact i
  obtain ⟨n, d⟩ := r
  induction n generalizing h with
  | zero => exact gr_D_up (Nat.zero_le _) d
  | succ n ih =>
    rcases d with d | ⟨b, p, d⟩
    · exact ih d
    · exact c h (Or.inr ⟨b, p, ih d⟩)
theorem gr_R_refl (g : Nat) : gr_R N R g g := ⟨0, rfl⟩
theorem gr_R_step {h b g : Nat} (p : gr_P N R h b) (r : gr_R N R b g) : gr_R N R h g := by
  obtain ⟨n, d⟩ := r
  exact ⟨n + 1, Or.inr ⟨b, p, d⟩⟩
theorem gr_R_snoc {h b g : Nat} (r : gr_R N R h b) (p : gr_P N R b g) : gr_R N R h g := by
  obtain ⟨n, d⟩ := r
  exact ⟨n + 1, gr_D_snoc d p⟩
theorem gr_R_trans {h b g : Nat} (r : gr_R N R h b) (s : gr_R N R b g) : gr_R N R h g := by
  obtain ⟨n, d⟩ := r
  induction n generalizing h with
  | zero => cases d; exact s
  | succ n ih =>
    rcases d with d | ⟨c, p, d⟩
    · exact ih d
    · exact gr_R_step p (ih d)
theorem gr_R_lt {h g : Nat} (hg : g < 18) (r : gr_R N R h g) : h < 18 := by
  obtain ⟨n, d⟩ := r
  exact gr_D_lt hg d
/-- a set that holds g and with each its direct sources holds all that come to g -/
theorem gr_R_in {g : Nat} {S : Nat → Prop} (h0 : S g) (hs : ∀ a b, gr_P N R a b → S b → S a) {h : Nat} (r : gr_R N R h g) : S h := by
  obtain ⟨n, d⟩ := r
  induction n generalizing h with
  | zero => cases d; exact h0
  | succ n ih =>
    rcases d with d | ⟨c, p, d⟩
    · exact ih d
    · exact hs h c p (ih d)
end
/-- v is the set of the groups that come to g -/
def gr_Src (N R : Nat → Int32) (g : Nat) (v : Int32) : Prop := ∀ i, i < 32 → (bt v i = true ↔ gr_R N R i g)
/-- person p is a member of g -/
def gr_M (E N R : Nat → Int32) (g p : Nat) : Prop := ∃ h, h < 18 ∧ gr_R N R h g ∧ bt (E h) p = true
def gr_Mem (E N R : Nat → Int32) (g : Nat) (v : Int32) : Prop := ∀ i, i < 32 → (bt v i = true ↔ gr_M E N R g i)
theorem gr_b_eq {x y : Int32} {P : Nat → Prop} (hx : ∀ i, i < 32 → (bt x i = true ↔ P i)) (hy : ∀ i, i < 32 → (bt y i = true ↔ P i)) : x = y := by
  apply b_ext
  intro i hi
  exact Bool.eq_iff_iff.mpr ((hx i hi).trans (hy i hi).symm)
theorem gr_Src_eq {N R : Nat → Int32} {g : Nat} {x y : Int32} (hx : gr_Src N R g x) (hy : gr_Src N R g y) : x = y := gr_b_eq hx hy
theorem gr_Mem_eq {E N R : Nat → Int32} {g : Nat} {x y : Int32} (hx : gr_Mem E N R g x) (hy : gr_Mem E N R g y) : x = y := gr_b_eq hx hy
end
section
/-! X: make, load, noteChange -/
def xq_Good (N R : Nat → Int32) : Prop := (∀ g, g < 18 → ∀ i, 18 ≤ i → bt (N g) i = false) ∧ (∀ t, t < 3 → ∀ i, 3 ≤ i → bt (R t) i = false)
/-- what is kept of sources is right -/
def xq_Ch (N R sr : Nat → Int32) : Prop := ∀ g, g < 18 → bt (sr g) 18 = true → gr_Src N R g (sr g &&& 262143)
def xq_E (o p l : Nat) (b : Int32) (E : Nat → Int32) : Nat → Int32 := if o = 0 then upd E l (rt_sb b (E l) p) else E
def xq_N (o p l : Nat) (b : Int32) (N : Nat → Int32) : Nat → Int32 := if o = 1 then upd N l (rt_sb b (N l) p) else N
def xq_R (o p l : Nat) (b : Int32) (R : Nat → Int32) : Nat → Int32 := if o = 2 then upd R l (rt_sb b (R l) p) else R
theorem xq_Ch0 {N R sr : Nat → Int32} (h : ∀ g, g < 18 → sr g = 0) : xq_Ch N R sr := by
  intro g hg hb
  rw [h g hg, b_0] at hb
  cases hb
/-- change s + 1 leads from state s to state s + 1 and back -/
def xq_St (HE HN HR : Nat → Nat → Int32) (so pa pl be af : Nat → Int32) (s q : Nat) : Prop :=
  ∃ o p l : Nat, o < 3 ∧ p < 18 ∧ l < 18 ∧ (o = 2 → l < 3) ∧ so q = nI o ∧ pa q = nI p ∧ pl q = nI l ∧
    HE (s + 1) = xq_E o p l (af q) (HE s) ∧ HN (s + 1) = xq_N o p l (af q) (HN s) ∧ HR (s + 1) = xq_R o p l (af q) (HR s) ∧
    HE s = xq_E o p l (be q) (HE (s + 1)) ∧ HN s = xq_N o p l (be q) (HN (s + 1)) ∧ HR s = xq_R o p l (be q) (HR (s + 1))
def xq_Lg (L : Nat) (HE HN HR : Nat → Nat → Int32) (so pa pl be af : Nat → Int32) : Prop :=
  ∀ s, s < L → L < s + 8 → xq_St HE HN HR so pa pl be af s ((s + 1) % 8)
section
variable {ld ls w : Int32} {E N R so pa pl be af wg cm : Nat → Int32}
theorem xq_make149 {post : SX → Prop} (K : ∀ sr, (∀ g, g < 18 → sr g = 0) → post (ld, ls, w, E, N, R, so, pa, pl, be, af, sr, wg, cm)) :
    ∀ (d j : Nat) (sr : Nat → Int32), j + d = 18 → (∀ g, g < j → sr g = 0) → wX_make_149 post ld ls w (d + 1) (nI j) E N R so pa pl be af sr wg cm := by
  intro d
  induction d with
  | zero =>
    intro j sr hj hz
    have e : j = 18 := by omega
    subst e
    exact br_t (nI_le (a := 18) (b := 18) (by omega) (by omega)) (K sr hz)
  | succ d ih =>
    intro j sr hj hz
    refine br_f (nI_ge (a := j) (b := 18) (by omega) (by omega)) ⟨vp_in_nI (by omega) (by omega), nm_r (e' := upd sr j 0) (by rw [nI_clamp (by omega)]) (nm_r (nI_1 j) ?_)⟩
    refine ih (j + 1) _ (by omega) ?_
    intro g hg
    by_cases e : g = j
    · subst e; exact pk_us
    · rw [pk_un e]; exact hz g (by omega)
theorem xq_make {post : SX → Prop} {sr : Nat → Int32} {q o p l : Nat} {b : Int32} (hq : q < 8) (ho : o < 3) (hp : p < 18) (hl : l < 18) (hl3 : o = 2 → l < 3)
    (eo : so q = nI o) (ep : pa q = nI p) (el : pl q = nI l)
    (K : ∀ sr', (o = 0 ∧ sr' = sr) ∨ (∀ g, g < 18 → sr' g = 0) → post (ld, ls, w, xq_E o p l b E, xq_N o p l b N, xq_R o p l b R, so, pa, pl, be, af, sr', wg, cm)) :
    wpX_make post (ld, ls, w, E, N, R, so, pa, pl, be, af, sr, wg, cm) (nI q) b := by
  have hi : vp_in (nI q) 8 := vp_in_nI hq (by omega)
  have hc : (nI q).toNatClampNeg = q := nI_clamp (by omega)
  have hi18 : vp_in (nI l) 18 := vp_in_nI hl (by omega)
  have hcl : (nI l).toNatClampNeg = l := nI_clamp (by omega)
  unfold wpX_make
  dsimp only
  refine ⟨hi, nm_r (e' := nI o) (by rw [hc, eo]) ⟨hi, nm_r (e' := (1 : Int32) <<< (nI p &&& 31)) (by rw [hc, ep]) ⟨hi, nm_r (e' := nI l) (by rw [hc, el]) ?_⟩⟩⟩
  rw [hcl]
  refine pk_eq o 0 (fun h0 => ?_) (fun h0 => pk_eq o 1 (fun h1 => ?_) (fun h1 => ?_))
  · subst h0
    have K1 := K sr (Or.inl ⟨rfl, rfl⟩)
    refine br_c (fun hb => ⟨hi18, hi18, nm_r (e' := xq_E 0 p l b E) ?_ K1⟩) (fun hb => ⟨hi18, hi18, nm_r (e' := xq_E 0 p l b E) ?_ K1⟩)
    · show _ = upd E l (rt_sb b (E l) p)
      rw [rt_sb0 hb]
    · show _ = upd E l (rt_sb b (E l) p)
      rw [rt_sb1 hb]
  · subst h1
    have K1 : ∀ sr', (∀ g, g < 18 → sr' g = 0) → post (ld, ls, w, E, xq_N 1 p l b N, R, so, pa, pl, be, af, sr', wg, cm) := fun sr' h => K sr' (Or.inr h)
    refine br_c (fun hb => ⟨hi18, hi18, nm_r (e' := xq_N 1 p l b N) ?_ ⟨19, xq_make149 K1 18 0 sr (by omega) (fun g hg => by omega)⟩⟩) (fun hb => ⟨hi18, hi18, nm_r (e' := xq_N 1 p l b N) ?_ ⟨19, xq_make149 K1 18 0 sr (by omega) (fun g hg => by omega)⟩⟩)
    · show _ = upd N l (rt_sb b (N l) p)
      rw [rt_sb0 hb]
    · show _ = upd N l (rt_sb b (N l) p)
      rw [rt_sb1 hb]
  · have h2 : o = 2 := by omega
    subst h2
    have hi3 : vp_in (nI l) 3 := vp_in_nI (hl3 rfl) (by omega)
    have K1 : ∀ sr', (∀ g, g < 18 → sr' g = 0) → post (ld, ls, w, E, N, xq_R 2 p l b R, so, pa, pl, be, af, sr', wg, cm) := fun sr' h => K sr' (Or.inr h)
    refine br_c (fun hb => ⟨hi3, hi3, nm_r (e' := xq_R 2 p l b R) ?_ ⟨19, xq_make149 K1 18 0 sr (by omega) (fun g hg => by omega)⟩⟩) (fun hb => ⟨hi3, hi3, nm_r (e' := xq_R 2 p l b R) ?_ ⟨19, xq_make149 K1 18 0 sr (by omega) (fun g hg => by omega)⟩⟩)
    · show _ = upd R l (rt_sb b (R l) p)
      rw [rt_sb0 hb]
    · show _ = upd R l (rt_sb b (R l) p)
      rw [rt_sb1 hb]
end
section
variable {L : Nat} {HE HN HR : Nat → Nat → Int32} {so pa pl be af wg cm : Nat → Int32} {w : Int32}
theorem xq_load44 {post : SX → Prop} {T : Nat} (hL : L < 2 ^ 30) (hT : T ≤ L) (lg : xq_Lg L HE HN HR so pa pl be af)
    (K : ∀ sr, xq_Ch (HN T) (HR T) sr → post (nI T, nI L, w, HE T, HN T, HR T, so, pa, pl, be, af, sr, wg, cm)) :
    ∀ (d D : Nat) (sr : Nat → Int32), D + d = T → L < D + 8 → xq_Ch (HN D) (HR D) sr → wX_load_44 post (nI T) (d + 1) (nI D) (nI L) w (HE D) (HN D) (HR D) so pa pl be af sr wg cm := by
  intro d
  induction d with
  | zero =>
    intro D sr hD h8 hc
    have e : D = T := by omega
    subst e
    exact br_t (nI_le (by omega) (by omega)) (K sr hc)
  | succ d ih =>
    intro D sr hD h8 hc
    refine br_f (nI_ge (by omega) (by omega)) (nm_r (nI_1 D) ?_)
    rw [rt_d8 (by omega)]
    obtain ⟨o, p, l, ho, hp, hl, hl3, eo, ep, el, e1, e2, e3, _⟩ := lg D (by omega) h8
    have hq : (D + 1) % 8 < 8 := Nat.mod_lt _ (by omega)
    refine ⟨rt_n8, rt_n8, vp_in_nI hq (by omega), ?_⟩
    rw [nI_clamp (by omega)]
    refine xq_make hq ho hp hl hl3 eo ep el ?_
    intro sr' hs
    rw [← e1, ← e2, ← e3]
    refine ih (D + 1) sr' (by omega) (by omega) ?_
    rcases hs with ⟨rfl, rfl⟩ | hz
    · rw [e2, e3]; exact hc
    · exact xq_Ch0 hz
theorem xq_load0 {post : SX → Prop} {T : Nat} (hL : L < 2 ^ 30) (hT : T ≤ L) (hT8 : L < T + 8) (lg : xq_Lg L HE HN HR so pa pl be af)
    (K : ∀ sr, xq_Ch (HN T) (HR T) sr → post (nI T, nI L, w, HE T, HN T, HR T, so, pa, pl, be, af, sr, wg, cm)) :
    ∀ (d D : Nat) (sr : Nat → Int32), D = T + d → D ≤ L → xq_Ch (HN D) (HR D) sr → wX_load_0 post (nI T) (d + 1) (nI D) (nI L) w (HE D) (HN D) (HR D) so pa pl be af sr wg cm := by
  intro d
  induction d with
  | zero =>
    intro D sr hD h8 hc
    have e : D = T := by omega
    subst e
    exact br_t (nI_le (by omega) (by omega)) ⟨1, xq_load44 hL hT lg K 0 D sr (by omega) hT8 hc⟩
  | succ d ih =>
    intro D sr hD h8 hc
    obtain ⟨D', rfl⟩ : ∃ D', D = D' + 1 := ⟨T + d, by omega⟩
    refine br_f (nI_ge (by omega) (by omega)) ?_
    rw [rt_d8 (by omega)]
    obtain ⟨o, p, l, ho, hp, hl, hl3, eo, ep, el, _, _, _, e1, e2, e3⟩ := lg D' (by omega) (by omega)
    have hq : (D' + 1) % 8 < 8 := Nat.mod_lt _ (by omega)
    refine ⟨rt_n8, rt_n8, vp_in_nI hq (by omega), ?_⟩
    rw [nI_clamp (by omega)]
    refine xq_make hq ho hp hl hl3 eo ep el ?_
    intro sr' hs
    rw [← e1, ← e2, ← e3]
    refine nm_r (nI_pred D') ?_
    refine ih D' sr' (by omega) (by omega) ?_
    rcases hs with ⟨rfl, rfl⟩ | hz
    · rw [e2, e3]; exact hc
    · exact xq_Ch0 hz
theorem xq_load {post : SX → Prop} {T D : Nat} {sr : Nat → Int32} (hL : L < 2 ^ 30) (hT : T ≤ L) (hT8 : L < T + 8) (hD : D ≤ L) (hD8 : L < D + 8) (lg : xq_Lg L HE HN HR so pa pl be af)
    (hc : xq_Ch (HN D) (HR D) sr) (K : ∀ sr, xq_Ch (HN T) (HR T) sr → post (nI T, nI L, w, HE T, HN T, HR T, so, pa, pl, be, af, sr, wg, cm)) : wpX_load post (nI D, nI L, w, HE D, HN D, HR D, so, pa, pl, be, af, sr, wg, cm) (nI T) := by
  unfold wpX_load
  dsimp only
  by_cases h : D ≤ T
  · exact ⟨1, br_t (nI_le h (by omega)) ⟨(T - D) + 1, xq_load44 hL hT lg K (T - D) D sr (by omega) hD8 hc⟩⟩
  · exact ⟨(D - T) + 1, xq_load0 hL hT hT8 lg K (D - T) D sr (by omega) hD hc⟩
theorem xq_note {post : SX → Prop} {sr E' N' R' : Nat → Int32} {E N R : Nat → Int32} {o p l : Nat} {b0 b1 : Int32} (hL : L < 2 ^ 30) (ho : o < 3) (hp : p < 18) (hl : l < 18) (hl3 : o = 2 → l < 3)
    (h0 : b0 = 0 ∨ b0 = 1) (h1 : b1 = 0 ∨ b1 = 1) (hE : E' = xq_E o p l b1 E) (hN : N' = xq_N o p l b1 N) (hR : R' = xq_R o p l b1 R)
    (hc : xq_Ch N R sr)
    (K : ∀ sr', xq_Ch N' R' sr' → post (nI (L + 1), nI (L + 1), w, E', N', R', upd so ((L + 1) % 8) (nI o), upd pa ((L + 1) % 8) (nI p), upd pl ((L + 1) % 8) (nI l), upd be ((L + 1) % 8) b0, upd af ((L + 1) % 8) b1, sr', wg, cm)) :
    wpX_noteChange post (nI L, nI L, w, E, N, R, so, pa, pl, be, af, sr, wg, cm) (nI o) (nI p) (nI l) b0 b1 := by
  have hq : (L + 1) % 8 < 8 := Nat.mod_lt _ (by omega)
  have hi : vp_in (nI ((L + 1) % 8)) 8 := vp_in_nI hq (by omega)
  have hcl : (nI ((L + 1) % 8)).toNatClampNeg = (L + 1) % 8 := nI_clamp (by omega)
  unfold wpX_noteChange
  dsimp only
  refine nm_r (nI_1 L) ⟨rt_n8, nm_r (rt_d8 (by omega)) ?_⟩
  rw [hcl]
  refine ⟨hi, nm_r (e' := upd so ((L + 1) % 8) (nI o)) (by rw [rt_nb (by omega)]) ⟨hi, nm_r (e' := upd pa ((L + 1) % 8) (nI p)) (by rw [rt_nb (by omega)]) ⟨hi, nm_r (e' := upd pl ((L + 1) % 8) (nI l)) (by rw [rt_nb (by omega)]) ⟨hi, nm_r (e' := upd be ((L + 1) % 8) b0) (by rw [rt_nz h0]) ⟨hi, nm_r (e' := upd af ((L + 1) % 8) b1) (by rw [rt_nz h1]) ?_⟩⟩⟩⟩⟩
  refine xq_make hq ho hp hl hl3 pk_us pk_us pk_us ?_
  intro sr' hs
  rw [← hE, ← hN, ← hR]
  refine K sr' ?_
  rcases hs with ⟨rfl, rfl⟩ | hz
  · rw [hN, hR]; exact hc
  · exact xq_Ch0 hz
end
end
section
/-! X: byRules, sourcesTo, membersOf -/
theorem xs_c_up {p : Nat → Prop} {j n : Nat} (h : j ≤ n) : gr_c p j ≤ gr_c p n := by
  induction n with
  | zero => have : j = 0 := by omega
            subst this; exact Nat.le_refl _
  | succ n ih =>
    by_cases e : j = n + 1
    · subst e; exact Nat.le_refl _
    · have := ih (by omega)
      by_cases hp : p n
      · rw [gr_c_t hp]; omega
      · rw [gr_c_f hp]; omega
def xs_pr (N R : Nat → Int32) (x : Nat) : Int32 := N x ||| (R (x % 3) <<< (nI (x / 3 * 3) &&& 31))
theorem xs_pr_bt {N R : Nat → Int32} (hG : xq_Good N R) {x : Nat} (hx : x < 18) {i : Nat} (hi : i < 32) : bt (xs_pr N R x) i = true ↔ gr_P N R i x := by
  unfold xs_pr gr_P
  rw [b_or, b_shl (x / 3 * 3) (by omega) _ hi, Bool.or_eq_true, Bool.and_eq_true, decide_eq_true_eq]
  constructor
  · rintro (h | ⟨h1, h2⟩)
    · have hlt : i < 18 := by
        rcases Nat.lt_or_ge i 18 with z | z
        · exact z
        · rw [hG.1 x hx i z] at h; cases h
      exact ⟨hlt, hx, Or.inl h⟩
    · have hlt : i - x / 3 * 3 < 3 := by
        rcases Nat.lt_or_ge (i - x / 3 * 3) 3 with z | z
        · exact z
        · rw [hG.2 (x % 3) (Nat.mod_lt _ (by omega)) _ z] at h2; cases h2
      have e : i - x / 3 * 3 = i % 3 := by omega
      rw [e] at h2
      exact ⟨by omega, hx, Or.inr ⟨by omega, h2⟩⟩
  · rintro ⟨h1, _, h | ⟨h2, h3⟩⟩
    · exact Or.inl h
    · have e : i - x / 3 * 3 = i % 3 := by omega
      rw [e]
      exact Or.inr ⟨by omega, h3⟩
/-- the stack while the fresh ones are pushed: j looked at, k on the stack -/
def xs_Q (f : Int32) (k0 : Nat) (wg0 : Nat → Int32) (j k : Nat) (wg : Nat → Int32) : Prop :=
  k = k0 + gr_c (fun i => bt f i = true) j ∧ (∀ i, i < k0 → wg i = wg0 i) ∧ (∀ x, x < j → bt f x = true → ∃ i, i < k ∧ wg i = nI x) ∧
    (∀ i, k0 ≤ i → i < k → ∃ x, x < 18 ∧ bt f x = true ∧ wg i = nI x)
theorem xs_Q0 (f : Int32) (k0 : Nat) (wg0 : Nat → Int32) : xs_Q f k0 wg0 0 k0 wg0 :=
  ⟨rfl, fun _ _ => rfl, fun x hx => absurd hx (by omega), fun i h1 h2 => absurd h1 (by omega)⟩
theorem xs_Qf {f : Int32} {k0 : Nat} {wg0 : Nat → Int32} {j k : Nat} {wg : Nat → Int32} (h : xs_Q f k0 wg0 j k wg) (hb : bt f j = false) : xs_Q f k0 wg0 (j + 1) k wg := by
  obtain ⟨h1, h2, h3, h4⟩ := h
  refine ⟨?_, h2, fun x hx hx2 => ?_, h4⟩
  · rw [gr_c_f (by rw [hb]; decide)]; exact h1
  · by_cases e : x = j
    · subst e; rw [hb] at hx2; cases hx2
    · exact h3 x (by omega) hx2
theorem xs_Qt {f : Int32} {k0 : Nat} {wg0 : Nat → Int32} {j k : Nat} {wg : Nat → Int32} (hj : j < 18) (h : xs_Q f k0 wg0 j k wg) (hb : bt f j = true) : xs_Q f k0 wg0 (j + 1) (k + 1) (upd wg k (nI j)) := by
  obtain ⟨h1, h2, h3, h4⟩ := h
  refine ⟨?_, fun i hi => ?_, fun x hx hx2 => ?_, fun i hi1 hi2 => ?_⟩
  · rw [gr_c_t (p := fun i => bt f i = true) hb]; omega
  · rw [pk_un (by omega)]; exact h2 i hi
  · by_cases e : x = j
    · subst e; exact ⟨k, by omega, pk_us⟩
    · obtain ⟨i, hi, ei⟩ := h3 x (by omega) hx2
      exact ⟨i, by omega, by rw [pk_un (by omega)]; exact ei⟩
  · by_cases e : i = k
    · subst e; exact ⟨j, hj, hb, pk_us⟩
    · obtain ⟨x, hx, hx2, ex⟩ := h4 i hi1 (by omega)
      exact ⟨x, hx, hx2, by rw [pk_un e]; exact ex⟩
/-- what the search holds: s seen, k waiting -/
def xs_I (N R : Nat → Int32) (g : Nat) (s : Int32) (k : Nat) (wg : Nat → Int32) : Prop :=
  (∀ i, i < 32 → bt s i = true → gr_R N R i g) ∧ bt s g = true ∧ (∀ j, j < k → ∃ x, x < 18 ∧ wg j = nI x ∧ bt s x = true) ∧
    (∀ x, x < 18 → bt s x = true → (∃ j, j < k ∧ wg j = nI x) ∨ (∀ a, gr_P N R a x → bt s a = true)) ∧
    k + gr_c (fun i => bt s i = false) 18 ≤ 18
theorem xs_I0 {N R : Nat → Int32} {g : Nat} (hg : g < 18) (wg : Nat → Int32) : xs_I N R g ((1 : Int32) <<< (nI g &&& 31)) 1 (upd wg 0 (nI g)) := by
  have hb : ∀ i, i < 32 → (bt ((1 : Int32) <<< (nI g &&& 31)) i = true ↔ i = g) := fun i hi => by
    rw [rt_one (by omega) hi, decide_eq_true_eq]
  refine ⟨fun i hi h => ?_, (hb g (by omega)).mpr rfl, fun j hj => ?_, fun x hx h => ?_, ?_⟩
  · rw [(hb i hi).mp h]; exact gr_R_refl g
  · have e : j = 0 := by omega
    subst e
    exact ⟨g, hg, pk_us, (hb g (by omega)).mpr rfl⟩
  · rw [(hb x (by omega)).mp h]
    exact Or.inl ⟨0, by omega, pk_us⟩
  · have h1 := gr_c_lt (p := fun i => bt ((1 : Int32) <<< (nI g &&& 31)) i = false) (q := fun _ => True) 18 (fun _ _ _ => trivial) g hg (by rw [(hb g (by omega)).mpr rfl]; decide) trivial
    have h2 := gr_c_le (fun _ => True) 18
    omega
theorem xs_Iend {N R : Nat → Int32} {g : Nat} {s : Int32} {wg : Nat → Int32} (hg : g < 18) (h : xs_I N R g s 0 wg) : gr_Src N R g s := by
  obtain ⟨h1, h2, _, h4, _⟩ := h
  intro i hi
  refine ⟨h1 i hi, fun r => ?_⟩
  refine gr_R_in (S := fun x => bt s x = true) h2 ?_ r
  intro a b p hb
  rcases h4 b p.2.1 hb with ⟨j, hj, _⟩ | z
  · omega
  · exact z a p
theorem xs_Chu {N R sr : Nat → Int32} {g : Nat} {s : Int32} (hg : g < 18) (hc : xq_Ch N R sr) (h : gr_Src N R g s) : xq_Ch N R (upd sr g (s ||| 262144)) := by
  intro g' hg' hb
  by_cases e : g' = g
  · subst e
    rw [pk_us]
    intro i hi
    rw [b_and, b_or, rt_mask hi, rt_b18 hi, ← h i hi]
    by_cases h18 : i < 18
    · rw [decide_eq_true h18, decide_eq_false (by omega)]; simp
    · rw [decide_eq_false h18, Bool.and_false]
      constructor
      · intro z; cases z
      · intro z; exact absurd (gr_R_lt hg ((h i hi).mp z)) h18
  · rw [pk_un e] at hb ⊢
    exact hc g' hg' hb
/-- a step at a group whose sources are known -/
theorem xs_Ik {N R : Nat → Int32} {g : Nat} {s m : Int32} {k x : Nat} {wg : Nat → Int32} (h : xs_I N R g s (k + 1) wg) (hx : x < 18) (ex : wg k = nI x) (hm : gr_Src N R x m) : xs_I N R g (s ||| m) k wg := by
  obtain ⟨h1, h2, h3, h4, h5⟩ := h
  have hb : ∀ i, i < 32 → (bt (s ||| m) i = true ↔ bt s i = true ∨ gr_R N R i x) := fun i hi => by
    rw [b_or, Bool.or_eq_true, hm i hi]
  have hs : bt s x = true := by
    obtain ⟨y, hy, ey, hb⟩ := h3 k (by omega)
    rw [ex] at ey
    have e := (nI_eq (by omega) (by omega)).mp ey
    rw [e]; exact hb
  refine ⟨fun i hi z => ?_, ?_, fun j hj => ?_, fun y hy z => ?_, ?_⟩
  · rcases (hb i hi).mp z with z | z
    · exact h1 i hi z
    · exact gr_R_trans z (h1 x (by omega) hs)
  · rw [b_or, h2]; rfl
  · obtain ⟨y, hy, ey, z⟩ := h3 j (by omega)
    exact ⟨y, hy, ey, by rw [b_or, z]; rfl⟩
  · have hp : ∀ y, y < 18 → gr_R N R y x → ∀ a, gr_P N R a y → bt (s ||| m) a = true := fun y _ r a p =>
      (hb a (by have := p.1; omega)).mpr (Or.inr (gr_R_step p r))
    rcases (hb y (by omega)).mp z with z | z
    · rcases h4 y hy z with ⟨j, hj, ej⟩ | z
      · by_cases e : j = k
        · subst e
          rw [ex] at ej
          have e2 := (nI_eq (by omega) (by omega)).mp ej
          subst e2
          exact Or.inr (hp x hx (gr_R_refl x))
        · exact Or.inl ⟨j, by omega, ej⟩
      · exact Or.inr fun a p => by rw [b_or, z a p]; rfl
    · exact Or.inr (hp y hy z)
  · have := gr_c_mono (p := fun i => bt (s ||| m) i = false) (q := fun i => bt s i = false) 18 (fun i _ z => by
      rw [b_or] at z
      cases hq : bt s i
      · rfl
      · rw [hq] at z; cases z)
    omega
theorem xs_f_bt {N R : Nat → Int32} (hG : xq_Good N R) {s : Int32} {x : Nat} (hx : x < 18) {i : Nat} (hi : i < 32) : bt (xs_pr N R x &&& (s ^^^ (-1))) i = true ↔ gr_P N R i x ∧ bt s i = false := by
  rw [b_and, rt_not _ hi, Bool.and_eq_true, xs_pr_bt hG hx hi, Bool.not_eq_true']
/-- a step at a group whose sources are not known: the fresh ones are pushed -/
theorem xs_If {N R : Nat → Int32} (hG : xq_Good N R) {g : Nat} {s f : Int32} {k x k' : Nat} {wg wg' : Nat → Int32} (h : xs_I N R g s (k + 1) wg) (hx : x < 18) (ex : wg k = nI x)
    (hf : f = xs_pr N R x &&& (s ^^^ (-1))) (hq : xs_Q f k wg 18 k' wg') : xs_I N R g (s ||| f) k' wg' ∧ k' + gr_c (fun i => bt (s ||| f) i = false) 18 = k + gr_c (fun i => bt s i = false) 18 := by
  obtain ⟨h1, h2, h3, h4, h5⟩ := h
  obtain ⟨q1, q2, q3, q4⟩ := hq
  have hfb : ∀ i, i < 32 → (bt f i = true ↔ gr_P N R i x ∧ bt s i = false) := fun i hi => by rw [hf]; exact xs_f_bt hG hx hi
  have hb : ∀ i, i < 32 → (bt (s ||| f) i = true ↔ bt s i = true ∨ gr_P N R i x) := fun i hi => by
    rw [b_or, Bool.or_eq_true, hfb i hi]
    cases hs : bt s i <;> simp
  have hs : bt s x = true := by
    obtain ⟨y, hy, ey, hb⟩ := h3 k (by omega)
    rw [ex] at ey
    have e := (nI_eq (by omega) (by omega)).mp ey
    rw [e]; exact hb
  have hcnt : gr_c (fun i => bt s i = false) 18 = gr_c (fun i => bt (s ||| f) i = false) 18 + gr_c (fun i => bt f i = true) 18 := by
    refine gr_c_or 18 (fun i hi => ?_) (fun i hi z z2 => ?_)
    · show bt s i = false ↔ bt (s ||| f) i = false ∨ bt f i = true
      have z1 := hfb i (by omega)
      rw [b_or]
      cases hs : bt s i
      · cases hf : bt f i <;> simp
      · cases hf : bt f i
        · simp
        · rw [hf, hs] at z1; exact absurd (z1.mp rfl).2 (by decide)
    · rw [b_or] at z
      rw [z2] at z
      cases hs : bt s i <;> rw [hs] at z <;> cases z
  have hsum : k' + gr_c (fun i => bt (s ||| f) i = false) 18 = k + gr_c (fun i => bt s i = false) 18 := by omega
  refine ⟨⟨fun i hi z => ?_, ?_, fun j hj => ?_, fun y hy z => ?_, by omega⟩, hsum⟩
  · rcases (hb i hi).mp z with z | z
    · exact h1 i hi z
    · exact gr_R_step z (h1 x (by omega) hs)
  · rw [b_or, h2]; rfl
  · by_cases e : j < k
    · obtain ⟨y, hy, ey, z⟩ := h3 j (by omega)
      exact ⟨y, hy, by rw [q2 j e]; exact ey, by rw [b_or, z]; rfl⟩
    · obtain ⟨y, hy, z, ey⟩ := q4 j (by omega) hj
      exact ⟨y, hy, ey, by rw [b_or, z]; exact Bool.or_true _⟩
  · have hk : k ≤ k' := by omega
    by_cases z2 : bt s y = true
    · rcases h4 y hy z2 with ⟨j, hj, ej⟩ | z
      · by_cases e : j = k
        · subst e
          rw [ex] at ej
          have e2 := (nI_eq (by omega) (by omega)).mp ej
          subst e2
          exact Or.inr fun a p => (hb a (by have := p.1; omega)).mpr (Or.inr p)
        · exact Or.inl ⟨j, by omega, by rw [q2 j (by omega)]; exact ej⟩
      · exact Or.inr fun a p => by rw [b_or, z a p]; rfl
    · rw [b_or, (rt_bn _).mp z2, Bool.false_or] at z
      exact Or.inl (q3 y hy z)
section
variable {ld ls : Int32} {E N R so pa pl be af sr cm : Nat → Int32}
theorem xs_by {post : Int32 → Prop} {w : Int32} {wg : Nat → Int32} {x : Nat} (hx : x < 18) (K : post (R (x % 3) <<< (nI (x / 3 * 3) &&& 31))) : wpX_byRules post (ld, ls, w, E, N, R, so, pa, pl, be, af, sr, wg, cm) (nI x) := by
  unfold wpX_byRules
  dsimp only
  rw [rt_d3 (by omega), rt_q3 (by omega), rt_mm3, nI_clamp (by omega)]
  exact ⟨rt_n3, vp_in_nI (Nat.mod_lt _ (by omega)) (by omega), rt_n3, K⟩
theorem xs_push {post : Int32 → SX → Prop} {J : Int32 → Int32 → (Nat → Int32) → (Nat → Int32) → (Nat → Int32) → (Nat → Int32) → (Nat → Int32) → (Nat → Int32) → (Nat → Int32) → (Nat → Int32) → (Nat → Int32) → (Nat → Int32) → (Nat → Int32) → Prop}
    {x1 s f : Int32} {k0 : Nat} {wg0 : Nat → Int32} (hk : k0 + gr_c (fun i => bt f i = true) 18 ≤ 18)
    (K : ∀ k wg, xs_Q f k0 wg0 18 k wg → J s (nI k) E N R so pa pl be af sr wg cm) :
    ∀ (d j k : Nat) (wg : Nat → Int32), j + d = 18 → xs_Q f k0 wg0 j k wg → wX_sourcesTo_123 post J x1 s f ld ls (d + 1) (nI j) (nI k) E N R so pa pl be af sr wg cm := by
  intro d
  induction d with
  | zero =>
    intro j k wg hj hq
    have e : j = 18 := by omega
    subst e
    exact br_t (nI_le (a := 18) (b := 18) (by omega) (by omega)) (K k wg hq)
  | succ d ih =>
    intro j k wg hj hq
    have hb := rt_bit0 f (n := j) (by omega)
    refine br_f (nI_ge (a := j) (b := 18) (by omega) (by omega)) ?_
    cases hbj : bt f j
    · exact br_t (hb.mpr hbj) (nm_r (nI_1 j) (ih (j + 1) k wg (by omega) (xs_Qf hq hbj)))
    · have hlt : k < 18 := by
        have z1 := hq.1
        have z2 := xs_c_up (p := fun i => bt f i = true) (j := j + 1) (n := 18) (by omega)
        rw [gr_c_t (p := fun i => bt f i = true) hbj] at z2
        omega
      refine br_f (fun z => by rw [hb.mp z] at hbj; cases hbj) ⟨vp_in_nI hlt (by omega), nm_r (e' := upd wg k (nI j)) (by rw [nI_clamp (by omega), rt_nb (by omega)]) (nm_r (nI_1 k) (nm_r (nI_1 j) ?_))⟩
      exact ih (j + 1) (k + 1) _ (by omega) (xs_Qt (by omega) hq hbj)
theorem xs_41 {post : Int32 → SX → Prop} {g : Nat} (hg : g < 18) (hG : xq_Good N R) (hc : xq_Ch N R sr)
    (K : ∀ r w sr wg, gr_Src N R g r → xq_Ch N R sr → post r (ld, ls, w, E, N, R, so, pa, pl, be, af, sr, wg, cm)) :
    ∀ (n : Nat) (s : Int32) (k : Nat) (wg : Nat → Int32), k + gr_c (fun i => bt s i = false) 18 < n → xs_I N R g s k wg → wX_sourcesTo_41 post (nI g) ld ls n s (nI k) E N R so pa pl be af sr wg cm := by
  intro n
  induction n with
  | zero => intro s k wg h; omega
  | succ n ih =>
    intro s k wg hn hI
    cases k with
    | zero =>
      have hs := xs_Iend hg hI
      refine br_t (nI_le (a := 0) (b := 0) (by omega) (by omega)) ⟨vp_in_nI hg (by omega), nm_r (e' := upd sr g (s ||| 262144)) (by rw [nI_clamp (by omega)]) ?_⟩
      exact K s _ _ _ hs (xs_Chu hg hc hs)
    | succ k =>
      have hk : k < 18 := by have := hI.2.2.2.2; omega
      obtain ⟨x, hx, ex, hsx⟩ := hI.2.2.1 k (by omega)
      refine br_f (nI_ge (a := 0) (b := k + 1) (by omega) (by omega)) (nm_r (nI_pred k) ⟨vp_in_nI hk (by omega), nm_r (e' := nI x) (by rw [nI_clamp (by omega), ex]) ⟨vp_in_nI hx (by omega), nm_r (e' := sr x) (by rw [nI_clamp (by omega)]) ?_⟩⟩)
      have hb := rt_bit0 (sr x) (n := 18) (by omega)
      cases hbx : bt (sr x) 18
      · refine br_t (hb.mpr hbx) ⟨vp_in_nI hx (by omega), xs_by hx ?_⟩
        rw [nI_clamp (show x < 2 ^ 31 by omega)]
        refine nm_r (e' := xs_pr N R x &&& (s ^^^ (-1))) rfl (nm_e ⟨19, ?_⟩)
        have hcnt : k + gr_c (fun i => bt (xs_pr N R x &&& (s ^^^ (-1))) i = true) 18 ≤ 18 := by
          have z := gr_c_mono (p := fun i => bt (xs_pr N R x &&& (s ^^^ (-1))) i = true) (q := fun i => bt s i = false) 18 (fun i hi z => ((xs_f_bt hG hx (by omega)).mp z).2)
          have := hI.2.2.2.2
          omega
        refine xs_push hcnt ?_ 18 0 k wg (by omega) (xs_Q0 _ _ _)
        intro k' wg' hq
        obtain ⟨hI', hsum⟩ := xs_If hG hI hx ex rfl hq
        exact ih _ k' wg' (by omega) hI'
      · refine br_f (fun z => by rw [hb.mp z] at hbx; cases hbx) (nm_e ?_)
        have hI' := xs_Ik hI hx ex (hc x hx hbx)
        refine ih _ k wg ?_ hI'
        have := gr_c_mono (p := fun i => bt (s ||| (sr x &&& 262143)) i = false) (q := fun i => bt s i = false) 18 (fun i _ z => by
          rw [b_or] at z
          cases hq : bt s i
          · rfl
          · rw [hq] at z; cases z)
        omega
theorem xs_sourcesTo {post : Int32 → SX → Prop} {w : Int32} {wg : Nat → Int32} {g : Nat} (hg : g < 18) (hG : xq_Good N R) (hc : xq_Ch N R sr)
    (K : ∀ r w sr wg, gr_Src N R g r → xq_Ch N R sr → post r (ld, ls, w, E, N, R, so, pa, pl, be, af, sr, wg, cm)) : wpX_sourcesTo post (ld, ls, w, E, N, R, so, pa, pl, be, af, sr, wg, cm) (nI g) := by
  unfold wpX_sourcesTo
  dsimp only
  rw [nI_clamp (show g < 2 ^ 31 by omega)]
  refine ⟨vp_in_nI hg (by omega), ?_⟩
  have hb := rt_bit0 (sr g) (n := 18) (by omega)
  cases hbg : bt (sr g) 18
  · refine br_t (hb.mpr hbg) (nm_e (nm_r (e' := upd wg 0 (nI g)) (by rw [rt_nb (by omega)]) ⟨19, ?_⟩))
    have hI := xs_I0 (N := N) (R := R) hg wg
    exact xs_41 hg hG hc K 19 _ 1 _ (by have := hI.2.2.2.2; omega) hI
  · exact br_f (fun z => by rw [hb.mp z] at hbg; cases hbg) ⟨vp_in_nI hg (by omega), K _ _ _ _ (hc g hg hbg) hc⟩
theorem xs_mem11 {post : Int32 → SX → Prop} {w : Int32} {wg : Nat → Int32} {f : Int32} 
    (K : ∀ r, (∀ i, i < 32 → (bt r i = true ↔ ∃ h, h < 18 ∧ bt f h = true ∧ bt (E h) i = true)) → post r (ld, ls, w, E, N, R, so, pa, pl, be, af, sr, wg, cm)) :
    ∀ (d j : Nat) (r : Int32), j + d = 18 → (∀ i, i < 32 → (bt r i = true ↔ ∃ h, h < j ∧ bt f h = true ∧ bt (E h) i = true)) → wX_membersOf_11 post f ld ls w E N R so pa pl be af sr wg cm (d + 1) r (nI j) := by
  intro d
  induction d with
  | zero =>
    intro j r hj hr
    have e : j = 18 := by omega
    subst e
    exact br_t (nI_le (a := 18) (b := 18) (by omega) (by omega)) (K r hr)
  | succ d ih =>
    intro j r hj hr
    have hb := rt_bit0 f (n := j) (by omega)
    refine br_f (nI_ge (a := j) (b := 18) (by omega) (by omega)) ?_
    cases hbj : bt f j
    · refine br_t (hb.mpr hbj) (nm_r (nI_1 j) (ih (j + 1) r (by omega) fun i hi => ?_))
      rw [hr i hi]
      constructor
      · rintro ⟨h, h1, h2⟩; exact ⟨h, by omega, h2⟩
      · rintro ⟨h, h1, h2, h3⟩
        by_cases e : h = j
        · subst e; rw [hbj] at h2; cases h2
        · exact ⟨h, by omega, h2, h3⟩
    · refine br_f (fun z => by rw [hb.mp z] at hbj; cases hbj) ⟨vp_in_nI (by omega) (by omega), nm_r (e' := r ||| E j) (by rw [nI_clamp (by omega)]) (nm_r (nI_1 j) (ih (j + 1) _ (by omega) fun i hi => ?_))⟩
      rw [b_or, Bool.or_eq_true, hr i hi]
      constructor
      · rintro (⟨h, h1, h2⟩ | z)
        · exact ⟨h, by omega, h2⟩
        · exact ⟨j, by omega, hbj, z⟩
      · rintro ⟨h, h1, h2, h3⟩
        by_cases e : h = j
        · subst e; exact Or.inr h3
        · exact Or.inl ⟨h, by omega, h2, h3⟩
theorem xs_membersOf {post : Int32 → SX → Prop} {w : Int32} {wg : Nat → Int32} {g : Nat} (hg : g < 18) (hG : xq_Good N R) (hc : xq_Ch N R sr)
    (K : ∀ r w sr wg, gr_Mem E N R g r → xq_Ch N R sr → post r (ld, ls, w, E, N, R, so, pa, pl, be, af, sr, wg, cm)) : wpX_membersOf post (ld, ls, w, E, N, R, so, pa, pl, be, af, sr, wg, cm) (nI g) := by
  unfold wpX_membersOf
  dsimp only
  refine xs_sourcesTo hg hG hc ?_
  intro f w' sr' wg' hf hc'
  refine ⟨19, ?_⟩
  refine xs_mem11 ?_ 18 0 0 (by omega) ?_
  · intro r hr
    refine K r w' sr' wg' (fun i hi => ?_) hc'
    rw [hr i hi]
    constructor
    · rintro ⟨h, h1, h2, h3⟩; exact ⟨h, h1, (hf h (by omega)).mp h2, h3⟩
    · rintro ⟨h, h1, h2, h3⟩; exact ⟨h, h1, (hf h (by omega)).mpr h2, h3⟩
  · intro i hi
    rw [b_0]
    constructor
    · intro z; cases z
    · rintro ⟨h, h1, _⟩; omega
end
end
section
/-! Y: in, passes, addAll, sources, next -/
/-- slot q holds the state E N R -/
def yq_S (E N R ye yi yr : Nat → Int32) (q : Nat) : Prop :=
  (∀ g, g < 18 → ye (18 * q + g) = E g ∧ yi (18 * q + g) = N g) ∧ (∀ r, r < 3 → ∀ t, t < 3 → bt (yr q) (3 * r + t) = bt (R t) r)
section
variable {l : Int32} {ye yi yr ym : Nat → Int32} {E N R : Nat → Int32}
theorem yq_in {post : Int32 → Prop} (x : Int32) {k : Nat} (hk : k < 32) (h1 : bt x k = true → post 1) (h0 : bt x k = false → post 0) : wpY_in post (l, ye, yi, yr, ym) x (nI k) := by
  unfold wpY_in
  dsimp only
  exact br_c (fun z => h1 ((rt_bit1 x hk).mp z)) (fun z => h0 (by
    cases hb : bt x k
    · rfl
    · exact absurd ((rt_bit1 x hk).mpr hb) z))
theorem yq_passes {post : Int32 → Prop} {q g h : Nat} (hq : q < 8) (hg : g < 18) (hh : h < 18) (S : yq_S E N R ye yi yr q)
    (K1 : gr_P N R g h → post 1) (K0 : ¬ gr_P N R g h → post 0) : wpY_passes post (l, ye, yi, yr, ym) (nI q) (nI g) (nI h) := by
  unfold wpY_passes
  dsimp only
  rw [rt_d3 (a := g) (by omega), rt_d3 (a := h) (by omega), rt_q3 (a := g) (by omega), rt_q3 (a := h) (by omega), rt_m18, rt_m3, nI_clamp (n := 18 * q + h) (by omega), nI_clamp (n := q) (by omega)]
  have e1 := (S.1 h hh).2
  have e2 := S.2 (g % 3) (Nat.mod_lt _ (by omega)) (h % 3) (Nat.mod_lt _ (by omega))
  refine ⟨vp_in_nI (by omega) (by omega), yq_in _ (by omega) (fun z => br_f rt_n1 (K1 ⟨hg, hh, Or.inl ?_⟩)) (fun z => br_t rfl ⟨rt_n3, rt_n3, pk_eq (g / 3) (h / 3) (fun e => ⟨vp_in_nI hq (by omega), rt_n3, rt_n3, yq_in _ (by omega) (fun y => br_f rt_n1 (K1 ⟨hg, hh, Or.inr ⟨e, ?_⟩⟩)) (fun y => br_t rfl (K0 ?_))⟩) (fun e => K0 ?_)⟩)⟩
  · rw [← e1]; exact z
  · rw [← e2]; exact y
  · rintro ⟨_, _, p | ⟨_, p⟩⟩
    · rw [← e1, z] at p; cases p
    · rw [← e2, y] at p; cases p
  · rintro ⟨_, _, p | ⟨p, _⟩⟩
    · rw [← e1, z] at p; cases p
    · exact e p
end
/-! the rounds of addAll -/
def yq_U (E N R ym : Nat → Int32) : Prop := ∀ h, h < 18 → ∀ i, i < 32 → bt (ym h) i = true → gr_M E N R h i
def yq_L (E N R : Nat → Int32) (r : Nat) (ym : Nat → Int32) : Prop := ∀ h, h < 18 → ∀ x, gr_D N R r x h → ∀ i, i < 32 → bt (E x) i = true → bt (ym h) i = true
def yq_T (E N R : Nat → Int32) (r t : Nat) (ym : Nat → Int32) : Prop := ∀ a b, a < 18 → b < 18 → 18 * a + b < t → gr_P N R a b → ∀ x, gr_D N R r x a → ∀ i, i < 32 → bt (E x) i = true → bt (ym b) i = true
theorem yq_T0 {E N R ym : Nat → Int32} {r : Nat} : yq_T E N R r 0 ym := fun a b _ _ h => absurd h (by omega)
theorem yq_Tend {E N R ym : Nat → Int32} {r : Nat} (hL : yq_L E N R r ym) (hT : yq_T E N R r 324 ym) : yq_L E N R (r + 1) ym := by
  intro h hh x d i hi he
  rcases gr_D_last d with d | ⟨b, d, p⟩
  · exact hL h hh x d i hi he
  · exact hT b h p.1 hh (by have := p.1; omega) p x d i hi he
theorem yq_Tn {E N R ym : Nat → Int32} {r t : Nat} (ht : t < 324) (hp : ¬ gr_P N R (t / 18) (t % 18)) (hT : yq_T E N R r t ym) : yq_T E N R r (t + 1) ym := by
  intro a b ha hb hab p
  by_cases e : 18 * a + b = t
  · have e1 : t / 18 = a := by omega
    have e2 : t % 18 = b := by omega
    rw [e1, e2] at hp
    exact absurd p hp
  · exact hT a b ha hb (by omega) p
theorem yq_mono {ym : Nat → Int32} {b : Nat} {v : Int32} {h i : Nat} (z : bt (ym h) i = true) : bt (upd ym b (ym b ||| v) h) i = true := by
  by_cases e : h = b
  · subst e; rw [pk_us, b_or, z]; rfl
  · rw [pk_un e]; exact z
theorem yq_Tp {E N R ym : Nat → Int32} {r t : Nat} (ht : t < 324) (hp : gr_P N R (t / 18) (t % 18)) (hU : yq_U E N R ym) (hL : yq_L E N R r ym) (hT : yq_T E N R r t ym) :
    yq_U E N R (upd ym (t % 18) (ym (t % 18) ||| ym (t / 18))) ∧ yq_L E N R r (upd ym (t % 18) (ym (t % 18) ||| ym (t / 18))) ∧ yq_T E N R r (t + 1) (upd ym (t % 18) (ym (t % 18) ||| ym (t / 18))) := by
  refine ⟨fun h hh i hi z => ?_, fun h hh x d i hi he => yq_mono (hL h hh x d i hi he), fun a b ha hb hab p x d i hi he => ?_⟩
  · by_cases e : h = t % 18
    · subst e
      rw [pk_us, b_or, Bool.or_eq_true] at z
      rcases z with z | z
      · exact hU _ hh i hi z
      · obtain ⟨x, hx, rx, ex⟩ := hU (t / 18) hp.1 i hi z
        exact ⟨x, hx, gr_R_snoc rx hp, ex⟩
    · rw [pk_un e] at z
      exact hU h hh i hi z
  · by_cases e : 18 * a + b = t
    · have e1 : t / 18 = a := by omega
      have e2 : t % 18 = b := by omega
      rw [e1, e2, pk_us, b_or, hL a ha x d i hi he, Bool.or_true]
    · exact yq_mono (hT a b ha hb (by omega) p x d i hi he)
section
variable {l : Int32} {ye yi yr : Nat → Int32} {E N R : Nat → Int32}
theorem yq_47 {post : SY → Prop} {J : Int32 → (Nat → Int32) → (Nat → Int32) → (Nat → Int32) → (Nat → Int32) → Prop} {q r : Nat} (hq : q < 8) (S : yq_S E N R ye yi yr q)
    (K : ∀ ym, yq_U E N R ym → yq_L E N R (r + 1) ym → J (nI (r + 1)) ye yi yr ym) :
    ∀ (d t : Nat) (ym : Nat → Int32), t + d = 324 → yq_U E N R ym → yq_L E N R r ym → yq_T E N R r t ym → wY_addAll_47 post J (nI q) (nI r) l (d + 1) (nI t) ye yi yr ym := by
  intro d
  induction d with
  | zero =>
    intro t ym ht hU hL hT
    have e : t = 324 := by omega
    subst e
    exact br_t (nI_le (a := 324) (b := 324) (by omega) (by omega)) (nm_r (nI_1 r) (K ym hU (yq_Tend hL hT)))
  | succ d ih =>
    intro t ym ht hU hL hT
    refine br_f (nI_ge (a := t) (b := 324) (by omega) (by omega)) ?_
    rw [rt_d18 (by omega), rt_q18 (by omega)]
    refine ⟨rt_n18, rt_n18, yq_passes hq (by omega) (by omega) S (fun p => br_f rt_n1 ?_) (fun p => br_t rfl (nm_r (nI_1 t) (ih (t + 1) ym (by omega) hU hL (yq_Tn (by omega) p hT))))⟩
    obtain ⟨hU', hL', hT'⟩ := yq_Tp (by omega) p hU hL hT
    refine ⟨rt_n18, rt_n18, vp_in_nI (by omega) (by omega), rt_n18, vp_in_nI (by omega) (by omega), vp_in_nI (by omega) (by omega), nm_r (e' := upd ym (t % 18) (ym (t % 18) ||| ym (t / 18))) ?_ (nm_r (nI_1 t) (ih (t + 1) _ (by omega) hU' hL' hT'))⟩
    rw [nI_clamp (by omega), nI_clamp (by omega)]
theorem yq_38 {post : SY → Prop} {q : Nat} (hq : q < 8) (S : yq_S E N R ye yi yr q)
    (K : ∀ ym, (∀ g, g < 18 → gr_Mem E N R g (ym g)) → post (l, ye, yi, yr, ym)) :
    ∀ (d r : Nat) (ym : Nat → Int32), r + d = 18 → yq_U E N R ym → yq_L E N R r ym → wY_addAll_38 post (nI q) l (d + 1) (nI r) ye yi yr ym := by
  intro d
  induction d with
  | zero =>
    intro r ym hr hU hL
    have e : r = 18 := by omega
    subst e
    refine br_t (nI_le (a := 18) (b := 18) (by omega) (by omega)) (K ym fun g hg i hi => ⟨hU g hg i hi, ?_⟩)
    rintro ⟨x, hx, rx, ex⟩
    exact hL g hg x (gr_D18 hg rx) i hi ex
  | succ d ih =>
    intro r ym hr hU hL
    refine br_f (nI_ge (a := r) (b := 18) (by omega) (by omega)) ⟨325, ?_⟩
    exact yq_47 hq S (fun ym' hU' hL' => ih (r + 1) ym' (by omega) hU' hL') 324 0 ym (by omega) hU hL yq_T0
theorem yq_7 {post : SY → Prop} {q : Nat} (hq : q < 8) (S : yq_S E N R ye yi yr q)
    (K : ∀ ym, (∀ g, g < 18 → gr_Mem E N R g (ym g)) → post (l, ye, yi, yr, ym)) :
    ∀ (d j : Nat) (ym : Nat → Int32), j + d = 18 → (∀ g, g < j → ym g = E g) → wY_addAll_7 post (nI q) l (d + 1) (nI j) ye yi yr ym := by
  intro d
  induction d with
  | zero =>
    intro j ym hj hm
    have e : j = 18 := by omega
    subst e
    refine br_t (nI_le (a := 18) (b := 18) (by omega) (by omega)) ⟨19, yq_38 hq S K 18 0 ym (by omega) (fun h hh i hi z => ?_) (fun h hh x d i hi z => ?_)⟩
    · rw [hm h hh] at z
      exact ⟨h, hh, gr_R_refl h, z⟩
    · cases d
      rw [hm h hh]; exact z
  | succ d ih =>
    intro j ym hj hm
    refine br_f (nI_ge (a := j) (b := 18) (by omega) (by omega)) ?_
    rw [rt_m18, nI_clamp (n := 18 * q + j) (by omega)]
    refine ⟨vp_in_nI (by omega) (by omega), vp_in_nI (by omega) (by omega), nm_r (e' := upd ym j (E j)) (by rw [nI_clamp (by omega), (S.1 j (by omega)).1]) (nm_r (nI_1 j) (ih (j + 1) _ (by omega) fun g hg => ?_))⟩
    by_cases e : g = j
    · subst e; exact pk_us
    · rw [pk_un e]; exact hm g (by omega)
theorem yq_addAll {post : SY → Prop} {ym : Nat → Int32} {T : Nat} (hT : T < 2 ^ 30) (S : yq_S E N R ye yi yr (T % 8))
    (K : ∀ ym, (∀ g, g < 18 → gr_Mem E N R g (ym g)) → post (l, ye, yi, yr, ym)) : wpY_addAll post (l, ye, yi, yr, ym) (nI T) := by
  unfold wpY_addAll
  dsimp only
  exact ⟨rt_n8, nm_r (rt_d8 (by omega)) ⟨19, yq_7 (Nat.mod_lt _ (by omega)) S K 18 0 ym (by omega) (fun g hg => absurd hg (by omega))⟩⟩
end
/-! the rounds of sources -/
def yq_sU (N R : Nat → Int32) (g : Nat) (s : Int32) : Prop := ∀ i, i < 32 → bt s i = true → gr_R N R i g
def yq_sL (N R : Nat → Int32) (g r : Nat) (s : Int32) : Prop := ∀ x, gr_D N R r x g → bt s x = true
def yq_sT (N R : Nat → Int32) (g r t : Nat) (s : Int32) : Prop := ∀ a b, a < 18 → b < 18 → 18 * a + b < t → gr_P N R a b → gr_D N R r b g → bt s a = true
theorem yq_sT0 {N R : Nat → Int32} {g r : Nat} {s : Int32} : yq_sT N R g r 0 s := fun a b _ _ h => absurd h (by omega)
theorem yq_sTend {N R : Nat → Int32} {g r : Nat} {s : Int32} (hL : yq_sL N R g r s) (hT : yq_sT N R g r 324 s) : yq_sL N R g (r + 1) s := by
  intro x d
  rcases d with d | ⟨b, p, d⟩
  · exact hL x d
  · exact hT x b p.1 p.2.1 (by have := p.1; have := p.2.1; omega) p d
theorem yq_sTn {N R : Nat → Int32} {g r t : Nat} {s : Int32} (h : ¬ (gr_P N R (t / 18) (t % 18) ∧ gr_D N R r (t % 18) g)) (hT : yq_sT N R g r t s) : yq_sT N R g r (t + 1) s := by
  intro a b ha hb hab p d
  by_cases e : 18 * a + b = t
  · have e1 : t / 18 = a := by omega
    have e2 : t % 18 = b := by omega
    rw [e1, e2] at h
    exact absurd ⟨p, d⟩ h
  · exact hT a b ha hb (by omega) p d
theorem yq_sTp {N R : Nat → Int32} {g r t : Nat} {s : Int32} (ht : t < 324) (hp : gr_P N R (t / 18) (t % 18)) (hb : bt s (t % 18) = true) (hU : yq_sU N R g s) (hL : yq_sL N R g r s) (hT : yq_sT N R g r t s) :
    yq_sU N R g (s ||| ((1 : Int32) <<< (nI (t / 18) &&& 31))) ∧ yq_sL N R g r (s ||| ((1 : Int32) <<< (nI (t / 18) &&& 31))) ∧ yq_sT N R g r (t + 1) (s ||| ((1 : Int32) <<< (nI (t / 18) &&& 31))) := by
  refine ⟨fun i hi z => ?_, fun x d => by rw [b_or, hL x d]; rfl, fun a b ha hb' hab p d => ?_⟩
  · rw [b_or, rt_one (by omega) hi, Bool.or_eq_true, decide_eq_true_eq] at z
    rcases z with z | z
    · exact hU i hi z
    · subst z
      exact gr_R_step hp (hU _ (by omega) hb)
  · by_cases e : 18 * a + b = t
    · have e1 : t / 18 = a := by omega
      rw [e1, b_or, rt_one (by omega) (by omega), decide_eq_true rfl, Bool.or_true]
    · rw [b_or, hT a b ha hb' (by omega) p d]; rfl
section
variable {l : Int32} {ye yi yr ym : Nat → Int32} {E N R : Nat → Int32}
theorem yq_52 {post : Int32 → Prop} {J : Int32 → Int32 → Prop} {q g r : Nat} (hq : q < 8) (hg : g < 18) (S : yq_S E N R ye yi yr q)
    (K : ∀ s, yq_sU N R g s → yq_sL N R g (r + 1) s → J s (nI (r + 1))) :
    ∀ (d t : Nat) (s : Int32), t + d = 324 → yq_sU N R g s → yq_sL N R g r s → yq_sT N R g r t s → wY_sources_52 post J (nI q) (nI r) l ye yi yr ym (d + 1) s (nI t) := by
  intro d
  induction d with
  | zero =>
    intro t s ht hU hL hT
    have e : t = 324 := by omega
    subst e
    exact br_t (nI_le (a := 324) (b := 324) (by omega) (by omega)) (nm_r (nI_1 r) (K s hU (yq_sTend hL hT)))
  | succ d ih =>
    intro t s ht hU hL hT
    refine br_f (nI_ge (a := t) (b := 324) (by omega) (by omega)) ?_
    rw [rt_d18 (by omega), rt_q18 (by omega)]
    refine ⟨rt_n18, yq_in s (by omega) (fun hb => br_f rt_n1 ⟨rt_n18, rt_n18, yq_passes hq (by omega) (by omega) S (fun p => br_f rt_n1 ?_) (fun p => br_t rfl (nm_r (nI_1 t) (ih (t + 1) s (by omega) hU hL (yq_sTn (fun z => p z.1) hT))))⟩) (fun hb => br_t rfl (nm_r (nI_1 t) (ih (t + 1) s (by omega) hU hL (yq_sTn (fun z => by rw [hL _ z.2] at hb; cases hb) hT))))⟩
    obtain ⟨hU', hL', hT'⟩ := yq_sTp (by omega) p hb hU hL hT
    exact ⟨rt_n18, nm_e (nm_r (nI_1 t) (ih (t + 1) _ (by omega) hU' hL' hT'))⟩
theorem yq_42 {post : Int32 → Prop} {q g : Nat} (hq : q < 8) (hg : g < 18) (S : yq_S E N R ye yi yr q)
    (K : ∀ s, gr_Src N R g s → post s) :
    ∀ (d r : Nat) (s : Int32), r + d = 18 → yq_sU N R g s → yq_sL N R g r s → wY_sources_42 post (nI q) l ye yi yr ym (d + 1) s (nI r) := by
  intro d
  induction d with
  | zero =>
    intro r s hr hU hL
    have e : r = 18 := by omega
    subst e
    exact br_t (nI_le (a := 18) (b := 18) (by omega) (by omega)) (K s fun i hi => ⟨hU i hi, fun z => hL i (gr_D18 hg z)⟩)
  | succ d ih =>
    intro r s hr hU hL
    refine br_f (nI_ge (a := r) (b := 18) (by omega) (by omega)) ⟨325, ?_⟩
    exact yq_52 hq hg S (fun s' hU' hL' => ih (r + 1) s' (by omega) hU' hL') 324 0 s (by omega) hU hL yq_sT0
theorem yq_src0 {g : Nat} (hg : g < 18) : yq_sU N R g ((1 : Int32) <<< (nI g &&& 31)) ∧ yq_sL N R g 0 ((1 : Int32) <<< (nI g &&& 31)) := by
  constructor
  · intro i hi z
    rw [rt_one (by omega) hi, decide_eq_true_eq] at z
    subst z
    exact gr_R_refl i
  · intro x d
    cases d
    rw [rt_one (by omega) (by omega), decide_eq_true rfl]
end
/-! next -/
section
variable {l : Int32} {ye yi yr ym : Nat → Int32}
def yq_N (q q' j : Nat) (ye yi ze zi : Nat → Int32) : Prop :=
  (∀ g, g < j → ze (18 * q' + g) = ye (18 * q + g) ∧ zi (18 * q' + g) = yi (18 * q + g)) ∧ (∀ i, i < 18 * q' ∨ 18 * q' + 18 ≤ i → ze i = ye i ∧ zi i = yi i)
theorem yq_28 {post : Int32 → SY → Prop} {q q' : Nat} (hq : q < 8) (hq' : q' < 8) (hne : q ≠ q')
    (K : ∀ ze zi, yq_N q q' 18 ye yi ze zi → post (nI q') (l, ze, zi, upd yr q' (yr q), ym)) :
    ∀ (d j : Nat) (ze zi : Nat → Int32), j + d = 18 → yq_N q q' j ye yi ze zi → wY_next_28 post (nI q) (nI q') l (d + 1) (nI j) ze zi yr ym := by
  intro d
  induction d with
  | zero =>
    intro j ze zi hj hN
    have e : j = 18 := by omega
    subst e
    refine br_t (nI_le (a := 18) (b := 18) (by omega) (by omega)) ⟨vp_in_nI hq (by omega), vp_in_nI hq' (by omega), nm_r (e' := upd yr q' (yr q)) (by rw [nI_clamp (by omega), nI_clamp (by omega)]) (K ze zi hN)⟩
  | succ d ih =>
    intro j ze zi hj hN
    refine br_f (nI_ge (a := j) (b := 18) (by omega) (by omega)) ?_
    rw [rt_m18, rt_m18, nI_clamp (n := 18 * q + j) (by omega), nI_clamp (n := 18 * q' + j) (by omega)]
    have h1 := (hN.2 (18 * q + j) (by omega))
    refine ⟨vp_in_nI (by omega) (by omega), vp_in_nI (by omega) (by omega), nm_r (e' := upd ze (18 * q' + j) (ye (18 * q + j))) (by rw [h1.1]) ⟨vp_in_nI (by omega) (by omega), vp_in_nI (by omega) (by omega), nm_r (e' := upd zi (18 * q' + j) (yi (18 * q + j))) (by rw [h1.2]) (nm_r (nI_1 j) (ih (j + 1) _ _ (by omega) ⟨fun g hg => ?_, fun i hi => ?_⟩))⟩⟩
    · by_cases e : g = j
      · subst e; exact ⟨pk_us, pk_us⟩
      · rw [pk_un (by omega), pk_un (by omega)]; exact hN.1 g (by omega)
    · rw [pk_un (by omega), pk_un (by omega)]; exact hN.2 i hi
theorem yq_next {post : Int32 → SY → Prop} {L : Nat} (hL : L < 2 ^ 30)
    (K : ∀ ze zi, yq_N (L % 8) ((L + 1) % 8) 18 ye yi ze zi → post (nI ((L + 1) % 8)) (nI (L + 1), ze, zi, upd yr ((L + 1) % 8) (yr (L % 8)), ym)) : wpY_next post (nI L, ye, yi, yr, ym) := by
  unfold wpY_next
  dsimp only
  exact ⟨rt_n8, nm_r (rt_d8 (by omega)) (nm_r (nI_1 L) ⟨rt_n8, nm_r (rt_d8 (by omega)) ⟨19, yq_28 (Nat.mod_lt _ (by omega)) (Nat.mod_lt _ (by omega)) (by omega) K 18 0 ye yi (by omega) ⟨fun g hg => absurd hg (by omega), fun i _ => ⟨rfl, rfl⟩⟩⟩⟩)⟩
end
end
section
/-! the guards of both sides -/
theorem gd_5 : (5 : Int32).toInt = 5 := by decide
theorem gd_6 : (nI 6).toInt = 6 := by decide
theorem gd_17 : (17 : Int32).toInt = 17 := by decide
theorem gd_18 : (nI 18).toInt = 18 := by decide
theorem gd_18' : (18 : Int32).toInt = 18 := by decide
theorem gd_p (v : Int32) : (v < 0 ∨ 5 < v) ∨ ∃ p, p < 6 ∧ v = nI p := by
  rcases pk_ix v (n := 6) (by omega) with h | h | h
  · exact Or.inl (Or.inl h)
  · refine Or.inl (Or.inr ?_)
    rw [Int32.le_iff_toInt_le, gd_6] at h
    rw [Int32.lt_iff_toInt_lt, gd_5]
    omega
  · exact Or.inr h
theorem gd_g (v : Int32) : (v < 0 ∨ (18 ≤ v ∧ 17 < v)) ∨ ∃ g, g < 18 ∧ v = nI g := by
  rcases pk_ix v (n := 18) (by omega) with h | h | h
  · exact Or.inl (Or.inl h)
  · refine Or.inl (Or.inr ⟨h, ?_⟩)
    rw [Int32.le_iff_toInt_le, gd_18] at h
    rw [Int32.lt_iff_toInt_lt, gd_17]
    omega
  · exact Or.inr h
theorem gd_s (v : Int32) {L : Nat} (hL : L < 2 ^ 30) : (v < 0 ∨ nI L < v) ∨ ∃ s, s ≤ L ∧ v = nI s := by
  rcases pk_ix v (n := L + 1) (by omega) with h | h | ⟨s, h, e⟩
  · exact Or.inl (Or.inl h)
  · refine Or.inl (Or.inr ?_)
    rw [Int32.le_iff_toInt_le, nI_toInt (by omega)] at h
    rw [Int32.lt_iff_toInt_lt, nI_toInt (by omega)]
    omega
  · exact Or.inr ⟨s, by omega, e⟩
theorem gd_l8 {L : Nat} (hL : L < 2 ^ 30) : (nI L - 8).toInt = (L : Int) - 8 := pk_sub_toInt (a := L) (b := 8) hL (by omega)
theorem gd_k {s L : Nat} (hL : L < 2 ^ 30) (hs : s ≤ L) : nI s ≤ nI L - 8 ↔ ¬ L < s + 8 := by
  rw [Int32.le_iff_toInt_le, gd_l8 hL, nI_toInt (by omega)]
  omega
section
variable {ld ls w : Int32} {E N R so pa pl be af sr wg cm : Nat → Int32} {post : Int32 → Prop}
theorem xg_pN {v : Int32} (h : v < 0 ∨ 5 < v) (K : post 0) : wpX_isPerson post (ld, ls, w, E, N, R, so, pa, pl, be, af, sr, wg, cm) v := by
  unfold wpX_isPerson
  dsimp only
  exact br_c (fun _ => K) (fun z => br_t (h.resolve_left z) K)
theorem xg_p {p : Nat} (h : p < 6) (K : post 1) : wpX_isPerson post (ld, ls, w, E, N, R, so, pa, pl, be, af, sr, wg, cm) (nI p) := by
  unfold wpX_isPerson
  dsimp only
  exact br_f (nI_pos (by omega)) (br_f (nI_nlt (b := p) (a := 5) (by omega) (by omega)) K)
theorem xg_gN {v : Int32} (h : v < 0 ∨ (18 ≤ v ∧ 17 < v)) (K : post 0) : wpX_isGroup post (ld, ls, w, E, N, R, so, pa, pl, be, af, sr, wg, cm) v := by
  unfold wpX_isGroup
  dsimp only
  exact br_c (fun _ => K) (fun z => br_t (h.resolve_left z).1 K)
theorem xg_g {g : Nat} (h : g < 18) (K : post 1) : wpX_isGroup post (ld, ls, w, E, N, R, so, pa, pl, be, af, sr, wg, cm) (nI g) := by
  unfold wpX_isGroup
  dsimp only
  exact br_f (nI_pos (by omega)) (br_f (nI_ge (a := g) (b := 18) (by omega) (by omega)) K)
theorem xg_sN {v : Int32} (h : v < 0 ∨ ls < v) (K : post 0) : wpX_isState post (ld, ls, w, E, N, R, so, pa, pl, be, af, sr, wg, cm) v := by
  unfold wpX_isState
  dsimp only
  exact br_c (fun _ => K) (fun z => br_t (h.resolve_left z) K)
theorem xg_s {s L : Nat} (hL : L < 2 ^ 30) (h : s ≤ L) (K : post 1) : wpX_isState post (ld, nI L, w, E, N, R, so, pa, pl, be, af, sr, wg, cm) (nI s) := by
  unfold wpX_isState
  dsimp only
  exact br_f (nI_pos (by omega)) (br_f (nI_nlt (by omega) (by omega)) K)
theorem xg_kN {s L : Nat} (hL : L < 2 ^ 30) (h : s ≤ L) (h8 : ¬ L < s + 8) (K : post 0) : wpX_isKept post (ld, nI L, w, E, N, R, so, pa, pl, be, af, sr, wg, cm) (nI s) := by
  unfold wpX_isKept
  dsimp only
  exact xg_s hL h (br_f rt_n1 (br_t ((gd_k hL h).mpr h8) K))
theorem xg_k {s L : Nat} (hL : L < 2 ^ 30) (h : s ≤ L) (h8 : L < s + 8) (K : post 1) : wpX_isKept post (ld, nI L, w, E, N, R, so, pa, pl, be, af, sr, wg, cm) (nI s) := by
  unfold wpX_isKept
  dsimp only
  exact xg_s hL h (br_f rt_n1 (br_f (fun z => (gd_k hL h).mp z h8) K))
end
section
variable {l : Int32} {ye yi yr ym : Nat → Int32} {post : Int32 → Prop}
theorem yg_pN {v : Int32} (h : v < 0 ∨ 5 < v) (K : post 0) : wpY_isPerson post (l, ye, yi, yr, ym) v := by
  unfold wpY_isPerson
  dsimp only
  exact br_c (fun _ => K) (fun z => br_t (h.resolve_left z) K)
theorem yg_p {p : Nat} (h : p < 6) (K : post 1) : wpY_isPerson post (l, ye, yi, yr, ym) (nI p) := by
  unfold wpY_isPerson
  dsimp only
  exact br_f (nI_pos (by omega)) (br_f (nI_nlt (b := p) (a := 5) (by omega) (by omega)) K)
theorem yg_gN {v : Int32} (h : v < 0 ∨ (18 ≤ v ∧ 17 < v)) (K : post 0) : wpY_isGroup post (l, ye, yi, yr, ym) v := by
  unfold wpY_isGroup
  dsimp only
  exact br_c (fun _ => K) (fun z => br_t (h.resolve_left z).2 K)
theorem yg_g {g : Nat} (h : g < 18) (K : post 1) : wpY_isGroup post (l, ye, yi, yr, ym) (nI g) := by
  unfold wpY_isGroup
  dsimp only
  exact br_f (nI_pos (by omega)) (br_f (nI_nlt (b := g) (a := 17) (by omega) (by omega)) K)
theorem yg_sN {v : Int32} (h : v < 0 ∨ l < v) (K : post 0) : wpY_exists post (l, ye, yi, yr, ym) v := by
  unfold wpY_exists
  dsimp only
  exact br_c (fun _ => K) (fun z => br_t (h.resolve_left z) K)
theorem yg_s {s L : Nat} (hL : L < 2 ^ 30) (h : s ≤ L) (K : post 1) : wpY_exists post (nI L, ye, yi, yr, ym) (nI s) := by
  unfold wpY_exists
  dsimp only
  exact br_f (nI_pos (by omega)) (br_f (nI_nlt (by omega) (by omega)) K)
theorem yg_kN {s L : Nat} (hL : L < 2 ^ 30) (h : s ≤ L) (h8 : ¬ L < s + 8) (K : post 0) : wpY_isKept post (nI L, ye, yi, yr, ym) (nI s) := by
  unfold wpY_isKept
  dsimp only
  exact yg_s hL h (br_f rt_n1 (br_t ((gd_k hL h).mpr h8) K))
theorem yg_k {s L : Nat} (hL : L < 2 ^ 30) (h : s ≤ L) (h8 : L < s + 8) (K : post 1) : wpY_isKept post (nI L, ye, yi, yr, ym) (nI s) := by
  unfold wpY_isKept
  dsimp only
  exact yg_s hL h (br_f rt_n1 (br_f (fun z => (gd_k hL h).mp z h8) K))
end
end
section
/-! Y: the relation to the history, and the answers at kept states -/
def yq_Y (L : Nat) (HE HN HR : Nat → Nat → Int32) (ye yi yr : Nat → Int32) : Prop := ∀ s, s ≤ L → L < s + 8 → yq_S (HE s) (HN s) (HR s) ye yi yr (s % 8)
section
variable {L : Nat} {HE HN HR : Nat → Nat → Int32} {ye yi yr ym : Nat → Int32}
theorem ym_check {post : Int32 → SY → Prop} (hL : L < 2 ^ 30) (hY : yq_Y L HE HN HR ye yi yr) {s p g : Nat} (hs : s ≤ L) (h8 : L < s + 8) (hp : p < 6) (hg : g < 18)
    (K1 : ∀ ym, gr_M (HE s) (HN s) (HR s) g p → post 1 (nI L, ye, yi, yr, ym)) (K0 : ∀ ym, ¬ gr_M (HE s) (HN s) (HR s) g p → post 0 (nI L, ye, yi, yr, ym)) :
    wpY_check post (nI L, ye, yi, yr, ym) (nI s) (nI p) (nI g) := by
  unfold wpY_check
  dsimp only
  refine yg_p hp (br_f rt_n1 (yg_g hg (br_f rt_n1 (yg_s hL hs (br_f rt_n1 (yg_k hL hs h8 (br_f rt_n1 (yq_addAll (by omega) (hY s hs h8) ?_))))))))
  intro ym' hm
  have hb := hm g hg p (by omega)
  dsimp only
  rw [nI_clamp (n := g) (by omega)]
  refine ⟨vp_in_nI hg (by omega), yq_in _ (by omega) (fun z => br_f rt_n1 (K1 ym' (hb.mp z))) (fun z => br_t rfl (K0 ym' fun y => ?_))⟩
  rw [hb.mpr y] at z; cases z
theorem ym_members {post : Int32 → SY → Prop} (hL : L < 2 ^ 30) (hY : yq_Y L HE HN HR ye yi yr) {s g : Nat} (hs : s ≤ L) (h8 : L < s + 8) (hg : g < 18)
    (K : ∀ r ym, gr_Mem (HE s) (HN s) (HR s) g r → post r (nI L, ye, yi, yr, ym)) :
    wpY_members post (nI L, ye, yi, yr, ym) (nI s) (nI g) := by
  unfold wpY_members
  dsimp only
  refine yg_g hg (br_f rt_n1 (yg_s hL hs (br_f rt_n1 (yg_k hL hs h8 (br_f rt_n1 (yq_addAll (by omega) (hY s hs h8) ?_))))))
  intro ym' hm
  dsimp only
  rw [nI_clamp (n := g) (by omega)]
  exact ⟨vp_in_nI hg (by omega), K _ ym' (hm g hg)⟩
/-- r is the set of the groups of person p -/
def ym_G (E N R : Nat → Int32) (p : Nat) (r : Int32) : Prop := ∀ i, i < 32 → (bt r i = true ↔ i < 18 ∧ gr_M E N R i p)
/-- the same up to group j -/
def ym_Gj (E N R : Nat → Int32) (p j : Nat) (r : Int32) : Prop := ∀ i, i < 32 → (bt r i = true ↔ i < j ∧ gr_M E N R i p)
theorem ym_G0 (E N R : Nat → Int32) (p : Nat) : ym_Gj E N R p 0 0 := by
  intro i hi
  rw [b_0]
  exact ⟨fun z => (by cases z), fun z => absurd z.1 (by omega)⟩
theorem ym_Gt {E N R : Nat → Int32} {p j : Nat} {r : Int32} (hj : j < 18) (h : ym_Gj E N R p j r) (hm : gr_M E N R j p) : ym_Gj E N R p (j + 1) (r ||| ((1 : Int32) <<< (nI j &&& 31))) := by
  intro i hi
  rw [b_or, rt_one (by omega) hi, Bool.or_eq_true, h i hi, decide_eq_true_eq]
  constructor
  · rintro (⟨h1, h2⟩ | rfl)
    · exact ⟨by omega, h2⟩
    · exact ⟨by omega, hm⟩
  · rintro ⟨h1, h2⟩
    by_cases e : i = j
    · exact Or.inr e
    · exact Or.inl ⟨by omega, h2⟩
theorem ym_Gf {E N R : Nat → Int32} {p j : Nat} {r : Int32} (h : ym_Gj E N R p j r) (hm : ¬ gr_M E N R j p) : ym_Gj E N R p (j + 1) r := by
  intro i hi
  rw [h i hi]
  constructor
  · rintro ⟨h1, h2⟩; exact ⟨by omega, h2⟩
  · rintro ⟨h1, h2⟩
    by_cases e : i = j
    · subst e; exact absurd h2 hm
    · exact ⟨by omega, h2⟩
theorem ym_39 {post : Int32 → SY → Prop} {l : Int32} {E N R : Nat → Int32} {p : Nat} (hp : p < 6) (hm : ∀ g, g < 18 → gr_Mem E N R g (ym g))
    (K : ∀ r, ym_G E N R p r → post r (l, ye, yi, yr, ym)) :
    ∀ (d j : Nat) (r : Int32), j + d = 18 → ym_Gj E N R p j r → wY_groups_39 post (nI p) l ye yi yr ym (d + 1) r (nI j) := by
  intro d
  induction d with
  | zero =>
    intro j r hj hr
    have e : j = 18 := by omega
    subst e
    exact br_t (nI_le (a := 18) (b := 18) (by omega) (by omega)) (K r hr)
  | succ d ih =>
    intro j r hj hr
    refine br_f (nI_ge (a := j) (b := 18) (by omega) (by omega)) ?_
    rw [nI_clamp (n := j) (by omega)]
    have hb := hm j (by omega) p (by omega)
    refine ⟨vp_in_nI (by omega) (by omega), yq_in _ (by omega) (fun z => br_f rt_n1 (nm_e (nm_r (nI_1 j) (ih (j + 1) _ (by omega) (ym_Gt (by omega) hr (hb.mp z)))))) (fun z => br_t rfl (nm_r (nI_1 j) (ih (j + 1) _ (by omega) (ym_Gf hr fun y => ?_))))⟩
    rw [hb.mpr y] at z; cases z
theorem ym_groups {post : Int32 → SY → Prop} (hL : L < 2 ^ 30) (hY : yq_Y L HE HN HR ye yi yr) {s p : Nat} (hs : s ≤ L) (h8 : L < s + 8) (hp : p < 6)
    (K : ∀ r ym, ym_G (HE s) (HN s) (HR s) p r → post r (nI L, ye, yi, yr, ym)) :
    wpY_groups post (nI L, ye, yi, yr, ym) (nI s) (nI p) := by
  unfold wpY_groups
  dsimp only
  refine yg_p hp (br_f rt_n1 (yg_s hL hs (br_f rt_n1 (yg_k hL hs h8 (br_f rt_n1 (yq_addAll (by omega) (hY s hs h8) ?_))))))
  intro ym' hm
  exact ⟨19, ym_39 hp hm (fun r hr => K r ym' hr) 18 0 0 (by omega) (ym_G0 _ _ _ _)⟩
theorem ym_sources {post : Int32 → Prop} (hL : L < 2 ^ 30) (hY : yq_Y L HE HN HR ye yi yr) {s g : Nat} (hs : s ≤ L) (h8 : L < s + 8) (hg : g < 18)
    (K : ∀ r, gr_Src (HN s) (HR s) g r → post r) :
    wpY_sources post (nI L, ye, yi, yr, ym) (nI s) (nI g) := by
  unfold wpY_sources
  dsimp only
  refine yg_g hg (br_f rt_n1 (yg_s hL hs (br_f rt_n1 (yg_k hL hs h8 (br_f rt_n1 ⟨rt_n8, nm_r (rt_d8 (by omega)) (nm_e ⟨19, ?_⟩)⟩)))))
  have h0 := yq_src0 (N := HN s) (R := HR s) hg
  exact yq_42 (Nat.mod_lt _ (by omega)) hg (hY s hs h8) K 18 0 _ (by omega) h0.1 h0.2
/-- the pairs in which two states differ -/
def ym_Q (HE HN HR : Nat → Nat → Int32) (a b g p : Nat) : Prop := ¬ (gr_M (HE a) (HN a) (HR a) g p ↔ gr_M (HE b) (HN b) (HR b) g p)
theorem ym_xor {x y : Int32} {i : Nat} {A B : Prop} (hx : bt x i = true ↔ A) (hy : bt y i = true ↔ B) : bt (x ^^^ y) i = true ↔ ¬ (A ↔ B) := by
  rw [← hx, ← hy, b_xor]
  cases bt x i <;> cases bt y i <;> simp
theorem ym_70 {post : Int32 → SY → Prop} {J : Int32 → Int32 → Int32 → (Nat → Int32) → (Nat → Int32) → (Nat → Int32) → (Nat → Int32) → Prop} {l x1 x2 one two : Int32} {p c0 : Nat} {Q : Nat → Prop}
    (hb : ∀ i, i < 18 → (bt (one ^^^ two) i = true ↔ Q i)) (K : J (nI (c0 + gr_c Q 18)) (nI (p + 1)) l ye yi yr ym) :
    ∀ (d j c : Nat), j + d = 18 → c = c0 + gr_c Q j → wY_changed_70 post J x1 x2 (nI p) one two l ye yi yr ym (d + 1) (nI c) (nI j) := by
  intro d
  induction d with
  | zero =>
    intro j c hj hc
    have e : j = 18 := by omega
    subst e
    subst hc
    exact br_t (nI_le (a := 18) (b := 18) (by omega) (by omega)) (nm_r (nI_1 p) K)
  | succ d ih =>
    intro j c hj hc
    refine br_f (nI_ge (a := j) (b := 18) (by omega) (by omega)) ?_
    have hq := hb j (by omega)
    refine yq_in _ (by omega) (fun z => br_f rt_n1 (nm_r (nI_1 c) (nm_r (nI_1 j) (ih (j + 1) (c + 1) (by omega) ?_)))) (fun z => br_t rfl (nm_r (nI_1 j) (ih (j + 1) c (by omega) ?_)))
    · rw [gr_c_t (hq.mp z)]; omega
    · rw [gr_c_f (fun y => by rw [hq.mpr y] at z; cases z)]; exact hc
theorem ym_c42 {post : Int32 → SY → Prop} (hL : L < 2 ^ 30) (hY : yq_Y L HE HN HR ye yi yr) {a b : Nat} (ha : a ≤ L) (ha8 : L < a + 8) (hb : b ≤ L) (hb8 : L < b + 8)
    (K : ∀ ym, post (nI (gr_s (fun p => gr_c (fun g => ym_Q HE HN HR a b g p) 18) 6)) (nI L, ye, yi, yr, ym)) :
    ∀ (d p c : Nat) (ym : Nat → Int32), p + d = 6 → c = gr_s (fun p => gr_c (fun g => ym_Q HE HN HR a b g p) 18) p → wY_changed_42 post (nI a) (nI b) (d + 1) (nI c) (nI p) (nI L) ye yi yr ym := by
  intro d
  induction d with
  | zero =>
    intro p c ym hp hc
    have e : p = 6 := by omega
    subst e
    subst hc
    exact br_t (nI_le (a := 6) (b := 6) (by omega) (by omega)) (K ym)
  | succ d ih =>
    intro p c ym hp hc
    refine br_f (nI_ge (a := p) (b := 6) (by omega) (by omega)) ?_
    refine ym_groups hL hY ha ha8 (by omega) ?_
    intro one ym1 h1
    refine ym_groups hL hY hb hb8 (by omega) ?_
    intro two ym2 h2
    refine ⟨19, ym_70 (c0 := c) (Q := fun g => ym_Q HE HN HR a b g p) ?_ ?_ 18 0 c (by omega) rfl⟩
    · intro i hi
      refine ym_xor ?_ ?_
      · rw [h1 i (by omega)]; exact ⟨fun z => z.2, fun z => ⟨hi, z⟩⟩
      · rw [h2 i (by omega)]; exact ⟨fun z => z.2, fun z => ⟨hi, z⟩⟩
    · refine ih (p + 1) _ ym2 (by omega) ?_
      rw [hc]; rfl
theorem ym_changed {post : Int32 → SY → Prop} (hL : L < 2 ^ 30) (hY : yq_Y L HE HN HR ye yi yr) {a b : Nat} (ha : a ≤ L) (ha8 : L < a + 8) (hb : b ≤ L) (hb8 : L < b + 8)
    (K : ∀ ym, post (nI (gr_s (fun p => gr_c (fun g => ym_Q HE HN HR a b g p) 18) 6)) (nI L, ye, yi, yr, ym)) :
    wpY_changed post (nI L, ye, yi, yr, ym) (nI a) (nI b) := by
  unfold wpY_changed
  dsimp only
  exact yg_s hL ha (br_f rt_n1 (yg_s hL hb (br_f rt_n1 (yg_k hL ha ha8 (br_f rt_n1 (yg_k hL hb hb8 (br_f rt_n1 ⟨7, ym_c42 hL hY ha ha8 hb hb8 K 6 0 0 ym (by omega) rfl⟩)))))))
/-- the answer of since: the first state from st on in which M holds, or -3 -/
def ym_O (M : Nat → Prop) (st L : Nat) (r : Int32) : Prop :=
  (∃ s, st ≤ s ∧ s ≤ L ∧ M s ∧ (∀ t, st ≤ t → t < s → ¬ M t) ∧ r = nI s) ∨ ((∀ t, st ≤ t → t ≤ L → ¬ M t) ∧ r = -3)
theorem ym_O_eq {M : Nat → Prop} {st L : Nat} {r r' : Int32} (h : ym_O M st L r) (h' : ym_O M st L r') : r' = r := by
  rcases h with ⟨s, h1, h2, h3, h4, e⟩ | ⟨h1, e⟩
  · rcases h' with ⟨s', h1', h2', h3', h4', e'⟩ | ⟨h1', e'⟩
    · have : s = s' := by
        rcases Nat.lt_trichotomy s s' with z | z | z
        · exact absurd h3 (h4' s h1 z)
        · exact z
        · exact absurd h3' (h4 s' h1' z)
      rw [e, e', this]
    · exact absurd h3 (h1' s h1 h2)
  · rcases h' with ⟨s', h1', h2', h3', h4', e'⟩ | ⟨h1', e'⟩
    · exact absurd h3' (h1 s' h1' h2')
    · rw [e, e']
def ym_st (f L : Nat) : Nat := if f ≤ L - 7 then L - 7 else f
theorem ym_st_ge (f L : Nat) : f ≤ ym_st f L ∧ L ≤ ym_st f L + 7 ∧ (ym_st f L = f ∨ ym_st f L + 7 = L) ∧ (f ≤ L → ym_st f L ≤ L) := by
  unfold ym_st
  split <;> omega
def ym_x (j : Nat) (x : Int32) : Prop := (j = 0 ∧ x = -1) ∨ ∃ i, j = i + 1 ∧ x = nI i
theorem ym_x1 (i : Nat) : ym_x i (nI i + (-1)) := by
  cases i with
  | zero => exact Or.inl ⟨rfl, by decide⟩
  | succ i => exact Or.inr ⟨i, rfl, pk_m1 i⟩
theorem ym_x2 {i : Nat} {x : Int32} (h : ym_x (i + 1) x) : x = nI i := by
  rcases h with ⟨h, _⟩ | ⟨i', h, e⟩
  · omega
  · have : i' = i := by omega
    rw [e, this]
theorem ym_x3 {x : Int32} (h : ym_x 0 x) : x = -1 := by
  rcases h with ⟨_, e⟩ | ⟨i', h, e⟩
  · exact e
  · omega
theorem ym_34 {post : Int32 → SY → Prop} (hL : L < 2 ^ 30) (hY : yq_Y L HE HN HR ye yi yr) {p g f : Nat} (hp : p < 6) (hg : g < 18) (hf : f ≤ L)
    (K : ∀ r ym, ym_O (fun s => gr_M (HE s) (HN s) (HR s) g p) (ym_st f L) L r → post r (nI L, ye, yi, yr, ym)) :
    ∀ (j : Nat) (x : Int32) (ym : Nat → Int32), j ≤ 8 → ym_x j x → (∀ t, ym_st f L ≤ t → t + j ≤ L → ¬ gr_M (HE t) (HN t) (HR t) g p) →
      wY_since_34 post (nI p) (nI g) (nI f) (j + 1) x (nI L) ye yi yr ym := by
  intro j
  obtain ⟨g1, g2, g3, g4⟩ := ym_st_ge f L
  induction j with
  | zero =>
    intro x ym _ hx hn
    have e := ym_x3 hx
    subst e
    exact br_t (by decide) (K _ ym (Or.inr ⟨fun t h1 h2 => hn t h1 (by omega), rfl⟩))
  | succ i ih =>
    intro x ym hj hx hn
    have e := ym_x2 hx
    subst e
    have nx := ym_x1 i
    have hsub : (nI L - nI i).toInt = (L : Int) - i := pk_sub_toInt hL (by omega)
    have hft : (nI f).toInt = (f : Int) := nI_toInt (by omega)
    refine br_f (nI_pos (by omega)) (nm_e ?_)
    by_cases hlt : (L : Int) - i < f
    · refine br_t (by rw [Int32.lt_iff_toInt_lt, hsub, hft]; exact hlt) (nm_e (ih _ ym (by omega) nx ?_))
      intro t h1 h2
      omega
    · have hiL : i ≤ L := by omega
      refine br_f (by rw [Int32.lt_iff_toInt_lt, hsub, hft]; exact hlt) ?_
      rw [pk_sub hiL]
      refine ym_check hL hY (by omega) (by omega) hp hg (fun ym' hm => br_t rfl (K _ ym' (Or.inl ⟨L - i, by omega, by omega, hm, fun t h1 h2 => hn t h1 (by omega), rfl⟩))) (fun ym' hm => br_f (by decide) (nm_e (ih _ ym' (by omega) nx ?_)))
      intro t h1 h2
      by_cases e : t = L - i
      · subst e; exact hm
      · exact hn t h1 (by omega)
theorem ym_since {post : Int32 → SY → Prop} (hL : L < 2 ^ 30) (hY : yq_Y L HE HN HR ye yi yr) {p g f : Nat} (hp : p < 6) (hg : g < 18) (hf : f ≤ L)
    (K : ∀ r ym, ym_O (fun s => gr_M (HE s) (HN s) (HR s) g p) (ym_st f L) L r → post r (nI L, ye, yi, yr, ym)) :
    wpY_since post (nI L, ye, yi, yr, ym) (nI p) (nI g) (nI f) := by
  unfold wpY_since
  dsimp only
  obtain ⟨g1, g2, g3, g4⟩ := ym_st_ge f L
  refine yg_p hp (br_f rt_n1 (yg_g hg (br_f rt_n1 (br_f (nI_pos (by omega)) (br_t (nI_le hf (by omega)) ⟨9, ym_34 hL hY hp hg hf K 8 7 ym (by omega) (Or.inr ⟨7, rfl, rfl⟩) ?_⟩)))))
  intro t h1 h2
  omega
end
end
section
/-! X: groups, changed, since at kept states -/
section
variable {ld ls : Int32} {E N R so pa pl be af cm : Nat → Int32}
theorem xm_39 {post : Int32 → SX → Prop} {p : Nat} (hp : p < 6) (hG : xq_Good N R)
    (K : ∀ r w sr wg, ym_G E N R p r → xq_Ch N R sr → post r (ld, ls, w, E, N, R, so, pa, pl, be, af, sr, wg, cm)) :
    ∀ (d j : Nat) (r w : Int32) (sr wg : Nat → Int32), j + d = 18 → ym_Gj E N R p j r → xq_Ch N R sr → wX_groups_39 post (nI p) (d + 1) r (nI j) ld ls w E N R so pa pl be af sr wg cm := by
  intro d
  induction d with
  | zero =>
    intro j r w sr wg hj hr hc
    have e : j = 18 := by omega
    subst e
    exact br_t (nI_le (a := 18) (b := 18) (by omega) (by omega)) (K r w sr wg hr hc)
  | succ d ih =>
    intro j r w sr wg hj hr hc
    refine br_f (nI_ge (a := j) (b := 18) (by omega) (by omega)) (xs_membersOf (by omega) hG hc ?_)
    intro m w' sr' wg' hm hc'
    have hb := hm p (by omega)
    have hz := rt_bit0 m (n := p) (by omega)
    cases hbp : bt m p
    · refine br_t (hz.mpr hbp) (nm_r (nI_1 j) (ih (j + 1) r w' sr' wg' (by omega) (ym_Gf hr fun y => ?_) hc'))
      rw [hb.mpr y] at hbp; cases hbp
    · exact br_f (fun z => by rw [hz.mp z] at hbp; cases hbp) (nm_e (nm_r (nI_1 j) (ih (j + 1) _ w' sr' wg' (by omega) (ym_Gt (by omega) hr (hb.mp hbp)) hc')))
theorem xm_95 {post : Int32 → SX → Prop} {J : Int32 → Int32 → Int32 → Int32 → Int32 → (Nat → Int32) → (Nat → Int32) → (Nat → Int32) → (Nat → Int32) → (Nat → Int32) → (Nat → Int32) → (Nat → Int32) → (Nat → Int32) → (Nat → Int32) → (Nat → Int32) → (Nat → Int32) → Prop}
    {w m : Int32} {sr wg : Nat → Int32} {g c0 : Nat} {Q : Nat → Prop} (hg : g < 18)
    (hb : ∀ i, i < 6 → (bt (m ^^^ cm g) i = true ↔ Q i)) (K : J (nI (c0 + gr_c Q 6)) (nI (g + 1)) ld ls w E N R so pa pl be af sr wg cm) :
    ∀ (d i c : Nat), i + d = 6 → c = c0 + gr_c Q i → wX_changed_95 post J (nI g) m ld ls w E N R so pa pl be af sr wg cm (d + 1) (nI c) (nI i) := by
  intro d
  induction d with
  | zero =>
    intro i c hi hc
    have e : i = 6 := by omega
    subst e
    subst hc
    exact br_t (nI_le (a := 6) (b := 6) (by omega) (by omega)) (nm_r (nI_1 g) K)
  | succ d ih =>
    intro i c hi hc
    refine br_f (nI_ge (a := i) (b := 6) (by omega) (by omega)) ⟨vp_in_nI hg (by omega), ?_⟩
    rw [nI_clamp (n := g) (by omega), rt_bit (m ^^^ cm g) (n := i) (by omega)]
    have hq := hb i (by omega)
    by_cases z : bt (m ^^^ cm g) i = true
    · rw [if_pos z]
      refine nm_r (nI_1 c) (nm_r (nI_1 i) (ih (i + 1) (c + 1) (by omega) ?_))
      rw [gr_c_t (hq.mp z)]; omega
    · rw [if_neg z]
      refine nm_r (e' := nI c) (Int32.add_zero _) (nm_r (nI_1 i) (ih (i + 1) c (by omega) ?_))
      rw [gr_c_f (fun y => z (hq.mpr y))]; exact hc
end
section
variable {L : Nat} {HE HN HR : Nat → Nat → Int32} {so pa pl be af : Nat → Int32}
theorem xm_77 {post : Int32 → SX → Prop} {a b : Nat} {cm : Nat → Int32} (hG : xq_Good (HN b) (HR b)) (hcm : ∀ g, g < 18 → gr_Mem (HE a) (HN a) (HR a) g (cm g))
    (K : ∀ w sr wg, xq_Ch (HN b) (HR b) sr → post (nI (gr_s (fun g => gr_c (fun p => ym_Q HE HN HR a b g p) 6) 18)) (nI b, nI L, w, HE b, HN b, HR b, so, pa, pl, be, af, sr, wg, cm)) :
    ∀ (d g c : Nat) (w : Int32) (sr wg : Nat → Int32), g + d = 18 → c = gr_s (fun g => gr_c (fun p => ym_Q HE HN HR a b g p) 6) g → xq_Ch (HN b) (HR b) sr → wX_changed_77 post (d + 1) (nI c) (nI g) (nI b) (nI L) w (HE b) (HN b) (HR b) so pa pl be af sr wg cm := by
  intro d
  induction d with
  | zero =>
    intro g c w sr wg hg hc hch
    have e : g = 18 := by omega
    subst e
    subst hc
    exact br_t (nI_le (a := 18) (b := 18) (by omega) (by omega)) (K w sr wg hch)
  | succ d ih =>
    intro g c w sr wg hg hc hch
    refine br_f (nI_ge (a := g) (b := 18) (by omega) (by omega)) (xs_membersOf (by omega) hG hch ?_)
    intro m w' sr' wg' hm hch'
    refine ⟨7, xm_95 (c0 := c) (Q := fun p => ym_Q HE HN HR a b g p) (by omega) ?_ ?_ 6 0 c (by omega) rfl⟩
    · intro i hi
      have h := ym_xor (hm i (by omega)) (hcm g (by omega) i (by omega))
      rw [h]
      exact ⟨fun z y => z y.symm, fun z y => z y.symm⟩
    · refine ih (g + 1) _ w' sr' wg' (by omega) ?_ hch'
      rw [hc]; rfl
theorem xm_44 {post : Int32 → SX → Prop} {a b : Nat} (hL : L < 2 ^ 30) (lg : xq_Lg L HE HN HR so pa pl be af) (hGa : xq_Good (HN a) (HR a)) (hGb : xq_Good (HN b) (HR b)) (ha : a ≤ L) (ha8 : L < a + 8) (hb : b ≤ L) (hb8 : L < b + 8)
    (K : ∀ w sr wg cm, xq_Ch (HN b) (HR b) sr → post (nI (gr_s (fun g => gr_c (fun p => ym_Q HE HN HR a b g p) 6) 18)) (nI b, nI L, w, HE b, HN b, HR b, so, pa, pl, be, af, sr, wg, cm)) :
    ∀ (d j : Nat) (w : Int32) (sr wg cm : Nat → Int32), j + d = 18 → (∀ g, g < j → gr_Mem (HE a) (HN a) (HR a) g (cm g)) → xq_Ch (HN a) (HR a) sr → wX_changed_44 post (nI b) (d + 1) (nI j) (nI a) (nI L) w (HE a) (HN a) (HR a) so pa pl be af sr wg cm := by
  intro d
  induction d with
  | zero =>
    intro j w sr wg cm hj hm hc
    have e : j = 18 := by omega
    subst e
    refine br_t (nI_le (a := 18) (b := 18) (by omega) (by omega)) (xq_load hL hb hb8 ha ha8 lg hc ?_)
    intro sr' hc'
    exact ⟨19, xm_77 hGb hm (fun w sr wg h => K w sr wg cm h) 18 0 0 w sr' wg (by omega) rfl hc'⟩
  | succ d ih =>
    intro j w sr wg cm hj hm hc
    refine br_f (nI_ge (a := j) (b := 18) (by omega) (by omega)) (xs_membersOf (by omega) hGa hc ?_)
    intro m w' sr' wg' hmm hc'
    refine ⟨vp_in_nI (by omega) (by omega), nm_r (e' := upd cm j m) (by rw [nI_clamp (by omega)]) (nm_r (nI_1 j) (ih (j + 1) w' sr' wg' _ (by omega) (fun g hg => ?_) hc'))⟩
    by_cases e : g = j
    · subst e; rw [pk_us]; exact hmm
    · rw [pk_un e]; exact hm g (by omega)
theorem xm_55 {post : Int32 → SX → Prop} {p g st : Nat} {cm : Nat → Int32} (hL : L < 2 ^ 30) (lg : xq_Lg L HE HN HR so pa pl be af) (hG : ∀ s, s ≤ L → xq_Good (HN s) (HR s)) (hp : p < 6) (hg : g < 18) (hst : L < st + 8)
    (K : ∀ r D w sr wg, D ≤ L → L < D + 8 → xq_Ch (HN D) (HR D) sr → ym_O (fun s => gr_M (HE s) (HN s) (HR s) g p) st L r → post r (nI D, nI L, w, HE D, HN D, HR D, so, pa, pl, be, af, sr, wg, cm)) :
    ∀ (d t D : Nat) (w : Int32) (sr wg : Nat → Int32), t + d = L + 1 → st ≤ t → (∀ t', st ≤ t' → t' < t → ¬ gr_M (HE t') (HN t') (HR t') g p) → D ≤ L → L < D + 8 → xq_Ch (HN D) (HR D) sr →
      wX_since_55 post (nI p) (nI g) (d + 1) (nI t) (nI D) (nI L) w (HE D) (HN D) (HR D) so pa pl be af sr wg cm := by
  intro d
  induction d with
  | zero =>
    intro t D w sr wg ht hs hn hD hD8 hc
    refine br_t (nI_lt (by omega) (by omega)) (K _ D w sr wg hD hD8 hc (Or.inr ⟨fun t' h1 h2 => hn t' h1 (by omega), rfl⟩))
  | succ d ih =>
    intro t D w sr wg ht hs hn hD hD8 hc
    refine br_f (nI_nlt (by omega) (by omega)) (xq_load hL (by omega) (by omega) hD hD8 lg hc ?_)
    intro sr1 hc1
    refine xs_membersOf hg (hG t (by omega)) hc1 ?_
    intro m w2 sr2 wg2 hm hc2
    have hb := hm p (by omega)
    have hz := rt_bit0 m (n := p) (by omega)
    cases hbp : bt m p
    · refine br_t (hz.mpr hbp) (nm_r (nI_1 t) (ih (t + 1) t w2 sr2 wg2 (by omega) (by omega) (fun t' h1 h2 => ?_) (by omega) (by omega) hc2))
      by_cases e : t' = t
      · subst e
        intro y
        rw [hb.mpr y] at hbp; cases hbp
      · exact hn t' h1 (by omega)
    · exact br_f (fun z => by rw [hz.mp z] at hbp; cases hbp) (K _ t w2 sr2 wg2 (by omega) (by omega) hc2 (Or.inl ⟨t, hs, by omega, hb.mp hbp, hn, rfl⟩))
end
end
section
/-! the history grows by one state -/
def ex_H (H : Nat → Nat → Int32) (L : Nat) (f : Nat → Int32) : Nat → Nat → Int32 := fun s => if s = L + 1 then f else H s
theorem ex_n {H : Nat → Nat → Int32} {L : Nat} {f : Nat → Int32} : ex_H H L f (L + 1) = f := if_pos rfl
theorem ex_o {H : Nat → Nat → Int32} {L s : Nat} {f : Nat → Int32} (h : s ≤ L) : ex_H H L f s = H s := if_neg (by omega)
theorem ex_upd2 {f : Nat → Int32} {k : Nat} {x : Int32} : upd (upd f k x) k (f k) = f := by
  funext j
  by_cases e : j = k
  · subst e; exact pk_us
  · rw [pk_un e, pk_un e]
/-- the bit that change (o, p, l) is about -/
def ex_b (o p l : Nat) (E N R : Nat → Int32) : Bool := if o = 0 then bt (E l) p else if o = 1 then bt (N l) p else bt (R l) p
theorem ex_back {f : Nat → Int32} {p l : Nat} {a b : Int32} (hp : p < 32) (h : ¬ b = 0 ↔ bt (f l) p = true) : f = upd (upd f l (rt_sb a (f l) p)) l (rt_sb b (upd f l (rt_sb a (f l) p) l) p) := by
  rw [pk_us, rt_undo a b (f l) hp h, ex_upd2]
theorem ex_Lg {L : Nat} {HE HN HR : Nat → Nat → Int32} {so pa pl be af : Nat → Int32} {o p l : Nat} {b0 b1 : Int32} (ho : o < 3) (hp : p < 18) (hl : l < 18) (hl3 : o = 2 → l < 3)
    (hb : ¬ b0 = 0 ↔ ex_b o p l (HE L) (HN L) (HR L) = true) (lg : xq_Lg L HE HN HR so pa pl be af) :
    xq_Lg (L + 1) (ex_H HE L (xq_E o p l b1 (HE L))) (ex_H HN L (xq_N o p l b1 (HN L))) (ex_H HR L (xq_R o p l b1 (HR L)))
      (upd so ((L + 1) % 8) (nI o)) (upd pa ((L + 1) % 8) (nI p)) (upd pl ((L + 1) % 8) (nI l)) (upd be ((L + 1) % 8) b0) (upd af ((L + 1) % 8) b1) := by
  intro s hs h8
  unfold xq_St
  by_cases e : s = L
  · subst e
    refine ⟨o, p, l, ho, hp, hl, hl3, pk_us, pk_us, pk_us, ?_⟩
    rw [pk_us, pk_us, ex_n, ex_n, ex_n, ex_o (Nat.le_refl _), ex_o (Nat.le_refl _), ex_o (Nat.le_refl _)]
    refine ⟨rfl, rfl, rfl, ?_⟩
    unfold ex_b at hb
    rcases (show o = 0 ∨ o = 1 ∨ o = 2 by omega) with rfl | rfl | rfl
    · exact ⟨ex_back (by omega) hb, rfl, rfl⟩
    · exact ⟨rfl, ex_back (by omega) hb, rfl⟩
    · exact ⟨rfl, rfl, ex_back (by omega) hb⟩
  · have hne : (s + 1) % 8 ≠ (L + 1) % 8 := by omega
    rw [pk_un hne, pk_un hne, pk_un hne, pk_un hne, pk_un hne, ex_o (show s + 1 ≤ L by omega), ex_o (show s + 1 ≤ L by omega), ex_o (show s + 1 ≤ L by omega), ex_o (show s ≤ L by omega), ex_o (show s ≤ L by omega), ex_o (show s ≤ L by omega)]
    exact lg s (by omega) (by omega)
theorem ex_sbG {b x : Int32} {p m : Nat} (hp : p < m) (hm : m ≤ 32) (h : ∀ i, m ≤ i → bt x i = false) : ∀ i, m ≤ i → bt (rt_sb b x p) i = false := by
  intro i hi
  rcases Nat.lt_or_ge i 32 with h32 | h32
  · rw [rt_sbt b x (by omega) h32, if_neg (by omega)]; exact h i hi
  · exact b_big h32
theorem ex_Good {N R : Nat → Int32} {o p l : Nat} {b : Int32} (hp : p < 18) (hp3 : o = 2 → p < 3) (h : xq_Good N R) : xq_Good (xq_N o p l b N) (xq_R o p l b R) := by
  constructor
  · intro g hg
    unfold xq_N
    by_cases e : o = 1
    · rw [if_pos e]
      by_cases e2 : g = l
      · subst e2; rw [pk_us]; exact ex_sbG hp (by omega) (h.1 g hg)
      · rw [pk_un e2]; exact h.1 g hg
    · rw [if_neg e]; exact h.1 g hg
  · intro t ht
    unfold xq_R
    by_cases e : o = 2
    · rw [if_pos e]
      by_cases e2 : t = l
      · subst e2; rw [pk_us]; exact ex_sbG (hp3 e) (by omega) (h.2 t ht)
      · rw [pk_un e2]; exact h.2 t ht
    · rw [if_neg e]; exact h.2 t ht
theorem ex_Goods {L : Nat} {HN HR : Nat → Nat → Int32} {N' R' : Nat → Int32} (hG : ∀ s, s ≤ L → xq_Good (HN s) (HR s)) (h : xq_Good N' R') : ∀ s, s ≤ L + 1 → xq_Good (ex_H HN L N' s) (ex_H HR L R' s) := by
  intro s hs
  by_cases e : s = L + 1
  · subst e; rw [ex_n, ex_n]; exact h
  · rw [ex_o (by omega), ex_o (by omega)]; exact hG s (by omega)
theorem ex_Y {L : Nat} {HE HN HR : Nat → Nat → Int32} {ye yi yr ze zi zr E' N' R' : Nat → Int32} (hY : yq_Y L HE HN HR ye yi yr)
    (ho : ∀ i, i < 18 * ((L + 1) % 8) ∨ 18 * ((L + 1) % 8) + 18 ≤ i → ze i = ye i ∧ zi i = yi i) (hr : ∀ t, t ≠ (L + 1) % 8 → zr t = yr t)
    (hS : yq_S E' N' R' ze zi zr ((L + 1) % 8)) : yq_Y (L + 1) (ex_H HE L E') (ex_H HN L N') (ex_H HR L R') ze zi zr := by
  intro s hs h8
  by_cases e : s = L + 1
  · subst e; rw [ex_n, ex_n, ex_n]; exact hS
  · rw [ex_o (by omega), ex_o (by omega), ex_o (by omega)]
    obtain ⟨h1, h2⟩ := hY s (by omega) (by omega)
    have hne : s % 8 ≠ (L + 1) % 8 := by omega
    refine ⟨fun g hg => ?_, fun r hr3 t ht => ?_⟩
    · have := ho (18 * (s % 8) + g) (by omega)
      rw [this.1, this.2]; exact h1 g hg
    · rw [hr _ hne]; exact h2 r hr3 t ht
/-- the new slot of Y before its change is the old one -/
theorem ex_S0 {L : Nat} {E N R ye yi yr ze zi : Nat → Int32} (hS : yq_S E N R ye yi yr (L % 8)) (hN : yq_N (L % 8) ((L + 1) % 8) 18 ye yi ze zi) : yq_S E N R ze zi (upd yr ((L + 1) % 8) (yr (L % 8))) ((L + 1) % 8) := by
  refine ⟨fun g hg => ?_, fun r hr t ht => ?_⟩
  · rw [(hN.1 g hg).1, (hN.1 g hg).2]; exact hS.1 g hg
  · rw [pk_us]; exact hS.2 r hr t ht
theorem ex_S_E {E N R ye yi yr : Nat → Int32} {q p l : Nat} {b : Int32} (hS : yq_S E N R ye yi yr q) (hl : l < 18) : yq_S (xq_E 0 p l b E) (xq_N 0 p l b N) (xq_R 0 p l b R) (upd ye (18 * q + l) (rt_sb b (ye (18 * q + l)) p)) yi yr q := by
  refine ⟨fun g hg => ⟨?_, (hS.1 g hg).2⟩, hS.2⟩
  show _ = upd E l (rt_sb b (E l) p) g
  by_cases e : g = l
  · subst e; rw [pk_us, pk_us, (hS.1 g hg).1]
  · rw [pk_un e, pk_un (by omega)]; exact (hS.1 g hg).1
theorem ex_S_N {E N R ye yi yr : Nat → Int32} {q p l : Nat} {b : Int32} (hS : yq_S E N R ye yi yr q) (hl : l < 18) : yq_S (xq_E 1 p l b E) (xq_N 1 p l b N) (xq_R 1 p l b R) ye (upd yi (18 * q + l) (rt_sb b (yi (18 * q + l)) p)) yr q := by
  refine ⟨fun g hg => ⟨(hS.1 g hg).1, ?_⟩, hS.2⟩
  show _ = upd N l (rt_sb b (N l) p) g
  by_cases e : g = l
  · subst e; rw [pk_us, pk_us, (hS.1 g hg).2]
  · rw [pk_un e, pk_un (by omega)]; exact (hS.1 g hg).2
theorem ex_S_R {E N R ye yi yr : Nat → Int32} {q p l : Nat} {b : Int32} (hS : yq_S E N R ye yi yr q) (hp : p < 3) (hl : l < 3) : yq_S (xq_E 2 p l b E) (xq_N 2 p l b N) (xq_R 2 p l b R) ye yi (upd yr q (rt_sb b (yr q) (3 * p + l))) q := by
  refine ⟨hS.1, fun r hr t ht => ?_⟩
  rw [pk_us, rt_sbt _ _ (by omega) (by omega)]
  show _ = bt (upd R l (rt_sb b (R l) p) t) r
  by_cases e : t = l
  · subst e
    rw [pk_us, rt_sbt _ _ (by omega) (by omega)]
    by_cases e2 : r = p
    · subst e2; rw [if_pos rfl, if_pos rfl]
    · rw [if_neg (by omega), if_neg e2]; exact hS.2 r hr t ht
  · rw [pk_un e, if_neg (by omega)]; exact hS.2 r hr t ht
theorem ex_with {post : Int32 → Prop} {l x b : Int32} {ye yi yr ym : Nat → Int32} {p : Nat} (K : post (rt_sb b x p)) : wpY_with post (l, ye, yi, yr, ym) x (nI p) b := by
  unfold wpY_with
  dsimp only
  exact br_c (fun h => by rw [rt_sb0 h] at K; exact K) (fun h => by rw [rt_sb1 h] at K; exact K)
end
section
/-! the relation, and the changes of X -/
/-- one history of states L and its kept part on both sides -/
def i_Rel (k : Nat) (u : SX) (v : SY) : Prop :=
  ∃ (L D : Nat) (HE HN HR : Nat → Nat → Int32) (w : Int32) (so pa pl be af sr wg cm ye yi yr ym : Nat → Int32),
    4 * L ≤ k ∧ D ≤ L ∧ L < D + 8 ∧ (∀ s, s ≤ L → xq_Good (HN s) (HR s)) ∧ xq_Lg L HE HN HR so pa pl be af ∧ xq_Ch (HN D) (HR D) sr ∧ yq_Y L HE HN HR ye yi yr ∧
      u = (nI D, nI L, w, HE D, HN D, HR D, so, pa, pl, be, af, sr, wg, cm) ∧ v = (nI L, ye, yi, yr, ym)
theorem rl_el {k : Nat} {u : SX} {v : SY} {P : SX → SY → Prop}
    (h : ∀ (L D : Nat) (HE HN HR : Nat → Nat → Int32) (w : Int32) (so pa pl be af sr wg cm ye yi yr ym : Nat → Int32),
      4 * L ≤ k → D ≤ L → L < D + 8 → (∀ s, s ≤ L → xq_Good (HN s) (HR s)) → xq_Lg L HE HN HR so pa pl be af → xq_Ch (HN D) (HR D) sr → yq_Y L HE HN HR ye yi yr →
      P (nI D, nI L, w, HE D, HN D, HR D, so, pa, pl, be, af, sr, wg, cm) (nI L, ye, yi, yr, ym)) (I : i_Rel k u v) : P u v := by
  obtain ⟨L, D, HE, HN, HR, w, so, pa, pl, be, af, sr, wg, cm, ye, yi, yr, ym, h1, h2, h3, h4, h5, h6, h7, eu, ev⟩ := I
  rw [eu, ev]
  exact h L D HE HN HR w so pa pl be af sr wg cm ye yi yr ym h1 h2 h3 h4 h5 h6 h7
theorem rl_in {k : Nat} {L D : Nat} {HE HN HR : Nat → Nat → Int32} {w : Int32} {so pa pl be af sr wg cm ye yi yr ym : Nat → Int32}
    (h1 : 4 * L ≤ k) (h2 : D ≤ L) (h3 : L < D + 8) (h4 : ∀ s, s ≤ L → xq_Good (HN s) (HR s)) (h5 : xq_Lg L HE HN HR so pa pl be af) (h6 : xq_Ch (HN D) (HR D) sr) (h7 : yq_Y L HE HN HR ye yi yr) :
    i_Rel k (nI D, nI L, w, HE D, HN D, HR D, so, pa, pl, be, af, sr, wg, cm) (nI L, ye, yi, yr, ym) :=
  ⟨L, D, HE, HN, HR, w, so, pa, pl, be, af, sr, wg, cm, ye, yi, yr, ym, h1, h2, h3, h4, h5, h6, h7, rfl, rfl⟩
theorem i_up {k : Nat} {u : SX} {v : SY} (h : i_Rel k u v) : i_Rel (k + 4) u v :=
  rl_el (P := fun u v => i_Rel (k + 4) u v) (fun _ _ _ _ _ _ _ _ _ _ _ _ _ _ _ _ _ _ h1 h2 h3 h4 h5 h6 h7 => rl_in (by omega) h2 h3 h4 h5 h6 h7) h
theorem i_vc0 : wpX_init (fun u => wpY_init (fun v => i_Rel 0 u v)) := by
  have h : i_Rel 0 (nI 0, nI 0, 0, (fun _ => 0), (fun _ => 0), (fun _ => 0), (fun _ => 0), (fun _ => 0), (fun _ => 0), (fun _ => 0), (fun _ => 0), (fun _ => 0), (fun _ => 0), (fun _ => 0)) (nI 0, (fun _ => 0), (fun _ => 0), (fun _ => 0), (fun _ => 0)) := by
    refine rl_in (L := 0) (D := 0) (HE := fun _ _ => 0) (HN := fun _ _ => 0) (HR := fun _ _ => 0) (by omega) (by omega) (by omega) (fun s _ => ⟨fun _ _ _ _ => b_0 _, fun _ _ _ _ => b_0 _⟩) (fun s hs => absurd hs (by omega)) (xq_Ch0 fun _ _ => rfl) ?_
    intro s _ _
    exact ⟨fun _ _ => ⟨rfl, rfl⟩, fun r _ t _ => by rw [b_0, b_0]⟩
  exact h
section
variable {L : Nat} {HE HN HR : Nat → Nat → Int32} {so pa pl be af sr wg cm : Nat → Int32} {w : Int32}
theorem xe_note {post : SX → Prop} {o p l : Nat} {b0 b1 : Int32} (hL : L < 2 ^ 30) (ho : o < 3) (hp : p < 18) (hl : l < 18) (hl3 : o = 2 → l < 3) (h0 : b0 = 0 ∨ b0 = 1) (h1 : b1 = 0 ∨ b1 = 1)
    (hb : ¬ b0 = 0 ↔ ex_b o p l (HE L) (HN L) (HR L) = true) (lg : xq_Lg L HE HN HR so pa pl be af) (hc : xq_Ch (HN L) (HR L) sr)
    (K : ∀ so pa pl be af sr, xq_Lg (L + 1) (ex_H HE L (xq_E o p l b1 (HE L))) (ex_H HN L (xq_N o p l b1 (HN L))) (ex_H HR L (xq_R o p l b1 (HR L))) so pa pl be af →
      xq_Ch (ex_H HN L (xq_N o p l b1 (HN L)) (L + 1)) (ex_H HR L (xq_R o p l b1 (HR L)) (L + 1)) sr →
      post (nI (L + 1), nI (L + 1), w, ex_H HE L (xq_E o p l b1 (HE L)) (L + 1), ex_H HN L (xq_N o p l b1 (HN L)) (L + 1), ex_H HR L (xq_R o p l b1 (HR L)) (L + 1), so, pa, pl, be, af, sr, wg, cm)) :
    wpX_noteChange post (nI L, nI L, w, HE L, HN L, HR L, so, pa, pl, be, af, sr, wg, cm) (nI o) (nI p) (nI l) b0 b1 :=
  xq_note hL ho hp hl hl3 h0 h1 ex_n ex_n ex_n hc (fun sr' hc' => K _ _ _ _ _ _ (ex_Lg ho hp hl hl3 hb lg) hc')
end
end
section
/-! owed: enter, nest, rule, latest -/
theorem ow_bit {x : Int32} {p : Nat} (hp : p < 32) {A : Int32 → Prop} (K : ∀ b0 : Int32, (b0 = 0 ∨ b0 = 1) → (¬ b0 = 0 ↔ bt x p = true) → A b0) :
    (((x >>> (nI p &&& 31)) &&& 1) = 0 → A 0) ∧ (¬ ((x >>> (nI p &&& 31)) &&& 1) = 0 → A 1) := by
  refine br_c (fun z => K 0 (Or.inl rfl) ?_) (fun z => K 1 (Or.inr rfl) ?_)
  · rw [(rt_bit0 x hp).mp z]; decide
  · constructor
    · intro _
      cases hb : bt x p
      · exact absurd ((rt_bit0 x hp).mpr hb) z
      · rfl
    · intro _; decide
theorem i_vc_enter {k : Nat} {u : SX} {v : SY} (I : i_Rel k u v) (hk : k + 4 ≤ 2048) (v1 : Int32) (v2 : Int32) (v3 : Int32) : wpX_enter (fun r u' => wpY_enter (fun r' v' => r' = r ∧ i_Rel (k + 4) u' v') v v1 v2 (lw_bz v3)) u v1 v2 (lw_bz v3) := by
  refine rl_el (P := fun u v => wpX_enter (fun r u' => wpY_enter (fun r' v' => r' = r ∧ i_Rel (k + 4) u' v') v v1 v2 (lw_bz v3)) u v1 v2 (lw_bz v3)) ?_ I
  intro L D HE HN HR w so pa pl be af sr wg cm ye yi yr ym hk4 hD hD8 hG lg hc hY
  have hL : L < 2 ^ 30 := by omega
  have hRel := rl_in (k := k + 4) (w := w) (wg := wg) (cm := cm) (ym := ym) (by omega) hD hD8 hG lg hc hY
  unfold wpX_enter
  dsimp only
  rcases gd_p v1 with h | ⟨p, hp, rfl⟩
  · refine xg_pN h (br_t rfl ?_)
    unfold wpY_enter
    dsimp only
    exact yg_pN h (br_t rfl ⟨rfl, hRel⟩)
  rcases gd_g v2 with h | ⟨g, hg, rfl⟩
  · refine xg_p hp (br_f rt_n1 (xg_gN h (br_t rfl ?_)))
    unfold wpY_enter
    dsimp only
    exact yg_p hp (br_f rt_n1 (yg_gN h (br_t rfl ⟨rfl, hRel⟩)))
  refine xg_p hp (br_f rt_n1 (xg_g hg (br_f rt_n1 (xq_load hL (Nat.le_refl L) (by omega) hD hD8 lg hc ?_))))
  intro sr1 hc1
  dsimp only
  rw [nI_clamp (n := g) (by omega)]
  refine ⟨vp_in_nI hg (by omega), ow_bit (A := fun b0 => wX_enter_48 _ (lw_bz v3) b0 (nI g) (nI p) 0 (nI L) (nI L) w (HE L) (HN L) (HR L) so pa pl be af sr1 wg cm) (by omega) ?_⟩
  intro b0 h0 hb
  unfold wX_enter_48
  refine xe_note (o := 0) (b1 := lw_bz v3) hL (by omega) (by omega) hg (fun z => by omega) h0 (lw_bz_01 v3) hb lg hc1 ?_
  intro so' pa' pl' be' af' sr' lg' hc'
  dsimp only
  unfold wpY_enter
  dsimp only
  refine yg_p hp (br_f rt_n1 (yg_g hg (br_f rt_n1 (yq_next hL ?_))))
  intro ze zi hN
  dsimp only
  have hq : (L + 1) % 8 < 8 := Nat.mod_lt _ (by omega)
  have hS := ex_S_E (p := p) (b := lw_bz v3) (ex_S0 (hY L (Nat.le_refl L) (by omega)) hN) hg
  refine nm_r (rt_m18 _ _) ?_
  rw [nI_clamp (n := 18 * ((L + 1) % 8) + g) (by omega)]
  refine ⟨vp_in_nI (by omega) (by omega), ex_with ⟨vp_in_nI (by omega) (by omega), nm_e ⟨rfl, rl_in (by omega) (Nat.le_refl _) (by omega) (ex_Goods hG (ex_Good (by omega) (fun z => by omega) (hG L (Nat.le_refl L)))) lg' hc' (ex_Y hY (fun i hi => ?_) (fun t ht => pk_un ht) hS)⟩⟩⟩
  rw [pk_un (by omega)]
  exact hN.2 i hi
theorem i_vc_nest {k : Nat} {u : SX} {v : SY} (I : i_Rel k u v) (hk : k + 4 ≤ 2048) (v1 : Int32) (v2 : Int32) (v3 : Int32) : wpX_nest (fun r u' => wpY_nest (fun r' v' => r' = r ∧ i_Rel (k + 4) u' v') v v1 v2 (lw_bz v3)) u v1 v2 (lw_bz v3) := by
  refine rl_el (P := fun u v => wpX_nest (fun r u' => wpY_nest (fun r' v' => r' = r ∧ i_Rel (k + 4) u' v') v v1 v2 (lw_bz v3)) u v1 v2 (lw_bz v3)) ?_ I
  intro L D HE HN HR w so pa pl be af sr wg cm ye yi yr ym hk4 hD hD8 hG lg hc hY
  have hL : L < 2 ^ 30 := by omega
  have hRel := rl_in (k := k + 4) (w := w) (wg := wg) (cm := cm) (ym := ym) (by omega) hD hD8 hG lg hc hY
  unfold wpX_nest
  dsimp only
  rcases gd_g v1 with h | ⟨p, hp, rfl⟩
  · refine xg_gN h (br_t rfl ?_)
    unfold wpY_nest
    dsimp only
    exact yg_gN h (br_t rfl ⟨rfl, hRel⟩)
  rcases gd_g v2 with h | ⟨g, hg, rfl⟩
  · refine xg_g hp (br_f rt_n1 (xg_gN h (br_t rfl ?_)))
    unfold wpY_nest
    dsimp only
    exact yg_g hp (br_f rt_n1 (yg_gN h (br_t rfl ⟨rfl, hRel⟩)))
  refine xg_g hp (br_f rt_n1 (xg_g hg (br_f rt_n1 (xq_load hL (Nat.le_refl L) (by omega) hD hD8 lg hc ?_))))
  intro sr1 hc1
  dsimp only
  rw [nI_clamp (n := g) (by omega)]
  refine ⟨vp_in_nI hg (by omega), ow_bit (A := fun b0 => wX_nest_48 _ (lw_bz v3) b0 (nI g) (nI p) 1 (nI L) (nI L) w (HE L) (HN L) (HR L) so pa pl be af sr1 wg cm) (by omega) ?_⟩
  intro b0 h0 hb
  unfold wX_nest_48
  refine xe_note (o := 1) (b1 := lw_bz v3) hL (by omega) hp hg (fun z => by omega) h0 (lw_bz_01 v3) hb lg hc1 ?_
  intro so' pa' pl' be' af' sr' lg' hc'
  dsimp only
  unfold wpY_nest
  dsimp only
  refine yg_g hp (br_f rt_n1 (yg_g hg (br_f rt_n1 (yq_next hL ?_))))
  intro ze zi hN
  dsimp only
  have hq : (L + 1) % 8 < 8 := Nat.mod_lt _ (by omega)
  have hS := ex_S_N (p := p) (b := lw_bz v3) (ex_S0 (hY L (Nat.le_refl L) (by omega)) hN) hg
  refine nm_r (rt_m18 _ _) ?_
  rw [nI_clamp (n := 18 * ((L + 1) % 8) + g) (by omega)]
  refine ⟨vp_in_nI (by omega) (by omega), ex_with ⟨vp_in_nI (by omega) (by omega), nm_e ⟨rfl, rl_in (by omega) (Nat.le_refl _) (by omega) (ex_Goods hG (ex_Good hp (fun z => by omega) (hG L (Nat.le_refl L)))) lg' hc' (ex_Y hY (fun i hi => ?_) (fun t ht => pk_un ht) hS)⟩⟩⟩
  rw [pk_un (by omega)]
  exact hN.2 i hi
theorem ow_2 : (nI 2).toInt = 2 := by decide
theorem ow_3 {v : Int32} (h0 : ¬ v < 0) (h2 : ¬ 2 < v) : ∃ r, r < 3 ∧ v = nI r := by
  rcases pk_ix v (n := 3) (by omega) with h | h | h
  · exact absurd h h0
  · rw [Int32.le_iff_toInt_le, nI_toInt (by omega)] at h
    rw [show (2 : Int32) = nI 2 from rfl, Int32.lt_iff_toInt_lt, ow_2] at h2
    omega
  · exact h
theorem i_vc_rule {k : Nat} {u : SX} {v : SY} (I : i_Rel k u v) (hk : k + 4 ≤ 2048) (v1 : Int32) (v2 : Int32) (v3 : Int32) : wpX_rule (fun r u' => wpY_rule (fun r' v' => r' = r ∧ i_Rel (k + 4) u' v') v v1 v2 (lw_bz v3)) u v1 v2 (lw_bz v3) := by
  refine rl_el (P := fun u v => wpX_rule (fun r u' => wpY_rule (fun r' v' => r' = r ∧ i_Rel (k + 4) u' v') v v1 v2 (lw_bz v3)) u v1 v2 (lw_bz v3)) ?_ I
  intro L D HE HN HR w so pa pl be af sr wg cm ye yi yr ym hk4 hD hD8 hG lg hc hY
  have hL : L < 2 ^ 30 := by omega
  have hRel := rl_in (k := k + 4) (w := w) (wg := wg) (cm := cm) (ym := ym) (by omega) hD hD8 hG lg hc hY
  unfold wpX_rule wpY_rule
  dsimp only
  by_cases a1 : v1 < 0
  · exact br_t a1 (br_t a1 ⟨rfl, hRel⟩)
  by_cases a2 : 2 < v1
  · exact br_f a1 (br_t a2 (br_f a1 (br_t a2 ⟨rfl, hRel⟩)))
  by_cases a3 : v2 < 0
  · exact br_f a1 (br_f a2 (br_t a3 (br_f a1 (br_f a2 (br_t a3 ⟨rfl, hRel⟩)))))
  by_cases a4 : 2 < v2
  · exact br_f a1 (br_f a2 (br_f a3 (br_t a4 (br_f a1 (br_f a2 (br_f a3 (br_t a4 ⟨rfl, hRel⟩)))))))
  by_cases a5 : v1 = v2
  · exact br_f a1 (br_f a2 (br_f a3 (br_f a4 (br_t a5 (br_f a1 (br_f a2 (br_f a3 (br_f a4 (br_t a5 ⟨rfl, hRel⟩)))))))))
  obtain ⟨p, hp, rfl⟩ := ow_3 a1 a2
  obtain ⟨g, hg, rfl⟩ := ow_3 a3 a4
  refine br_f a1 (br_f a2 (br_f a3 (br_f a4 (br_f a5 (xq_load hL (Nat.le_refl L) (by omega) hD hD8 lg hc ?_)))))
  intro sr1 hc1
  dsimp only
  rw [nI_clamp (n := g) (by omega)]
  refine ⟨vp_in_nI hg (by omega), ow_bit (A := fun b0 => wX_rule_55 _ (lw_bz v3) b0 (nI g) (nI p) 2 (nI L) (nI L) w (HE L) (HN L) (HR L) so pa pl be af sr1 wg cm) (by omega) ?_⟩
  intro b0 h0 hb
  unfold wX_rule_55
  refine xe_note (o := 2) (b1 := lw_bz v3) hL (by omega) (by omega) (by omega) (fun _ => hg) h0 (lw_bz_01 v3) hb lg hc1 ?_
  intro so' pa' pl' be' af' sr' lg' hc'
  dsimp only
  refine br_f a1 (br_f a2 (br_f a3 (br_f a4 (br_f a5 (yq_next hL ?_)))))
  intro ze zi hN
  dsimp only
  have hq : (L + 1) % 8 < 8 := Nat.mod_lt _ (by omega)
  have hS := ex_S_R (b := lw_bz v3) (ex_S0 (hY L (Nat.le_refl L) (by omega)) hN) hp hg
  rw [nI_clamp (n := (L + 1) % 8) (by omega), rt_m3]
  refine ⟨vp_in_nI (by omega) (by omega), ex_with ⟨vp_in_nI (by omega) (by omega), nm_e ⟨rfl, rl_in (by omega) (Nat.le_refl _) (by omega) (ex_Goods hG (ex_Good (by omega) (fun _ => hp) (hG L (Nat.le_refl L)))) lg' hc' (ex_Y hY (fun i hi => hN.2 i hi) (fun t ht => ?_) hS)⟩⟩⟩
  rw [pk_un ht, pk_un ht]
theorem i_vc_latest {k : Nat} {u : SX} {v : SY} (I : i_Rel k u v) (hk : k + 4 ≤ 2048) : wpX_latest (fun r => wpY_latest (fun r' => r' = r ∧ i_Rel (k + 4) u v) v) u := by
  refine rl_el (P := fun u v => wpX_latest (fun r => wpY_latest (fun r' => r' = r ∧ i_Rel (k + 4) u v) v) u) ?_ I
  intro L D HE HN HR w so pa pl be af sr wg cm ye yi yr ym hk4 hD hD8 hG lg hc hY
  exact ⟨rfl, rl_in (by omega) hD hD8 hG lg hc hY⟩
end
section
/-! owed: check, members, groups, sources -/
theorem i_vc_check {k : Nat} {u : SX} {v : SY} (I : i_Rel k u v) (hk : k + 4 ≤ 2048) (v1 : Int32) (v2 : Int32) (v3 : Int32) : wpX_check (fun r u' => wpY_check (fun r' v' => r' = r ∧ i_Rel (k + 4) u' v') v v1 v2 v3) u v1 v2 v3 := by
  refine rl_el (P := fun u v => wpX_check (fun r u' => wpY_check (fun r' v' => r' = r ∧ i_Rel (k + 4) u' v') v v1 v2 v3) u v1 v2 v3) ?_ I
  intro L D HE HN HR w so pa pl be af sr wg cm ye yi yr ym hk4 hD hD8 hG lg hc hY
  have hL : L < 2 ^ 30 := by omega
  have hRel := rl_in (k := k + 4) (w := w) (wg := wg) (cm := cm) (ym := ym) (by omega) hD hD8 hG lg hc hY
  unfold wpX_check
  dsimp only
  rcases gd_p v2 with h | ⟨p, hp, rfl⟩
  · refine xg_pN h (br_t rfl ?_)
    unfold wpY_check
    dsimp only
    exact yg_pN h (br_t rfl ⟨rfl, hRel⟩)
  rcases gd_g v3 with h | ⟨g, hg, rfl⟩
  · refine xg_p hp (br_f rt_n1 (xg_gN h (br_t rfl ?_)))
    unfold wpY_check
    dsimp only
    exact yg_p hp (br_f rt_n1 (yg_gN h (br_t rfl ⟨rfl, hRel⟩)))
  rcases gd_s v1 hL with h | ⟨s, hs, rfl⟩
  · refine xg_p hp (br_f rt_n1 (xg_g hg (br_f rt_n1 (xg_sN h (br_t rfl ?_)))))
    unfold wpY_check
    dsimp only
    exact yg_p hp (br_f rt_n1 (yg_g hg (br_f rt_n1 (yg_sN h (br_t rfl ⟨rfl, hRel⟩)))))
  by_cases h8 : L < s + 8
  · refine xg_p hp (br_f rt_n1 (xg_g hg (br_f rt_n1 (xg_s hL hs (br_f rt_n1 (xg_k hL hs h8 (br_f rt_n1 (xq_load hL hs h8 hD hD8 lg hc ?_))))))))
    intro sr1 hc1
    dsimp only
    refine xs_membersOf hg (hG s hs) hc1 ?_
    intro m w2 sr2 wg2 hm hc2
    dsimp only
    have hb := hm p (by omega)
    refine ym_check hL hY hs h8 hp hg (fun ym' z => ⟨?_, rl_in (by omega) hs h8 hG lg hc2 hY⟩) (fun ym' z => ⟨?_, rl_in (by omega) hs h8 hG lg hc2 hY⟩)
    · exact ((rt_bit1 m (by omega)).mpr (hb.mpr z)).symm
    · exact ((rt_bit0 m (by omega)).mpr ((rt_bn _).mp fun y => z (hb.mp y))).symm
  · refine xg_p hp (br_f rt_n1 (xg_g hg (br_f rt_n1 (xg_s hL hs (br_f rt_n1 (xg_kN hL hs h8 (br_t rfl ?_)))))))
    unfold wpY_check
    dsimp only
    exact yg_p hp (br_f rt_n1 (yg_g hg (br_f rt_n1 (yg_s hL hs (br_f rt_n1 (yg_kN hL hs h8 (br_t rfl ⟨rfl, hRel⟩)))))))
theorem i_vc_members {k : Nat} {u : SX} {v : SY} (I : i_Rel k u v) (hk : k + 4 ≤ 2048) (v1 : Int32) (v2 : Int32) : wpX_members (fun r u' => wpY_members (fun r' v' => r' = r ∧ i_Rel (k + 4) u' v') v v1 v2) u v1 v2 := by
  refine rl_el (P := fun u v => wpX_members (fun r u' => wpY_members (fun r' v' => r' = r ∧ i_Rel (k + 4) u' v') v v1 v2) u v1 v2) ?_ I
  intro L D HE HN HR w so pa pl be af sr wg cm ye yi yr ym hk4 hD hD8 hG lg hc hY
  have hL : L < 2 ^ 30 := by omega
  have hRel := rl_in (k := k + 4) (w := w) (wg := wg) (cm := cm) (ym := ym) (by omega) hD hD8 hG lg hc hY
  unfold wpX_members
  dsimp only
  rcases gd_g v2 with h | ⟨g, hg, rfl⟩
  · refine xg_gN h (br_t rfl ?_)
    unfold wpY_members
    dsimp only
    exact yg_gN h (br_t rfl ⟨rfl, hRel⟩)
  rcases gd_s v1 hL with h | ⟨s, hs, rfl⟩
  · refine xg_g hg (br_f rt_n1 (xg_sN h (br_t rfl ?_)))
    unfold wpY_members
    dsimp only
    exact yg_g hg (br_f rt_n1 (yg_sN h (br_t rfl ⟨rfl, hRel⟩)))
  by_cases h8 : L < s + 8
  · refine xg_g hg (br_f rt_n1 (xg_s hL hs (br_f rt_n1 (xg_k hL hs h8 (br_f rt_n1 (xq_load hL hs h8 hD hD8 lg hc ?_))))))
    intro sr1 hc1
    dsimp only
    refine xs_membersOf hg (hG s hs) hc1 ?_
    intro m w2 sr2 wg2 hm hc2
    dsimp only
    exact ym_members hL hY hs h8 hg (fun r ym' hr => ⟨gr_Mem_eq hr hm, rl_in (by omega) hs h8 hG lg hc2 hY⟩)
  · refine xg_g hg (br_f rt_n1 (xg_s hL hs (br_f rt_n1 (xg_kN hL hs h8 (br_t rfl ?_)))))
    unfold wpY_members
    dsimp only
    exact yg_g hg (br_f rt_n1 (yg_s hL hs (br_f rt_n1 (yg_kN hL hs h8 (br_t rfl ⟨rfl, hRel⟩)))))
theorem i_vc_groups {k : Nat} {u : SX} {v : SY} (I : i_Rel k u v) (hk : k + 4 ≤ 2048) (v1 : Int32) (v2 : Int32) : wpX_groups (fun r u' => wpY_groups (fun r' v' => r' = r ∧ i_Rel (k + 4) u' v') v v1 v2) u v1 v2 := by
  refine rl_el (P := fun u v => wpX_groups (fun r u' => wpY_groups (fun r' v' => r' = r ∧ i_Rel (k + 4) u' v') v v1 v2) u v1 v2) ?_ I
  intro L D HE HN HR w so pa pl be af sr wg cm ye yi yr ym hk4 hD hD8 hG lg hc hY
  have hL : L < 2 ^ 30 := by omega
  have hRel := rl_in (k := k + 4) (w := w) (wg := wg) (cm := cm) (ym := ym) (by omega) hD hD8 hG lg hc hY
  unfold wpX_groups
  dsimp only
  rcases gd_p v2 with h | ⟨p, hp, rfl⟩
  · refine xg_pN h (br_t rfl ?_)
    unfold wpY_groups
    dsimp only
    exact yg_pN h (br_t rfl ⟨rfl, hRel⟩)
  rcases gd_s v1 hL with h | ⟨s, hs, rfl⟩
  · refine xg_p hp (br_f rt_n1 (xg_sN h (br_t rfl ?_)))
    unfold wpY_groups
    dsimp only
    exact yg_p hp (br_f rt_n1 (yg_sN h (br_t rfl ⟨rfl, hRel⟩)))
  by_cases h8 : L < s + 8
  · refine xg_p hp (br_f rt_n1 (xg_s hL hs (br_f rt_n1 (xg_k hL hs h8 (br_f rt_n1 (xq_load hL hs h8 hD hD8 lg hc ?_))))))
    intro sr1 hc1
    refine ⟨19, xm_39 hp (hG s hs) ?_ 18 0 0 w sr1 wg (by omega) (ym_G0 _ _ _ _) hc1⟩
    intro m w2 sr2 wg2 hm hc2
    exact ym_groups hL hY hs h8 hp (fun r ym' hr => ⟨gr_b_eq hr hm, rl_in (by omega) hs h8 hG lg hc2 hY⟩)
  · refine xg_p hp (br_f rt_n1 (xg_s hL hs (br_f rt_n1 (xg_kN hL hs h8 (br_t rfl ?_)))))
    unfold wpY_groups
    dsimp only
    exact yg_p hp (br_f rt_n1 (yg_s hL hs (br_f rt_n1 (yg_kN hL hs h8 (br_t rfl ⟨rfl, hRel⟩)))))
theorem i_vc_sources {k : Nat} {u : SX} {v : SY} (I : i_Rel k u v) (hk : k + 4 ≤ 2048) (v1 : Int32) (v2 : Int32) : wpX_sources (fun r u' => wpY_sources (fun r' => r' = r ∧ i_Rel (k + 4) u' v) v v1 v2) u v1 v2 := by
  refine rl_el (P := fun u v => wpX_sources (fun r u' => wpY_sources (fun r' => r' = r ∧ i_Rel (k + 4) u' v) v v1 v2) u v1 v2) ?_ I
  intro L D HE HN HR w so pa pl be af sr wg cm ye yi yr ym hk4 hD hD8 hG lg hc hY
  have hL : L < 2 ^ 30 := by omega
  have hRel := rl_in (k := k + 4) (w := w) (wg := wg) (cm := cm) (ym := ym) (by omega) hD hD8 hG lg hc hY
  unfold wpX_sources
  dsimp only
  rcases gd_g v2 with h | ⟨g, hg, rfl⟩
  · refine xg_gN h (br_t rfl ?_)
    unfold wpY_sources
    dsimp only
    exact yg_gN h (br_t rfl ⟨rfl, hRel⟩)
  rcases gd_s v1 hL with h | ⟨s, hs, rfl⟩
  · refine xg_g hg (br_f rt_n1 (xg_sN h (br_t rfl ?_)))
    unfold wpY_sources
    dsimp only
    exact yg_g hg (br_f rt_n1 (yg_sN h (br_t rfl ⟨rfl, hRel⟩)))
  by_cases h8 : L < s + 8
  · refine xg_g hg (br_f rt_n1 (xg_s hL hs (br_f rt_n1 (xg_k hL hs h8 (br_f rt_n1 (xq_load hL hs h8 hD hD8 lg hc ?_))))))
    intro sr1 hc1
    dsimp only
    refine xs_sourcesTo hg (hG s hs) hc1 ?_
    intro m w2 sr2 wg2 hm hc2
    dsimp only
    exact ym_sources hL hY hs h8 hg (fun r hr => ⟨gr_Src_eq hr hm, rl_in (by omega) hs h8 hG lg hc2 hY⟩)
  · refine xg_g hg (br_f rt_n1 (xg_s hL hs (br_f rt_n1 (xg_kN hL hs h8 (br_t rfl ?_)))))
    unfold wpY_sources
    dsimp only
    exact yg_g hg (br_f rt_n1 (yg_s hL hs (br_f rt_n1 (yg_kN hL hs h8 (br_t rfl ⟨rfl, hRel⟩)))))
end
section
/-! owed: changed, since -/
theorem i_vc_changed {k : Nat} {u : SX} {v : SY} (I : i_Rel k u v) (hk : k + 4 ≤ 2048) (v1 : Int32) (v2 : Int32) : wpX_changed (fun r u' => wpY_changed (fun r' v' => r' = r ∧ i_Rel (k + 4) u' v') v v1 v2) u v1 v2 := by
  refine rl_el (P := fun u v => wpX_changed (fun r u' => wpY_changed (fun r' v' => r' = r ∧ i_Rel (k + 4) u' v') v v1 v2) u v1 v2) ?_ I
  intro L D HE HN HR w so pa pl be af sr wg cm ye yi yr ym hk4 hD hD8 hG lg hc hY
  have hL : L < 2 ^ 30 := by omega
  have hRel := rl_in (k := k + 4) (w := w) (wg := wg) (cm := cm) (ym := ym) (by omega) hD hD8 hG lg hc hY
  unfold wpX_changed
  dsimp only
  rcases gd_s v1 hL with h | ⟨a, ha, rfl⟩
  · refine xg_sN h (br_t rfl ?_)
    unfold wpY_changed
    dsimp only
    exact yg_sN h (br_t rfl ⟨rfl, hRel⟩)
  rcases gd_s v2 hL with h | ⟨b, hb, rfl⟩
  · refine xg_s hL ha (br_f rt_n1 (xg_sN h (br_t rfl ?_)))
    unfold wpY_changed
    dsimp only
    exact yg_s hL ha (br_f rt_n1 (yg_sN h (br_t rfl ⟨rfl, hRel⟩)))
  by_cases ha8 : L < a + 8
  · by_cases hb8 : L < b + 8
    · refine xg_s hL ha (br_f rt_n1 (xg_s hL hb (br_f rt_n1 (xg_k hL ha ha8 (br_f rt_n1 (xg_k hL hb hb8 (br_f rt_n1 (xq_load hL ha ha8 hD hD8 lg hc ?_))))))))
      intro sr1 hc1
      refine ⟨19, xm_44 hL lg (hG a ha) (hG b hb) ha ha8 hb hb8 ?_ 18 0 w sr1 wg cm (by omega) (fun g hg => absurd hg (by omega)) hc1⟩
      intro w2 sr2 wg2 cm2 hc2
      refine ym_changed hL hY ha ha8 hb hb8 (fun ym' => ⟨?_, rl_in (by omega) hb hb8 hG lg hc2 hY⟩)
      rw [gr_swap]
    · refine xg_s hL ha (br_f rt_n1 (xg_s hL hb (br_f rt_n1 (xg_k hL ha ha8 (br_f rt_n1 (xg_kN hL hb hb8 (br_t rfl ?_)))))))
      unfold wpY_changed
      dsimp only
      exact yg_s hL ha (br_f rt_n1 (yg_s hL hb (br_f rt_n1 (yg_k hL ha ha8 (br_f rt_n1 (yg_kN hL hb hb8 (br_t rfl ⟨rfl, hRel⟩)))))))
  · refine xg_s hL ha (br_f rt_n1 (xg_s hL hb (br_f rt_n1 (xg_kN hL ha ha8 (br_t rfl ?_)))))
    unfold wpY_changed
    dsimp only
    exact yg_s hL ha (br_f rt_n1 (yg_s hL hb (br_f rt_n1 (yg_kN hL ha ha8 (br_t rfl ⟨rfl, hRel⟩)))))
theorem ow_l7 (L : Nat) : nI L - 8 + 1 = nI L - nI 7 := by
  rw [Int32.sub_eq_add_neg, Int32.sub_eq_add_neg, Int32.add_assoc]
  exact congrArg (fun z => nI L + z) (by decide)
theorem i_vc_since {k : Nat} {u : SX} {v : SY} (I : i_Rel k u v) (hk : k + 4 ≤ 2048) (v1 : Int32) (v2 : Int32) (v3 : Int32) : wpX_since (fun r u' => wpY_since (fun r' v' => r' = r ∧ i_Rel (k + 4) u' v') v v1 v2 v3) u v1 v2 v3 := by
  refine rl_el (P := fun u v => wpX_since (fun r u' => wpY_since (fun r' v' => r' = r ∧ i_Rel (k + 4) u' v') v v1 v2 v3) u v1 v2 v3) ?_ I
  intro L D HE HN HR w so pa pl be af sr wg cm ye yi yr ym hk4 hD hD8 hG lg hc hY
  have hL : L < 2 ^ 30 := by omega
  have hRel := rl_in (k := k + 4) (w := w) (wg := wg) (cm := cm) (ym := ym) (by omega) hD hD8 hG lg hc hY
  unfold wpX_since
  dsimp only
  rcases gd_p v1 with h | ⟨p, hp, rfl⟩
  · refine xg_pN h (br_t rfl ?_)
    unfold wpY_since
    dsimp only
    exact yg_pN h (br_t rfl ⟨rfl, hRel⟩)
  rcases gd_g v2 with h | ⟨g, hg, rfl⟩
  · refine xg_p hp (br_f rt_n1 (xg_gN h (br_t rfl ?_)))
    unfold wpY_since
    dsimp only
    exact yg_p hp (br_f rt_n1 (yg_gN h (br_t rfl ⟨rfl, hRel⟩)))
  rcases gd_s v3 hL with h | ⟨f, hf, rfl⟩
  · refine xg_p hp (br_f rt_n1 (xg_g hg (br_f rt_n1 (xg_sN h (br_t rfl ?_)))))
    unfold wpY_since
    dsimp only
    refine yg_p hp (br_f rt_n1 (yg_g hg (br_f rt_n1 (br_c (fun _ => ⟨rfl, hRel⟩) (fun z => br_f (fun y => ?_) ⟨rfl, hRel⟩)))))
    exact Int32.not_le.mpr (h.resolve_left z) y
  refine xg_p hp (br_f rt_n1 (xg_g hg (br_f rt_n1 (xg_s hL hf (br_f rt_n1 (nm_r (ow_l7 L) ?_))))))
  have hle : nI L - nI 7 ≤ nI f ↔ L ≤ f + 7 := by
    rw [Int32.le_iff_toInt_le, pk_sub_toInt hL (by omega), nI_toInt (by omega)]
    omega
  have K : ∀ (r : Int32) (D : Nat) (w : Int32) (sr wg : Nat → Int32), D ≤ L → L < D + 8 → xq_Ch (HN D) (HR D) sr → ym_O (fun s => gr_M (HE s) (HN s) (HR s) g p) (ym_st f L) L r →
      wpY_since (fun r' v' => r' = r ∧ i_Rel (k + 4) (nI D, nI L, w, HE D, HN D, HR D, so, pa, pl, be, af, sr, wg, cm) v') (nI L, ye, yi, yr, ym) (nI p) (nI g) (nI f) := by
    intro r D' w' sr' wg' hD' hD8' hc' hO
    exact ym_since hL hY hp hg hf (fun r' ym' hO' => ⟨ym_O_eq hO hO', rl_in (by omega) hD' hD8' hG lg hc' hY⟩)
  by_cases h7 : L ≤ f + 7
  · have hst : ym_st f L = f := by unfold ym_st; split <;> omega
    rw [hst] at K
    exact br_t (hle.mpr h7) ⟨_, xm_55 hL lg hG hp hg (by omega) K (L + 1 - f) f D w sr wg (by omega) (Nat.le_refl _) (fun t' h1 h2 => absurd h1 (by omega)) hD hD8 hc⟩
  · have hst : ym_st f L = L - 7 := by unfold ym_st; split <;> omega
    rw [hst] at K
    refine br_f (fun z => h7 (hle.mp z)) ?_
    rw [pk_sub (by omega)]
    exact ⟨_, xm_55 hL lg hG hp hg (by omega) K 8 (L - 7) D w sr wg (by omega) (Nat.le_refl _) (fun t' h1 h2 => absurd h1 (by omega)) hD hD8 hc⟩
end
