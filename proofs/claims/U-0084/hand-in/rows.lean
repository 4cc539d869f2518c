section
theorem pk_us {f : Nat → Int32} {k : Nat} {x : Int32} : upd f k x k = x := if_pos rfl
theorem pk_un {f : Nat → Int32} {k j : Nat} {x : Int32} (h : j ≠ k) : upd f k x j = f j := if_neg h
theorem pk_sub {a b : Nat} (h : b ≤ a) : nI a - nI b = nI (a - b) := by
  obtain ⟨c, rfl⟩ : ∃ c, a = c + b := ⟨a - b, by omega⟩
  rw [← nI_add, Int32.add_sub_cancel, Nat.add_sub_cancel]
theorem pk_m1 (n : Nat) : nI (n + 1) + (-1) = nI n := by
  rw [← nI_1, Int32.add_assoc, show (1 : Int32) + (-1) = 0 from rfl, Int32.add_zero]
theorem pk_mul (a b : Nat) : nI a * nI b = nI (a * b) := (Int32.ofNat_mul a b).symm
theorem pk_div {a d : Nat} (ha : a < 2 ^ 31) (h0 : 0 < d) (hd : d < 2 ^ 31) : nI a / nI d = nI (a / d) := by
  apply Int32.toInt_inj.mp
  rw [lg_idiv_nonneg (by rw [nI_toInt ha]; omega) (by rw [nI_toInt hd]; omega), nI_toInt ha, nI_toInt hd, nI_toInt (Nat.lt_of_le_of_lt (Nat.div_le_self a d) ha)]
  first | rfl | exact (Int.natCast_ediv _ _).symm
theorem pk_rem {a d : Nat} (ha : a < 2 ^ 31) (h0 : 0 < d) (hd : d < 2 ^ 31) : nI a - nI a / nI d * nI d = nI (a % d) := by
  rw [pk_div ha h0 hd, pk_mul, pk_sub (Nat.div_mul_le_self a d)]
  exact congrArg nI (by have := Nat.div_add_mod' a d; omega)
theorem pk_ix (x : Int32) {n : Nat} (hn : n < 2 ^ 31) : x < 0 ∨ nI n ≤ x ∨ ∃ j : Nat, j < n ∧ x = nI j := by
  by_cases h : x < 0
  · exact Or.inl h
  · obtain ⟨j, hj, rfl⟩ := nI_of h
    by_cases h2 : j < n
    · exact Or.inr (Or.inr ⟨j, h2, rfl⟩)
    · exact Or.inr (Or.inl (nI_le (by omega) hj))
theorem pk_le {x y : Int32} {A B : Prop} (a b : Nat) (f : a ≤ b → A) (g : b < a → B) (hx : x = nI a := by rfl) (hy : y = nI b := by rfl) (ha : a < 2 ^ 31 := by omega) (hb : b < 2 ^ 31 := by omega) : (x ≤ y → A) ∧ (¬ x ≤ y → B) := by
  subst hx hy
  rw [nI_leI ha hb]
  exact ⟨f, fun z => g (by omega)⟩
theorem pk_lt {x y : Int32} {A B : Prop} (a b : Nat) (f : a < b → A) (g : b ≤ a → B) (hx : x = nI a := by rfl) (hy : y = nI b := by rfl) (ha : a < 2 ^ 31 := by omega) (hb : b < 2 ^ 31 := by omega) : (x < y → A) ∧ (¬ x < y → B) := by
  subst hx hy
  rw [nI_ltI ha hb]
  exact ⟨f, fun z => g (by omega)⟩
theorem pk_eq {x y : Int32} {A B : Prop} (a b : Nat) (f : a = b → A) (g : a ≠ b → B) (hx : x = nI a := by rfl) (hy : y = nI b := by rfl) (ha : a < 2 ^ 31 := by omega) (hb : b < 2 ^ 31 := by omega) : (x = y → A) ∧ (¬ x = y → B) := by
  subst hx hy
  rw [nI_eq ha hb]
  exact ⟨f, g⟩
theorem pk_in {x : Int32} (n N : Nat) (h : n < N) (hx : x = nI n := by rfl) (hN : N < 2 ^ 31 := by omega) : vp_in x N := by
  subst hx
  exact vp_in_nI h hN
theorem pk_cl {x : Int32} (n : Nat) (hx : x = nI n := by rfl) (h : n < 2 ^ 31 := by omega) : x.toNatClampNeg = n := by
  subst hx
  exact nI_clamp h
/-! ===== Int32 by its bits: bt x i ===== -/
def bt (x : Int32) (i : Nat) : Bool := x.toBitVec.getLsbD i
theorem b_ext {x y : Int32} (h : ∀ i, i < 32 → bt x i = bt y i) : x = y := Int32.toBitVec_inj.mp (BitVec.eq_of_getLsbD_eq (fun i hi => h i hi))
theorem b_or (x y : Int32) (i : Nat) : bt (x ||| y) i = (bt x i || bt y i) := by unfold bt; rw [Int32.toBitVec_or, BitVec.getLsbD_or]
theorem b_and (x y : Int32) (i : Nat) : bt (x &&& y) i = (bt x i && bt y i) := by unfold bt; rw [Int32.toBitVec_and, BitVec.getLsbD_and]
theorem b_xor (x y : Int32) (i : Nat) : bt (x ^^^ y) i = (bt x i ^^ bt y i) := by unfold bt; rw [Int32.toBitVec_xor, BitVec.getLsbD_xor]
theorem b_big {x : Int32} {i : Nat} (h : 32 ≤ i) : bt x i = false := BitVec.getLsbD_of_ge _ _ h
theorem b_255 (i : Nat) : bt 255 i = decide (i < 8) := by
  rcases Nat.lt_or_ge i 32 with h | h
  · exact (by decide +kernel : ∀ i, i < 32 → bt 255 i = decide (i < 8)) i h
  · rw [b_big h, decide_eq_false (by omega)]
theorem b_65535 (i : Nat) : bt 65535 i = decide (i < 16) := by
  rcases Nat.lt_or_ge i 32 with h | h
  · exact (by decide +kernel : ∀ i, i < 32 → bt 65535 i = decide (i < 16)) i h
  · rw [b_big h, decide_eq_false (by omega)]
theorem b_m1 : ∀ i, i < 32 → bt (-1) i = true := by decide +kernel
theorem b_0 (i : Nat) : bt 0 i = false := BitVec.getLsbD_zero
theorem s_l : ∀ n, n < 32 → ((nI n &&& 31).toBitVec.smod 32).toNat = n := by decide +kernel
theorem s_u : ∀ n, n < 32 → (((nI n).toUInt32 &&& Int32.toUInt32 31).toBitVec % 32).toNat = n := by decide +kernel
theorem b_shl (n : Nat) (hn : n < 32) (x : Int32) {i : Nat} (hi : i < 32) : bt (x <<< (nI n &&& 31)) i = (decide (n ≤ i) && bt x (i - n)) := by
  unfold bt
  rw [Int32.toBitVec_shiftLeft]
  show (x.toBitVec <<< ((nI n &&& 31).toBitVec.smod 32).toNat).getLsbD i = _
  rw [s_l n hn, BitVec.getLsbD_shiftLeft]
  rcases Nat.lt_or_ge i n with h | h
  · simp [h, Nat.not_le.mpr h]
  · simp [hi, h, Nat.not_lt.mpr h]
theorem b_ushr (n : Nat) (hn : n < 32) (x : Int32) (i : Nat) : bt ((x.toUInt32 >>> ((nI n).toUInt32 &&& Int32.toUInt32 31)).toInt32) i = bt x (n + i) := by
  show (x.toUInt32 >>> ((nI n).toUInt32 &&& Int32.toUInt32 31)).toBitVec.getLsbD i = x.toUInt32.toBitVec.getLsbD (n + i)
  rw [UInt32.toBitVec_shiftRight]
  show (x.toUInt32.toBitVec >>> (((nI n).toUInt32 &&& Int32.toUInt32 31).toBitVec % 32).toNat).getLsbD i = _
  rw [s_u n hn, BitVec.getLsbD_ushiftRight]
theorem b_sshr (n : Nat) (hn : n < 32) (x : Int32) {i : Nat} (hi : i < 32) : bt (x >>> (nI n &&& 31)) i = if n + i < 32 then bt x (n + i) else bt x 31 := by
  unfold bt
  rw [Int32.toBitVec_shiftRight]
  show (x.toBitVec.sshiftRight ((nI n &&& 31).toBitVec.smod 32).toNat).getLsbD i = _
  rw [s_l n hn, BitVec.getLsbD_sshiftRight, BitVec.msb_eq_getLsbD_last]
  simp [hi]
end
section
/-! ===== counts ===== -/
def eb_c (p : Nat → Bool) : Nat → Nat
  | 0 => 0
  | n + 1 => eb_c p n + (if p n = true then 1 else 0)
theorem eb_c_s (p : Nat → Bool) (n : Nat) : eb_c p (n + 1) = eb_c p n + (if p n = true then 1 else 0) := rfl
theorem eb_c_cg {p q : Nat → Bool} : ∀ n, (∀ j, j < n → p j = q j) → eb_c p n = eb_c q n := by
  intro n
  induction n with
  | zero => intro _; rfl
  | succ n ih =>
    intro h
    rw [eb_c_s, eb_c_s, ih (fun j hj => h j (by omega)), h n (by omega)]
theorem eb_c_le (p : Nat → Bool) : ∀ n, eb_c p n ≤ n := by
  intro n
  induction n with
  | zero => exact Nat.le_refl 0
  | succ n ih =>
    rw [eb_c_s]
    split <;> omega
theorem eb_c_add {p : Nat → Bool} (a : Nat) : ∀ b, eb_c p (a + b) = eb_c p a + eb_c (fun j => p (a + j)) b := by
  intro b
  induction b with
  | zero => rfl
  | succ b ih =>
    rw [← Nat.add_assoc, eb_c_s, eb_c_s, ih]
    exact Nat.add_assoc _ _ _
theorem eb_c_or {p q t : Nat → Bool} : ∀ n, (∀ j, j < n → q j = (p j || t j)) → (∀ j, j < n → t j = true → p j = false) → eb_c q n = eb_c p n + eb_c t n := by
  intro n
  induction n with
  | zero => intro _ _; rfl
  | succ n ih =>
    intro h d
    rw [eb_c_s, eb_c_s, eb_c_s, ih (fun j hj => h j (by omega)) (fun j hj => d j (by omega)), h n (by omega)]
    have d' := d n (by omega)
    generalize eb_c p n = x
    generalize eb_c t n = y
    revert d'
    cases t n
    · intro _
      cases p n
      · show x + y + 0 = x + 0 + (y + 0)
        omega
      · show x + y + 1 = x + 1 + (y + 0)
        omega
    · intro d'
      rw [d' rfl]
      show x + y + 1 = x + 0 + (y + 1)
      omega
theorem eb_c_0 {p : Nat → Bool} : ∀ n, (∀ j, j < n → p j = false) → eb_c p n = 0 := by
  intro n
  induction n with
  | zero => intro _; rfl
  | succ n ih =>
    intro h
    rw [eb_c_s, ih (fun j hj => h j (by omega)), h n (by omega)]
    rfl
theorem eb_c_seg {p : Nat → Bool} (a w n : Nat) (h : a + w ≤ n) (h1 : ∀ j, j < a → p j = false) (h2 : ∀ j, a + w ≤ j → j < n → p j = false) : eb_c p n = eb_c (fun j => p (a + j)) w := by
  obtain ⟨m, rfl⟩ : ∃ m, n = a + w + m := ⟨n - (a + w), by omega⟩
  rw [eb_c_add (a + w) m, eb_c_add a w, eb_c_0 a h1, eb_c_0 m (fun j hj => h2 (a + w + j) (by omega) (by omega))]
  omega
theorem eb_c_1 (k n : Nat) (h : k < n) : eb_c (fun j => decide (j = k)) n = 1 := by
  rw [eb_c_seg k 1 n (by omega) (fun j hj => decide_eq_false (by omega)) (fun j hj _ => decide_eq_false (by omega))]
  show 0 + (if decide (k + 0 = k) = true then 1 else 0) = 1
  rw [decide_eq_true (Nat.add_zero k)]
  rfl
theorem eb_c_rows {G : Nat → Bool} (t : Nat) (ht : t < 7) : ∀ R, eb_c (fun q => decide (q % 7 = t) && G q) (7 * R) = eb_c (fun r => G (r * 7 + t)) R := by
  intro R
  induction R with
  | zero => rfl
  | succ R ih =>
    rw [show 7 * (R + 1) = 7 * R + 7 from by omega, eb_c_add (7 * R) 7, ih, eb_c_s (fun r => G (r * 7 + t)) R]
    rw [eb_c_seg (p := fun j => decide ((7 * R + j) % 7 = t) && G (7 * R + j)) t 1 7 (by omega)
      (fun j hj => by show (decide ((7 * R + j) % 7 = t) && G (7 * R + j)) = false; rw [decide_eq_false (by omega), Bool.false_and])
      (fun j hj hj2 => by show (decide ((7 * R + j) % 7 = t) && G (7 * R + j)) = false; rw [decide_eq_false (by omega), Bool.false_and])]
    show _ + (0 + (if (decide ((7 * R + (t + 0)) % 7 = t) && G (7 * R + (t + 0))) = true then 1 else 0)) = _
    rw [decide_eq_true (by omega), Bool.true_and, show 7 * R + (t + 0) = R * 7 + t from by omega, Nat.zero_add]
theorem eb_c_z {p : Nat → Bool} : ∀ n, eb_c p n = 0 → ∀ j, j < n → p j = false := by
  intro n
  induction n with
  | zero => intro _ j hj; exact absurd hj (Nat.not_lt_zero j)
  | succ n ih =>
    intro h j hj
    rw [eb_c_s] at h
    by_cases e : j = n
    · subst e
      cases hp : p j
      · rfl
      · rw [hp] at h
        have h : eb_c p j + 1 = 0 := h
        omega
    · exact ih (by omega) j (by omega)
theorem eb_c_full {p : Nat → Bool} : ∀ n, (∀ j, j < n → p j = true) → eb_c p n = n := by
  intro n
  induction n with
  | zero => intro _; rfl
  | succ n ih =>
    intro h
    rw [eb_c_s, ih (fun j hj => h j (by omega)), h n (by omega)]
    rfl
/-! ===== flags ===== -/
def eb_f (x : Int32) : Bool := decide (¬ x = -1)
def eb_g (x : Int32) : Bool := decide (¬ x = 0)
theorem eb_ft {x : Int32} (h : ¬ x = -1) : eb_f x = true := decide_eq_true h
theorem eb_ff {x : Int32} (h : x = -1) : eb_f x = false := decide_eq_false (fun z => z h)
theorem eb_fT {x : Int32} (h : eb_f x = true) : ¬ x = -1 := of_decide_eq_true h
theorem eb_fF {x : Int32} (h : eb_f x = false) : x = -1 := Decidable.not_not.mp (of_decide_eq_false h)
theorem eb_gt {x : Int32} (h : ¬ x = 0) : eb_g x = true := decide_eq_true h
theorem eb_gf {x : Int32} (h : x = 0) : eb_g x = false := decide_eq_false (fun z => z h)
theorem eb_gT {x : Int32} (h : eb_g x = true) : ¬ x = 0 := of_decide_eq_true h
theorem eb_gF {x : Int32} (h : eb_g x = false) : x = 0 := Decidable.not_not.mp (of_decide_eq_false h)
theorem eb_nm {w : Nat} (h : w < 2 ^ 31) : ¬ nI w = -1 := by
  intro e
  have e2 := congrArg Int32.toInt e
  rw [nI_toInt h] at e2
  have e3 : (-1 : Int32).toInt = -1 := by decide
  omega
theorem eb_bc (b : Bool) : b = true ∨ b = false := by cases b <;> simp
/-! ===== bits ===== -/
theorem eb_b1 : ∀ i, i < 32 → bt 1 i = decide (i = 0) := by decide +kernel
theorem eb_b127 : ∀ i, i < 32 → bt 127 i = decide (i < 7) := by decide +kernel
theorem eb_sh {t i : Nat} (ht : t < 32) (hi : i < 32) : bt ((1 : Int32) <<< (nI t &&& 31)) i = decide (i = t) := by
  rw [b_shl t ht 1 hi]
  by_cases h : t ≤ i
  · rw [decide_eq_true h, Bool.true_and, eb_b1 (i - t) (by omega)]
    exact decide_eq_decide.mpr (by omega)
  · rw [decide_eq_false h, Bool.false_and]
    exact (decide_eq_false (by omega)).symm
theorem eb_not (x : Int32) {i : Nat} (hi : i < 32) : bt (x ^^^ (-1)) i = !bt x i := by
  rw [b_xor, b_m1 i hi]
  cases bt x i <;> rfl
theorem eb_bit (x : Int32) {t : Nat} (ht : t < 32) : ((x >>> (nI t &&& 31)) &&& 1) = if bt x t = true then 1 else 0 := by
  apply b_ext
  intro i hi
  rw [b_and, b_sshr t ht x hi, eb_b1 i hi]
  by_cases h : i = 0
  · subst h
    rw [if_pos (by omega : t + 0 < 32), decide_eq_true rfl, Bool.and_true, Nat.add_zero]
    cases bt x t
    · exact (b_0 0).symm
    · exact (eb_b1 0 (by omega)).symm
  · rw [decide_eq_false h, Bool.and_false]
    cases bt x t
    · exact (b_0 i).symm
    · exact ((eb_b1 i hi).trans (decide_eq_false h)).symm
theorem eb_n0 (x : Int32) {t : Nat} (ht : t < 32) : ((x >>> (nI t &&& 31)) &&& 1) = 0 ↔ bt x t = false := by
  rw [eb_bit x ht]
  cases bt x t
  · exact ⟨fun _ => rfl, fun _ => rfl⟩
  · exact ⟨fun h => absurd h (by decide), fun h => nomatch h⟩
theorem eb_n1 (x : Int32) {t : Nat} (ht : t < 32) : ((x >>> (nI t &&& 31)) &&& 1) = 1 ↔ bt x t = true := by
  rw [eb_bit x ht]
  cases bt x t
  · exact ⟨fun h => absurd h (by decide), fun h => nomatch h⟩
  · exact ⟨fun _ => rfl, fun _ => rfl⟩
theorem eb_cs (x : Int32) {t : Nat} (ht : t < 32) : nI (eb_c (bt x) t) + ((x >>> (nI t &&& 31)) &&& 1) = nI (eb_c (bt x) (t + 1)) := by
  rw [eb_bit x ht, eb_c_s]
  cases bt x t
  · exact Int32.add_zero _
  · exact nI_1 _
theorem eb_addor {x y : Int32} (h : x &&& y = 0) : x + y = x ||| y := Int32.toBitVec_inj.mp (by
  rw [Int32.toBitVec_add, Int32.toBitVec_or]
  exact BitVec.add_eq_or_of_and_eq_zero _ _ (by rw [← Int32.toBitVec_and, h]; rfl))
/-! ===== masks as sums ===== -/
def eb_m (p : Nat → Bool) : Nat → Int32
  | 0 => 0
  | n + 1 => eb_m p n + (if p n = true then (1 : Int32) <<< (nI n &&& 31) else 0)
theorem eb_m_s (p : Nat → Bool) (n : Nat) : eb_m p (n + 1) = eb_m p n + (if p n = true then (1 : Int32) <<< (nI n &&& 31) else 0) := rfl
theorem eb_m_t {p : Nat → Bool} {n : Nat} (h : p n = true) : eb_m p n + (1 : Int32) <<< (nI n &&& 31) = eb_m p (n + 1) := by rw [eb_m_s, if_pos h]
theorem eb_m_f {p : Nat → Bool} {n : Nat} (h : p n = false) : eb_m p n = eb_m p (n + 1) := by
  rw [eb_m_s, if_neg (by rw [h]; exact Bool.false_ne_true), Int32.add_zero]
theorem eb_m_cg {p q : Nat → Bool} : ∀ n, (∀ j, j < n → p j = q j) → eb_m p n = eb_m q n := by
  intro n
  induction n with
  | zero => intro _; rfl
  | succ n ih =>
    intro h
    rw [eb_m_s, eb_m_s, ih (fun j hj => h j (by omega)), h n (by omega)]
theorem eb_mb (p : Nat → Bool) : ∀ n, n ≤ 32 → ∀ i, i < 32 → bt (eb_m p n) i = (decide (i < n) && p i) := by
  intro n
  induction n with
  | zero =>
    intro _ i _
    rw [decide_eq_false (Nat.not_lt_zero i), Bool.false_and]
    exact b_0 i
  | succ n ih =>
    intro hn i hi
    rcases eb_bc (p n) with hp | hp
    · rw [← eb_m_t hp, eb_addor, b_or, ih (by omega) i hi, eb_sh (by omega) hi]
      · by_cases e : i = n
        · subst e
          rw [decide_eq_true rfl, Bool.or_true, decide_eq_true (by omega), hp]
          rfl
        · rw [decide_eq_false e, Bool.or_false, decide_eq_decide.mpr (show i < n ↔ i < n + 1 by omega)]
      · apply b_ext
        intro j hj
        rw [b_and, ih (by omega) j hj, eb_sh (by omega) hj, b_0]
        by_cases e : j = n
        · rw [decide_eq_false (by omega : ¬ j < n), Bool.false_and, Bool.false_and]
        · rw [decide_eq_false e, Bool.and_false]
    · rw [← eb_m_f hp, ih (by omega) i hi]
      by_cases e : i = n
      · subst e
        rw [hp, Bool.and_false, Bool.and_false]
      · rw [decide_eq_decide.mpr (show i < n ↔ i < n + 1 by omega)]
theorem eb_mbit (p : Nat → Bool) {t : Nat} (ht : t < 7) : bt (eb_m p 7) t = p t := by
  rw [eb_mb p 7 (by omega) t (by omega), decide_eq_true ht, Bool.true_and]
theorem eb_m_or (p : Nat → Bool) {f : Nat} (hf : f < 7) : eb_m p 7 ||| ((1 : Int32) <<< (nI f &&& 31)) = eb_m (fun j => p j || decide (j = f)) 7 := by
  apply b_ext
  intro i hi
  rw [b_or, eb_mb p 7 (by omega) i hi, eb_sh (by omega) hi, eb_mb _ 7 (by omega) i hi]
  by_cases e : i = f
  · rw [decide_eq_true e, Bool.or_true, Bool.or_true, decide_eq_true (by omega)]
    rfl
  · rw [decide_eq_false e, Bool.or_false, Bool.or_false]
/-! ===== writing a row of seven ===== -/
def eb_w (row n : Nat) (T : Nat → Bool) (w : Int32) (a : Nat → Int32) : Nat → Int32 := fun j => if (decide (j / 7 = row) && decide (j % 7 < n) && T (j % 7)) = true then w else a j
theorem eb_w_hit {row n : Nat} {T : Nat → Bool} {w : Int32} {a : Nat → Int32} {j : Nat} (h1 : j / 7 = row) (h2 : j % 7 < n) (h3 : T (j % 7) = true) : eb_w row n T w a j = w := by
  unfold eb_w
  rw [decide_eq_true h1, decide_eq_true h2, h3]
  rfl
theorem eb_w_row {row n : Nat} {T : Nat → Bool} {w : Int32} {a : Nat → Int32} {j : Nat} (h : ¬ j / 7 = row) : eb_w row n T w a j = a j := by
  unfold eb_w
  rw [decide_eq_false h]
  rfl
theorem eb_w_ge {row n : Nat} {T : Nat → Bool} {w : Int32} {a : Nat → Int32} {j : Nat} (h : ¬ j % 7 < n) : eb_w row n T w a j = a j := by
  unfold eb_w
  rw [decide_eq_false h, Bool.and_false]
  rfl
theorem eb_w_no {row n : Nat} {T : Nat → Bool} {w : Int32} {a : Nat → Int32} {j : Nat} (h : T (j % 7) = false) : eb_w row n T w a j = a j := by
  unfold eb_w
  rw [h, Bool.and_false]
  rfl
theorem eb_w_0 {row : Nat} {T : Nat → Bool} {w : Int32} {a : Nat → Int32} : eb_w row 0 T w a = a := funext fun j => eb_w_ge (Nat.not_lt_zero _)
theorem eb_w_t {row t : Nat} {T : Nat → Bool} {w : Int32} {a : Nat → Int32} (ht : t < 7) (h : T t = true) : upd (eb_w row t T w a) (row * 7 + t) w = eb_w row (t + 1) T w a := by
  funext j
  by_cases e : j = row * 7 + t
  · subst e
    have e2 : (row * 7 + t) % 7 = t := by omega
    rw [pk_us, eb_w_hit (by omega) (by omega) (by rw [e2]; exact h)]
  · rw [pk_un e]
    unfold eb_w
    by_cases e2 : j / 7 = row
    · rw [decide_eq_decide.mpr (show j % 7 < t ↔ j % 7 < t + 1 by omega)]
    · rw [decide_eq_false e2, Bool.false_and, Bool.false_and, Bool.false_and, Bool.false_and]
theorem eb_w_f {row t : Nat} {T : Nat → Bool} {w : Int32} {a : Nat → Int32} (h : T t = false) : eb_w row t T w a = eb_w row (t + 1) T w a := by
  funext j
  by_cases e : j % 7 = t
  · rw [eb_w_no (by rw [e]; exact h), eb_w_no (by rw [e]; exact h)]
  · unfold eb_w
    rw [decide_eq_decide.mpr (show j % 7 < t ↔ j % 7 < t + 1 by omega)]
end
section
/-! ===== frames: outside block s of width d nothing has changed ===== -/
def eb_fr (d s : Nat) (a0 a : Nat → Int32) : Prop := ∀ j, ¬ j / d = s → a j = a0 j
theorem eb_fr_r (d s : Nat) (a : Nat → Int32) : eb_fr d s a a := fun _ _ => rfl
theorem eb_fr_u {d s k : Nat} {a0 a : Nat → Int32} {x : Int32} (h : eb_fr d s a0 a) (hk : k / d = s) : eb_fr d s a0 (upd a k x) := by
  intro j hj
  rw [pk_un (fun e => hj (by rw [e]; exact hk))]
  exact h j hj
theorem eb_fr_w {d s row n : Nat} {T : Nat → Bool} {w : Int32} {a0 a : Nat → Int32} (h : eb_fr d s a0 a) (hk : ∀ j, j / 7 = row → j / d = s) : eb_fr d s a0 (eb_w row n T w a) := by
  intro j hj
  rw [eb_w_row (fun e => hj (hk j e))]
  exact h j hj
/-! ===== messages: X's slot s against Y's block i ===== -/
def eb_QF (s i : Nat) (fl pl pc yf : Nat → Int32) : Prop :=
  (∀ r t, r < 21 → t < 7 → bt (fl (s * 21 + r)) t = eb_f (yf (i * 147 + (r * 7 + t)))) ∧
  (∀ q, q < 147 → ¬ yf (i * 147 + q) = -1 → pl (s * 147 + q) = yf (i * 147 + q) ∧ ∃ w, w < 4 ∧ yf (i * 147 + q) = nI w) ∧
  pc s = nI (eb_c (fun q => eb_f (yf (i * 147 + q))) 147)
theorem eb_QF_rem {s i r t : Nat} {fl pl pc yf : Nat → Int32} (hr : r < 21) (ht : t < 7) (h : eb_QF s i fl pl pc yf) (hn : ¬ yf (i * 147 + (r * 7 + t)) = -1) :
    eb_QF s i (upd fl (s * 21 + r) (fl (s * 21 + r) &&& (((1 : Int32) <<< (nI t &&& 31)) ^^^ (-1)))) pl (upd pc s (pc s - 1)) (upd yf (i * 147 + (r * 7 + t)) (-1)) := by
  obtain ⟨h1, h2, h3⟩ := h
  refine ⟨fun r' t' hr' ht' => ?_, fun q hq hn' => ?_, ?_⟩
  · by_cases e : r' = r
    · subst e
      rw [pk_us, b_and, eb_not _ (by omega), eb_sh (by omega) (by omega)]
      by_cases e2 : t' = t
      · subst e2
        rw [pk_us, decide_eq_true rfl, Bool.not_true, Bool.and_false]
        exact (eb_ff rfl).symm
      · rw [pk_un (by omega), decide_eq_false e2, Bool.not_false, Bool.and_true]
        exact h1 r' t' hr' ht'
    · rw [pk_un (by omega), pk_un (by omega)]
      exact h1 r' t' hr' ht'
  · have e : ¬ q = r * 7 + t := fun e => hn' (by rw [e]; exact pk_us)
    rw [pk_un (by omega)] at hn' ⊢
    exact h2 q hq hn'
  · rw [pk_us, h3]
    have hc : eb_c (fun q => eb_f (yf (i * 147 + q))) 147 = eb_c (fun q => eb_f (upd yf (i * 147 + (r * 7 + t)) (-1) (i * 147 + q))) 147 + eb_c (fun j => decide (j = r * 7 + t)) 147 := by
      apply eb_c_or
      · intro j _
        by_cases e : j = r * 7 + t
        · rw [decide_eq_true e, Bool.or_true, e]
          exact eb_ft hn
        · rw [decide_eq_false e, Bool.or_false, pk_un (by omega)]
      · intro j _ hj
        have e := of_decide_eq_true hj
        rw [e]
        exact eb_ff pk_us
    rw [eb_c_1 (r * 7 + t) 147 (by omega)] at hc
    rw [hc]
    exact nI_pred _
theorem eb_QF_put {s i r w : Nat} {tg : Int32} {T : Nat → Bool} {fl pl pc yf : Nat → Int32} (hr : r < 21) (hw : w < 4) (h : eb_QF s i fl pl pc yf) (hT : ∀ t, t < 7 → bt tg t = T t) (hn : ∀ t, t < 7 → T t = true → yf (i * 147 + (r * 7 + t)) = -1) :
    eb_QF s i (upd fl (s * 21 + r) (fl (s * 21 + r) ||| tg)) (eb_w (s * 21 + r) 7 (bt tg) (nI w) pl) (upd pc s (pc s + nI (eb_c (bt tg) 7))) (eb_w (i * 21 + r) 7 T (nI w) yf) := by
  obtain ⟨h1, h2, h3⟩ := h
  have hw1 : ¬ nI w = -1 := eb_nm (by omega)
  refine ⟨fun r' t' hr' ht' => ?_, fun q hq hn' => ?_, ?_⟩
  · have hm : (i * 147 + (r' * 7 + t')) % 7 = t' := by omega
    by_cases e : r' = r
    · subst e
      rw [pk_us, b_or, hT t' ht']
      rcases eb_bc (T t') with hb | hb
      · rw [hb, Bool.or_true, eb_w_hit (by omega) (by omega) (by rw [hm]; exact hb)]
        exact (eb_ft hw1).symm
      · rw [hb, Bool.or_false, eb_w_no (by rw [hm]; exact hb)]
        exact h1 r' t' hr' ht'
    · rw [pk_un (by omega), eb_w_row (by omega)]
      exact h1 r' t' hr' ht'
  · have hm : (i * 147 + q) % 7 = q % 7 := by omega
    have hm2 : (s * 147 + q) % 7 = q % 7 := by omega
    by_cases e : q / 7 = r
    · rcases eb_bc (T (q % 7)) with hb | hb
      · have a1 : eb_w (i * 21 + r) 7 T (nI w) yf (i * 147 + q) = nI w := eb_w_hit (by omega) (by omega) (by rw [hm]; exact hb)
        have a2 : eb_w (s * 21 + r) 7 (bt tg) (nI w) pl (s * 147 + q) = nI w := eb_w_hit (by omega) (by omega) (by rw [hm2, hT (q % 7) (by omega)]; exact hb)
        rw [a1, a2]
        exact ⟨rfl, w, hw, rfl⟩
      · have a1 : eb_w (i * 21 + r) 7 T (nI w) yf (i * 147 + q) = yf (i * 147 + q) := eb_w_no (by rw [hm]; exact hb)
        have a2 : eb_w (s * 21 + r) 7 (bt tg) (nI w) pl (s * 147 + q) = pl (s * 147 + q) := eb_w_no (by rw [hm2, hT (q % 7) (by omega)]; exact hb)
        rw [a1] at hn'
        rw [a1, a2]
        exact h2 q hq hn'
    · have a1 : eb_w (i * 21 + r) 7 T (nI w) yf (i * 147 + q) = yf (i * 147 + q) := eb_w_row (by omega)
      have a2 : eb_w (s * 21 + r) 7 (bt tg) (nI w) pl (s * 147 + q) = pl (s * 147 + q) := eb_w_row (by omega)
      rw [a1] at hn'
      rw [a1, a2]
      exact h2 q hq hn'
  · rw [pk_us, h3, nI_add]
    congr 1
    have hs : eb_c (bt tg) 7 = eb_c (fun q => decide (q / 7 = r) && T (q % 7)) 147 := by
      rw [eb_c_seg (r * 7) 7 147 (by omega) (fun j hj => by rw [decide_eq_false (by omega), Bool.false_and]) (fun j hj _ => by rw [decide_eq_false (by omega), Bool.false_and])]
      apply eb_c_cg
      intro j hj
      rw [decide_eq_true (by omega : (r * 7 + j) / 7 = r), Bool.true_and, show (r * 7 + j) % 7 = j from by omega]
      exact hT j hj
    rw [hs]
    symm
    apply eb_c_or
    · intro j hj
      have hm : (i * 147 + j) % 7 = j % 7 := by omega
      by_cases e : j / 7 = r
      · rw [decide_eq_true e, Bool.true_and]
        rcases eb_bc (T (j % 7)) with hb | hb
        · rw [hb, Bool.or_true, eb_w_hit (by omega) (by omega) (by rw [hm]; exact hb)]
          exact eb_ft hw1
        · rw [hb, Bool.or_false, eb_w_no (by rw [hm]; exact hb)]
      · rw [decide_eq_false e, Bool.false_and, Bool.or_false, eb_w_row (by omega)]
    · intro j hj hb
      rw [Bool.and_eq_true] at hb
      have e := of_decide_eq_true hb.1
      have z := hn (j % 7) (by omega) hb.2
      rw [show i * 147 + (r * 7 + j % 7) = i * 147 + j from by omega] at z
      exact eb_ff z
/-! ===== heard ===== -/
def eb_QH (s i : Nat) (hs ya : Nat → Int32) : Prop :=
  (∀ r, r < 56 → hs (s * 56 + r) = eb_m (fun f => eb_g (ya (i * 392 + (r * 7 + f)))) 7) ∧ (∀ j, j < 392 → ya (i * 392 + j) = 0 ∨ ya (i * 392 + j) = 1)
theorem eb_QH_add {s i r f : Nat} {hs ya : Nat → Int32} (hr : r < 56) (hf : f < 7) (h : eb_QH s i hs ya) :
    eb_QH s i (upd hs (s * 56 + r) (hs (s * 56 + r) ||| ((1 : Int32) <<< (nI f &&& 31)))) (upd ya (i * 392 + (r * 7 + f)) 1) := by
  obtain ⟨h1, h2⟩ := h
  refine ⟨fun r' hr' => ?_, fun j hj => ?_⟩
  · by_cases e : r' = r
    · subst e
      rw [pk_us, h1 r' hr', eb_m_or _ hf]
      apply eb_m_cg
      intro j hj
      by_cases e : j = f
      · rw [decide_eq_true e, Bool.or_true, e, pk_us]
        rfl
      · rw [decide_eq_false e, Bool.or_false, pk_un (by omega)]
    · rw [pk_un (by omega), h1 r' hr']
      apply eb_m_cg
      intro j hj
      rw [pk_un (by omega)]
  · by_cases e : j = r * 7 + f
    · rw [e, pk_us]
      exact Or.inr rfl
    · rw [pk_un (by omega)]
      exact h2 j hj
/-! ===== echo, ready, delivered ===== -/
def eb_QE (s i : Nat) (e y : Nat → Int32) : Prop := ∀ n, n < 7 → e (s * 7 + n) = y (i * 7 + n)
theorem eb_QE_set {s i n : Nat} {e y : Nat → Int32} {w : Int32} (hn : n < 7) (h : eb_QE s i e y) : eb_QE s i (upd e (s * 7 + n) w) (upd y (i * 7 + n) w) := by
  intro m hm
  by_cases z : m = n
  · rw [z, pk_us, pk_us]
  · rw [pk_un (by omega), pk_un (by omega)]
    exact h m hm
/-! ===== the same with the frames ===== -/
def eb_JF (s i : Nat) (fl0 pl0 pc0 yf0 fl pl pc yf : Nat → Int32) : Prop := eb_QF s i fl pl pc yf ∧ eb_fr 21 s fl0 fl ∧ eb_fr 147 s pl0 pl ∧ eb_fr 1 s pc0 pc ∧ eb_fr 147 i yf0 yf
def eb_JH (s i : Nat) (hs0 ya0 hs ya : Nat → Int32) : Prop := eb_QH s i hs ya ∧ eb_fr 56 s hs0 hs ∧ eb_fr 392 i ya0 ya
def eb_JE (s i : Nat) (e0 y0 e y : Nat → Int32) : Prop := eb_QE s i e y ∧ eb_fr 7 s e0 e ∧ eb_fr 7 i y0 y
theorem eb_JF_rem {s i r t : Nat} {fl0 pl0 pc0 yf0 fl pl pc yf : Nat → Int32} (hr : r < 21) (ht : t < 7) (h : eb_JF s i fl0 pl0 pc0 yf0 fl pl pc yf) (hn : ¬ yf (i * 147 + (r * 7 + t)) = -1) :
    eb_JF s i fl0 pl0 pc0 yf0 (upd fl (s * 21 + r) (fl (s * 21 + r) &&& (((1 : Int32) <<< (nI t &&& 31)) ^^^ (-1)))) pl (upd pc s (pc s - 1)) (upd yf (i * 147 + (r * 7 + t)) (-1)) := by
  obtain ⟨h1, h2, h3, h4, h5⟩ := h
  exact ⟨eb_QF_rem hr ht h1 hn, eb_fr_u h2 (by omega), h3, eb_fr_u h4 (Nat.div_one s), eb_fr_u h5 (by omega)⟩
theorem eb_JF_put {s i r w : Nat} {tg : Int32} {T : Nat → Bool} {fl0 pl0 pc0 yf0 fl pl pc yf : Nat → Int32} (hr : r < 21) (hw : w < 4) (h : eb_JF s i fl0 pl0 pc0 yf0 fl pl pc yf) (hT : ∀ t, t < 7 → bt tg t = T t) (hn : ∀ t, t < 7 → T t = true → yf (i * 147 + (r * 7 + t)) = -1) :
    eb_JF s i fl0 pl0 pc0 yf0 (upd fl (s * 21 + r) (fl (s * 21 + r) ||| tg)) (eb_w (s * 21 + r) 7 (bt tg) (nI w) pl) (upd pc s (pc s + nI (eb_c (bt tg) 7))) (eb_w (i * 21 + r) 7 T (nI w) yf) := by
  obtain ⟨h1, h2, h3, h4, h5⟩ := h
  exact ⟨eb_QF_put hr hw h1 hT hn, eb_fr_u h2 (by omega), eb_fr_w h3 (fun j hj => by omega), eb_fr_u h4 (Nat.div_one s), eb_fr_w h5 (fun j hj => by omega)⟩
theorem eb_JH_add {s i r f : Nat} {hs0 ya0 hs ya : Nat → Int32} (hr : r < 56) (hf : f < 7) (h : eb_JH s i hs0 ya0 hs ya) :
    eb_JH s i hs0 ya0 (upd hs (s * 56 + r) (hs (s * 56 + r) ||| ((1 : Int32) <<< (nI f &&& 31)))) (upd ya (i * 392 + (r * 7 + f)) 1) := by
  obtain ⟨h1, h2, h3⟩ := h
  exact ⟨eb_QH_add hr hf h1, eb_fr_u h2 (by omega), eb_fr_u h3 (by omega)⟩
theorem eb_JE_set {s i n : Nat} {e0 y0 e y : Nat → Int32} {w : Int32} (hn : n < 7) (h : eb_JE s i e0 y0 e y) : eb_JE s i e0 y0 (upd e (s * 7 + n) w) (upd y (i * 7 + n) w) := by
  obtain ⟨h1, h2, h3⟩ := h
  exact ⟨eb_QE_set hn h1, eb_fr_u h2 (by omega), eb_fr_u h3 (by omega)⟩
end
section
/-! ===== X: small methods ===== -/
section
variable {ic vc lm fm fc ss : Int32} {fl pl pc hs ev rv dv ov : Nat → Int32}
theorem eb_row (s k f : Nat) : (((nI s * 3) + nI k) * 7) + nI f = nI (s * 21 + (k * 7 + f)) := by
  show (((nI s * nI 3) + nI k) * nI 7) + nI f = _
  rw [pk_mul, nI_add, pk_mul, nI_add]
  congr 1
  omega
theorem eb_set (s k n v : Nat) : ((((((nI s * 2) + nI (k + 1)) - 1) * 7) + nI n) * 4) + nI v = nI (s * 56 + ((k * 7 + n) * 4 + v)) := by
  show ((((((nI s * nI 2) + nI (k + 1)) - 1) * nI 7) + nI n) * nI 4) + nI v = _
  rw [pk_mul, nI_add, show s * 2 + (k + 1) = (s * 2 + k) + 1 from rfl, nI_pred, pk_mul, nI_add, pk_mul, nI_add]
  congr 1
  omega
theorem eb_p7 (a t : Nat) : (nI a * 7) + nI t = nI (a * 7 + t) := by
  show (nI a * nI 7) + nI t = _
  rw [pk_mul, nI_add]
theorem ex_row {post : Int32 → Prop} {s k f : Nat} (h : post (nI (s * 21 + (k * 7 + f)))) : wpX_rowOf post (ic, vc, lm, fm, fc, ss, fl, pl, pc, hs, ev, rv, dv, ov) (nI s) (nI k) (nI f) := by
  show post ((((nI s * 3) + nI k) * 7) + nI f)
  rw [eb_row]
  exact h
theorem ex_set {post : Int32 → Prop} {s k n v : Nat} (h : post (nI (s * 56 + ((k * 7 + n) * 4 + v)))) : wpX_setOf post (ic, vc, lm, fm, fc, ss, fl, pl, pc, hs, ev, rv, dv, ov) (nI s) (nI (k + 1)) (nI n) (nI v) := by
  show post (((((((nI s * 2) + nI (k + 1)) - 1) * 7) + nI n) * 4) + nI v)
  rw [eb_set]
  exact h
theorem ex_nm {post : Int32 → Prop} {m : Int32} {t : Nat} (ht : t < 32) (h1 : bt m t = true → post 1) (h0 : bt m t = false → post 0) : wpX_names post (ic, vc, lm, fm, fc, ss, fl, pl, pc, hs, ev, rv, dv, ov) m (nI t) := by
  show (((m >>> (nI t &&& 31)) &&& 1) = 0 → post 0) ∧ (¬ ((m >>> (nI t &&& 31)) &&& 1) = 0 → post 1)
  refine br_c (fun z => h0 ((eb_n0 m ht).mp z)) (fun z => h1 ?_)
  rcases eb_bc (bt m t) with e | e
  · exact e
  · exact absurd ((eb_n0 m ht).mpr e) z
theorem ex_ft {post : Int32 → Prop} {t : Nat} (ht : t < 32) (h1 : bt fm t = true → post 1) (h0 : bt fm t = false → post 0) : wpX_isFaulty post (ic, vc, lm, fm, fc, ss, fl, pl, pc, hs, ev, rv, dv, ov) (nI t) := by
  show wpX_names (fun r => narrow .boolean (.int r) = .int r ∧ post r) (ic, vc, lm, fm, fc, ss, fl, pl, pc, hs, ev, rv, dv, ov) fm (nI t)
  exact ex_nm ht (fun z => ⟨narrow_b1, h1 z⟩) (fun z => ⟨narrow_b0, h0 z⟩)
theorem ex_sz4 {post : Int32 → Prop} {m : Int32} (h : post (nI (eb_c (bt m) 7))) : ∀ d t, t + d = 7 → wX_sizeOf_4 post m ic vc lm fm fc ss fl pl pc hs ev rv dv ov (d + 1) (nI (eb_c (bt m) t)) (nI t) := by
  intro d
  induction d with
  | zero =>
    intro t ht
    obtain rfl : t = 7 := by omega
    exact br_t (by decide) h
  | succ d ih =>
    intro t ht
    exact br_f (nI_ge (b := 7) (by omega) (by decide)) (nm_r (eb_cs m (by omega)) (nm_r (nI_1 t) (ih (t + 1) (by omega))))
theorem ex_sz {post : Int32 → Prop} {m : Int32} (h : post (nI (eb_c (bt m) 7))) : wpX_sizeOf post (ic, vc, lm, fm, fc, ss, fl, pl, pc, hs, ev, rv, dv, ov) m := Exists.intro 8 (ex_sz4 h 7 0 rfl)
/-! ===== X: putToMask ===== -/
theorem ex_pt36 {post : Int32 → SX → Prop} {s row : Nat} {w tg : Int32} (h5 : s < 5) (hr : row < 105)
    (h : post (nI (eb_c (bt tg) 7)) (ic, vc, lm, fm, fc, ss, upd fl row (fl row ||| tg), eb_w row 7 (bt tg) w pl, upd pc s (pc s + nI (eb_c (bt tg) 7)), hs, ev, rv, dv, ov)) :
    ∀ d t, t + d = 7 → wX_putToMask_36 post (nI s) w (nI row) tg ic vc lm fm fc ss (d + 1) (nI t) fl (eb_w row t (bt tg) w pl) pc hs ev rv dv ov := by
  intro d
  induction d with
  | zero =>
    intro t ht
    obtain rfl : t = 7 := by omega
    have c1 : (nI row).toNatClampNeg = row := nI_clamp (by omega)
    have c2 : (nI s).toNatClampNeg = s := nI_clamp (by omega)
    refine br_t (by decide) ⟨vp_in_nI hr (by decide), vp_in_nI hr (by decide), nm_r (e' := upd fl row (fl row ||| tg)) (by rw [c1]) (ex_sz ⟨vp_in_nI h5 (by decide), vp_in_nI h5 (by decide), nm_r (e' := upd pc s (pc s + nI (eb_c (bt tg) 7))) (by rw [c2]) h⟩)⟩
  | succ d ih =>
    intro t ht
    refine br_f (nI_ge (b := 7) (by omega) (by decide)) (ex_nm (by omega) (fun z => ?_) (fun z => ?_))
    · have c1 : ((nI row * 7) + nI t).toNatClampNeg = row * 7 + t := by rw [eb_p7, nI_clamp (by omega)]
      refine br_f (by decide) ⟨by rw [eb_p7]; exact vp_in_nI (by omega) (by decide), nm_r (e' := eb_w row (t + 1) (bt tg) w pl) (by rw [c1, eb_w_t (by omega) z]) (nm_r (nI_1 t) (ih (t + 1) (by omega)))⟩
    · refine br_t rfl (nm_r (nI_1 t) ?_)
      rw [eb_w_f z]
      exact ih (t + 1) (by omega)
theorem ex_put {post : Int32 → SX → Prop} {s k f : Nat} {to w tg : Int32} (h5 : s < 5) (hk : k < 3) (hf : f < 7) (htg : ((to &&& 127) &&& (fm ^^^ (-1))) &&& (fl (s * 21 + (k * 7 + f)) ^^^ (-1)) = tg)
    (h : post (nI (eb_c (bt tg) 7)) (ic, vc, lm, fm, fc, ss, upd fl (s * 21 + (k * 7 + f)) (fl (s * 21 + (k * 7 + f)) ||| tg), eb_w (s * 21 + (k * 7 + f)) 7 (bt tg) w pl, upd pc s (pc s + nI (eb_c (bt tg) 7)), hs, ev, rv, dv, ov)) :
    wpX_putToMask post (ic, vc, lm, fm, fc, ss, fl, pl, pc, hs, ev, rv, dv, ov) (nI s) (nI k) (nI f) to w := by
  have hr : s * 21 + (k * 7 + f) < 105 := by omega
  have c1 : (nI (s * 21 + (k * 7 + f))).toNatClampNeg = s * 21 + (k * 7 + f) := nI_clamp (by omega)
  unfold wpX_putToMask
  dsimp only
  refine ex_row ⟨vp_in_nI hr (by decide), nm_r (e' := tg) (by rw [c1]; exact htg) ⟨8, ?_⟩⟩
  have e := ex_pt36 (post := post) (w := w) (tg := tg) h5 hr h 7 0 rfl
  rw [eb_w_0] at e
  exact e
/-! ===== X: addOrigin, becomeReady, senderOf ===== -/
theorem ex_add {post : Int32 → SX → Prop} {s k f n v : Nat} {m : Int32} (h5 : s < 5) (hk : k < 2) (hn : n < 7) (hv : v < 4)
    (hm : hs (s * 56 + ((k * 7 + n) * 4 + v)) ||| ((1 : Int32) <<< (nI f &&& 31)) = m)
    (h : post (nI (eb_c (bt m) 7)) (ic, vc, lm, fm, fc, ss, fl, pl, pc, upd hs (s * 56 + ((k * 7 + n) * 4 + v)) m, ev, rv, dv, ov)) : wpX_addOrigin post (ic, vc, lm, fm, fc, ss, fl, pl, pc, hs, ev, rv, dv, ov) (nI s) (nI (k + 1)) (nI f) (nI n) (nI v) := by
  have hr : s * 56 + ((k * 7 + n) * 4 + v) < 280 := by omega
  have c1 : (nI (s * 56 + ((k * 7 + n) * 4 + v))).toNatClampNeg = s * 56 + ((k * 7 + n) * 4 + v) := nI_clamp (by omega)
  unfold wpX_addOrigin
  dsimp only
  refine ex_set ⟨vp_in_nI hr (by decide), vp_in_nI hr (by decide), nm_r (e' := upd hs (s * 56 + ((k * 7 + n) * 4 + v)) m) (by rw [c1, hm]) ⟨vp_in_nI hr (by decide), ?_⟩⟩
  rw [c1, pk_us]
  exact ex_sz h
theorem ex_br1 {post : SX → Prop} {s n : Nat} {w tg : Int32} (h5 : s < 5) (hn : n < 7) (hz : rv (s * 7 + n) = -1) (htg : ((127 &&& 127) &&& (fm ^^^ (-1))) &&& (fl (s * 21 + (2 * 7 + n)) ^^^ (-1)) = tg)
    (h : post (ic, vc, lm, fm, fc, ss, upd fl (s * 21 + (2 * 7 + n)) (fl (s * 21 + (2 * 7 + n)) ||| tg), eb_w (s * 21 + (2 * 7 + n)) 7 (bt tg) w pl, upd pc s (pc s + nI (eb_c (bt tg) 7)), hs, ev, upd rv (s * 7 + n) w, dv, ov)) :
    wpX_becomeReady post (ic, vc, lm, fm, fc, ss, fl, pl, pc, hs, ev, rv, dv, ov) (nI s) (nI n) w := by
  have c1 : (nI (s * 7 + n)).toNatClampNeg = s * 7 + n := nI_clamp (by omega)
  unfold wpX_becomeReady
  dsimp only
  refine nm_r (eb_p7 s n) ⟨vp_in_nI (by omega) (by decide), br_t (by rw [c1]; exact hz) ⟨vp_in_nI (by omega) (by decide), nm_r (e' := upd rv (s * 7 + n) w) (by rw [c1]) ?_⟩⟩
  exact ex_put (k := 2) h5 (by omega) hn htg h
theorem ex_br0 {post : SX → Prop} {s n : Nat} {w : Int32} (h5 : s < 5) (hn : n < 7) (hz : ¬ rv (s * 7 + n) = -1) (h : post (ic, vc, lm, fm, fc, ss, fl, pl, pc, hs, ev, rv, dv, ov)) : wpX_becomeReady post (ic, vc, lm, fm, fc, ss, fl, pl, pc, hs, ev, rv, dv, ov) (nI s) (nI n) w := by
  have c1 : (nI (s * 7 + n)).toNatClampNeg = s * 7 + n := nI_clamp (by omega)
  unfold wpX_becomeReady
  dsimp only
  exact nm_r (eb_p7 s n) ⟨vp_in_nI (by omega) (by decide), br_f (by rw [c1]; exact hz) h⟩
def eb_snd (s i : Nat) (ss : Int32) : Prop := (s = 4 ∧ ss = nI i) ∨ (s < 4 ∧ s = i)
theorem ex_snd {post : Int32 → Prop} {s i : Nat} (hsn : eb_snd s i ss) (h : post (nI i)) : wpX_senderOf post (ic, vc, lm, fm, fc, ss, fl, pl, pc, hs, ev, rv, dv, ov) (nI s) := by
  show (nI s = 4 → post ss) ∧ (¬ nI s = 4 → post (nI s))
  rcases hsn with ⟨e, e2⟩ | ⟨e, e2⟩
  · rw [e, e2]
    exact br_t rfl h
  · rw [e2]
    rw [e2] at e
    exact br_f (fun z => absurd ((nI_eq (b := 4) (by omega) (by decide)).mp z) (by omega)) h
end
end
section
/-! ===== Y: place, fact, putEach, members ===== -/
section
variable {ic vc lm : Int32} {mk os yf ya ye yr yd kf ka ke kr kd : Nat → Int32}
theorem eb_plc (i k f t : Nat) : (((((nI i * 3) + nI k) * 7) + nI f) * 7) + nI t = nI (i * 147 + ((k * 7 + f) * 7 + t)) := by
  rw [eb_row, eb_p7]
  congr 1
  omega
theorem eb_fac (i k n v f : Nat) : ((((((((nI i * 2) + nI (k + 1)) - 1) * 7) + nI n) * 4) + nI v) * 7) + nI f = nI (i * 392 + (((k * 7 + n) * 4 + v) * 7 + f)) := by
  rw [eb_set, eb_p7]
  congr 1
  omega
theorem ey_plc {post : Int32 → Prop} {i k f t : Nat} (h : post (nI (i * 147 + ((k * 7 + f) * 7 + t)))) : wpY_place post (ic, vc, lm, mk, os, yf, ya, ye, yr, yd, kf, ka, ke, kr, kd) (nI i) (nI k) (nI f) (nI t) := by
  show post ((((((nI i * 3) + nI k) * 7) + nI f) * 7) + nI t)
  rw [eb_plc]
  exact h
theorem ey_fac {post : Int32 → Prop} {i k n v f : Nat} (h : post (nI (i * 392 + (((k * 7 + n) * 4 + v) * 7 + f)))) : wpY_fact post (ic, vc, lm, mk, os, yf, ya, ye, yr, yd, kf, ka, ke, kr, kd) (nI i) (nI (k + 1)) (nI n) (nI v) (nI f) := by
  show post (((((((((nI i * 2) + nI (k + 1)) - 1) * 7) + nI n) * 4) + nI v) * 7) + nI f)
  rw [eb_fac]
  exact h
theorem eb_c_t {p : Nat → Bool} {n : Nat} (h : p n = true) : eb_c p (n + 1) = eb_c p n + 1 := by rw [eb_c_s, if_pos h]
theorem eb_c_f {p : Nat → Bool} {n : Nat} (h : p n = false) : eb_c p (n + 1) = eb_c p n := by
  rw [eb_c_s, if_neg (by rw [h]; exact Bool.false_ne_true)]
  rfl
/-- the nodes to which a put writes -/
def eb_T (to : Int32) (mk yf : Nat → Int32) (b : Nat) : Nat → Bool := fun t => bt to t && !eb_g (mk t) && !eb_f (yf (b + t))
theorem eb_T_t {to : Int32} {mk yf : Nat → Int32} {b t : Nat} (h1 : bt to t = true) (h2 : mk t = 0) (h3 : yf (b + t) = -1) : eb_T to mk yf b t = true := by
  unfold eb_T
  rw [h1, eb_gf h2, eb_ff h3]
  rfl
theorem eb_T_1 {to : Int32} {mk yf : Nat → Int32} {b t : Nat} (h1 : bt to t = false) : eb_T to mk yf b t = false := by
  unfold eb_T
  rw [h1]
  rfl
theorem eb_T_2 {to : Int32} {mk yf : Nat → Int32} {b t : Nat} (h2 : ¬ mk t = 0) : eb_T to mk yf b t = false := by
  unfold eb_T
  rw [eb_gt h2]
  cases bt to t <;> rfl
theorem eb_T_3 {to : Int32} {mk yf : Nat → Int32} {b t : Nat} (h3 : ¬ yf (b + t) = -1) : eb_T to mk yf b t = false := by
  unfold eb_T
  rw [eb_ft h3]
  cases bt to t <;> cases eb_g (mk t) <;> rfl
theorem ey_pt6 {post : Int32 → SY → Prop} {i k f : Nat} {w to : Int32} {T : Nat → Bool} (h4 : i < 4) (hk : k < 3) (hf : f < 7) (hT : T = eb_T to mk yf (i * 147 + (k * 7 + f) * 7))
    (h : post (nI (eb_c T 7)) (ic, vc, lm, mk, os, eb_w (i * 21 + (k * 7 + f)) 7 T w yf, ya, ye, yr, yd, kf, ka, ke, kr, kd)) :
    ∀ d t, t + d = 7 → wY_putEach_6 post (nI i) (nI k) (nI f) to w ic vc lm (d + 1) (nI (eb_c T t)) (nI t) mk os (eb_w (i * 21 + (k * 7 + f)) t T w yf) ya ye yr yd kf ka ke kr kd := by
  intro d
  induction d with
  | zero =>
    intro t ht
    obtain rfl : t = 7 := by omega
    exact br_t (by decide) h
  | succ d ih =>
    intro t ht
    have skip : T t = false → wY_putEach_6 post (nI i) (nI k) (nI f) to w ic vc lm (d + 1) (nI (eb_c T t)) (nI (t + 1)) mk os (eb_w (i * 21 + (k * 7 + f)) t T w yf) ya ye yr yd kf ka ke kr kd := by
      intro hz
      rw [eb_w_f hz, ← eb_c_f hz]
      exact ih (t + 1) (by omega)
    have c1 : (nI (i * 147 + ((k * 7 + f) * 7 + t))).toNatClampNeg = i * 147 + ((k * 7 + f) * 7 + t) := nI_clamp (by omega)
    have c2 : (nI t).toNatClampNeg = t := nI_clamp (by omega)
    have c3 : eb_w (i * 21 + (k * 7 + f)) t T w yf (nI (i * 147 + ((k * 7 + f) * 7 + t))).toNatClampNeg = yf (i * 147 + (k * 7 + f) * 7 + t) := by
      rw [c1, eb_w_ge (by omega), Nat.add_assoc]
    refine br_f (nI_ge (b := 7) (by omega) (by decide)) (ey_plc ?_)
    rcases eb_bc (bt to t) with hb | hb
    · refine br_t ((eb_n1 to (by omega)).mpr hb) ⟨vp_in_nI (by omega) (by decide), ?_⟩
      by_cases hm : mk t = 0
      · refine br_t (by rw [c2]; exact hm) ⟨vp_in_nI (by omega) (by decide), ?_⟩
        by_cases hy : yf (i * 147 + (k * 7 + f) * 7 + t) = -1
        · have hz : T t = true := by rw [hT]; exact eb_T_t hb hm hy
          refine br_t (c3.trans hy) ⟨vp_in_nI (by omega) (by decide), nm_r (e' := eb_w (i * 21 + (k * 7 + f)) (t + 1) T w yf) ?_ (nm_r (e' := nI (eb_c T (t + 1))) ?_ (nm_r (nI_1 t) (ih (t + 1) (by omega))))⟩
          · rw [c1, show i * 147 + ((k * 7 + f) * 7 + t) = (i * 21 + (k * 7 + f)) * 7 + t from by omega]
            exact eb_w_t (by omega) hz
          · rw [eb_c_t hz]
            exact nI_1 _
        · exact br_f (fun z => hy (c3.symm.trans z)) (nm_r (nI_1 t) (skip (by rw [hT]; exact eb_T_3 hy)))
      · exact br_f (by rw [c2]; exact hm) (nm_r (nI_1 t) (skip (by rw [hT]; exact eb_T_2 hm)))
    · exact br_f (fun z => absurd ((eb_n1 to (by omega)).mp z) (by rw [hb]; exact Bool.false_ne_true)) (nm_r (nI_1 t) (skip (by rw [hT]; exact eb_T_1 hb)))
theorem ey_put {post : Int32 → SY → Prop} {i k f : Nat} {w to : Int32} {T : Nat → Bool} (h4 : i < 4) (hk : k < 3) (hf : f < 7) (hT : T = eb_T to mk yf (i * 147 + (k * 7 + f) * 7))
    (h : post (nI (eb_c T 7)) (ic, vc, lm, mk, os, eb_w (i * 21 + (k * 7 + f)) 7 T w yf, ya, ye, yr, yd, kf, ka, ke, kr, kd)) : wpY_putEach post (ic, vc, lm, mk, os, yf, ya, ye, yr, yd, kf, ka, ke, kr, kd) (nI i) (nI k) (nI f) to w := by
  have e := ey_pt6 (post := post) (w := w) h4 hk hf hT h 7 0 rfl
  rw [eb_w_0] at e
  exact Exists.intro 8 e
theorem ey_mb6 {post : Int32 → Prop} {i k n v : Nat} {p : Nat → Bool} (h4 : i < 4) (hk : k < 2) (hn : n < 7) (hv : v < 4) (hp : p = fun f => eb_g (ya (i * 392 + (((k * 7 + n) * 4 + v) * 7 + f)))) (h : post (nI (eb_c p 7))) :
    ∀ d t, t + d = 7 → wY_members_6 post (nI i) (nI (k + 1)) (nI n) (nI v) ic vc lm mk os yf ya ye yr yd kf ka ke kr kd (d + 1) (nI (eb_c p t)) (nI t) := by
  intro d
  induction d with
  | zero =>
    intro t ht
    obtain rfl : t = 7 := by omega
    exact br_t (by decide) h
  | succ d ih =>
    intro t ht
    have c1 : (nI (i * 392 + (((k * 7 + n) * 4 + v) * 7 + t))).toNatClampNeg = i * 392 + (((k * 7 + n) * 4 + v) * 7 + t) := nI_clamp (by omega)
    refine br_f (nI_ge (b := 7) (by omega) (by decide)) (ey_fac ⟨vp_in_nI (by omega) (by decide), ?_⟩)
    by_cases hz : ya (i * 392 + (((k * 7 + n) * 4 + v) * 7 + t)) = 0
    · have e : p t = false := by rw [hp]; exact eb_gf hz
      refine br_t (by rw [c1]; exact hz) (nm_r (nI_1 t) ?_)
      rw [← eb_c_f e]
      exact ih (t + 1) (by omega)
    · have e : p t = true := by rw [hp]; exact eb_gt hz
      exact br_f (by rw [c1]; exact hz) (nm_r (e' := nI (eb_c p (t + 1))) (by rw [eb_c_t e]; exact nI_1 _) (nm_r (nI_1 t) (ih (t + 1) (by omega))))
theorem ey_mb {post : Int32 → Prop} {i k n v : Nat} {p : Nat → Bool} (h4 : i < 4) (hk : k < 2) (hn : n < 7) (hv : v < 4) (hp : p = fun f => eb_g (ya (i * 392 + (((k * 7 + n) * 4 + v) * 7 + f)))) (h : post (nI (eb_c p 7))) :
    wpY_members post (ic, vc, lm, mk, os, yf, ya, ye, yr, yd, kf, ka, ke, kr, kd) (nI i) (nI (k + 1)) (nI n) (nI v) := Exists.intro 8 (ey_mb6 h4 hk hn hv hp h 7 0 rfl)
end
end
section
/-! ===== arrival, both sides in one outcome ===== -/
section
variable {ic vc lm fm fc ss : Int32} {fl pl pc hs ev rv dv ov : Nat → Int32}
variable {mk os yf ya ye yr yd kf ka ke kr kd : Nat → Int32}
variable {fl0 pl0 pc0 hs0 ev0 rv0 dv0 yf0 ya0 ye0 yr0 yd0 : Nat → Int32}
def eb_fm (fm : Int32) (mk : Nat → Int32) : Prop := fm = eb_m (fun t => eb_g (mk t)) 7
theorem eb_tgT {to tg : Int32} {s i r : Nat} (hr : r < 21) (hm : eb_fm fm mk) (J : eb_QF s i fl pl pc yf)
    (htg : ((to &&& 127) &&& (fm ^^^ (-1))) &&& (fl (s * 21 + r) ^^^ (-1)) = tg) : ∀ t, t < 7 → bt tg t = eb_T to mk yf (i * 147 + r * 7) t := by
  intro t ht
  rw [← htg, b_and, b_and, b_and, eb_not _ (by omega), eb_not _ (by omega), eb_b127 t (by omega), decide_eq_true ht, Bool.and_true, hm, eb_mbit _ ht, J.1 r t hr ht, ← Nat.add_assoc]
  rfl
theorem eb_Tn {to : Int32} {i r t : Nat} (h : eb_T to mk yf (i * 147 + r * 7) t = true) : yf (i * 147 + (r * 7 + t)) = -1 := by
  rcases eb_bc (eb_f (yf (i * 147 + (r * 7 + t)))) with e | e
  · exfalso
    have z := eb_T_3 (to := to) (mk := mk) (yf := yf) (b := i * 147 + r * 7) (t := t) (by rw [Nat.add_assoc]; exact eb_fT e)
    rw [z] at h
    exact Bool.false_ne_true h
  · exact eb_fF e
/-- a put: one outcome -/
theorem el_put {s i k f w : Nat} (to : Int32) (h5 : s < 5) (h4 : i < 4) (hk : k < 3) (hf : f < 7) (hw : w < 4) (hm : eb_fm fm mk) (J : eb_JF s i fl0 pl0 pc0 yf0 fl pl pc yf) :
    ∃ (c : Int32) (fl' pl' pc' yf' : Nat → Int32), eb_JF s i fl0 pl0 pc0 yf0 fl' pl' pc' yf' ∧
      (∀ post : Int32 → SX → Prop, post c (ic, vc, lm, fm, fc, ss, fl', pl', pc', hs, ev, rv, dv, ov) → wpX_putToMask post (ic, vc, lm, fm, fc, ss, fl, pl, pc, hs, ev, rv, dv, ov) (nI s) (nI k) (nI f) to (nI w)) ∧
      (∀ post : Int32 → SY → Prop, post c (ic, vc, lm, mk, os, yf', ya, ye, yr, yd, kf, ka, ke, kr, kd) → wpY_putEach post (ic, vc, lm, mk, os, yf, ya, ye, yr, yd, kf, ka, ke, kr, kd) (nI i) (nI k) (nI f) to (nI w)) := by
  have hr : k * 7 + f < 21 := by omega
  generalize htg : ((to &&& 127) &&& (fm ^^^ (-1))) &&& (fl (s * 21 + (k * 7 + f)) ^^^ (-1)) = tg
  have hT := eb_tgT hr hm J.1 htg
  refine ⟨nI (eb_c (bt tg) 7), _, _, _, _, eb_JF_put hr hw J hT (fun t _ h => eb_Tn h), fun post h => ex_put h5 hk hf htg h, fun post h => ey_put h4 hk hf rfl ?_⟩
  rw [← eb_c_cg 7 hT]
  exact h
/-- ready, if enough: one outcome -/
theorem el_ready {s i n w : Nat} (c thr : Int32) (h5 : s < 5) (h4 : i < 4) (hn : n < 7) (hw : w < 4) (hm : eb_fm fm mk) (J : eb_JF s i fl0 pl0 pc0 yf0 fl pl pc yf) (E : eb_JE s i rv0 yr0 rv yr) :
    ∃ (fl' pl' pc' rv' yf' yr' : Nat → Int32), eb_JF s i fl0 pl0 pc0 yf0 fl' pl' pc' yf' ∧ eb_JE s i rv0 yr0 rv' yr' ∧
      (∀ (A : Prop) (post : SX → Prop), (post (ic, vc, lm, fm, fc, ss, fl, pl, pc, hs, ev, rv, dv, ov) → A) → post (ic, vc, lm, fm, fc, ss, fl', pl', pc', hs, ev, rv', dv, ov) → (c < thr → A) ∧ (¬ c < thr → wpX_becomeReady post (ic, vc, lm, fm, fc, ss, fl, pl, pc, hs, ev, rv, dv, ov) (nI s) (nI n) (nI w))) ∧
      (∀ (post : SY → Prop) (x2 : Int32), wY_arrive_165 post x2 (nI w) (nI (i * 7 + n)) c ic vc lm mk os yf' ya ye yr' yd kf ka ke kr kd → wY_arrive_123 post (nI i) x2 (nI n) (nI w) (nI (i * 7 + n)) c thr ic vc lm mk os yf ya ye yr yd kf ka ke kr kd) := by
  have c1 : (nI (i * 7 + n)).toNatClampNeg = i * 7 + n := nI_clamp (by omega)
  have hi : vp_in (nI (i * 7 + n)) 28 := vp_in_nI (by omega) (by decide)
  have hE := E.1 n hn
  by_cases hc : c < thr
  · refine ⟨fl, pl, pc, rv, yf, yr, J, E, fun A post hA h => br_t hc (hA h), fun post x2 h => ?_⟩
    unfold wY_arrive_123
    exact ⟨hi, br_c (fun _ => br_t hc h) (fun _ => h)⟩
  · by_cases hz : yr (i * 7 + n) = -1
    · have hz' : rv (s * 7 + n) = -1 := hE.trans hz
      have hr : 2 * 7 + n < 21 := by omega
      generalize htg : ((127 &&& 127) &&& (fm ^^^ (-1))) &&& (fl (s * 21 + (2 * 7 + n)) ^^^ (-1)) = tg
      have hT := eb_tgT hr hm J.1 htg
      refine ⟨_, _, _, _, _, _, eb_JF_put hr hw J hT (fun t _ h => eb_Tn h), eb_JE_set (w := nI w) hn E, fun A post hA h => br_f hc (ex_br1 h5 hn hz' htg h), fun post x2 h => ?_⟩
      unfold wY_arrive_123
      refine ⟨hi, br_t (by rw [c1]; exact hz) (br_f hc ⟨hi, nm_r (e' := upd yr (i * 7 + n) (nI w)) (by rw [c1]) ?_⟩)⟩
      exact ey_put (k := 2) h4 (by omega) hn rfl h
    · have hz' : ¬ rv (s * 7 + n) = -1 := fun e => hz (hE.symm.trans e)
      refine ⟨fl, pl, pc, rv, yf, yr, J, E, fun A post hA h => br_f hc (ex_br0 h5 hn hz' h), fun post x2 h => ?_⟩
      unfold wY_arrive_123
      exact ⟨hi, br_f (by rw [c1]; exact hz) h⟩
/-- delivery, if enough -/
theorem el_del {s i n w : Nat} (c : Int32) (h5 : s < 5) (h4 : i < 4) (hn : n < 7) (E : eb_JE s i dv0 yd0 dv yd) :
    ∃ (dv' yd' : Nat → Int32), eb_JE s i dv0 yd0 dv' yd' ∧
      (∀ post : SX → Prop, post (ic, vc, lm, fm, fc, ss, fl, pl, pc, hs, ev, rv, dv', ov) → wX_onReady_26 post (nI s) (nI n) (nI w) c ic vc lm fm fc ss fl pl pc hs ev rv dv ov) ∧
      (∀ post : SY → Prop, post (ic, vc, lm, mk, os, yf, ya, ye, yr, yd', kf, ka, ke, kr, kd) → wY_arrive_165 post (nI 2) (nI w) (nI (i * 7 + n)) c ic vc lm mk os yf ya ye yr yd kf ka ke kr kd) := by
  have c1 : (nI (i * 7 + n)).toNatClampNeg = i * 7 + n := nI_clamp (by omega)
  have c2 : (nI (s * 7 + n)).toNatClampNeg = s * 7 + n := nI_clamp (by omega)
  have hi : vp_in (nI (i * 7 + n)) 28 := vp_in_nI (by omega) (by decide)
  have hj : vp_in (nI (s * 7 + n)) 35 := vp_in_nI (by omega) (by decide)
  have hE := E.1 n hn
  by_cases hc : c < 5
  · refine ⟨dv, yd, E, fun post h => ?_, fun post h => ?_⟩
    · unfold wX_onReady_26
      exact nm_r (eb_p7 s n) (br_t hc h)
    · unfold wY_arrive_165
      exact br_t rfl ⟨hi, br_c (fun _ => br_t hc h) (fun _ => h)⟩
  · by_cases hz : yd (i * 7 + n) = -1
    · have hz' : dv (s * 7 + n) = -1 := hE.trans hz
      refine ⟨_, _, eb_JE_set (w := nI w) hn E, fun post h => ?_, fun post h => ?_⟩
      · unfold wX_onReady_26
        exact nm_r (eb_p7 s n) (br_f hc ⟨hj, br_t (by rw [c2]; exact hz') ⟨hj, nm_r (e' := upd dv (s * 7 + n) (nI w)) (by rw [c2]) h⟩⟩)
      · unfold wY_arrive_165
        exact br_t rfl ⟨hi, br_t (by rw [c1]; exact hz) (br_f hc ⟨hi, nm_r (e' := upd yd (i * 7 + n) (nI w)) (by rw [c1]) h⟩)⟩
    · have hz' : ¬ dv (s * 7 + n) = -1 := fun e => hz (hE.symm.trans e)
      refine ⟨dv, yd, E, fun post h => ?_, fun post h => ?_⟩
      · unfold wX_onReady_26
        exact nm_r (eb_p7 s n) (br_f hc ⟨hj, br_f (by rw [c2]; exact hz') h⟩)
      · unfold wY_arrive_165
        exact br_t rfl ⟨hi, br_f (by rw [c1]; exact hz) h⟩
/-- all that a slot holds, with the frames -/
def eb_I (s i : Nat) (fl0 pl0 pc0 hs0 ev0 rv0 dv0 yf0 ya0 ye0 yr0 yd0 fl pl pc hs ev rv dv yf ya ye yr yd : Nat → Int32) : Prop :=
  eb_JF s i fl0 pl0 pc0 yf0 fl pl pc yf ∧ eb_JH s i hs0 ya0 hs ya ∧ eb_JE s i ev0 ye0 ev ye ∧ eb_JE s i rv0 yr0 rv yr ∧ eb_JE s i dv0 yd0 dv yd
/-- onSend: one outcome -/
theorem el_send {s i f n w : Nat} (h5 : s < 5) (h4 : i < 4) (hf : f < 7) (hn : n < 7) (hw : w < 4) (hm : eb_fm fm mk) (hsn : eb_snd s i ss) (J : eb_JF s i fl0 pl0 pc0 yf0 fl pl pc yf) (E : eb_JE s i ev0 ye0 ev ye) :
    ∃ (fl' pl' pc' ev' yf' ye' : Nat → Int32), eb_JF s i fl0 pl0 pc0 yf0 fl' pl' pc' yf' ∧ eb_JE s i ev0 ye0 ev' ye' ∧
      (∀ post : SX → Prop, post (ic, vc, lm, fm, fc, ss, fl', pl', pc', hs, ev', rv, dv, ov) → wpX_onSend post (ic, vc, lm, fm, fc, ss, fl, pl, pc, hs, ev, rv, dv, ov) (nI s) (nI f) (nI n) (nI w)) ∧
      (∀ (A : Prop) (P : Int32 → SY → Prop), ((∀ c, P c (ic, vc, lm, mk, os, yf, ya, ye, yr, yd, kf, ka, ke, kr, kd)) → A) → (∀ c, P c (ic, vc, lm, mk, os, yf', ya, ye', yr, yd, kf, ka, ke, kr, kd)) →
        (nI f = nI i → (vp_in (nI (i * 7 + n)) 28 ∧ ((ye (nI (i * 7 + n)).toNatClampNeg = (-1) → (vp_in (nI (i * 7 + n)) 28 ∧ ∀ a : Nat → Int32, a = upd ye (nI (i * 7 + n)).toNatClampNeg (nI w) → wpY_putEach P (ic, vc, lm, mk, os, yf, ya, a, yr, yd, kf, ka, ke, kr, kd) (nI i) 1 (nI n) 127 (nI w))) ∧ (¬ ye (nI (i * 7 + n)).toNatClampNeg = (-1) → A)))) ∧ (¬ nI f = nI i → A)) := by
  have c1 : (nI (i * 7 + n)).toNatClampNeg = i * 7 + n := nI_clamp (by omega)
  have c2 : (nI (s * 7 + n)).toNatClampNeg = s * 7 + n := nI_clamp (by omega)
  have hi : vp_in (nI (i * 7 + n)) 28 := vp_in_nI (by omega) (by decide)
  have hj : vp_in (nI (s * 7 + n)) 35 := vp_in_nI (by omega) (by decide)
  have hE := E.1 n hn
  by_cases hc : nI f = nI i
  · by_cases hz : ye (i * 7 + n) = -1
    · have hz' : ev (s * 7 + n) = -1 := hE.trans hz
      have hr : 1 * 7 + n < 21 := by omega
      generalize htg : ((127 &&& 127) &&& (fm ^^^ (-1))) &&& (fl (s * 21 + (1 * 7 + n)) ^^^ (-1)) = tg
      have hT := eb_tgT hr hm J.1 htg
      refine ⟨_, _, _, _, _, _, eb_JF_put hr hw J hT (fun t _ h => eb_Tn h), eb_JE_set (w := nI w) hn E, fun post h => ?_, fun A P hA h => ?_⟩
      · unfold wpX_onSend
        dsimp only
        refine nm_r (eb_p7 s n) (ex_snd hsn (br_t hc ⟨hj, br_t (by rw [c2]; exact hz') ⟨hj, nm_r (e' := upd ev (s * 7 + n) (nI w)) (by rw [c2]) ?_⟩⟩))
        exact ex_put (k := 1) h5 (by omega) hn htg h
      · refine br_t hc ⟨hi, br_t (by rw [c1]; exact hz) ⟨hi, nm_r (e' := upd ye (i * 7 + n) (nI w)) (by rw [c1]) ?_⟩⟩
        exact ey_put (k := 1) h4 (by omega) hn rfl (h _)
    · have hz' : ¬ ev (s * 7 + n) = -1 := fun e => hz (hE.symm.trans e)
      refine ⟨fl, pl, pc, ev, yf, ye, J, E, fun post h => ?_, fun A P hA h => ?_⟩
      · unfold wpX_onSend
        dsimp only
        exact nm_r (eb_p7 s n) (ex_snd hsn (br_t hc ⟨hj, br_f (by rw [c2]; exact hz') h⟩))
      · exact br_t hc ⟨hi, br_f (by rw [c1]; exact hz) (hA h)⟩
  · refine ⟨fl, pl, pc, ev, yf, ye, J, E, fun post h => ?_, fun A P hA h => ?_⟩
    · unfold wpX_onSend
      dsimp only
      exact nm_r (eb_p7 s n) (ex_snd hsn (br_f hc h))
    · exact br_f hc (hA h)
end
end
section
/-! ===== arrival: the three kinds ===== -/
section
variable {ic vc lm fm fc ss : Int32} {fl pl pc hs ev rv dv ov : Nat → Int32}
variable {mk os yf ya ye yr yd kf ka ke kr kd : Nat → Int32}
variable {fl0 pl0 pc0 hs0 ev0 rv0 dv0 yf0 ya0 ye0 yr0 yd0 : Nat → Int32}
/-- adding an origin: one outcome -/
theorem el_hear {s i k f n v : Nat} (h5 : s < 5) (h4 : i < 4) (hk : k < 2) (hf : f < 7) (hn : n < 7) (hv : v < 4) (H : eb_JH s i hs0 ya0 hs ya) :
    ∃ (c : Int32) (hs' ya' : Nat → Int32), eb_JH s i hs0 ya0 hs' ya' ∧ ya' = upd ya (i * 392 + (((k * 7 + n) * 4 + v) * 7 + f)) 1 ∧
      (∀ post : Int32 → SX → Prop, post c (ic, vc, lm, fm, fc, ss, fl, pl, pc, hs', ev, rv, dv, ov) → wpX_addOrigin post (ic, vc, lm, fm, fc, ss, fl, pl, pc, hs, ev, rv, dv, ov) (nI s) (nI (k + 1)) (nI f) (nI n) (nI v)) ∧
      (∀ post : Int32 → Prop, post c → wpY_members post (ic, vc, lm, mk, os, yf, ya', ye, yr, yd, kf, ka, ke, kr, kd) (nI i) (nI (k + 1)) (nI n) (nI v)) := by
  have hr : (k * 7 + n) * 4 + v < 56 := by omega
  have H' := eb_JH_add (f := f) hr hf H
  refine ⟨_, _, _, H', rfl, fun post h => ex_add h5 hk hn hv rfl h, fun post h => ey_mb h4 hk hn hv rfl ?_⟩
  rw [eb_c_cg (q := bt (hs (s * 56 + ((k * 7 + n) * 4 + v)) ||| ((1 : Int32) <<< (nI f &&& 31)))) 7]
  · exact h
  · intro j hj
    have e := H'.1.1 _ hr
    rw [pk_us] at e
    rw [e, eb_mbit _ hj]
/-- X's way into an arrival -/
theorem ex_arr {post : SX → Prop} {s k f t : Nat} {w : Int32} {fl1 pc1 : Nat → Int32} (h5 : s < 5) (hk : k < 3) (hf : f < 7) (ht : t < 7)
    (hw : pl (s * 147 + ((k * 7 + f) * 7 + t)) = w) (e1 : fl1 = upd fl (s * 21 + (k * 7 + f)) (fl (s * 21 + (k * 7 + f)) &&& (((1 : Int32) <<< (nI t &&& 31)) ^^^ (-1)))) (e2 : pc1 = upd pc s (pc s - 1))
    (h0 : k = 0 → ∀ P : SX → Prop, (∀ u, post u → P u) → wpX_onSend P (ic, vc, lm, fm, fc, ss, fl1, pl, pc1, hs, ev, rv, dv, ov) (nI s) (nI f) (nI t) w)
    (h1 : k = 1 → ∀ P : SX → Prop, (∀ u, post u → P u) → wpX_onEcho P (ic, vc, lm, fm, fc, ss, fl1, pl, pc1, hs, ev, rv, dv, ov) (nI s) (nI f) (nI t) w)
    (h2 : k = 2 → ∀ P : SX → Prop, (∀ u, post u → P u) → wpX_onReady P (ic, vc, lm, fm, fc, ss, fl1, pl, pc1, hs, ev, rv, dv, ov) (nI s) (nI f) (nI t) w) :
    wpX_arrive post (ic, vc, lm, fm, fc, ss, fl, pl, pc, hs, ev, rv, dv, ov) (nI s) (nI k) (nI f) (nI t) := by
  have c1 : (nI (s * 21 + (k * 7 + f))).toNatClampNeg = s * 21 + (k * 7 + f) := nI_clamp (by omega)
  have c2 : (nI s).toNatClampNeg = s := nI_clamp (by omega)
  have q : (nI (s * 21 + (k * 7 + f)) * 7) + nI t = nI (s * 147 + ((k * 7 + f) * 7 + t)) := by
    rw [eb_p7]
    congr 1
    omega
  have c3 : ((nI (s * 21 + (k * 7 + f)) * 7) + nI t).toNatClampNeg = s * 147 + ((k * 7 + f) * 7 + t) := by rw [q, nI_clamp (by omega)]
  have i1 : vp_in (nI (s * 21 + (k * 7 + f))) 105 := vp_in_nI (by omega) (by decide)
  have i2 : vp_in (nI s) 5 := vp_in_nI h5 (by decide)
  have cp : ∀ u : SX, post u → post u := fun _ h => h
  unfold wpX_arrive
  dsimp only
  refine ex_row ⟨by rw [q]; exact vp_in_nI (by omega) (by decide), nm_r (e' := w) (by rw [c3]; exact hw) ⟨i1, i1, nm_r (e' := fl1) (by rw [c1, e1]) ⟨i2, i2, nm_r (e' := pc1) (by rw [c2, e2]) ?_⟩⟩⟩
  rcases (by omega : k = 0 ∨ k = 1 ∨ k = 2) with rfl | rfl | rfl
  · exact br_t rfl (h0 rfl _ (fun (_, _, _, _, _, _, _, _, _, _, _, _, _, _) h => h))
  · exact br_f (by decide) (br_t rfl (h1 rfl _ (fun (_, _, _, _, _, _, _, _, _, _, _, _, _, _) h => h)))
  · exact br_f (by decide) (br_f (by decide) (h2 rfl _ (fun (_, _, _, _, _, _, _, _, _, _, _, _, _, _) h => h)))
/-- an arrival: one outcome -/
theorem el_arr {s i k f t : Nat} (h5 : s < 5) (h4 : i < 4) (hk : k < 3) (hf : f < 7) (ht : t < 7) (hm : eb_fm fm mk) (hsn : eb_snd s i ss)
    (I : eb_I s i fl0 pl0 pc0 hs0 ev0 rv0 dv0 yf0 ya0 ye0 yr0 yd0 fl pl pc hs ev rv dv yf ya ye yr yd) (hy : ¬ yf (i * 147 + ((k * 7 + f) * 7 + t)) = -1) :
    ∃ (fl' pl' pc' hs' ev' rv' dv' yf' ya' ye' yr' yd' : Nat → Int32), eb_I s i fl0 pl0 pc0 hs0 ev0 rv0 dv0 yf0 ya0 ye0 yr0 yd0 fl' pl' pc' hs' ev' rv' dv' yf' ya' ye' yr' yd' ∧
      (∀ post : SX → Prop, post (ic, vc, lm, fm, fc, ss, fl', pl', pc', hs', ev', rv', dv', ov) → wpX_arrive post (ic, vc, lm, fm, fc, ss, fl, pl, pc, hs, ev, rv, dv, ov) (nI s) (nI k) (nI f) (nI t)) ∧
      (∀ post : SY → Prop, post (ic, vc, lm, mk, os, yf', ya', ye', yr', yd', kf, ka, ke, kr, kd) → wpY_arrive post (ic, vc, lm, mk, os, yf, ya, ye, yr, yd, kf, ka, ke, kr, kd) (nI i) (nI k) (nI f) (nI t)) := by
  obtain ⟨JF, JH, J1, J2, J3⟩ := I
  have hr : k * 7 + f < 21 := by omega
  have hq : (k * 7 + f) * 7 + t < 147 := by omega
  obtain ⟨hp, w, hw, hyw⟩ := JF.1.2.1 _ hq hy
  have hpw := hp.trans hyw
  have JF1 := eb_JF_rem hr ht JF hy
  have c3 : (nI (i * 147 + ((k * 7 + f) * 7 + t))).toNatClampNeg = i * 147 + ((k * 7 + f) * 7 + t) := nI_clamp (by omega)
  have iq : vp_in (nI (i * 147 + ((k * 7 + f) * 7 + t))) 588 := vp_in_nI (by omega) (by decide)
  generalize e1 : upd fl (s * 21 + (k * 7 + f)) (fl (s * 21 + (k * 7 + f)) &&& (((1 : Int32) <<< (nI t &&& 31)) ^^^ (-1))) = fl1 at JF1
  generalize e2 : upd pc s (pc s - 1) = pc1 at JF1
  generalize e3 : upd yf (i * 147 + ((k * 7 + f) * 7 + t)) (-1) = yf1 at JF1
  rcases (by omega : k = 0 ∨ k = 1 ∨ k = 2) with hk0 | hk0 | hk0
  · subst hk0
    obtain ⟨fl', pl', pc', ev', yf', ye', JF', J1', hX, hY⟩ := el_send (ic := ic) (vc := vc) (lm := lm) (fc := fc) (hs := hs) (rv := rv) (dv := dv) (ov := ov) (os := os) (ya := ya) (yr := yr) (yd := yd) (kf := kf) (ka := ka) (ke := ke) (kr := kr) (kd := kd) h5 h4 hf ht hw hm hsn JF1 J1
    refine ⟨fl', pl', pc', hs, ev', rv, dv, yf', ya, ye', yr, yd, ⟨JF', JH, J1', J2, J3⟩, fun post h => ?_, fun post h => ?_⟩
    · exact ex_arr h5 hk hf ht hpw e1.symm e2.symm (fun _ P hP => hX P (hP _ h)) (fun z => absurd z (by decide)) (fun z => absurd z (by decide))
    · unfold wpY_arrive
      dsimp only
      refine ey_plc ⟨iq, nm_r (e' := nI w) (by rw [c3]; exact hyw) ⟨iq, nm_r (e' := yf1) (by rw [c3]; exact e3) (nm_r (eb_p7 i t) (br_t rfl ?_))⟩⟩
      exact hY _ _ (fun z => z 0) (fun _ => h)
  · subst hk0
    obtain ⟨c, hs', ya', JH', eya, hXa, hYa⟩ := el_hear (ic := ic) (vc := vc) (lm := lm) (fm := fm) (fc := fc) (ss := ss) (fl := fl1) (pl := pl) (pc := pc1) (ev := ev) (rv := rv) (dv := dv) (ov := ov) (mk := mk) (os := os) (yf := yf1) (ye := ye) (yr := yr) (yd := yd) (kf := kf) (ka := ka) (ke := ke) (kr := kr) (kd := kd) (k := 0) h5 h4 (by omega) hf ht hw JH
    obtain ⟨fl', pl', pc', rv', yf', yr', JF', J2', hX, hY⟩ := el_ready (ic := ic) (vc := vc) (lm := lm) (fc := fc) (ss := ss) (hs := hs') (ev := ev) (dv := dv) (ov := ov) (os := os) (ya := ya') (ye := ye) (yd := yd) (kf := kf) (ka := ka) (ke := ke) (kr := kr) (kd := kd) c 5 h5 h4 ht hw hm JF1 J2
    refine ⟨fl', pl', pc', hs', ev, rv', dv, yf', ya', ye, yr', yd, ⟨JF', JH', J1, J2', J3⟩, fun post h => ?_, fun post h => ?_⟩
    · refine ex_arr h5 hk hf ht hpw e1.symm e2.symm (fun z => absurd z (by decide)) (fun _ P hP => ?_) (fun z => absurd z (by decide))
      unfold wpX_onEcho
      dsimp only
      refine hXa _ (hX _ _ (fun z => z) ?_)
      exact hP _ h
    · unfold wpY_arrive
      dsimp only
      refine ey_plc ⟨iq, nm_r (e' := nI w) (by rw [c3]; exact hyw) ⟨iq, nm_r (e' := yf1) (by rw [c3]; exact e3) (nm_r (eb_p7 i t) (br_f (by decide) (ey_fac (k := 0) ⟨vp_in_nI (by omega) (by decide), nm_r (e' := ya') (by rw [nI_clamp (by omega), eya]; rfl) (hYa _ (br_t rfl (hY _ _ ?_)))⟩)))⟩⟩
      unfold wY_arrive_165
      exact br_f (by decide) h
  · subst hk0
    obtain ⟨c, hs', ya', JH', eya, hXa, hYa⟩ := el_hear (ic := ic) (vc := vc) (lm := lm) (fm := fm) (fc := fc) (ss := ss) (fl := fl1) (pl := pl) (pc := pc1) (ev := ev) (rv := rv) (dv := dv) (ov := ov) (mk := mk) (os := os) (yf := yf1) (ye := ye) (yr := yr) (yd := yd) (kf := kf) (ka := ka) (ke := ke) (kr := kr) (kd := kd) (k := 1) h5 h4 (by omega) hf ht hw JH
    obtain ⟨fl', pl', pc', rv', yf', yr', JF', J2', hX, hY⟩ := el_ready (ic := ic) (vc := vc) (lm := lm) (fc := fc) (ss := ss) (hs := hs') (ev := ev) (dv := dv) (ov := ov) (os := os) (ya := ya') (ye := ye) (yd := yd) (kf := kf) (ka := ka) (ke := ke) (kr := kr) (kd := kd) c 3 h5 h4 ht hw hm JF1 J2
    obtain ⟨dv', yd', J3', hX3, hY3⟩ := el_del (w := w) (ic := ic) (vc := vc) (lm := lm) (fm := fm) (fc := fc) (ss := ss) (fl := fl') (pl := pl') (pc := pc') (hs := hs') (ev := ev) (rv := rv') (ov := ov) (mk := mk) (os := os) (yf := yf') (ya := ya') (ye := ye) (yr := yr') (kf := kf) (ka := ka) (ke := ke) (kr := kr) (kd := kd) c h5 h4 ht J3
    refine ⟨fl', pl', pc', hs', ev, rv', dv', yf', ya', ye, yr', yd', ⟨JF', JH', J1, J2', J3'⟩, fun post h => ?_, fun post h => ?_⟩
    · refine ex_arr h5 hk hf ht hpw e1.symm e2.symm (fun z => absurd z (by decide)) (fun z => absurd z (by decide)) (fun _ P hP => ?_)
      unfold wpX_onReady
      dsimp only
      refine hXa _ (hX _ _ (fun z => z) ?_)
      exact hX3 _ (hP _ h)
    · unfold wpY_arrive
      dsimp only
      refine ey_plc ⟨iq, nm_r (e' := nI w) (by rw [c3]; exact hyw) ⟨iq, nm_r (e' := yf1) (by rw [c3]; exact e3) (nm_r (eb_p7 i t) (br_f (by decide) (ey_fac (k := 1) ⟨vp_in_nI (by omega) (by decide), nm_r (e' := ya') (by rw [nI_clamp (by omega), eya]; rfl) (hYa _ (br_f (by decide) (hY _ _ ?_)))⟩)))⟩⟩
      exact hY3 _ h
end
end
section
/-! ===== passes, both sides in one outcome ===== -/
section
variable {ic vc lm fm fc ss : Int32} {ov mk os kf ka ke kr kd : Nat → Int32}
variable {fl0 pl0 pc0 hs0 ev0 rv0 dv0 yf0 ya0 ye0 yr0 yd0 : Nat → Int32}
/-- Y's row with nothing to do -/
theorem ey_qrow {post : Int32 → SY → Prop} {J25 : Int32 → Int32 → Int32 → Int32 → Int32 → (Nat → Int32) → (Nat → Int32) → (Nat → Int32) → (Nat → Int32) → (Nat → Int32) → (Nat → Int32) → (Nat → Int32) → (Nat → Int32) → (Nat → Int32) → (Nat → Int32) → (Nat → Int32) → (Nat → Int32) → Prop} {i k f : Nat} {frm to x5 : Int32} {yf ya ye yr yd : Nat → Int32} (h4 : i < 4) (hk : k < 3) (hf : f < 7)
    (hq : ∀ t, t < 7 → bt frm f = true → yf (i * 147 + ((k * 7 + f) * 7 + t)) = -1) (h : J25 x5 (nI (f + 1)) ic vc lm mk os yf ya ye yr yd kf ka ke kr kd) :
    ∀ d t, t + d = 7 → wY_deliver_35 post J25 (nI i) (nI k) frm to (nI f) (d + 1) x5 (nI t) ic vc lm mk os yf ya ye yr yd kf ka ke kr kd := by
  intro d
  induction d with
  | zero =>
    intro t ht
    obtain rfl : t = 7 := by omega
    exact br_t (by decide) (nm_r (nI_1 f) h)
  | succ d ih =>
    intro t ht
    have c1 : (nI (i * 147 + ((k * 7 + f) * 7 + t))).toNatClampNeg = i * 147 + ((k * 7 + f) * 7 + t) := nI_clamp (by omega)
    have n := ih (t + 1) (by omega)
    refine br_f (nI_ge (b := 7) (by omega) (by decide)) (ey_plc ?_)
    refine br_c (fun z => br_c (fun _ => ⟨vp_in_nI (by omega) (by decide), br_t ?_ (nm_r (nI_1 t) n)⟩) (fun _ => nm_r (nI_1 t) n)) (fun _ => nm_r (nI_1 t) n)
    rw [c1]
    exact hq t (by omega) ((eb_n1 frm (by omega)).mp z)
/-- a row in lockstep -/
theorem el_row {s i k f : Nat} {frm to : Int32} (h5 : s < 5) (h4 : i < 4) (hk : k < 3) (hf : f < 7) (hm : eb_fm fm mk) (hsn : eb_snd s i ss) (hb : bt frm f = true) :
    ∀ d t, t + d = 7 → ∀ fl pl pc hs ev rv dv yf ya ye yr yd : Nat → Int32, eb_I s i fl0 pl0 pc0 hs0 ev0 rv0 dv0 yf0 ya0 ye0 yr0 yd0 fl pl pc hs ev rv dv yf ya ye yr yd → ∃ (e : Int32) (fl' pl' pc' hs' ev' rv' dv' yf' ya' ye' yr' yd' : Nat → Int32), eb_I s i fl0 pl0 pc0 hs0 ev0 rv0 dv0 yf0 ya0 ye0 yr0 yd0 fl' pl' pc' hs' ev' rv' dv' yf' ya' ye' yr' yd' ∧
      (∀ (post : Int32 → SX → Prop) (x6 : Int32), post (x6 + e) (ic, vc, lm, fm, fc, ss, fl', pl', pc', hs', ev', rv', dv', ov) → wX_runRow_15 post (nI s) (nI k) (nI f) to (nI (s * 21 + (k * 7 + f))) (d + 1) x6 (nI t) ic vc lm fm fc ss fl pl pc hs ev rv dv ov) ∧
      (∀ (post : Int32 → SY → Prop) (J25 : Int32 → Int32 → Int32 → Int32 → Int32 → (Nat → Int32) → (Nat → Int32) → (Nat → Int32) → (Nat → Int32) → (Nat → Int32) → (Nat → Int32) → (Nat → Int32) → (Nat → Int32) → (Nat → Int32) → (Nat → Int32) → (Nat → Int32) → (Nat → Int32) → Prop) (x5 : Int32), J25 (x5 + e) (nI (f + 1)) ic vc lm mk os yf' ya' ye' yr' yd' kf ka ke kr kd → wY_deliver_35 post J25 (nI i) (nI k) frm to (nI f) (d + 1) x5 (nI t) ic vc lm mk os yf ya ye yr yd kf ka ke kr kd) := by
  intro d
  induction d with
  | zero =>
    intro t ht fl pl pc hs ev rv dv yf ya ye yr yd I
    obtain rfl : t = 7 := by omega
    refine ⟨0, fl, pl, pc, hs, ev, rv, dv, yf, ya, ye, yr, yd, I, fun post x6 h => ?_, fun post J25 x5 h => ?_⟩
    · rw [Int32.add_zero] at h
      exact br_t (by decide) h
    · rw [Int32.add_zero] at h
      exact br_t (by decide) (nm_r (nI_1 f) h)
  | succ d ih =>
    intro t ht fl pl pc hs ev rv dv yf ya ye yr yd I
    have hr : k * 7 + f < 21 := by omega
    have hbit := I.1.1.1 (k * 7 + f) t hr (by omega)
    have c1 : (nI (i * 147 + ((k * 7 + f) * 7 + t))).toNatClampNeg = i * 147 + ((k * 7 + f) * 7 + t) := nI_clamp (by omega)
    have c2 : (nI (s * 21 + (k * 7 + f))).toNatClampNeg = s * 21 + (k * 7 + f) := nI_clamp (by omega)
    have i1 : vp_in (nI (s * 21 + (k * 7 + f))) 105 := vp_in_nI (by omega) (by decide)
    have i2 : vp_in (nI (i * 147 + ((k * 7 + f) * 7 + t))) 588 := vp_in_nI (by omega) (by decide)
    have n7 : ¬ (7 : Int32) ≤ nI t := nI_ge (b := 7) (by omega) (by decide)
    have b1 : ((frm >>> (nI f &&& 31)) &&& 1) = 1 := (eb_n1 frm (by omega)).mpr hb
    have bx : bt (to &&& fl (nI (s * 21 + (k * 7 + f))).toNatClampNeg) t = (bt to t && eb_f (yf (i * 147 + ((k * 7 + f) * 7 + t)))) := by rw [c2, b_and, hbit]
    by_cases hgo : bt to t = true ∧ ¬ yf (i * 147 + ((k * 7 + f) * 7 + t)) = -1
    · obtain ⟨hto, hy⟩ := hgo
      rw [hto, eb_ft hy] at bx
      obtain ⟨fl1, pl1, pc1, hs1, ev1, rv1, dv1, yf1, ya1, ye1, yr1, yd1, I1, hX1, hY1⟩ := el_arr (ic := ic) (vc := vc) (lm := lm) (fc := fc) (ov := ov) (os := os) (kf := kf) (ka := ka) (ke := ke) (kr := kr) (kd := kd) h5 h4 hk hf (by omega) hm hsn I hy
      obtain ⟨e, fl', pl', pc', hs', ev', rv', dv', yf', ya', ye', yr', yd', I', hX, hY⟩ := ih (t + 1) (by omega) fl1 pl1 pc1 hs1 ev1 rv1 dv1 yf1 ya1 ye1 yr1 yd1 I1
      refine ⟨1 + e, fl', pl', pc', hs', ev', rv', dv', yf', ya', ye', yr', yd', I', fun post x6 h => ?_, fun post J25 x5 h => ?_⟩
      · rw [← Int32.add_assoc] at h
        refine br_f n7 ⟨i1, ex_nm (by omega) (fun _ => br_f (by decide) (hX1 _ ?_)) (fun z => absurd (z.symm.trans bx) (by decide))⟩
        exact nm_e (nm_r (nI_1 t) (hX post (x6 + 1) h))
      · rw [← Int32.add_assoc] at h
        refine br_f n7 (ey_plc (br_t b1 (br_t ((eb_n1 to (by omega)).mpr hto) ⟨i2, br_f (by rw [c1]; exact hy) (hY1 _ ?_)⟩)))
        exact nm_e (nm_r (nI_1 t) (hY post J25 (x5 + 1) h))
    · have bz : bt (to &&& fl (nI (s * 21 + (k * 7 + f))).toNatClampNeg) t = false := by
        rw [bx]
        rcases eb_bc (bt to t) with z | z
        · rw [z, Bool.true_and]
          rcases eb_bc (eb_f (yf (i * 147 + ((k * 7 + f) * 7 + t)))) with z2 | z2
          · exact absurd ⟨z, eb_fT z2⟩ hgo
          · exact z2
        · rw [z, Bool.false_and]
      obtain ⟨e, fl', pl', pc', hs', ev', rv', dv', yf', ya', ye', yr', yd', I', hX, hY⟩ := ih (t + 1) (by omega) fl pl pc hs ev rv dv yf ya ye yr yd I
      refine ⟨e, fl', pl', pc', hs', ev', rv', dv', yf', ya', ye', yr', yd', I', fun post x6 h => ?_, fun post J25 x5 h => ?_⟩
      · exact br_f n7 ⟨i1, ex_nm (by omega) (fun z => absurd (z.symm.trans bz) (by decide)) (fun _ => br_t rfl (nm_r (nI_1 t) (hX post x6 h)))⟩
      · have n := hY post J25 x5 h
        refine br_f n7 (ey_plc (br_t b1 (br_c (fun z => ⟨i2, br_t ?_ (nm_r (nI_1 t) n)⟩) (fun _ => nm_r (nI_1 t) n))))
        rw [c1]
        exact Decidable.not_not.mp (fun z2 => hgo ⟨(eb_n1 to (by omega)).mp z, z2⟩)
/-- a pass in lockstep -/
theorem el_pass {s i k : Nat} {frm to : Int32} (h5 : s < 5) (h4 : i < 4) (hk : k < 3) (hm : eb_fm fm mk) (hsn : eb_snd s i ss) :
    ∀ d f, f + d = 7 → ∀ fl pl pc hs ev rv dv yf ya ye yr yd : Nat → Int32, eb_I s i fl0 pl0 pc0 hs0 ev0 rv0 dv0 yf0 ya0 ye0 yr0 yd0 fl pl pc hs ev rv dv yf ya ye yr yd → ∃ (e : Int32) (fl' pl' pc' hs' ev' rv' dv' yf' ya' ye' yr' yd' : Nat → Int32), eb_I s i fl0 pl0 pc0 hs0 ev0 rv0 dv0 yf0 ya0 ye0 yr0 yd0 fl' pl' pc' hs' ev' rv' dv' yf' ya' ye' yr' yd' ∧
      (∀ (post : Int32 → SX → Prop) (x5 : Int32), post (x5 + e) (ic, vc, lm, fm, fc, ss, fl', pl', pc', hs', ev', rv', dv', ov) → wX_runPass_6 post (nI s) (nI k) frm to (d + 1) x5 (nI f) ic vc lm fm fc ss fl pl pc hs ev rv dv ov) ∧
      (∀ (post : Int32 → SY → Prop) (x5 : Int32), post (x5 + e) (ic, vc, lm, mk, os, yf', ya', ye', yr', yd', kf, ka, ke, kr, kd) → wY_deliver_25 post (nI i) (nI k) frm to (d + 1) x5 (nI f) ic vc lm mk os yf ya ye yr yd kf ka ke kr kd) := by
  intro d
  induction d with
  | zero =>
    intro f hf fl pl pc hs ev rv dv yf ya ye yr yd I
    obtain rfl : f = 7 := by omega
    refine ⟨0, fl, pl, pc, hs, ev, rv, dv, yf, ya, ye, yr, yd, I, fun post x5 h => ?_, fun post x5 h => ?_⟩
    · rw [Int32.add_zero] at h
      exact br_t (by decide) h
    · rw [Int32.add_zero] at h
      exact br_t (by decide) h
  | succ d ih =>
    intro f hf fl pl pc hs ev rv dv yf ya ye yr yd I
    have n7 : ¬ (7 : Int32) ≤ nI f := nI_ge (b := 7) (by omega) (by decide)
    rcases eb_bc (bt frm f) with hb | hb
    · obtain ⟨e1, fl1, pl1, pc1, hs1, ev1, rv1, dv1, yf1, ya1, ye1, yr1, yd1, I1, hX1, hY1⟩ := el_row (ic := ic) (vc := vc) (lm := lm) (fc := fc) (ov := ov) (os := os) (kf := kf) (ka := ka) (ke := ke) (kr := kr) (kd := kd) (to := to) h5 h4 hk (by omega) hm hsn hb 7 0 rfl fl pl pc hs ev rv dv yf ya ye yr yd I
      obtain ⟨e, fl', pl', pc', hs', ev', rv', dv', yf', ya', ye', yr', yd', I', hX, hY⟩ := ih (f + 1) (by omega) fl1 pl1 pc1 hs1 ev1 rv1 dv1 yf1 ya1 ye1 yr1 yd1 I1
      refine ⟨e1 + e, fl', pl', pc', hs', ev', rv', dv', yf', ya', ye', yr', yd', I', fun post x5 h => ?_, fun post x5 h => ?_⟩
      · rw [← Int32.add_assoc] at h
        refine br_f n7 (ex_nm (by omega) (fun _ => br_f (by decide) ?_) (fun z => absurd (z.symm.trans hb) (by decide)))
        unfold wpX_runRow
        dsimp only
        refine ex_row ⟨8, hX1 _ _ ?_⟩
        exact nm_r (e' := x5 + e1) (by rw [Int32.zero_add]) (nm_r (nI_1 f) (hX post (x5 + e1) h))
      · rw [← Int32.add_assoc] at h
        exact br_f n7 ⟨8, hY1 _ _ _ (hY post (x5 + e1) h)⟩
    · obtain ⟨e, fl', pl', pc', hs', ev', rv', dv', yf', ya', ye', yr', yd', I', hX, hY⟩ := ih (f + 1) (by omega) fl pl pc hs ev rv dv yf ya ye yr yd I
      refine ⟨e, fl', pl', pc', hs', ev', rv', dv', yf', ya', ye', yr', yd', I', fun post x5 h => ?_, fun post x5 h => ?_⟩
      · exact br_f n7 (ex_nm (by omega) (fun z => absurd (z.symm.trans hb) (by decide)) (fun _ => br_t rfl (nm_r (nI_1 f) (hX post x5 h))))
      · exact br_f n7 ⟨8, ey_qrow h4 hk (by omega) (fun t _ z => absurd (z.symm.trans hb) (by decide)) (hY post x5 h) 7 0 rfl⟩
end
end
section
/-! ===== argument checks ===== -/
section
variable {ic vc lm fm fc ss : Int32} {fl pl pc hs ev rv dv ov : Nat → Int32}
variable {mk os yf ya ye yr yd kf ka ke kr kd : Nat → Int32}
def eb_out (n : Nat) (p : Int32) : Prop := p < 0 ∨ nI n ≤ p
theorem eb_split (p : Int32) {n : Nat} (hn : n < 2 ^ 31) : eb_out n p ∨ ∃ j, j < n ∧ p = nI j := by
  rcases pk_ix p hn with h | h | h
  · exact Or.inl (Or.inl h)
  · exact Or.inl (Or.inr h)
  · exact Or.inr h
theorem eb_out0 {n : Nat} {p : Int32} (hn : n < 2 ^ 31) (h : nI n ≤ p) : ¬ p < 0 := Int32.not_lt.mpr (Int32.le_trans (nI_pos' hn) h)
theorem ex_in1 {post : Int32 → Prop} {n j : Nat} (hn : n < 2 ^ 31) (hj : j < n) (h : post 1) : wpX_isInstance post (nI n, vc, lm, fm, fc, ss, fl, pl, pc, hs, ev, rv, dv, ov) (nI j) := by
  show (nI j < 0 → post 0) ∧ (¬ nI j < 0 → ((nI n ≤ nI j → post 0) ∧ (¬ nI n ≤ nI j → post 1)))
  exact br_f (nI_pos (by omega)) (br_f (nI_ge hj hn) h)
theorem ex_in0 {post : Int32 → Prop} {n : Nat} {p : Int32} (hn : n < 2 ^ 31) (hb : eb_out n p) (h : post 0) : wpX_isInstance post (nI n, vc, lm, fm, fc, ss, fl, pl, pc, hs, ev, rv, dv, ov) p := by
  show (p < 0 → post 0) ∧ (¬ p < 0 → ((nI n ≤ p → post 0) ∧ (¬ nI n ≤ p → post 1)))
  rcases hb with hb | hb
  · exact br_t hb h
  · exact br_f (eb_out0 hn hb) (br_t hb h)
theorem ey_in0 {post : Int32 → Prop} {n j : Nat} (hn : n < 2 ^ 31) (hj : j < n) (h : post 0) : wpY_badInst post (nI n, vc, lm, mk, os, yf, ya, ye, yr, yd, kf, ka, ke, kr, kd) (nI j) := by
  show (nI j < 0 → post 1) ∧ (¬ nI j < 0 → ((nI j < nI n → post 0) ∧ (¬ nI j < nI n → post 1)))
  exact br_f (nI_pos (by omega)) (br_t (nI_lt hj hn) h)
theorem ey_in1 {post : Int32 → Prop} {n : Nat} {p : Int32} (hn : n < 2 ^ 31) (hb : eb_out n p) (h : post 1) : wpY_badInst post (nI n, vc, lm, mk, os, yf, ya, ye, yr, yd, kf, ka, ke, kr, kd) p := by
  show (p < 0 → post 1) ∧ (¬ p < 0 → ((p < nI n → post 0) ∧ (¬ p < nI n → post 1)))
  rcases hb with hb | hb
  · exact br_t hb h
  · exact br_f (eb_out0 hn hb) (br_f (Int32.not_lt.mpr hb) h)
theorem ex_vl1 {post : Int32 → Prop} {n j : Nat} (hn : n < 2 ^ 31) (hj : j < n) (h : post 1) : wpX_isValue post (ic, nI n, lm, fm, fc, ss, fl, pl, pc, hs, ev, rv, dv, ov) (nI j) := by
  show (nI j < 0 → post 0) ∧ (¬ nI j < 0 → ((nI n ≤ nI j → post 0) ∧ (¬ nI n ≤ nI j → post 1)))
  exact br_f (nI_pos (by omega)) (br_f (nI_ge hj hn) h)
theorem ex_vl0 {post : Int32 → Prop} {n : Nat} {p : Int32} (hn : n < 2 ^ 31) (hb : eb_out n p) (h : post 0) : wpX_isValue post (ic, nI n, lm, fm, fc, ss, fl, pl, pc, hs, ev, rv, dv, ov) p := by
  show (p < 0 → post 0) ∧ (¬ p < 0 → ((nI n ≤ p → post 0) ∧ (¬ nI n ≤ p → post 1)))
  rcases hb with hb | hb
  · exact br_t hb h
  · exact br_f (eb_out0 hn hb) (br_t hb h)
theorem ey_vl0 {post : Int32 → Prop} {n j : Nat} (hn : n < 2 ^ 31) (hj : j < n) (h : post 0) : wpY_badValue post (ic, nI n, lm, mk, os, yf, ya, ye, yr, yd, kf, ka, ke, kr, kd) (nI j) := by
  show (nI j < 0 → post 1) ∧ (¬ nI j < 0 → ((nI j < nI n → post 0) ∧ (¬ nI j < nI n → post 1)))
  exact br_f (nI_pos (by omega)) (br_t (nI_lt hj hn) h)
theorem ey_vl1 {post : Int32 → Prop} {n : Nat} {p : Int32} (hn : n < 2 ^ 31) (hb : eb_out n p) (h : post 1) : wpY_badValue post (ic, nI n, lm, mk, os, yf, ya, ye, yr, yd, kf, ka, ke, kr, kd) p := by
  show (p < 0 → post 1) ∧ (¬ p < 0 → ((p < nI n → post 0) ∧ (¬ p < nI n → post 1)))
  rcases hb with hb | hb
  · exact br_t hb h
  · exact br_f (eb_out0 hn hb) (br_f (Int32.not_lt.mpr hb) h)
theorem ex_nd1 {post : Int32 → Prop} {j : Nat} (hj : j < 7) (h : post 1) : wpX_isNode post (ic, vc, lm, fm, fc, ss, fl, pl, pc, hs, ev, rv, dv, ov) (nI j) := by
  show (nI j < 0 → post 0) ∧ (¬ nI j < 0 → ((7 ≤ nI j → post 0) ∧ (¬ 7 ≤ nI j → post 1)))
  exact br_f (nI_pos (by omega)) (br_f (nI_ge (b := 7) hj (by decide)) h)
theorem ex_nd0 {post : Int32 → Prop} {p : Int32} (hb : eb_out 7 p) (h : post 0) : wpX_isNode post (ic, vc, lm, fm, fc, ss, fl, pl, pc, hs, ev, rv, dv, ov) p := by
  show (p < 0 → post 0) ∧ (¬ p < 0 → ((7 ≤ p → post 0) ∧ (¬ 7 ≤ p → post 1)))
  rcases hb with hb | hb
  · exact br_t hb h
  · exact br_f (eb_out0 (n := 7) (by decide) hb) (br_t hb h)
theorem ey_nd0 {post : Int32 → Prop} {j : Nat} (hj : j < 7) (h : post 0) : wpY_badNode post (ic, vc, lm, mk, os, yf, ya, ye, yr, yd, kf, ka, ke, kr, kd) (nI j) := by
  show (nI j < 0 → post 1) ∧ (¬ nI j < 0 → ((nI j ≤ 6 → post 0) ∧ (¬ nI j ≤ 6 → post 1)))
  exact br_f (nI_pos (by omega)) (br_t (nI_le (b := 6) (by omega) (by decide)) h)
theorem ey_nd1 {post : Int32 → Prop} {p : Int32} (hb : eb_out 7 p) (h : post 1) : wpY_badNode post (ic, vc, lm, mk, os, yf, ya, ye, yr, yd, kf, ka, ke, kr, kd) p := by
  show (p < 0 → post 1) ∧ (¬ p < 0 → ((p ≤ 6 → post 0) ∧ (¬ p ≤ 6 → post 1)))
  rcases hb with hb | hb
  · exact br_t hb h
  · refine br_f (eb_out0 (n := 7) (by decide) hb) (br_f (fun z => ?_) h)
    exact absurd (Int32.le_trans hb z) (by decide)
def eb_outK (p : Int32) : Prop := ¬ p = 0 ∧ ¬ p = 1 ∧ ¬ p = 2
theorem eb_splitK (p : Int32) : eb_outK p ∨ ∃ k, k < 3 ∧ p = nI k := by
  by_cases h0 : p = 0
  · exact Or.inr ⟨0, by omega, h0⟩
  · by_cases h1 : p = 1
    · exact Or.inr ⟨1, by omega, h1⟩
    · by_cases h2 : p = 2
      · exact Or.inr ⟨2, by omega, h2⟩
      · exact Or.inl ⟨h0, h1, h2⟩
theorem ex_kd0 {post : Int32 → Prop} {p : Int32} (hb : eb_outK p) (h : post 0) : wpX_isKind post (ic, vc, lm, fm, fc, ss, fl, pl, pc, hs, ev, rv, dv, ov) p := by
  show (p = 0 → post 1) ∧ (¬ p = 0 → ((p = 1 → post 1) ∧ (¬ p = 1 → ((p = 2 → post 1) ∧ (¬ p = 2 → post 0)))))
  exact br_f hb.1 (br_f hb.2.1 (br_f hb.2.2 h))
theorem ey_kd1 {post : Int32 → Prop} {p : Int32} (hb : eb_outK p) (h : post 1) : wpY_badKind post (ic, vc, lm, mk, os, yf, ya, ye, yr, yd, kf, ka, ke, kr, kd) p := by
  show (p = 0 → post 0) ∧ (¬ p = 0 → ((p = 1 → post 0) ∧ (¬ p = 1 → ((p = 2 → post 0) ∧ (¬ p = 2 → post 1)))))
  exact br_f hb.1 (br_f hb.2.1 (br_f hb.2.2 h))
theorem ex_kd1 {post : Int32 → Prop} {k : Nat} (hk : k < 3) (h : post 1) : wpX_isKind post (ic, vc, lm, fm, fc, ss, fl, pl, pc, hs, ev, rv, dv, ov) (nI k) := by
  show (nI k = 0 → post 1) ∧ (¬ nI k = 0 → ((nI k = 1 → post 1) ∧ (¬ nI k = 1 → ((nI k = 2 → post 1) ∧ (¬ nI k = 2 → post 0)))))
  rcases (by omega : k = 0 ∨ k = 1 ∨ k = 2) with rfl | rfl | rfl
  · exact br_t rfl h
  · exact br_f (by decide) (br_t rfl h)
  · exact br_f (by decide) (br_f (by decide) (br_t rfl h))
theorem ey_kd0 {post : Int32 → Prop} {k : Nat} (hk : k < 3) (h : post 0) : wpY_badKind post (ic, vc, lm, mk, os, yf, ya, ye, yr, yd, kf, ka, ke, kr, kd) (nI k) := by
  show (nI k = 0 → post 0) ∧ (¬ nI k = 0 → ((nI k = 1 → post 0) ∧ (¬ nI k = 1 → ((nI k = 2 → post 0) ∧ (¬ nI k = 2 → post 1)))))
  rcases (by omega : k = 0 ∨ k = 1 ∨ k = 2) with rfl | rfl | rfl
  · exact br_t rfl h
  · exact br_f (by decide) (br_t rfl h)
  · exact br_f (by decide) (br_f (by decide) (br_t rfl h))
end
/-! ===== deliver and drain in lockstep ===== -/
section
variable {vc lm fm fc ss : Int32} {ov mk os kf ka ke kr kd : Nat → Int32}
variable {fl0 pl0 pc0 hs0 ev0 rv0 dv0 yf0 ya0 ye0 yr0 yd0 : Nat → Int32}
theorem el_run {s i k n : Nat} {ic frm to : Int32} (hic : ic = nI n) (hn : n ≤ 4) (hin : i < n) (h5 : s < 5) (hk : k < 3) (hm : eb_fm fm mk) (hsn : eb_snd s i ss) {fl pl pc hs ev rv dv yf ya ye yr yd : Nat → Int32} (I : eb_I s i fl0 pl0 pc0 hs0 ev0 rv0 dv0 yf0 ya0 ye0 yr0 yd0 fl pl pc hs ev rv dv yf ya ye yr yd) :
    ∃ (e : Int32) (fl' pl' pc' hs' ev' rv' dv' yf' ya' ye' yr' yd' : Nat → Int32), eb_I s i fl0 pl0 pc0 hs0 ev0 rv0 dv0 yf0 ya0 ye0 yr0 yd0 fl' pl' pc' hs' ev' rv' dv' yf' ya' ye' yr' yd' ∧
      (∀ (post : Int32 → SX → Prop), post e (ic, vc, lm, fm, fc, ss, fl', pl', pc', hs', ev', rv', dv', ov) → wpX_runPass post (ic, vc, lm, fm, fc, ss, fl, pl, pc, hs, ev, rv, dv, ov) (nI s) (nI k) frm to) ∧
      (∀ (post : Int32 → SY → Prop), post e (ic, vc, lm, mk, os, yf', ya', ye', yr', yd', kf, ka, ke, kr, kd) → wpY_deliver post (ic, vc, lm, mk, os, yf, ya, ye, yr, yd, kf, ka, ke, kr, kd) (nI i) (nI k) frm to) := by
  obtain ⟨e, fl', pl', pc', hs', ev', rv', dv', yf', ya', ye', yr', yd', I', hX, hY⟩ := el_pass (ic := ic) (vc := vc) (lm := lm) (fc := fc) (ov := ov) (os := os) (kf := kf) (ka := ka) (ke := ke) (kr := kr) (kd := kd) (frm := frm) (to := to) h5 (by omega : i < 4) hk hm hsn 7 0 rfl fl pl pc hs ev rv dv yf ya ye yr yd I
  subst hic
  refine ⟨e, fl', pl', pc', hs', ev', rv', dv', yf', ya', ye', yr', yd', I', fun post h => ?_, fun post h => ?_⟩
  · unfold wpX_runPass
    dsimp only
    exact ⟨8, hX post 0 (by rw [Int32.zero_add]; exact h)⟩
  · unfold wpY_deliver
    dsimp only
    exact ey_in0 (by omega) hin (br_t rfl (ey_kd0 hk (br_t rfl ⟨8, hY post 0 (by rw [Int32.zero_add]; exact h)⟩)))
theorem ey_qpass {post : Int32 → SY → Prop} {i k : Nat} {ic frm to x5 : Int32} {yf ya ye yr yd : Nat → Int32} (h4 : i < 4) (hk : k < 3) (hq : ∀ q, q < 147 → yf (i * 147 + q) = -1) (h : post x5 (ic, vc, lm, mk, os, yf, ya, ye, yr, yd, kf, ka, ke, kr, kd)) :
    ∀ d f, f + d = 7 → wY_deliver_25 post (nI i) (nI k) frm to (d + 1) x5 (nI f) ic vc lm mk os yf ya ye yr yd kf ka ke kr kd := by
  intro d
  induction d with
  | zero =>
    intro f hf
    obtain rfl : f = 7 := by omega
    exact br_t (by decide) h
  | succ d ih =>
    intro f hf
    exact br_f (nI_ge (b := 7) (by omega) (by decide)) ⟨8, ey_qrow h4 hk (by omega) (fun t ht _ => hq _ (by omega)) (ih (f + 1) (by omega)) 7 0 rfl⟩
theorem ey_qrun {post : Int32 → SY → Prop} {i k n : Nat} {ic frm to : Int32} {yf ya ye yr yd : Nat → Int32} (hic : ic = nI n) (hn : n ≤ 4) (hin : i < n) (hk : k < 3) (hq : ∀ q, q < 147 → yf (i * 147 + q) = -1) (h : post 0 (ic, vc, lm, mk, os, yf, ya, ye, yr, yd, kf, ka, ke, kr, kd)) : wpY_deliver post (ic, vc, lm, mk, os, yf, ya, ye, yr, yd, kf, ka, ke, kr, kd) (nI i) (nI k) frm to := by
  subst hic
  unfold wpY_deliver
  dsimp only
  exact ey_in0 (by omega) hin (br_t rfl (ey_kd0 hk (br_t rfl ⟨8, ey_qpass (by omega) hk hq h 7 0 rfl⟩)))
theorem ey_qdr {post : Int32 → SY → Prop} {i n : Nat} {ic x2 : Int32} {yf ya ye yr yd : Nat → Int32} (hic : ic = nI n) (hn : n ≤ 4) (hin : i < n) (hq : ∀ q, q < 147 → yf (i * 147 + q) = -1) (h : post x2 (ic, vc, lm, mk, os, yf, ya, ye, yr, yd, kf, ka, ke, kr, kd)) :
    ∀ d p, p + d = 8 → wY_drain_37 post (nI i) (d + 1) x2 (nI p) ic vc lm mk os yf ya ye yr yd kf ka ke kr kd := by
  intro d
  induction d with
  | zero =>
    intro p hp
    obtain rfl : p = 8 := by omega
    exact br_t (by decide) h
  | succ d ih =>
    intro p hp
    refine br_f (nI_ge (b := 8) (by omega) (by decide)) (ey_qrun (k := 2) hic hn hin (by omega) hq ?_)
    exact nm_r (e' := x2) (Int32.add_zero x2) (nm_r (nI_1 p) (ih (p + 1) (by omega)))
theorem el_dr {s i n : Nat} {ic : Int32} (hic : ic = nI n) (hn : n ≤ 4) (hin : i < n) (h5 : s < 5) (hm : eb_fm fm mk) (hsn : eb_snd s i ss) :
    ∀ d p, p + d = 8 → ∀ fl pl pc hs ev rv dv yf ya ye yr yd : Nat → Int32, eb_I s i fl0 pl0 pc0 hs0 ev0 rv0 dv0 yf0 ya0 ye0 yr0 yd0 fl pl pc hs ev rv dv yf ya ye yr yd → ∃ (e : Int32) (fl' pl' pc' hs' ev' rv' dv' yf' ya' ye' yr' yd' : Nat → Int32), eb_I s i fl0 pl0 pc0 hs0 ev0 rv0 dv0 yf0 ya0 ye0 yr0 yd0 fl' pl' pc' hs' ev' rv' dv' yf' ya' ye' yr' yd' ∧
      (∀ (post : Int32 → SX → Prop) (x2 : Int32), post (x2 + e) (ic, vc, lm, fm, fc, ss, fl', pl', pc', hs', ev', rv', dv', ov) → wX_drainSlot_26 post (nI s) (d + 1) x2 (nI p) ic vc lm fm fc ss fl pl pc hs ev rv dv ov) ∧
      (∀ (post : Int32 → SY → Prop) (x2 : Int32), post (x2 + e) (ic, vc, lm, mk, os, yf', ya', ye', yr', yd', kf, ka, ke, kr, kd) → wY_drain_37 post (nI i) (d + 1) x2 (nI p) ic vc lm mk os yf ya ye yr yd kf ka ke kr kd) := by
  intro d
  induction d with
  | zero =>
    intro p hp fl pl pc hs ev rv dv yf ya ye yr yd I
    obtain rfl : p = 8 := by omega
    refine ⟨0, fl, pl, pc, hs, ev, rv, dv, yf, ya, ye, yr, yd, I, fun post x2 h => ?_, fun post x2 h => ?_⟩
    · rw [Int32.add_zero] at h
      exact br_t (by decide) h
    · rw [Int32.add_zero] at h
      exact br_t (by decide) h
  | succ d ih =>
    intro p hp fl pl pc hs ev rv dv yf ya ye yr yd I
    have n8 : ¬ (8 : Int32) ≤ nI p := nI_ge (b := 8) (by omega) (by decide)
    have i2 : vp_in (nI s) 5 := vp_in_nI h5 (by decide)
    have c2 : (nI s).toNatClampNeg = s := nI_clamp (by omega)
    have hpc := I.1.1.2.2
    have hle := eb_c_le (fun q => eb_f (yf (i * 147 + q))) 147
    by_cases hz : eb_c (fun q => eb_f (yf (i * 147 + q))) 147 = 0
    · have hq : ∀ q, q < 147 → yf (i * 147 + q) = -1 := fun q h => eb_fF (eb_c_z 147 hz q h)
      refine ⟨0, fl, pl, pc, hs, ev, rv, dv, yf, ya, ye, yr, yd, I, fun post x2 h => ?_, fun post x2 h => ?_⟩
      · rw [Int32.add_zero] at h
        refine br_f n8 ⟨i2, br_t ?_ h⟩
        rw [c2, hpc, hz]
        decide
      · rw [Int32.add_zero] at h
        exact ey_qdr hic hn hin hq h (d + 1) p hp
    · obtain ⟨e1, fl1, pl1, pc1, hs1, ev1, rv1, dv1, yf1, ya1, ye1, yr1, yd1, I1, hX1, hY1⟩ := el_run (vc := vc) (lm := lm) (fc := fc) (ov := ov) (os := os) (kf := kf) (ka := ka) (ke := ke) (kr := kr) (kd := kd) (frm := 127) (to := 127) (k := 2) hic hn hin h5 (by omega) hm hsn I
      obtain ⟨e, fl', pl', pc', hs', ev', rv', dv', yf', ya', ye', yr', yd', I', hX, hY⟩ := ih (p + 1) (by omega) fl1 pl1 pc1 hs1 ev1 rv1 dv1 yf1 ya1 ye1 yr1 yd1 I1
      refine ⟨e1 + e, fl', pl', pc', hs', ev', rv', dv', yf', ya', ye', yr', yd', I', fun post x2 h => ?_, fun post x2 h => ?_⟩
      · rw [← Int32.add_assoc] at h
        refine br_f n8 ⟨i2, br_f ?_ (hX1 _ ?_)⟩
        · rw [c2, hpc]
          exact nI_nle (by omega) (by omega)
        · exact nm_e (nm_r (nI_1 p) (hX post (x2 + e1) h))
      · rw [← Int32.add_assoc] at h
        refine br_f n8 (hY1 _ ?_)
        exact nm_e (nm_r (nI_1 p) (hY post (x2 + e1) h))
theorem el_drain {s i n : Nat} {ic : Int32} (hic : ic = nI n) (hn : n ≤ 4) (hin : i < n) (h5 : s < 5) (hm : eb_fm fm mk) (hsn : eb_snd s i ss) {fl pl pc hs ev rv dv yf ya ye yr yd : Nat → Int32} (I : eb_I s i fl0 pl0 pc0 hs0 ev0 rv0 dv0 yf0 ya0 ye0 yr0 yd0 fl pl pc hs ev rv dv yf ya ye yr yd) :
    ∃ (e : Int32) (fl' pl' pc' hs' ev' rv' dv' yf' ya' ye' yr' yd' : Nat → Int32), eb_I s i fl0 pl0 pc0 hs0 ev0 rv0 dv0 yf0 ya0 ye0 yr0 yd0 fl' pl' pc' hs' ev' rv' dv' yf' ya' ye' yr' yd' ∧
      (∀ (post : Int32 → SX → Prop), post e (ic, vc, lm, fm, fc, ss, fl', pl', pc', hs', ev', rv', dv', ov) → wpX_drainSlot post (ic, vc, lm, fm, fc, ss, fl, pl, pc, hs, ev, rv, dv, ov) (nI s)) ∧
      (∀ (post : Int32 → SY → Prop), post e (ic, vc, lm, mk, os, yf', ya', ye', yr', yd', kf, ka, ke, kr, kd) → wpY_drain post (ic, vc, lm, mk, os, yf, ya, ye, yr, yd, kf, ka, ke, kr, kd) (nI i)) := by
  obtain ⟨e1, fl1, pl1, pc1, hs1, ev1, rv1, dv1, yf1, ya1, ye1, yr1, yd1, I1, hX1, hY1⟩ := el_run (vc := vc) (lm := lm) (fc := fc) (ov := ov) (os := os) (kf := kf) (ka := ka) (ke := ke) (kr := kr) (kd := kd) (frm := 127) (to := 127) (k := 0) hic hn hin h5 (by omega) hm hsn I
  obtain ⟨e2, fl2, pl2, pc2, hs2, ev2, rv2, dv2, yf2, ya2, ye2, yr2, yd2, I2, hX2, hY2⟩ := el_run (vc := vc) (lm := lm) (fc := fc) (ov := ov) (os := os) (kf := kf) (ka := ka) (ke := ke) (kr := kr) (kd := kd) (frm := 127) (to := 127) (k := 1) hic hn hin h5 (by omega) hm hsn I1
  obtain ⟨e, fl', pl', pc', hs', ev', rv', dv', yf', ya', ye', yr', yd', I', hX, hY⟩ := el_dr (vc := vc) (lm := lm) (fc := fc) (ov := ov) (os := os) (kf := kf) (ka := ka) (ke := ke) (kr := kr) (kd := kd) hic hn hin h5 hm hsn 8 0 rfl fl2 pl2 pc2 hs2 ev2 rv2 dv2 yf2 ya2 ye2 yr2 yd2 I2
  refine ⟨e1 + e2 + e, fl', pl', pc', hs', ev', rv', dv', yf', ya', ye', yr', yd', I', fun post h => ?_, fun post h => ?_⟩
  · unfold wpX_drainSlot
    dsimp only
    refine hX1 _ ?_
    refine hX2 _ ?_
    exact nm_e ⟨9, hX post (e1 + e2) h⟩
  · subst hic
    unfold wpY_drain
    dsimp only
    refine ey_in0 (by omega) hin (br_t rfl ?_)
    refine hY1 _ ?_
    refine hY2 _ ?_
    exact nm_e ⟨9, hY post (e1 + e2) h⟩
end
end
section
/-! ===== the slots' relation depends on the slots alone ===== -/
theorem eb_QF_cg {s i s' i' : Nat} {fl pl pc yf fl' pl' pc' yf' : Nat → Int32} (h : eb_QF s i fl pl pc yf) (h1 : ∀ r, r < 21 → fl' (s' * 21 + r) = fl (s * 21 + r)) (h2 : ∀ q, q < 147 → pl' (s' * 147 + q) = pl (s * 147 + q)) (h3 : pc' s' = pc s) (h4 : ∀ q, q < 147 → yf' (i' * 147 + q) = yf (i * 147 + q)) : eb_QF s' i' fl' pl' pc' yf' := by
  obtain ⟨a, b, c⟩ := h
  refine ⟨fun r t hr ht => ?_, fun q hq hn => ?_, ?_⟩
  · rw [h1 r hr, h4 _ (by omega)]
    exact a r t hr ht
  · rw [h4 q hq] at hn ⊢
    rw [h2 q hq]
    exact b q hq hn
  · rw [h3, c]
    congr 1
    exact eb_c_cg 147 (fun j hj => by rw [h4 j hj])
theorem eb_QH_cg {s i s' i' : Nat} {hs ya hs' ya' : Nat → Int32} (h : eb_QH s i hs ya) (h1 : ∀ r, r < 56 → hs' (s' * 56 + r) = hs (s * 56 + r)) (h2 : ∀ q, q < 392 → ya' (i' * 392 + q) = ya (i * 392 + q)) : eb_QH s' i' hs' ya' := by
  obtain ⟨a, b⟩ := h
  refine ⟨fun r hr => ?_, fun j hj => ?_⟩
  · rw [h1 r hr, a r hr]
    exact eb_m_cg 7 (fun f hf => by rw [h2 _ (by omega)])
  · rw [h2 j hj]
    exact b j hj
theorem eb_QE_cg {s i s' i' : Nat} {e y e' y' : Nat → Int32} (h : eb_QE s i e y) (h1 : ∀ n, n < 7 → e' (s' * 7 + n) = e (s * 7 + n)) (h2 : ∀ n, n < 7 → y' (i' * 7 + n) = y (i * 7 + n)) : eb_QE s' i' e' y' := by
  intro n hn
  rw [h1 n hn, h2 n hn]
  exact h n hn
section
variable {fl pl pc hs ev rv dv yf ya ye yr yd fl0 pl0 pc0 hs0 ev0 rv0 dv0 yf0 ya0 ye0 yr0 yd0 fl' pl' pc' hs' ev' rv' dv' yf' ya' ye' yr' yd' : Nat → Int32}
def eb_Q (s i : Nat) (fl pl pc hs ev rv dv yf ya ye yr yd : Nat → Int32) : Prop := eb_QF s i fl pl pc yf ∧ eb_QH s i hs ya ∧ eb_QE s i ev ye ∧ eb_QE s i rv yr ∧ eb_QE s i dv yd
theorem eb_Q_I {s i : Nat} (h : eb_Q s i fl pl pc hs ev rv dv yf ya ye yr yd) : eb_I s i fl pl pc hs ev rv dv yf ya ye yr yd fl pl pc hs ev rv dv yf ya ye yr yd := by
  obtain ⟨a, b, c, d, e⟩ := h
  exact ⟨⟨a, eb_fr_r _ _ _, eb_fr_r _ _ _, eb_fr_r _ _ _, eb_fr_r _ _ _⟩, ⟨b, eb_fr_r _ _ _, eb_fr_r _ _ _⟩, ⟨c, eb_fr_r _ _ _, eb_fr_r _ _ _⟩, ⟨d, eb_fr_r _ _ _, eb_fr_r _ _ _⟩, ⟨e, eb_fr_r _ _ _, eb_fr_r _ _ _⟩⟩
theorem eb_I_Q {s i : Nat} (h : eb_I s i fl0 pl0 pc0 hs0 ev0 rv0 dv0 yf0 ya0 ye0 yr0 yd0 fl pl pc hs ev rv dv yf ya ye yr yd) : eb_Q s i fl pl pc hs ev rv dv yf ya ye yr yd := ⟨h.1.1, h.2.1.1, h.2.2.1.1, h.2.2.2.1.1, h.2.2.2.2.1⟩
/-- the other slots are kept: X's and Y's block alike -/
theorem eb_keep {s : Nat} (hQ : ∀ j, j < 4 → eb_Q j j fl0 pl0 pc0 hs0 ev0 rv0 dv0 yf0 ya0 ye0 yr0 yd0) (I : eb_I s s fl0 pl0 pc0 hs0 ev0 rv0 dv0 yf0 ya0 ye0 yr0 yd0 fl pl pc hs ev rv dv yf ya ye yr yd) : ∀ j, j < 4 → eb_Q j j fl pl pc hs ev rv dv yf ya ye yr yd := by
  intro j hj
  by_cases e : j = s
  · subst e
    exact eb_I_Q I
  · obtain ⟨⟨_, a2, a3, a4, a5⟩, ⟨_, b2, b3⟩, ⟨_, c2, c3⟩, ⟨_, d2, d3⟩, ⟨_, e2, e3⟩⟩ := I
    obtain ⟨q1, q2, q3, q4, q5⟩ := hQ j hj
    refine ⟨eb_QF_cg q1 (fun r hr => a2 _ (by omega)) (fun q hq => a3 _ (by omega)) (a4 _ (by rw [Nat.div_one]; exact e)) (fun q hq => a5 _ (by omega)), eb_QH_cg q2 (fun r hr => b2 _ (by omega)) (fun q hq => b3 _ (by omega)), eb_QE_cg q3 (fun r hr => c2 _ (by omega)) (fun q hq => c3 _ (by omega)), eb_QE_cg q4 (fun r hr => d2 _ (by omega)) (fun q hq => d3 _ (by omega)), eb_QE_cg q5 (fun r hr => e2 _ (by omega)) (fun q hq => e3 _ (by omega))⟩
end
/-! ===== the relation ===== -/
def eb_R (ic vc lm fm fc : Int32) (fl pl pc hs ev rv dv ov : Nat → Int32) (ic' vc' lm' : Int32) (mk os yf ya ye yr yd : Nat → Int32) : Prop :=
  ∃ n m l : Nat, (1 ≤ n ∧ n ≤ 4 ∧ m ≤ 4 ∧ l ≤ 2) ∧ (ic = nI n ∧ vc = nI m ∧ lm = nI l) ∧ (ic' = nI n ∧ vc' = nI m ∧ lm' = nI l) ∧
    eb_fm fm mk ∧ fc = nI (eb_c (fun t => eb_g (mk t)) 7) ∧ eb_c (fun t => eb_g (mk t)) 7 ≤ l ∧ (∀ j, j < 4 → ov j = os j) ∧ (∀ j, j < 4 → eb_Q j j fl pl pc hs ev rv dv yf ya ye yr yd)
def i_Rel (k : Nat) (u : SX) (v : SY) : Prop := match u, v with
  | (ic, vc, lm, fm, fc, ss, fl, pl, pc, hs, ev, rv, dv, ov), (ic', vc', lm', mq, os, yf, ya, ye, yr, yd, kf, ka, ke, kr, kd) => eb_R ic vc lm fm fc fl pl pc hs ev rv dv ov ic' vc' lm' mq os yf ya ye yr yd
theorem i_up {k : Nat} {u : SX} {v : SY} (h : i_Rel k u v) : i_Rel (k + 5) u v := h
/-- to take a relation apart -/
theorem eb_el {P : SX → SY → Prop} (h : ∀ (n m l : Nat) (fm fc ss : Int32) (fl pl pc hs ev rv dv ov mk os yf ya ye yr yd kf ka ke kr kd : Nat → Int32), (1 ≤ n ∧ n ≤ 4 ∧ m ≤ 4 ∧ l ≤ 2) → eb_fm fm mk → fc = nI (eb_c (fun t => eb_g (mk t)) 7) → eb_c (fun t => eb_g (mk t)) 7 ≤ l → (∀ j, j < 4 → ov j = os j) → (∀ j, j < 4 → eb_Q j j fl pl pc hs ev rv dv yf ya ye yr yd) → P (nI n, nI m, nI l, fm, fc, ss, fl, pl, pc, hs, ev, rv, dv, ov) (nI n, nI m, nI l, mk, os, yf, ya, ye, yr, yd, kf, ka, ke, kr, kd))
    {k : Nat} {u : SX} {v : SY} (I : i_Rel k u v) : P u v := by
  obtain ⟨ic, vc, lm, fm, fc, ss, fl, pl, pc, hs, ev, rv, dv, ov⟩ := u
  obtain ⟨ic', vc', lm', mk, os, yf, ya, ye, yr, yd, kf, ka, ke, kr, kd⟩ := v
  obtain ⟨n, m, l, h1, ⟨rfl, rfl, rfl⟩, ⟨rfl, rfl, rfl⟩, h2, h3, h4, h5, h6⟩ := I
  exact h n m l fm fc ss fl pl pc hs ev rv dv ov mk os yf ya ye yr yd kf ka ke kr kd h1 h2 h3 h4 h5 h6
end
section
/-! ===== Y's counting loops ===== -/
section
variable {ic vc lm : Int32} {mk os yf ya ye yr yd kf ka ke kr kd : Nat → Int32}
theorem ey_pn15 {post : Int32 → Prop} {i : Nat} {p : Nat → Bool} (h4 : i < 4) (hp : p = fun q => decide (q / 147 = i) && eb_f (yf q)) (h : post (nI (eb_c p 588))) :
    ∀ d t, t + d = 588 → wY_pending_15 post (nI i) ic vc lm mk os yf ya ye yr yd kf ka ke kr kd (d + 1) (nI (eb_c p t)) (nI t) := by
  intro d
  induction d with
  | zero =>
    intro t ht
    obtain rfl : t = 588 := by omega
    exact br_t (by decide) h
  | succ d ih =>
    intro t ht
    have c1 : (nI t).toNatClampNeg = t := nI_clamp (by omega)
    have e : nI t / 147 = nI (t / 147) := pk_div (d := 147) (by omega) (by decide) (by decide)
    have skip : p t = false → wY_pending_15 post (nI i) ic vc lm mk os yf ya ye yr yd kf ka ke kr kd (d + 1) (nI (eb_c p t)) (nI (t + 1)) := by
      intro hz
      rw [← eb_c_f hz]
      exact ih (t + 1) (by omega)
    refine br_f (nI_ge (b := 588) (by omega) (by decide)) ⟨by decide, ?_⟩
    by_cases hd : t / 147 = i
    · refine br_t (by rw [e, hd]) ⟨vp_in_nI (by omega) (by decide), ?_⟩
      by_cases hy : yf t = -1
      · exact br_t (by rw [c1]; exact hy) (nm_r (nI_1 t) (skip (by rw [hp]; show (decide (t / 147 = i) && eb_f (yf t)) = false; rw [eb_ff hy, Bool.and_false])))
      · have hz : p t = true := by
          rw [hp]
          show (decide (t / 147 = i) && eb_f (yf t)) = true
          rw [eb_ft hy, decide_eq_true hd]
          rfl
        exact br_f (by rw [c1]; exact hy) (nm_r (e' := nI (eb_c p (t + 1))) (by rw [eb_c_t hz]; exact nI_1 _) (nm_r (nI_1 t) (ih (t + 1) (by omega))))
    · refine br_f (fun z => hd ((nI_eq (by omega) (by omega)).mp (e.symm.trans z))) (nm_r (nI_1 t) (skip ?_))
      rw [hp]
      show (decide (t / 147 = i) && eb_f (yf t)) = false
      rw [decide_eq_false hd, Bool.false_and]
theorem eb_pn {i : Nat} (h4 : i < 4) : eb_c (fun q => decide (q / 147 = i) && eb_f (yf q)) 588 = eb_c (fun q => eb_f (yf (i * 147 + q))) 147 := by
  rw [eb_c_seg (i * 147) 147 588 (by omega) (fun j hj => by rw [decide_eq_false (by omega), Bool.false_and]) (fun j hj _ => by rw [decide_eq_false (by omega), Bool.false_and])]
  apply eb_c_cg
  intro j hj
  rw [decide_eq_true (by omega : (i * 147 + j) / 147 = i), Bool.true_and]
theorem ey_hd47 {post : Int32 → Prop} {i k n v : Nat} {p : Nat → Bool} (h4 : i < 4) (hk : k < 2) (hn : n < 7) (hv : v < 4) (hp : p = fun f => eb_g (ya (i * 392 + (((k * 7 + n) * 4 + v) * 7 + f)))) (h : post (eb_m p 7)) :
    ∀ d t, t + d = 7 → wY_heard_47 post (nI i) (nI (k + 1)) (nI n) (nI v) ic vc lm mk os yf ya ye yr yd kf ka ke kr kd (d + 1) (eb_m p t) (nI t) := by
  intro d
  induction d with
  | zero =>
    intro t ht
    obtain rfl : t = 7 := by omega
    exact br_t (by decide) h
  | succ d ih =>
    intro t ht
    have c1 : (nI (i * 392 + (((k * 7 + n) * 4 + v) * 7 + t))).toNatClampNeg = i * 392 + (((k * 7 + n) * 4 + v) * 7 + t) := nI_clamp (by omega)
    refine br_f (nI_ge (b := 7) (by omega) (by decide)) (ey_fac ⟨vp_in_nI (by omega) (by decide), ?_⟩)
    by_cases hz : ya (i * 392 + (((k * 7 + n) * 4 + v) * 7 + t)) = 0
    · have e : p t = false := by rw [hp]; exact eb_gf hz
      refine br_t (by rw [c1]; exact hz) (nm_r (nI_1 t) ?_)
      rw [eb_m_f e]
      exact ih (t + 1) (by omega)
    · have e : p t = true := by rw [hp]; exact eb_gt hz
      exact br_f (by rw [c1]; exact hz) (nm_r (eb_m_t e) (nm_r (nI_1 t) (ih (t + 1) (by omega))))
theorem ey_fy4 {post : Int32 → Prop} {p : Nat → Bool} (hp : p = fun t => eb_g (mk t)) (h : post (eb_m p 7)) :
    ∀ d t, t + d = 7 → wY_faulty_4 post ic vc lm mk os yf ya ye yr yd kf ka ke kr kd (d + 1) (eb_m p t) (nI t) := by
  intro d
  induction d with
  | zero =>
    intro t ht
    obtain rfl : t = 7 := by omega
    exact br_t (by decide) h
  | succ d ih =>
    intro t ht
    have c1 : (nI t).toNatClampNeg = t := nI_clamp (by omega)
    refine br_f (nI_ge (b := 7) (by omega) (by decide)) ⟨vp_in_nI (by omega) (by decide), ?_⟩
    by_cases hz : mk t = 0
    · have e : p t = false := by rw [hp]; exact eb_gf hz
      refine br_t (by rw [c1]; exact hz) (nm_r (nI_1 t) ?_)
      rw [eb_m_f e]
      exact ih (t + 1) (by omega)
    · have e : p t = true := by rw [hp]; exact eb_gt hz
      exact br_f (by rw [c1]; exact hz) (nm_r (eb_m_t e) (nm_r (nI_1 t) (ih (t + 1) (by omega))))
end
theorem eb_mkR {k n m l : Nat} {fm fc ss : Int32} {fl pl pc hs ev rv dv ov mk os yf ya ye yr yd kf ka ke kr kd : Nat → Int32} (h1 : 1 ≤ n ∧ n ≤ 4 ∧ m ≤ 4 ∧ l ≤ 2) (h2 : eb_fm fm mk) (h3 : fc = nI (eb_c (fun t => eb_g (mk t)) 7)) (h4 : eb_c (fun t => eb_g (mk t)) 7 ≤ l) (h5 : ∀ j, j < 4 → ov j = os j) (h6 : ∀ j, j < 4 → eb_Q j j fl pl pc hs ev rv dv yf ya ye yr yd) : i_Rel k (nI n, nI m, nI l, fm, fc, ss, fl, pl, pc, hs, ev, rv, dv, ov) (nI n, nI m, nI l, mk, os, yf, ya, ye, yr, yd, kf, ka, ke, kr, kd) :=
  ⟨n, m, l, h1, ⟨rfl, rfl, rfl⟩, ⟨rfl, rfl, rfl⟩, h2, h3, h4, h5, h6⟩
/-! ===== the readers ===== -/
theorem i_vc_echoed {k : Nat} {u : SX} {v : SY} (I : i_Rel k u v) (hk : k + 5 ≤ 2563) (v1 : Int32) (v2 : Int32) : wpX_echoed (fun r => wpY_echoed (fun r' => r' = r ∧ i_Rel (k + 5) u v) v v1 v2) u v1 v2 := by
  refine eb_el (P := fun u v => wpX_echoed (fun r => wpY_echoed (fun r' => r' = r ∧ i_Rel (k + 5) u v) v v1 v2) u v1 v2) ?_ I
  intro n m l fm fc ss fl pl pc hs ev rv dv ov mk os yf ya ye yr yd kf ka ke kr kd hb hfm hfc hcl hov hQ
  have R := eb_mkR (k := k + 5) (ss := ss) (kf := kf) (ka := ka) (ke := ke) (kr := kr) (kd := kd) hb hfm hfc hcl hov hQ
  have hn : n < 2 ^ 31 := by omega
  unfold wpX_echoed wpY_echoed
  dsimp only
  rcases eb_split v1 hn with o | ⟨j, hj, rfl⟩
  · exact ex_in0 hn o (br_t rfl (ey_in1 hn o (br_f (by decide) ⟨rfl, R⟩)))
  · rcases eb_split v2 (n := 7) (by decide) with o | ⟨a, ha, rfl⟩
    · exact ex_in1 hn hj (br_f (by decide) (ex_nd0 o (br_t rfl (ey_in0 hn hj (br_t rfl (ey_nd1 o (br_f (by decide) ⟨rfl, R⟩)))))))
    · have c1 : ((nI j * 7) + nI a).toNatClampNeg = j * 7 + a := by rw [eb_p7, nI_clamp (by omega)]
      refine ex_in1 hn hj (br_f (by decide) (ex_nd1 ha (br_f (by decide) ⟨by rw [eb_p7]; exact vp_in_nI (by omega) (by decide), ?_⟩)))
      refine ey_in0 hn hj (br_t rfl (ey_nd0 ha (br_t rfl ⟨by rw [eb_p7]; exact vp_in_nI (by omega) (by decide), ?_, R⟩)))
      rw [c1]
      exact ((hQ j (by omega)).2.2.1 a ha).symm
theorem i_vc_readied {k : Nat} {u : SX} {v : SY} (I : i_Rel k u v) (hk : k + 5 ≤ 2563) (v1 : Int32) (v2 : Int32) : wpX_readied (fun r => wpY_readied (fun r' => r' = r ∧ i_Rel (k + 5) u v) v v1 v2) u v1 v2 := by
  refine eb_el (P := fun u v => wpX_readied (fun r => wpY_readied (fun r' => r' = r ∧ i_Rel (k + 5) u v) v v1 v2) u v1 v2) ?_ I
  intro n m l fm fc ss fl pl pc hs ev rv dv ov mk os yf ya ye yr yd kf ka ke kr kd hb hfm hfc hcl hov hQ
  have R := eb_mkR (k := k + 5) (ss := ss) (kf := kf) (ka := ka) (ke := ke) (kr := kr) (kd := kd) hb hfm hfc hcl hov hQ
  have hn : n < 2 ^ 31 := by omega
  unfold wpX_readied wpY_readied
  dsimp only
  rcases eb_split v1 hn with o | ⟨j, hj, rfl⟩
  · exact ex_in0 hn o (br_t rfl (ey_in1 hn o (br_f (by decide) ⟨rfl, R⟩)))
  · rcases eb_split v2 (n := 7) (by decide) with o | ⟨a, ha, rfl⟩
    · exact ex_in1 hn hj (br_f (by decide) (ex_nd0 o (br_t rfl (ey_in0 hn hj (br_t rfl (ey_nd1 o (br_f (by decide) ⟨rfl, R⟩)))))))
    · have c1 : ((nI j * 7) + nI a).toNatClampNeg = j * 7 + a := by rw [eb_p7, nI_clamp (by omega)]
      refine ex_in1 hn hj (br_f (by decide) (ex_nd1 ha (br_f (by decide) ⟨by rw [eb_p7]; exact vp_in_nI (by omega) (by decide), ?_⟩)))
      refine ey_in0 hn hj (br_t rfl (ey_nd0 ha (br_t rfl ⟨by rw [eb_p7]; exact vp_in_nI (by omega) (by decide), ?_, R⟩)))
      rw [c1]
      exact ((hQ j (by omega)).2.2.2.1 a ha).symm
theorem i_vc_delivered {k : Nat} {u : SX} {v : SY} (I : i_Rel k u v) (hk : k + 5 ≤ 2563) (v1 : Int32) (v2 : Int32) : wpX_delivered (fun r => wpY_delivered (fun r' => r' = r ∧ i_Rel (k + 5) u v) v v1 v2) u v1 v2 := by
  refine eb_el (P := fun u v => wpX_delivered (fun r => wpY_delivered (fun r' => r' = r ∧ i_Rel (k + 5) u v) v v1 v2) u v1 v2) ?_ I
  intro n m l fm fc ss fl pl pc hs ev rv dv ov mk os yf ya ye yr yd kf ka ke kr kd hb hfm hfc hcl hov hQ
  have R := eb_mkR (k := k + 5) (ss := ss) (kf := kf) (ka := ka) (ke := ke) (kr := kr) (kd := kd) hb hfm hfc hcl hov hQ
  have hn : n < 2 ^ 31 := by omega
  unfold wpX_delivered wpY_delivered
  dsimp only
  rcases eb_split v1 hn with o | ⟨j, hj, rfl⟩
  · exact ex_in0 hn o (br_t rfl (ey_in1 hn o (br_f (by decide) ⟨rfl, R⟩)))
  · rcases eb_split v2 (n := 7) (by decide) with o | ⟨a, ha, rfl⟩
    · exact ex_in1 hn hj (br_f (by decide) (ex_nd0 o (br_t rfl (ey_in0 hn hj (br_t rfl (ey_nd1 o (br_f (by decide) ⟨rfl, R⟩)))))))
    · have c1 : ((nI j * 7) + nI a).toNatClampNeg = j * 7 + a := by rw [eb_p7, nI_clamp (by omega)]
      refine ex_in1 hn hj (br_f (by decide) (ex_nd1 ha (br_f (by decide) ⟨by rw [eb_p7]; exact vp_in_nI (by omega) (by decide), ?_⟩)))
      refine ey_in0 hn hj (br_t rfl (ey_nd0 ha (br_t rfl ⟨by rw [eb_p7]; exact vp_in_nI (by omega) (by decide), ?_, R⟩)))
      rw [c1]
      exact ((hQ j (by omega)).2.2.2.2 a ha).symm
theorem i_vc_offered {k : Nat} {u : SX} {v : SY} (I : i_Rel k u v) (hk : k + 5 ≤ 2563) (v1 : Int32) : wpX_offered (fun r => wpY_offered (fun r' => r' = r ∧ i_Rel (k + 5) u v) v v1) u v1 := by
  refine eb_el (P := fun u v => wpX_offered (fun r => wpY_offered (fun r' => r' = r ∧ i_Rel (k + 5) u v) v v1) u v1) ?_ I
  intro n m l fm fc ss fl pl pc hs ev rv dv ov mk os yf ya ye yr yd kf ka ke kr kd hb hfm hfc hcl hov hQ
  have R := eb_mkR (k := k + 5) (ss := ss) (kf := kf) (ka := ka) (ke := ke) (kr := kr) (kd := kd) hb hfm hfc hcl hov hQ
  have hn : n < 2 ^ 31 := by omega
  unfold wpX_offered wpY_offered
  dsimp only
  rcases eb_split v1 hn with o | ⟨j, hj, rfl⟩
  · exact ex_in0 hn o (br_t rfl (ey_in1 hn o (br_f (by decide) ⟨rfl, R⟩)))
  · have c1 : (nI j).toNatClampNeg = j := nI_clamp (by omega)
    have i1 : vp_in (nI j) 4 := vp_in_nI (by omega) (by decide)
    refine ex_in1 hn hj (br_f (by decide) ⟨i1, ey_in0 hn hj (br_t rfl ⟨i1, ?_, R⟩)⟩)
    rw [c1]
    exact (hov j (by omega)).symm
theorem i_vc_faulty {k : Nat} {u : SX} {v : SY} (I : i_Rel k u v) (hk : k + 5 ≤ 2563) : wpX_faulty (fun r => wpY_faulty (fun r' => r' = r ∧ i_Rel (k + 5) u v) v) u := by
  refine eb_el (P := fun u v => wpX_faulty (fun r => wpY_faulty (fun r' => r' = r ∧ i_Rel (k + 5) u v) v) u) ?_ I
  intro n m l fm fc ss fl pl pc hs ev rv dv ov mk os yf ya ye yr yd kf ka ke kr kd hb hfm hfc hcl hov hQ
  have R := eb_mkR (k := k + 5) (ss := ss) (kf := kf) (ka := ka) (ke := ke) (kr := kr) (kd := kd) hb hfm hfc hcl hov hQ
  unfold wpX_faulty wpY_faulty
  dsimp only
  exact ⟨8, ey_fy4 rfl ⟨hfm.symm, R⟩ 7 0 rfl⟩
theorem i_vc_pending {k : Nat} {u : SX} {v : SY} (I : i_Rel k u v) (hk : k + 5 ≤ 2563) (v1 : Int32) : wpX_pending (fun r => wpY_pending (fun r' => r' = r ∧ i_Rel (k + 5) u v) v v1) u v1 := by
  refine eb_el (P := fun u v => wpX_pending (fun r => wpY_pending (fun r' => r' = r ∧ i_Rel (k + 5) u v) v v1) u v1) ?_ I
  intro n m l fm fc ss fl pl pc hs ev rv dv ov mk os yf ya ye yr yd kf ka ke kr kd hb hfm hfc hcl hov hQ
  have R := eb_mkR (k := k + 5) (ss := ss) (kf := kf) (ka := ka) (ke := ke) (kr := kr) (kd := kd) hb hfm hfc hcl hov hQ
  have hn : n < 2 ^ 31 := by omega
  unfold wpX_pending wpY_pending
  dsimp only
  rcases eb_split v1 hn with o | ⟨j, hj, rfl⟩
  · exact ex_in0 hn o (br_t rfl (ey_in1 hn o (br_f (by decide) ⟨rfl, R⟩)))
  · have c1 : (nI j).toNatClampNeg = j := nI_clamp (by omega)
    have i1 : vp_in (nI j) 5 := vp_in_nI (by omega) (by decide)
    refine ex_in1 hn hj (br_f (by decide) ⟨i1, ey_in0 hn hj (br_t rfl ⟨589, ey_pn15 (by omega) rfl ⟨?_, R⟩ 588 0 rfl⟩)⟩)
    rw [c1, eb_pn (by omega)]
    exact (hQ j (by omega)).1.2.2.symm
theorem i_vc_flying {k : Nat} {u : SX} {v : SY} (I : i_Rel k u v) (hk : k + 5 ≤ 2563) (v1 : Int32) (v2 : Int32) (v3 : Int32) (v4 : Int32) : wpX_flying (fun r => wpY_flying (fun r' => r' = r ∧ i_Rel (k + 5) u v) v v1 v2 v3 v4) u v1 v2 v3 v4 := by
  refine eb_el (P := fun u v => wpX_flying (fun r => wpY_flying (fun r' => r' = r ∧ i_Rel (k + 5) u v) v v1 v2 v3 v4) u v1 v2 v3 v4) ?_ I
  intro n m l fm fc ss fl pl pc hs ev rv dv ov mk os yf ya ye yr yd kf ka ke kr kd hb hfm hfc hcl hov hQ
  have R := eb_mkR (k := k + 5) (ss := ss) (kf := kf) (ka := ka) (ke := ke) (kr := kr) (kd := kd) hb hfm hfc hcl hov hQ
  have hn : n < 2 ^ 31 := by omega
  unfold wpX_flying wpY_flying
  dsimp only
  rcases eb_split v1 hn with o | ⟨j, hj, rfl⟩
  · exact ex_in0 hn o (br_t rfl (ey_in1 hn o (br_f (by decide) ⟨rfl, R⟩)))
  refine ex_in1 hn hj (br_f (by decide) ?_)
  rcases eb_splitK v2 with o | ⟨a, ha, rfl⟩
  · exact ex_kd0 o (br_t rfl (ey_in0 hn hj (br_t rfl (ey_kd1 o (br_f (by decide) ⟨rfl, R⟩)))))
  refine ex_kd1 ha (br_f (by decide) ?_)
  rcases eb_split v3 (n := 7) (by decide) with o | ⟨f, hf, rfl⟩
  · exact ex_nd0 o (br_t rfl (ey_in0 hn hj (br_t rfl (ey_kd0 ha (br_t rfl (ey_nd1 o (br_f (by decide) ⟨rfl, R⟩)))))))
  refine ex_nd1 hf (br_f (by decide) ?_)
  rcases eb_split v4 (n := 7) (by decide) with o | ⟨t, ht, rfl⟩
  · exact ex_nd0 o (br_t rfl (ey_in0 hn hj (br_t rfl (ey_kd0 ha (br_t rfl (ey_nd0 hf (br_t rfl (ey_nd1 o (br_f (by decide) ⟨rfl, R⟩)))))))))
  refine ex_nd1 ht (br_f (by decide) (ex_row ⟨vp_in_nI (by omega) (by decide), ?_⟩))
  have c1 : (nI (j * 21 + (a * 7 + f))).toNatClampNeg = j * 21 + (a * 7 + f) := nI_clamp (by omega)
  have c2 : (nI (j * 147 + ((a * 7 + f) * 7 + t))).toNatClampNeg = j * 147 + ((a * 7 + f) * 7 + t) := nI_clamp (by omega)
  have q : (nI (j * 21 + (a * 7 + f)) * 7) + nI t = nI (j * 147 + ((a * 7 + f) * 7 + t)) := by
    rw [eb_p7]
    congr 1
    omega
  have i2 : vp_in (nI (j * 147 + ((a * 7 + f) * 7 + t))) 588 := vp_in_nI (by omega) (by decide)
  have hF := (hQ j (by omega)).1
  have hbit := hF.1 (a * 7 + f) t (by omega) ht
  rw [c1]
  refine ex_nm (by omega) (fun z => br_f (by decide) ⟨by rw [q]; exact vp_in_nI (by omega) (by decide), ey_in0 hn hj (br_t rfl (ey_kd0 ha (br_t rfl (ey_nd0 hf (br_t rfl (ey_nd0 ht (br_t rfl (ey_plc ⟨i2, ?_, R⟩))))))))⟩) (fun z => br_t rfl (ey_in0 hn hj (br_t rfl (ey_kd0 ha (br_t rfl (ey_nd0 hf (br_t rfl (ey_nd0 ht (br_t rfl (ey_plc ⟨i2, ?_, R⟩))))))))))
  · rw [q, c2]
    exact ((hF.2.1 _ (by omega) (eb_fT (hbit.symm.trans z))).1).symm
  · rw [c2]
    exact eb_fF (hbit.symm.trans z)
theorem i_vc_heard {k : Nat} {u : SX} {v : SY} (I : i_Rel k u v) (hk : k + 5 ≤ 2563) (v1 : Int32) (v2 : Int32) (v3 : Int32) (v4 : Int32) : wpX_heard (fun r => wpY_heard (fun r' => r' = r ∧ i_Rel (k + 5) u v) v v1 v2 v3 v4) u v1 v2 v3 v4 := by
  refine eb_el (P := fun u v => wpX_heard (fun r => wpY_heard (fun r' => r' = r ∧ i_Rel (k + 5) u v) v v1 v2 v3 v4) u v1 v2 v3 v4) ?_ I
  intro n m l fm fc ss fl pl pc hs ev rv dv ov mk os yf ya ye yr yd kf ka ke kr kd hb hfm hfc hcl hov hQ
  have R := eb_mkR (k := k + 5) (ss := ss) (kf := kf) (ka := ka) (ke := ke) (kr := kr) (kd := kd) hb hfm hfc hcl hov hQ
  have hn : n < 2 ^ 31 := by omega
  have hm : m < 2 ^ 31 := by omega
  unfold wpX_heard wpY_heard
  dsimp only
  rcases eb_split v1 hn with o | ⟨j, hj, rfl⟩
  · exact ex_in0 hn o (br_t rfl (ey_in1 hn o (br_f (by decide) ⟨rfl, R⟩)))
  refine ex_in1 hn hj (br_f (by decide) ?_)
  rcases eb_split v3 (n := 7) (by decide) with o | ⟨a, ha, rfl⟩
  · exact ex_nd0 o (br_t rfl (ey_in0 hn hj (br_t rfl (ey_nd1 o (br_f (by decide) ⟨rfl, R⟩)))))
  refine ex_nd1 ha (br_f (by decide) ?_)
  rcases eb_split v4 hm with o | ⟨w, hw, rfl⟩
  · exact ex_vl0 hm o (br_t rfl (ey_in0 hn hj (br_t rfl (ey_nd0 ha (br_t rfl (ey_vl1 hm o (br_f (by decide) ⟨rfl, R⟩)))))))
  refine ex_vl1 hm hw (br_f (by decide) ?_)
  have hH := (hQ j (by omega)).2.1
  by_cases h1 : v2 = 1
  · refine br_t h1 ?_
    subst h1
    have c1 : (nI (j * 56 + ((0 * 7 + a) * 4 + w))).toNatClampNeg = j * 56 + ((0 * 7 + a) * 4 + w) := nI_clamp (by omega)
    unfold wX_heard_41
    refine ex_set (k := 0) ⟨vp_in_nI (by omega) (by decide), ey_in0 hn hj (br_t rfl (ey_nd0 ha (br_t rfl (ey_vl0 hm hw (br_t rfl (br_t rfl ⟨8, ey_hd47 (k := 0) (by omega) (by omega) ha (by omega) rfl ⟨?_, R⟩ 7 0 rfl⟩))))))⟩
    rw [c1]
    exact (hH.1 _ (by omega)).symm
  · refine br_f h1 ?_
    by_cases h2 : v2 = 2
    · refine br_t h2 ?_
      subst h2
      have c1 : (nI (j * 56 + ((1 * 7 + a) * 4 + w))).toNatClampNeg = j * 56 + ((1 * 7 + a) * 4 + w) := nI_clamp (by omega)
      unfold wX_heard_41
      refine ex_set (k := 1) ⟨vp_in_nI (by omega) (by decide), ey_in0 hn hj (br_t rfl (ey_nd0 ha (br_t rfl (ey_vl0 hm hw (br_t rfl (br_f h1 (br_t rfl ⟨8, ey_hd47 (k := 1) (by omega) (by omega) ha (by omega) rfl ⟨?_, R⟩ 7 0 rfl⟩)))))))⟩
      rw [c1]
      exact (hH.1 _ (by omega)).symm
    · exact br_f h2 (ey_in0 hn hj (br_t rfl (ey_nd0 ha (br_t rfl (ey_vl0 hm hw (br_t rfl (br_f h1 (br_f h2 ⟨rfl, R⟩))))))))
end
section
/-! ===== broadcast, inject, deliver, drain ===== -/
theorem i_vc_broadcast {k : Nat} {u : SX} {v : SY} (I : i_Rel k u v) (hk : k + 5 ≤ 2563) (v1 : Int32) (v2 : Int32) : wpX_broadcast (fun r u' => wpY_broadcast (fun r' v' => r' = r ∧ i_Rel (k + 5) u' v') v v1 v2) u v1 v2 := by
  refine eb_el (P := fun u v => wpX_broadcast (fun r u' => wpY_broadcast (fun r' v' => r' = r ∧ i_Rel (k + 5) u' v') v v1 v2) u v1 v2) ?_ I
  intro n m l fm fc ss fl pl pc hs ev rv dv ov mk os yf ya ye yr yd kf ka ke kr kd hb hfm hfc hcl hov hQ
  have R := eb_mkR (k := k + 5) (ss := ss) (kf := kf) (ka := ka) (ke := ke) (kr := kr) (kd := kd) hb hfm hfc hcl hov hQ
  have hn : n < 2 ^ 31 := by omega
  have hm : m < 2 ^ 31 := by omega
  unfold wpX_broadcast wpY_broadcast
  dsimp only
  rcases eb_split v1 hn with o | ⟨j, hj, rfl⟩
  · exact ex_in0 hn o (br_t rfl (ey_in1 hn o (br_f (by decide) ⟨rfl, R⟩)))
  refine ex_in1 hn hj (br_f (by decide) ?_)
  rcases eb_split v2 hm with o | ⟨w, hw, rfl⟩
  · exact ex_vl0 hm o (br_t rfl (ey_in0 hn hj (br_t rfl (ey_vl1 hm o (br_f (by decide) ⟨rfl, R⟩)))))
  refine ex_vl1 hm hw (br_f (by decide) ?_)
  have c1 : (nI j).toNatClampNeg = j := nI_clamp (by omega)
  have i7 : vp_in (nI j) 7 := vp_in_nI (by omega) (by decide)
  have i4 : vp_in (nI j) 4 := vp_in_nI (by omega) (by decide)
  have hbit : bt fm j = eb_g (mk j) := by rw [hfm, eb_mbit _ (by omega)]
  by_cases hf : mk j = 0
  · refine ex_ft (by omega) (fun z => absurd (eb_gT (hbit.symm.trans z)) (fun z2 => z2 hf)) (fun _ => br_t rfl ⟨i4, ?_⟩)
    by_cases ho : os j = -1
    · refine br_t (by rw [c1, hov j (by omega)]; exact ho) ⟨i4, nm_r (e' := upd ov j (nI w)) (by rw [c1]) ?_⟩
      have J := eb_Q_I (hQ j (by omega))
      obtain ⟨c, fl', pl', pc', yf', JF', hX, hY⟩ := el_put (ic := nI n) (vc := nI m) (lm := nI l) (fc := fc) (ss := ss) (hs := hs) (ev := ev) (rv := rv) (dv := dv) (ov := upd ov j (nI w)) (os := upd os j (nI w)) (ya := ya) (ye := ye) (yr := yr) (yd := yd) (kf := kf) (ka := ka) (ke := ke) (kr := kr) (kd := kd) (k := 0) (f := j) 127 (by omega : j < 5) (by omega : j < 4) (by omega) (by omega) (by omega : w < 4) hfm J.1
      refine hX _ ?_
      refine ey_in0 hn hj (br_t rfl (ey_vl0 hm hw (br_t rfl ⟨i7, br_t (by rw [c1]; exact hf) ⟨i4, br_t (by rw [c1]; exact ho) ⟨i4, nm_r (e' := upd os j (nI w)) (by rw [c1]) (hY _ ⟨rfl, ?_⟩)⟩⟩⟩)))
      refine eb_mkR hb hfm hfc hcl (fun a ha => ?_) (eb_keep hQ ⟨JF', J.2⟩)
      show upd ov j (nI w) a = upd os j (nI w) a
      by_cases e : a = j
      · rw [e, pk_us, pk_us]
      · rw [pk_un e, pk_un e]
        exact hov a ha
    · refine br_f (by rw [c1, hov j (by omega)]; exact ho) ?_
      exact ey_in0 hn hj (br_t rfl (ey_vl0 hm hw (br_t rfl ⟨i7, br_t (by rw [c1]; exact hf) ⟨i4, br_f (by rw [c1]; exact ho) ⟨rfl, R⟩⟩⟩)))
  · refine ex_ft (by omega) (fun _ => br_f (by decide) ?_) (fun z => absurd (eb_gF (hbit.symm.trans z)) hf)
    exact ey_in0 hn hj (br_t rfl (ey_vl0 hm hw (br_t rfl ⟨i7, br_f (by rw [c1]; exact hf) ⟨rfl, R⟩⟩)))
theorem el_inj {n m l kk : Nat} {fm fc ss : Int32} {fl pl pc hs ev rv dv ov mk os yf ya ye yr yd kf ka ke kr kd : Nat → Int32} (hb : 1 ≤ n ∧ n ≤ 4 ∧ m ≤ 4 ∧ l ≤ 2) (hkk : kk < 3) (hfm : eb_fm fm mk) (hQ : ∀ j, j < 4 → eb_Q j j fl pl pc hs ev rv dv yf ya ye yr yd) (v1 v2 v3 v4 : Int32) :
    ∃ (r : Int32) (fl' pl' pc' yf' : Nat → Int32), (∀ j, j < 4 → eb_Q j j fl' pl' pc' hs ev rv dv yf' ya ye yr yd) ∧
      (∀ post : Int32 → SX → Prop, post r (nI n, nI m, nI l, fm, fc, ss, fl', pl', pc', hs, ev, rv, dv, ov) → wpX_inject post (nI n, nI m, nI l, fm, fc, ss, fl, pl, pc, hs, ev, rv, dv, ov) v1 (nI kk) v2 v3 v4) ∧
      (∀ post : Int32 → SY → Prop, post r (nI n, nI m, nI l, mk, os, yf', ya, ye, yr, yd, kf, ka, ke, kr, kd) → wpY_inject post (nI n, nI m, nI l, mk, os, yf, ya, ye, yr, yd, kf, ka, ke, kr, kd) v1 (nI kk) v2 v3 v4) := by
  have hn : n < 2 ^ 31 := by omega
  have hm : m < 2 ^ 31 := by omega
  unfold wpX_inject wpY_inject
  dsimp only
  rcases eb_split v1 hn with o | ⟨j, hj, rfl⟩
  · exact ⟨-2, fl, pl, pc, yf, hQ, fun post h => ex_in0 hn o (br_t rfl h), fun post h => ey_in1 hn o (br_f (by decide) h)⟩
  rcases eb_split v2 (n := 7) (by decide) with o | ⟨f, hf, rfl⟩
  · exact ⟨-2, fl, pl, pc, yf, hQ, fun post h => ex_in1 hn hj (br_f (by decide) (ex_nd0 o (br_t rfl h))), fun post h => ey_in0 hn hj (br_t rfl (ey_nd1 o (br_f (by decide) h)))⟩
  rcases eb_split v4 hm with o | ⟨w, hw, rfl⟩
  · exact ⟨-2, fl, pl, pc, yf, hQ, fun post h => ex_in1 hn hj (br_f (by decide) (ex_nd1 hf (br_f (by decide) (ex_vl0 hm o (br_t rfl h))))), fun post h => ey_in0 hn hj (br_t rfl (ey_nd0 hf (br_t rfl (ey_vl1 hm o (br_f (by decide) h)))))⟩
  have c1 : (nI f).toNatClampNeg = f := nI_clamp (by omega)
  have i7 : vp_in (nI f) 7 := vp_in_nI hf (by decide)
  have hbit : bt fm f = eb_g (mk f) := by rw [hfm, eb_mbit _ hf]
  by_cases hz : mk f = 0
  · refine ⟨-3, fl, pl, pc, yf, hQ, fun post h => ex_in1 hn hj (br_f (by decide) (ex_nd1 hf (br_f (by decide) (ex_vl1 hm hw (br_f (by decide) (ex_ft (by omega) (fun z => absurd (eb_gT (hbit.symm.trans z)) (fun z2 => z2 hz)) (fun _ => br_t rfl h))))))), fun post h => ey_in0 hn hj (br_t rfl (ey_nd0 hf (br_t rfl (ey_vl0 hm hw (br_t rfl ⟨i7, br_t (by rw [c1]; exact hz) h⟩)))))⟩
  · have J := eb_Q_I (hQ j (by omega))
    obtain ⟨c, fl', pl', pc', yf', JF', hX, hY⟩ := el_put (ic := nI n) (vc := nI m) (lm := nI l) (fc := fc) (ss := ss) (hs := hs) (ev := ev) (rv := rv) (dv := dv) (ov := ov) (os := os) (ya := ya) (ye := ye) (yr := yr) (yd := yd) (kf := kf) (ka := ka) (ke := ke) (kr := kr) (kd := kd) (k := kk) (f := f) v3 (by omega : j < 5) (by omega : j < 4) hkk hf (by omega : w < 4) hfm J.1
    refine ⟨c, fl', pl', pc', yf', eb_keep hQ ⟨JF', J.2⟩, fun post h => ex_in1 hn hj (br_f (by decide) (ex_nd1 hf (br_f (by decide) (ex_vl1 hm hw (br_f (by decide) (ex_ft (by omega) (fun _ => br_f (by decide) ?_) (fun z => absurd (eb_gF (hbit.symm.trans z)) hz))))))), fun post h => ey_in0 hn hj (br_t rfl (ey_nd0 hf (br_t rfl (ey_vl0 hm hw (br_t rfl ⟨i7, br_f (by rw [c1]; exact hz) ?_⟩)))))⟩
    · exact hX _ h
    · exact hY _ h
theorem i_vc_injectSend {k : Nat} {u : SX} {v : SY} (I : i_Rel k u v) (hk : k + 5 ≤ 2563) (v1 : Int32) (v2 : Int32) (v3 : Int32) (v4 : Int32) : wpX_injectSend (fun r u' => wpY_injectSend (fun r' v' => r' = r ∧ i_Rel (k + 5) u' v') v v1 v2 v3 v4) u v1 v2 v3 v4 := by
  refine eb_el (P := fun u v => wpX_injectSend (fun r u' => wpY_injectSend (fun r' v' => r' = r ∧ i_Rel (k + 5) u' v') v v1 v2 v3 v4) u v1 v2 v3 v4) ?_ I
  intro n m l fm fc ss fl pl pc hs ev rv dv ov mk os yf ya ye yr yd kf ka ke kr kd hb hfm hfc hcl hov hQ
  obtain ⟨r, fl', pl', pc', yf', hQ', hX, hY⟩ := el_inj (kk := 0) (fc := fc) (ss := ss) (ov := ov) (os := os) (kf := kf) (ka := ka) (ke := ke) (kr := kr) (kd := kd) hb (by omega) hfm hQ v1 v2 v3 v4
  unfold wpX_injectSend wpY_injectSend
  dsimp only
  refine hX _ ?_
  refine hY _ ?_
  exact ⟨rfl, eb_mkR hb hfm hfc hcl hov hQ'⟩
theorem i_vc_injectEcho {k : Nat} {u : SX} {v : SY} (I : i_Rel k u v) (hk : k + 5 ≤ 2563) (v1 : Int32) (v2 : Int32) (v3 : Int32) (v4 : Int32) : wpX_injectEcho (fun r u' => wpY_injectEcho (fun r' v' => r' = r ∧ i_Rel (k + 5) u' v') v v1 v2 v3 v4) u v1 v2 v3 v4 := by
  refine eb_el (P := fun u v => wpX_injectEcho (fun r u' => wpY_injectEcho (fun r' v' => r' = r ∧ i_Rel (k + 5) u' v') v v1 v2 v3 v4) u v1 v2 v3 v4) ?_ I
  intro n m l fm fc ss fl pl pc hs ev rv dv ov mk os yf ya ye yr yd kf ka ke kr kd hb hfm hfc hcl hov hQ
  obtain ⟨r, fl', pl', pc', yf', hQ', hX, hY⟩ := el_inj (kk := 1) (fc := fc) (ss := ss) (ov := ov) (os := os) (kf := kf) (ka := ka) (ke := ke) (kr := kr) (kd := kd) hb (by omega) hfm hQ v1 v2 v3 v4
  unfold wpX_injectEcho wpY_injectEcho
  dsimp only
  refine hX _ ?_
  refine hY _ ?_
  exact ⟨rfl, eb_mkR hb hfm hfc hcl hov hQ'⟩
theorem i_vc_injectReady {k : Nat} {u : SX} {v : SY} (I : i_Rel k u v) (hk : k + 5 ≤ 2563) (v1 : Int32) (v2 : Int32) (v3 : Int32) (v4 : Int32) : wpX_injectReady (fun r u' => wpY_injectReady (fun r' v' => r' = r ∧ i_Rel (k + 5) u' v') v v1 v2 v3 v4) u v1 v2 v3 v4 := by
  refine eb_el (P := fun u v => wpX_injectReady (fun r u' => wpY_injectReady (fun r' v' => r' = r ∧ i_Rel (k + 5) u' v') v v1 v2 v3 v4) u v1 v2 v3 v4) ?_ I
  intro n m l fm fc ss fl pl pc hs ev rv dv ov mk os yf ya ye yr yd kf ka ke kr kd hb hfm hfc hcl hov hQ
  obtain ⟨r, fl', pl', pc', yf', hQ', hX, hY⟩ := el_inj (kk := 2) (fc := fc) (ss := ss) (ov := ov) (os := os) (kf := kf) (ka := ka) (ke := ke) (kr := kr) (kd := kd) hb (by omega) hfm hQ v1 v2 v3 v4
  unfold wpX_injectReady wpY_injectReady
  dsimp only
  refine hX _ ?_
  refine hY _ ?_
  exact ⟨rfl, eb_mkR hb hfm hfc hcl hov hQ'⟩
theorem i_vc_deliver {k : Nat} {u : SX} {v : SY} (I : i_Rel k u v) (hk : k + 5 ≤ 2563) (v1 : Int32) (v2 : Int32) (v3 : Int32) (v4 : Int32) : wpX_deliver (fun r u' => wpY_deliver (fun r' v' => r' = r ∧ i_Rel (k + 5) u' v') v v1 v2 v3 v4) u v1 v2 v3 v4 := by
  refine eb_el (P := fun u v => wpX_deliver (fun r u' => wpY_deliver (fun r' v' => r' = r ∧ i_Rel (k + 5) u' v') v v1 v2 v3 v4) u v1 v2 v3 v4) ?_ I
  intro n m l fm fc ss fl pl pc hs ev rv dv ov mk os yf ya ye yr yd kf ka ke kr kd hb hfm hfc hcl hov hQ
  have R := eb_mkR (k := k + 5) (ss := ss) (kf := kf) (ka := ka) (ke := ke) (kr := kr) (kd := kd) hb hfm hfc hcl hov hQ
  have hn : n < 2 ^ 31 := by omega
  unfold wpX_deliver
  dsimp only
  rcases eb_split v1 hn with o | ⟨j, hj, rfl⟩
  · refine ex_in0 hn o (br_t rfl ?_)
    unfold wpY_deliver
    dsimp only
    exact ey_in1 hn o (br_f (by decide) ⟨rfl, R⟩)
  refine ex_in1 hn hj (br_f (by decide) ?_)
  rcases eb_splitK v2 with o | ⟨a, ha, rfl⟩
  · refine ex_kd0 o (br_t rfl ?_)
    unfold wpY_deliver
    dsimp only
    exact ey_in0 hn hj (br_t rfl (ey_kd1 o (br_f (by decide) ⟨rfl, R⟩)))
  refine ex_kd1 ha (br_f (by decide) ?_)
  obtain ⟨e, fl', pl', pc', hs', ev', rv', dv', yf', ya', ye', yr', yd', I', hX, hY⟩ := el_run (vc := nI m) (lm := nI l) (fc := fc) (ss := ss) (ov := ov) (os := os) (kf := kf) (ka := ka) (ke := ke) (kr := kr) (kd := kd) (frm := v3) (to := v4) (s := j) (i := j) (k := a) rfl hb.2.1 hj (by omega) ha hfm (Or.inr ⟨by omega, rfl⟩) (eb_Q_I (hQ j (by omega)))
  refine hX _ ?_
  refine hY _ ?_
  exact ⟨rfl, eb_mkR hb hfm hfc hcl hov (eb_keep hQ I')⟩
theorem i_vc_drain {k : Nat} {u : SX} {v : SY} (I : i_Rel k u v) (hk : k + 5 ≤ 2563) (v1 : Int32) : wpX_drain (fun r u' => wpY_drain (fun r' v' => r' = r ∧ i_Rel (k + 5) u' v') v v1) u v1 := by
  refine eb_el (P := fun u v => wpX_drain (fun r u' => wpY_drain (fun r' v' => r' = r ∧ i_Rel (k + 5) u' v') v v1) u v1) ?_ I
  intro n m l fm fc ss fl pl pc hs ev rv dv ov mk os yf ya ye yr yd kf ka ke kr kd hb hfm hfc hcl hov hQ
  have R := eb_mkR (k := k + 5) (ss := ss) (kf := kf) (ka := ka) (ke := ke) (kr := kr) (kd := kd) hb hfm hfc hcl hov hQ
  have hn : n < 2 ^ 31 := by omega
  unfold wpX_drain
  dsimp only
  rcases eb_split v1 hn with o | ⟨j, hj, rfl⟩
  · refine ex_in0 hn o (br_t rfl ?_)
    unfold wpY_drain
    dsimp only
    exact ey_in1 hn o (br_f (by decide) ⟨rfl, R⟩)
  refine ex_in1 hn hj (br_f (by decide) ?_)
  obtain ⟨e, fl', pl', pc', hs', ev', rv', dv', yf', ya', ye', yr', yd', I', hX, hY⟩ := el_drain (vc := nI m) (lm := nI l) (fc := fc) (ss := ss) (ov := ov) (os := os) (kf := kf) (ka := ka) (ke := ke) (kr := kr) (kd := kd) (s := j) (i := j) rfl hb.2.1 hj (by omega) hfm (Or.inr ⟨by omega, rfl⟩) (eb_Q_I (hQ j (by omega)))
  refine hX _ ?_
  refine hY _ ?_
  exact ⟨rfl, eb_mkR hb hfm hfc hcl hov (eb_keep hQ I')⟩
end
section
/-! ===== the constructors ===== -/
theorem eb_clamp (p : Int32) {a b : Nat} (hab : a ≤ b) (hb : b < 2 ^ 31) : ∃ n, a ≤ n ∧ n ≤ b ∧ ∀ K : Int32 → Prop, K (nI n) → ((nI a ≤ p → ((p ≤ nI b → K p) ∧ (¬ p ≤ nI b → K (nI b)))) ∧ (¬ nI a ≤ p → K (nI a))) := by
  by_cases h : nI a ≤ p
  · by_cases h2 : p ≤ nI b
    · obtain ⟨j, hj, rfl⟩ := nI_of (eb_out0 (by omega) h)
      exact ⟨j, (nI_leI (by omega) hj).mp h, (nI_leI hj hb).mp h2, fun K hK => br_t h (br_t h2 hK)⟩
    · exact ⟨b, hab, Nat.le_refl b, fun K hK => br_t h (br_f h2 hK)⟩
  · exact ⟨a, Nat.le_refl a, hab, fun K hK => br_f h hK⟩
def eb_fi (t : Nat) (a : Nat → Int32) : Nat → Int32 := fun j => if j < t then -1 else a j
theorem eb_fi_0 (a : Nat → Int32) : eb_fi 0 a = a := funext fun j => if_neg (Nat.not_lt_zero j)
theorem eb_fi_s (t : Nat) (a : Nat → Int32) : upd (eb_fi t a) t (-1) = eb_fi (t + 1) a := by
  funext j
  by_cases e : j = t
  · rw [e, pk_us]
    exact (if_pos (Nat.lt_succ_self t)).symm
  · rw [pk_un e]
    unfold eb_fi
    by_cases h : j < t
    · rw [if_pos h, if_pos (by omega)]
    · rw [if_neg h, if_neg (by omega)]
theorem eb_fi_i {t j : Nat} {a : Nat → Int32} (h : j < t) : eb_fi t a j = -1 := if_pos h
section
variable {ic vc lm fm fc ss : Int32} {fl pl pc hs ev rv dv ov : Nat → Int32}
variable {mk os yf ya ye yr yd kf ka ke kr kd : Nat → Int32}
theorem ex_cl {post : Int32 → Prop} {p : Int32} {a b n : Nat} (h : ∀ K : Int32 → Prop, K (nI n) → ((nI a ≤ p → ((p ≤ nI b → K p) ∧ (¬ p ≤ nI b → K (nI b)))) ∧ (¬ nI a ≤ p → K (nI a)))) (hp : post (nI n)) : wpX_clamp post (ic, vc, lm, fm, fc, ss, fl, pl, pc, hs, ev, rv, dv, ov) p (nI a) (nI b) := h post hp
theorem ex_i144 {post : SX → Prop} (h : post (ic, vc, lm, fm, fc, ss, fl, pl, pc, hs, ev, rv, dv, eb_fi 4 ov)) : ∀ d t, t + d = 4 → wX_init_144 post ic vc lm fm fc ss (d + 1) (nI t) fl pl pc hs ev rv dv (eb_fi t ov) := by
  intro d
  induction d with
  | zero =>
    intro t ht
    obtain rfl : t = 4 := by omega
    exact br_t (by decide) h
  | succ d ih =>
    intro t ht
    have c1 : (nI t).toNatClampNeg = t := nI_clamp (by omega)
    exact br_f (nI_ge (b := 4) (by omega) (by decide)) ⟨vp_in_nI (by omega) (by decide), nm_r (e' := eb_fi (t + 1) ov) (by rw [c1, eb_fi_s]) (nm_r (nI_1 t) (ih (t + 1) (by omega)))⟩
theorem ex_i104 {post : SX → Prop} (h : post (ic, vc, lm, fm, fc, ss, fl, pl, pc, hs, eb_fi 35 ev, eb_fi 35 rv, eb_fi 35 dv, eb_fi 4 ov)) : ∀ d t, t + d = 35 → wX_init_104 post ic vc lm fm fc ss (d + 1) (nI t) fl pl pc hs (eb_fi t ev) (eb_fi t rv) (eb_fi t dv) ov := by
  intro d
  induction d with
  | zero =>
    intro t ht
    obtain rfl : t = 35 := by omega
    refine br_t (by decide) ⟨5, ?_⟩
    have e := ex_i144 (post := post) h 4 0 rfl
    rw [eb_fi_0] at e
    exact e
  | succ d ih =>
    intro t ht
    have c1 : (nI t).toNatClampNeg = t := nI_clamp (by omega)
    have i1 : vp_in (nI t) 35 := vp_in_nI (by omega) (by decide)
    exact br_f (nI_ge (b := 35) (by omega) (by decide)) ⟨i1, nm_r (e' := eb_fi (t + 1) ev) (by rw [c1, eb_fi_s]) ⟨i1, nm_r (e' := eb_fi (t + 1) rv) (by rw [c1, eb_fi_s]) ⟨i1, nm_r (e' := eb_fi (t + 1) dv) (by rw [c1, eb_fi_s]) (nm_r (nI_1 t) (ih (t + 1) (by omega)))⟩⟩⟩
theorem ey_i222 {post : SY → Prop} (h : post (ic, vc, lm, mk, os, yf, ya, eb_fi 28 ye, eb_fi 28 yr, eb_fi 28 yd, kf, ka, ke, kr, kd)) : ∀ d t, t + d = 28 → wY_init_222 post ic vc lm (d + 1) (nI t) mk os yf ya (eb_fi t ye) (eb_fi t yr) (eb_fi t yd) kf ka ke kr kd := by
  intro d
  induction d with
  | zero =>
    intro t ht
    obtain rfl : t = 28 := by omega
    exact br_t (by decide) h
  | succ d ih =>
    intro t ht
    have c1 : (nI t).toNatClampNeg = t := nI_clamp (by omega)
    have i1 : vp_in (nI t) 28 := vp_in_nI (by omega) (by decide)
    exact br_f (nI_ge (b := 28) (by omega) (by decide)) ⟨i1, nm_r (e' := eb_fi (t + 1) ye) (by rw [c1, eb_fi_s]) ⟨i1, nm_r (e' := eb_fi (t + 1) yr) (by rw [c1, eb_fi_s]) ⟨i1, nm_r (e' := eb_fi (t + 1) yd) (by rw [c1, eb_fi_s]) (nm_r (nI_1 t) (ih (t + 1) (by omega)))⟩⟩⟩
theorem ey_i197 {post : SY → Prop} (h : post (ic, vc, lm, mk, os, eb_fi 588 yf, ya, eb_fi 28 ye, eb_fi 28 yr, eb_fi 28 yd, kf, ka, ke, kr, kd)) : ∀ d t, t + d = 588 → wY_init_197 post ic vc lm (d + 1) (nI t) mk os (eb_fi t yf) ya ye yr yd kf ka ke kr kd := by
  intro d
  induction d with
  | zero =>
    intro t ht
    obtain rfl : t = 588 := by omega
    refine br_t (by decide) ⟨29, ?_⟩
    have e := ey_i222 (post := post) h 28 0 rfl
    rw [eb_fi_0, eb_fi_0, eb_fi_0] at e
    exact e
  | succ d ih =>
    intro t ht
    have c1 : (nI t).toNatClampNeg = t := nI_clamp (by omega)
    exact br_f (nI_ge (b := 588) (by omega) (by decide)) ⟨vp_in_nI (by omega) (by decide), nm_r (e' := eb_fi (t + 1) yf) (by rw [c1, eb_fi_s]) (nm_r (nI_1 t) (ih (t + 1) (by omega)))⟩
theorem ey_i174 {post : SY → Prop} (h : post (ic, vc, lm, mk, eb_fi 4 os, eb_fi 588 yf, ya, eb_fi 28 ye, eb_fi 28 yr, eb_fi 28 yd, kf, ka, ke, kr, kd)) : ∀ d t, t + d = 4 → wY_init_174 post ic vc lm (d + 1) (nI t) mk (eb_fi t os) yf ya ye yr yd kf ka ke kr kd := by
  intro d
  induction d with
  | zero =>
    intro t ht
    obtain rfl : t = 4 := by omega
    refine br_t (by decide) ⟨589, ?_⟩
    have e := ey_i197 (post := post) h 588 0 rfl
    rw [eb_fi_0] at e
    exact e
  | succ d ih =>
    intro t ht
    have c1 : (nI t).toNatClampNeg = t := nI_clamp (by omega)
    exact br_f (nI_ge (b := 4) (by omega) (by decide)) ⟨vp_in_nI (by omega) (by decide), nm_r (e' := eb_fi (t + 1) os) (by rw [c1, eb_fi_s]) (nm_r (nI_1 t) (ih (t + 1) (by omega)))⟩
end
theorem eb_m0 : (0 : Int32) = eb_m (fun _ => eb_g 0) 7 := by decide
theorem eb_c00 : eb_c (fun _ => eb_g 0) 7 = 0 := eb_c_0 7 (fun _ _ => eb_gf rfl)
theorem eb_Q0 {z : Nat → Int32} (hz : z = fun _ => 0) : ∀ j, j < 4 → eb_Q j j z z z z (eb_fi 35 z) (eb_fi 35 z) (eb_fi 35 z) (eb_fi 588 z) z (eb_fi 28 z) (eb_fi 28 z) (eb_fi 28 z) := by
  intro j hj
  have hE : eb_QE j j (eb_fi 35 z) (eb_fi 28 z) := by
    intro n hn
    rw [eb_fi_i (by omega), eb_fi_i (by omega)]
  refine ⟨⟨fun r t hr ht => ?_, fun q hq hn => ?_, ?_⟩, ⟨fun r hr => ?_, fun q hq => ?_⟩, hE, hE, hE⟩
  · rw [eb_ff (eb_fi_i (by omega)), hz]
    exact b_0 t
  · exact absurd (eb_fi_i (by omega)) hn
  · rw [eb_c_0 147 (fun q hq => eb_ff (eb_fi_i (by omega))), hz]
    rfl
  · rw [hz]
    exact eb_m0
  · rw [hz]
    exact Or.inl rfl
theorem i_vc0 (k0 : Int32) (k1 : Int32) (k2 : Int32) : wpX_init (fun u => wpY_init (fun v => i_Rel 3 u v) k0 k1 k2) k0 k1 k2 := by
  obtain ⟨n, n1, n2, hn⟩ := eb_clamp k0 (a := 1) (b := 4) (by omega) (by decide)
  obtain ⟨m, m1, m2, hm⟩ := eb_clamp k1 (a := 2) (b := 4) (by omega) (by decide)
  obtain ⟨l, l1, l2, hl⟩ := eb_clamp k2 (a := 0) (b := 2) (by omega) (by decide)
  generalize hz : (fun _ : Nat => (0 : Int32)) = z
  have R : i_Rel 3 (nI n, nI m, nI l, 0, 0, 0, z, z, z, z, eb_fi 35 z, eb_fi 35 z, eb_fi 35 z, eb_fi 4 z) (nI n, nI m, nI l, z, eb_fi 4 z, eb_fi 588 z, z, eb_fi 28 z, eb_fi 28 z, eb_fi 28 z, z, z, z, z, z) := by
    refine eb_mkR ⟨n1, n2, m2, l2⟩ ?_ ?_ ?_ (fun _ _ => rfl) (eb_Q0 hz.symm)
    · rw [← hz]
      exact eb_m0
    · rw [← hz]
      show (0 : Int32) = nI (eb_c (fun _ => eb_g 0) 7)
      rw [eb_c00]
      rfl
    · rw [← hz]
      show eb_c (fun _ => eb_g 0) 7 ≤ l
      rw [eb_c00]
      exact Nat.zero_le l
  unfold wpX_init
  rw [hz]
  refine ex_cl (a := 1) (b := 4) hn ?_
  refine ex_cl (a := 2) (b := 4) hm ?_
  refine ex_cl (a := 0) (b := 2) hl ⟨36, ?_⟩
  have eX := ex_i104 (post := fun u => wpY_init (fun v => i_Rel 3 u v) k0 k1 k2) (ic := nI n) (vc := nI m) (lm := nI l) (fm := 0) (fc := 0) (ss := 0) (fl := z) (pl := z) (pc := z) (hs := z) (ev := z) (rv := z) (dv := z) (ov := z) ?_ 35 0 rfl
  · rw [eb_fi_0] at eX
    exact eX
  · unfold wpY_init
    rw [hz]
    generalize hpost : (fun v => i_Rel 3 (nI n, nI m, nI l, 0, 0, 0, z, z, z, z, eb_fi 35 z, eb_fi 35 z, eb_fi 35 z, eb_fi 4 z) v) = post
    have R' : post (nI n, nI m, nI l, z, eb_fi 4 z, eb_fi 588 z, z, eb_fi 28 z, eb_fi 28 z, eb_fi 28 z, z, z, z, z, z) := by
      rw [← hpost]
      exact R
    refine hn (fun q => wY_init_123 post k1 k2 q 0 0 0 z z z z z z z z z z z z) ?_
    unfold wY_init_123
    refine hm (fun q => wY_init_146 post k2 q (nI n) 0 0 z z z z z z z z z z z z) ?_
    unfold wY_init_146
    refine hl (fun q => ∃ n174 : Nat, wY_init_174 post (nI n) (nI m) q n174 0 z z z z z z z z z z z z) ⟨5, ?_⟩
    have eY := ey_i174 (post := post) (ic := nI n) (vc := nI m) (lm := nI l) (mk := z) (os := z) (yf := z) (ya := z) (ye := z) (yr := z) (yd := z) (kf := z) (ka := z) (ke := z) (kr := z) (kd := z) R' 4 0 rfl
    rw [eb_fi_0] at eY
    exact eY
end
section
/-! ===== corrupt ===== -/
/-- X's rows without the messages to a node, as far as row t -/
def eb_rx (nd t : Nat) (fl : Nat → Int32) : Nat → Int32 := fun q => if (decide (q < t) && bt (fl q) nd) = true then fl q &&& (((1 : Int32) <<< (nI nd &&& 31)) ^^^ (-1)) else fl q
theorem eb_rx_0 {nd : Nat} {fl : Nat → Int32} : eb_rx nd 0 fl = fl := by
  funext q
  unfold eb_rx
  rw [decide_eq_false (Nat.not_lt_zero q)]
  rfl
theorem eb_rx_ge {nd t q : Nat} {fl : Nat → Int32} (h : ¬ q < t) : eb_rx nd t fl q = fl q := by
  unfold eb_rx
  rw [decide_eq_false h]
  rfl
theorem eb_rx_f {nd t q : Nat} {fl : Nat → Int32} (h : bt (fl q) nd = false) : eb_rx nd t fl q = fl q := by
  unfold eb_rx
  rw [h, Bool.and_false]
  rfl
theorem eb_rx_t {nd t q : Nat} {fl : Nat → Int32} (h : q < t) (h2 : bt (fl q) nd = true) : eb_rx nd t fl q = fl q &&& (((1 : Int32) <<< (nI nd &&& 31)) ^^^ (-1)) := by
  unfold eb_rx
  rw [decide_eq_true h, h2]
  rfl
theorem eb_rx_s0 {nd t : Nat} {fl : Nat → Int32} (h : bt (fl t) nd = false) : eb_rx nd t fl = eb_rx nd (t + 1) fl := by
  funext q
  by_cases e : q = t
  · rw [e, eb_rx_f h, eb_rx_f h]
  · unfold eb_rx
    rw [decide_eq_decide.mpr (show q < t ↔ q < t + 1 by omega)]
theorem eb_rx_s1 {nd t : Nat} {fl : Nat → Int32} (h : bt (fl t) nd = true) : upd (eb_rx nd t fl) t (fl t &&& (((1 : Int32) <<< (nI nd &&& 31)) ^^^ (-1))) = eb_rx nd (t + 1) fl := by
  funext q
  by_cases e : q = t
  · rw [e, pk_us, eb_rx_t (Nat.lt_succ_self t) h]
  · rw [pk_un e]
    unfold eb_rx
    rw [decide_eq_decide.mpr (show q < t ↔ q < t + 1 by omega)]
/-- X's counts of what is in flight, as far as row t -/
def eb_rp (nd t : Nat) (fl pc : Nat → Int32) : Nat → Int32 := fun j => pc j - nI (eb_c (fun q => decide (q / 21 = j) && bt (fl q) nd) t)
theorem eb_rp_0 {nd : Nat} {fl pc : Nat → Int32} : eb_rp nd 0 fl pc = pc := funext fun j => Int32.sub_zero (pc j)
theorem eb_rp_s0 {nd t : Nat} {fl pc : Nat → Int32} (h : bt (fl t) nd = false) : eb_rp nd t fl pc = eb_rp nd (t + 1) fl pc := by
  funext j
  unfold eb_rp
  rw [eb_c_f (p := fun q => decide (q / 21 = j) && bt (fl q) nd) (n := t) (by rw [h, Bool.and_false])]
theorem eb_rp_s1 {nd t : Nat} {fl pc : Nat → Int32} (h : bt (fl t) nd = true) : upd (eb_rp nd t fl pc) (t / 21) (eb_rp nd t fl pc (t / 21) - 1) = eb_rp nd (t + 1) fl pc := by
  funext j
  by_cases e : j = t / 21
  · rw [e, pk_us]
    unfold eb_rp
    rw [eb_c_t (p := fun q => decide (q / 21 = t / 21) && bt (fl q) nd) (n := t) (by rw [h, decide_eq_true rfl]; rfl), ← nI_1]
    grind
  · rw [pk_un e]
    unfold eb_rp
    rw [eb_c_f (p := fun q => decide (q / 21 = j) && bt (fl q) nd) (n := t) (by rw [decide_eq_false (fun z => e z.symm), Bool.false_and])]
/-- Y's places without the messages to a node, as far as place t -/
def eb_ry (nd t : Nat) (yf : Nat → Int32) : Nat → Int32 := fun q => if (decide (q < t) && decide (q % 7 = nd)) = true then -1 else yf q
theorem eb_ry_0 {nd : Nat} {yf : Nat → Int32} : eb_ry nd 0 yf = yf := by
  funext q
  unfold eb_ry
  rw [decide_eq_false (Nat.not_lt_zero q)]
  rfl
theorem eb_ry_ge {nd t q : Nat} {yf : Nat → Int32} (h : ¬ q < t) : eb_ry nd t yf q = yf q := by
  unfold eb_ry
  rw [decide_eq_false h]
  rfl
theorem eb_ry_n {nd t q : Nat} {yf : Nat → Int32} (h : ¬ q % 7 = nd) : eb_ry nd t yf q = yf q := by
  unfold eb_ry
  rw [decide_eq_false h, Bool.and_false]
  rfl
theorem eb_ry_h {nd t q : Nat} {yf : Nat → Int32} (h1 : q < t) (h : q % 7 = nd) : eb_ry nd t yf q = -1 := by
  unfold eb_ry
  rw [decide_eq_true h, decide_eq_true h1]
  rfl
theorem eb_ry_s0 {nd t : Nat} {yf : Nat → Int32} (h : t % 7 = nd → yf t = -1) : eb_ry nd t yf = eb_ry nd (t + 1) yf := by
  funext q
  by_cases e : q = t
  · rw [e, eb_ry_ge (Nat.lt_irrefl t)]
    by_cases e2 : t % 7 = nd
    · rw [eb_ry_h (Nat.lt_succ_self t) e2, h e2]
    · rw [eb_ry_n e2]
  · unfold eb_ry
    rw [decide_eq_decide.mpr (show q < t ↔ q < t + 1 by omega)]
theorem eb_ry_s1 {nd t : Nat} {yf : Nat → Int32} (h : t % 7 = nd) : upd (eb_ry nd t yf) t (-1) = eb_ry nd (t + 1) yf := by
  funext q
  by_cases e : q = t
  · rw [e, pk_us, eb_ry_h (Nat.lt_succ_self t) h]
  · rw [pk_un e]
    unfold eb_ry
    rw [decide_eq_decide.mpr (show q < t ↔ q < t + 1 by omega)]
section
variable {ic vc lm fm fc ss : Int32} {fl pl pc hs ev rv dv ov : Nat → Int32}
variable {mk os yf ya ye yr yd kf ka ke kr kd : Nat → Int32}
theorem ex_rm4 {post : Int32 → SX → Prop} {nd : Nat} (hd : nd < 7) (h : post (nI (eb_c (fun q => bt (fl q) nd) 84)) (ic, vc, lm, fm, fc, ss, eb_rx nd 84 fl, pl, eb_rp nd 84 fl pc, hs, ev, rv, dv, ov)) :
    ∀ d t, t + d = 84 → wX_removeMessagesTo_4 post (nI nd) ic vc lm fm fc ss (d + 1) (nI (eb_c (fun q => bt (fl q) nd) t)) (nI t) (eb_rx nd t fl) pl (eb_rp nd t fl pc) hs ev rv dv ov := by
  intro d
  induction d with
  | zero =>
    intro t ht
    obtain rfl : t = 84 := by omega
    exact br_t (by decide) h
  | succ d ih =>
    intro t ht
    have c1 : (nI t).toNatClampNeg = t := nI_clamp (by omega)
    have e : nI t / 21 = nI (t / 21) := pk_div (d := 21) (by omega) (by decide) (by decide)
    have c2 : (nI t / 21).toNatClampNeg = t / 21 := by rw [e, nI_clamp (by omega)]
    have c3 : eb_rx nd t fl (nI t).toNatClampNeg = fl t := by rw [c1, eb_rx_ge (Nat.lt_irrefl t)]
    have i1 : vp_in (nI t) 105 := vp_in_nI (by omega) (by decide)
    have i2 : vp_in (nI t / 21) 5 := by
      rw [e]
      exact vp_in_nI (by omega) (by decide)
    refine br_f (nI_ge (b := 84) (by omega) (by decide)) ⟨i1, ?_⟩
    rw [c3]
    refine ex_nm (by omega) (fun z => ?_) (fun z => ?_)
    · exact br_f (by decide) ⟨i1, i1, nm_r (e' := eb_rx nd (t + 1) fl) (by rw [c1]; exact eb_rx_s1 z) ⟨by decide, i2, i2, nm_r (e' := eb_rp nd (t + 1) fl pc) (by rw [c2]; exact eb_rp_s1 z) (nm_r (e' := nI (eb_c (fun q => bt (fl q) nd) (t + 1))) (by rw [eb_c_t (p := fun q => bt (fl q) nd) z]; exact nI_1 _) (nm_r (nI_1 t) (ih (t + 1) (by omega))))⟩⟩
    · refine br_t rfl (nm_r (nI_1 t) ?_)
      rw [eb_rx_s0 z, eb_rp_s0 z, ← eb_c_f (p := fun q => bt (fl q) nd) z]
      exact ih (t + 1) (by omega)
theorem ey_c71 {post : Int32 → SY → Prop} {nd : Nat} {p : Nat → Bool} (hd : nd < 7) (hp : p = fun q => decide (q % 7 = nd) && eb_f (yf q)) (h : post (nI (eb_c p 588)) (ic, vc, lm, mk, os, eb_ry nd 588 yf, ya, ye, yr, yd, kf, ka, ke, kr, kd)) :
    ∀ d t, t + d = 588 → wY_corrupt_71 post (nI nd) ic vc lm (d + 1) (nI (eb_c p t)) (nI t) mk os (eb_ry nd t yf) ya ye yr yd kf ka ke kr kd := by
  intro d
  induction d with
  | zero =>
    intro t ht
    obtain rfl : t = 588 := by omega
    exact br_t (by decide) h
  | succ d ih =>
    intro t ht
    have c1 : (nI t).toNatClampNeg = t := nI_clamp (by omega)
    have e : nI t - nI t / 7 * 7 = nI (t % 7) := pk_rem (d := 7) (by omega) (by decide) (by decide)
    have c3 : eb_ry nd t yf (nI t).toNatClampNeg = yf t := by rw [c1, eb_ry_ge (Nat.lt_irrefl t)]
    have i1 : vp_in (nI t) 588 := vp_in_nI (by omega) (by decide)
    have skip : p t = false → (t % 7 = nd → yf t = -1) → wY_corrupt_71 post (nI nd) ic vc lm (d + 1) (nI (eb_c p t)) (nI (t + 1)) mk os (eb_ry nd t yf) ya ye yr yd kf ka ke kr kd := by
      intro hz hz2
      rw [← eb_c_f hz, eb_ry_s0 hz2]
      exact ih (t + 1) (by omega)
    refine br_f (nI_ge (b := 588) (by omega) (by decide)) ⟨by decide, ?_⟩
    by_cases hm : t % 7 = nd
    · refine br_t (by rw [e, hm]) ⟨i1, ?_⟩
      by_cases hy : yf t = -1
      · refine br_t (c3.trans hy) (nm_r (nI_1 t) (skip ?_ (fun _ => hy)))
        rw [hp]
        show (decide (t % 7 = nd) && eb_f (yf t)) = false
        rw [eb_ff hy, Bool.and_false]
      · have hz : p t = true := by
          rw [hp]
          show (decide (t % 7 = nd) && eb_f (yf t)) = true
          rw [eb_ft hy, decide_eq_true hm]
          rfl
        exact br_f (fun z => hy (c3.symm.trans z)) ⟨i1, nm_r (e' := eb_ry nd (t + 1) yf) (by rw [c1]; exact eb_ry_s1 hm) (nm_r (e' := nI (eb_c p (t + 1))) (by rw [eb_c_t hz]; exact nI_1 _) (nm_r (nI_1 t) (ih (t + 1) (by omega))))⟩
    · refine br_f (fun z => hm ((nI_eq (by omega) (by omega)).mp (e.symm.trans z))) (nm_r (nI_1 t) (skip ?_ (fun z => absurd z hm)))
      rw [hp]
      show (decide (t % 7 = nd) && eb_f (yf t)) = false
      rw [decide_eq_false hm, Bool.false_and]
theorem ey_c15 {post : Int32 → SY → Prop} {nd : Nat} {p : Nat → Bool} (hp : p = fun t => eb_g (mk t)) (h : wY_corrupt_15 post (nI nd) ic vc lm mk os yf ya ye yr yd kf ka ke kr kd 1 (nI (eb_c p 7)) (nI 7)) :
    ∀ d t, t + d = 7 → wY_corrupt_15 post (nI nd) ic vc lm mk os yf ya ye yr yd kf ka ke kr kd (d + 1) (nI (eb_c p t)) (nI t) := by
  intro d
  induction d with
  | zero =>
    intro t ht
    obtain rfl : t = 7 := by omega
    exact h
  | succ d ih =>
    intro t ht
    have c1 : (nI t).toNatClampNeg = t := nI_clamp (by omega)
    refine br_f (nI_ge (b := 7) (by omega) (by decide)) ⟨vp_in_nI (by omega) (by decide), ?_⟩
    by_cases hz : mk t = 0
    · have e : p t = false := by rw [hp]; exact eb_gf hz
      refine br_t (by rw [c1]; exact hz) (nm_r (nI_1 t) ?_)
      rw [← eb_c_f e]
      exact ih (t + 1) (by omega)
    · have e : p t = true := by rw [hp]; exact eb_gt hz
      exact br_f (by rw [c1]; exact hz) (nm_r (e' := nI (eb_c p (t + 1))) (by rw [eb_c_t e]; exact nI_1 _) (nm_r (nI_1 t) (ih (t + 1) (by omega))))
/-- the removal keeps the relation of the messages -/
theorem eb_rmQ {nd j : Nat} (hd : nd < 7) (hj : j < 4) (h : eb_QF j j fl pl pc yf) : eb_QF j j (eb_rx nd 84 fl) pl (eb_rp nd 84 fl pc) (eb_ry nd 588 yf) := by
  obtain ⟨h1, h2, h3⟩ := h
  refine ⟨fun r t hr ht => ?_, fun q hq hn => ?_, ?_⟩
  · have hb := h1 r t hr ht
    by_cases e : t = nd
    · rw [eb_ry_h (by omega) (by omega), eb_ff rfl]
      rcases eb_bc (bt (fl (j * 21 + r)) nd) with z | z
      · rw [eb_rx_t (by omega) z, b_and, eb_not _ (by omega), eb_sh (by omega) (by omega), decide_eq_true e, Bool.not_true, Bool.and_false]
      · rw [eb_rx_f z, e]
        exact z
    · rw [eb_ry_n (by omega)]
      rcases eb_bc (bt (fl (j * 21 + r)) nd) with z | z
      · rw [eb_rx_t (by omega) z, b_and, eb_not _ (by omega), eb_sh (by omega) (by omega), decide_eq_false e, Bool.not_false, Bool.and_true]
        exact hb
      · rw [eb_rx_f z]
        exact hb
  · have e : ¬ (j * 147 + q) % 7 = nd := fun e => hn (eb_ry_h (by omega) e)
    have e2 : eb_ry nd 588 yf (j * 147 + q) = yf (j * 147 + q) := eb_ry_n e
    rw [e2] at hn ⊢
    exact h2 q hq hn
  · have hc : eb_c (fun q => eb_f (yf (j * 147 + q))) 147 = eb_c (fun q => eb_f (eb_ry nd 588 yf (j * 147 + q))) 147 + eb_c (fun q => decide (q % 7 = nd) && eb_f (yf (j * 147 + q))) 147 := by
      apply eb_c_or
      · intro q hq
        by_cases e : q % 7 = nd
        · rw [eb_ry_h (by omega) (by omega), eb_ff rfl, decide_eq_true e, Bool.true_and, Bool.false_or]
        · rw [eb_ry_n (by omega), decide_eq_false e, Bool.false_and, Bool.or_false]
      · intro q hq hb
        rw [Bool.and_eq_true] at hb
        have e := of_decide_eq_true hb.1
        exact eb_ff (eb_ry_h (by omega) (by omega))
    have hr := eb_c_rows (G := fun q => eb_f (yf (j * 147 + q))) nd hd 21
    have hs : eb_c (fun q => decide (q / 21 = j) && bt (fl q) nd) 84 = eb_c (fun r => eb_f (yf (j * 147 + (r * 7 + nd)))) 21 := by
      rw [eb_c_seg (j * 21) 21 84 (by omega) (fun q hq => by rw [decide_eq_false (by omega), Bool.false_and]) (fun q hq _ => by rw [decide_eq_false (by omega), Bool.false_and])]
      apply eb_c_cg
      intro r hr
      rw [decide_eq_true (by omega : (j * 21 + r) / 21 = j), Bool.true_and]
      exact h1 r nd hr hd
    show pc j - nI (eb_c (fun q => decide (q / 21 = j) && bt (fl q) nd) 84) = _
    have hr : eb_c (fun q => decide (q % 7 = nd) && eb_f (yf (j * 147 + q))) 147 = eb_c (fun r => eb_f (yf (j * 147 + (r * 7 + nd)))) 21 := hr
    rw [h3, hs, pk_sub (by omega)]
    congr 1
    omega
theorem eb_rmC {nd : Nat} (hd : nd < 7) (hQ : ∀ j, j < 4 → eb_QF j j fl pl pc yf) : eb_c (fun q => decide (q % 7 = nd) && eb_f (yf q)) 588 = eb_c (fun q => bt (fl q) nd) 84 := by
  have hr : eb_c (fun q => decide (q % 7 = nd) && eb_f (yf q)) 588 = eb_c (fun r => eb_f (yf (r * 7 + nd))) 84 := eb_c_rows (G := fun q => eb_f (yf q)) nd hd 84
  rw [hr]
  apply eb_c_cg
  intro q hq
  have h := (hQ (q / 21) (by omega)).1 (q % 21) nd (by omega) hd
  rw [show q / 21 * 21 + q % 21 = q from by omega, show q / 21 * 147 + (q % 21 * 7 + nd) = q * 7 + nd from by omega] at h
  exact h.symm
end
theorem i_vc_corrupt {k : Nat} {u : SX} {v : SY} (I : i_Rel k u v) (hk : k + 5 ≤ 2563) (v1 : Int32) : wpX_corrupt (fun r u' => wpY_corrupt (fun r' v' => r' = r ∧ i_Rel (k + 5) u' v') v v1) u v1 := by
  refine eb_el (P := fun u v => wpX_corrupt (fun r u' => wpY_corrupt (fun r' v' => r' = r ∧ i_Rel (k + 5) u' v') v v1) u v1) ?_ I
  intro n m l fm fc ss fl pl pc hs ev rv dv ov mk os yf ya ye yr yd kf ka ke kr kd hb hfm hfc hcl hov hQ
  have R := eb_mkR (k := k + 5) (ss := ss) (kf := kf) (ka := ka) (ke := ke) (kr := kr) (kd := kd) hb hfm hfc hcl hov hQ
  unfold wpX_corrupt wpY_corrupt
  dsimp only
  rcases eb_split v1 (n := 7) (by decide) with o | ⟨j, hj, rfl⟩
  · exact ex_nd0 o (br_t rfl (ey_nd1 o (br_f (by decide) ⟨rfl, R⟩)))
  refine ex_nd1 hj (br_f (by decide) ?_)
  have c1 : (nI j).toNatClampNeg = j := nI_clamp (by omega)
  have i7 : vp_in (nI j) 7 := vp_in_nI hj (by decide)
  have hbit : bt fm j = eb_g (mk j) := by rw [hfm, eb_mbit _ hj]
  have hl : l < 2 ^ 31 := by omega
  by_cases hz : mk j = 0
  · refine ex_ft (by omega) (fun z => absurd (eb_gT (hbit.symm.trans z)) (fun z2 => z2 hz)) (fun _ => br_t rfl ?_)
    by_cases hlt : eb_c (fun t => eb_g (mk t)) 7 < l
    · have hlt' : fc < nI l := by
        rw [hfc]
        exact nI_lt hlt hl
      refine br_t hlt' (nm_e (nm_e ?_))
      unfold wpX_removeMessagesTo
      dsimp only
      refine ⟨85, ?_⟩
      have eX := fun P h => ex_rm4 (ic := nI n) (vc := nI m) (lm := nI l) (fm := fm ||| ((1 : Int32) <<< (nI j &&& 31))) (fc := fc + 1) (ss := ss) (fl := fl) (pl := pl) (pc := pc) (hs := hs) (ev := ev) (rv := rv) (dv := dv) (ov := ov) (post := P) hj h 84 0 rfl
      rw [eb_rx_0, eb_rp_0] at eX
      refine eX _ ?_
      refine ey_nd0 hj (br_t rfl ⟨8, ey_c15 rfl ?_ 7 0 rfl⟩)
      refine br_t (by decide) ⟨i7, br_t (by rw [c1]; exact hz) (br_t (nI_lt hlt hl) ⟨i7, nm_r (e' := upd mk j 1) (by rw [c1]; rfl) ⟨589, ?_⟩⟩)⟩
      have eY := fun P h => ey_c71 (ic := nI n) (vc := nI m) (lm := nI l) (mk := upd mk j 1) (os := os) (yf := yf) (ya := ya) (ye := ye) (yr := yr) (yd := yd) (kf := kf) (ka := ka) (ke := ke) (kr := kr) (kd := kd) (post := P) hj rfl h 588 0 rfl
      rw [eb_ry_0] at eY
      refine eY _ ⟨congrArg nI (eb_rmC hj (fun a ha => (hQ a ha).1)), ?_⟩
      have hor : ∀ a, eb_g (upd mk j 1 a) = (eb_g (mk a) || decide (a = j)) := by
        intro a
        by_cases e : a = j
        · rw [e, pk_us, decide_eq_true rfl, Bool.or_true]
          rfl
        · rw [pk_un e, decide_eq_false e, Bool.or_false]
      have hcn : eb_c (fun t => eb_g (upd mk j 1 t)) 7 = eb_c (fun t => eb_g (mk t)) 7 + 1 := by
        rw [eb_c_or (p := fun t => eb_g (mk t)) (t := fun t => decide (t = j)) 7 (fun a _ => hor a) (fun a _ ha => by rw [of_decide_eq_true ha]; exact eb_gf hz), eb_c_1 j 7 hj]
      refine eb_mkR hb ?_ ?_ ?_ hov (fun a ha => ⟨eb_rmQ hj ha (hQ a ha).1, (hQ a ha).2⟩)
      · show fm ||| ((1 : Int32) <<< (nI j &&& 31)) = eb_m (fun t => eb_g (upd mk j 1 t)) 7
        rw [hfm, eb_m_or _ hj]
        exact eb_m_cg 7 (fun a _ => (hor a).symm)
      · show fc + 1 = nI (eb_c (fun t => eb_g (upd mk j 1 t)) 7)
        rw [hcn, hfc]
        exact nI_1 _
      · show eb_c (fun t => eb_g (upd mk j 1 t)) 7 ≤ l
        rw [hcn]
        omega
    · have hlt' : ¬ fc < nI l := by
        rw [hfc]
        exact nI_nlt (by omega) (by have := eb_c_le (fun t => eb_g (mk t)) 7; omega)
      refine br_f hlt' ?_
      refine ey_nd0 hj (br_t rfl ⟨8, ey_c15 rfl ?_ 7 0 rfl⟩)
      rw [hfc] at hlt'
      exact br_t (by decide) ⟨i7, br_t (by rw [c1]; exact hz) (br_f hlt' ⟨rfl, R⟩)⟩
  · refine ex_ft (by omega) (fun _ => br_f (by decide) ?_) (fun z => absurd (eb_gF (hbit.symm.trans z)) hz)
    refine ey_nd0 hj (br_t rfl ⟨8, ey_c15 rfl ?_ 7 0 rfl⟩)
    exact br_t (by decide) ⟨i7, br_f (by rw [c1]; exact hz) ⟨rfl, R⟩⟩
end
section
/-! ===== forecast: copies ===== -/
def eb_cp (b s t : Nat) (a : Nat → Int32) : Nat → Int32 := fun j => if b ≤ j ∧ j < b + t then a (s + (j - b)) else a j
theorem eb_cp_0 {b s : Nat} {a : Nat → Int32} : eb_cp b s 0 a = a := funext fun j => if_neg (by omega)
theorem eb_cp_lo {b s t j : Nat} {a : Nat → Int32} (h : j < b) : eb_cp b s t a j = a j := if_neg (by omega)
theorem eb_cp_at {b s t r j : Nat} {a : Nat → Int32} (h : j = b + r) (hr : r < t) : eb_cp b s t a j = a (s + r) := by
  unfold eb_cp
  rw [if_pos (by omega), show j - b = r from by omega]
theorem eb_cp_s {b s t : Nat} {a : Nat → Int32} : upd (eb_cp b s t a) (b + t) (a (s + t)) = eb_cp b s (t + 1) a := by
  funext j
  by_cases e : j = b + t
  · rw [e, pk_us, eb_cp_at rfl (Nat.lt_succ_self t)]
  · rw [pk_un e]
    unfold eb_cp
    by_cases h : b ≤ j ∧ j < b + t
    · rw [if_pos h, if_pos (by omega)]
    · rw [if_neg h, if_neg (by omega)]
def eb_ct (t : Nat) (a b : Nat → Int32) : Nat → Int32 := fun j => if j < t then b j else a j
theorem eb_ct_0 {a b : Nat → Int32} : eb_ct 0 a b = a := funext fun j => if_neg (Nat.not_lt_zero j)
theorem eb_ct_i {t j : Nat} {a b : Nat → Int32} (h : j < t) : eb_ct t a b j = b j := if_pos h
theorem eb_ct_s {t : Nat} {a b : Nat → Int32} : upd (eb_ct t a b) t (b t) = eb_ct (t + 1) a b := by
  funext j
  by_cases e : j = t
  · rw [e, pk_us, eb_ct_i (Nat.lt_succ_self t)]
  · rw [pk_un e]
    unfold eb_ct
    by_cases h : j < t
    · rw [if_pos h, if_pos (by omega)]
    · rw [if_neg h, if_neg (by omega)]
theorem eb_pm (a c t : Nat) : (nI a * nI c) + nI t = nI (a * c + t) := by rw [pk_mul, nI_add]
section
variable {ic vc lm fm fc ss : Int32} {fl pl pc hs ev rv dv ov : Nat → Int32}
variable {mk os yf ya ye yr yd kf ka ke kr kd : Nat → Int32}
theorem ex_cm36 {post : SX → Prop} {i : Nat} (h4 : i < 4) (h : post (ic, vc, lm, fm, fc, ss, fl, eb_cp 588 (i * 147) 147 pl, pc, hs, ev, rv, dv, ov)) : ∀ d t, t + d = 147 → wX_copyMessages_36 post (nI i) ic vc lm fm fc ss (d + 1) (nI t) fl (eb_cp 588 (i * 147) t pl) pc hs ev rv dv ov := by
  intro d
  induction d with
  | zero =>
    intro t ht
    obtain rfl : t = 147 := by omega
    exact br_t (by decide) h
  | succ d ih =>
    intro t ht
    have e1 : (nI i * 147) + nI t = nI (i * 147 + t) := eb_pm i 147 t
    have e2 : (588 : Int32) + nI t = nI (588 + t) := nI_add 588 t
    have c1 : ((nI i * 147) + nI t).toNatClampNeg = i * 147 + t := by rw [e1, nI_clamp (by omega)]
    have c2 : ((588 : Int32) + nI t).toNatClampNeg = 588 + t := by rw [e2, nI_clamp (by omega)]
    refine br_f (nI_ge (b := 147) (by omega) (by decide)) ⟨by rw [e1]; exact vp_in_nI (by omega) (by decide), by rw [e2]; exact vp_in_nI (by omega) (by decide), nm_r (e' := eb_cp 588 (i * 147) (t + 1) pl) ?_ (nm_r (nI_1 t) (ih (t + 1) (by omega)))⟩
    rw [c1, c2, eb_cp_lo (by omega : i * 147 + t < 588)]
    exact eb_cp_s
theorem ex_cm2 {post : SX → Prop} {i : Nat} (h4 : i < 4) (h : post (ic, vc, lm, fm, fc, ss, eb_cp 84 (i * 21) 21 fl, eb_cp 588 (i * 147) 147 pl, pc, hs, ev, rv, dv, ov)) : ∀ d t, t + d = 21 → wX_copyMessages_2 post (nI i) ic vc lm fm fc ss (d + 1) (nI t) (eb_cp 84 (i * 21) t fl) pl pc hs ev rv dv ov := by
  intro d
  induction d with
  | zero =>
    intro t ht
    obtain rfl : t = 21 := by omega
    refine br_t (by decide) ⟨148, ?_⟩
    have e := ex_cm36 (post := post) h4 h 147 0 rfl
    rw [eb_cp_0] at e
    exact e
  | succ d ih =>
    intro t ht
    have e1 : (nI i * 21) + nI t = nI (i * 21 + t) := eb_pm i 21 t
    have e2 : (84 : Int32) + nI t = nI (84 + t) := nI_add 84 t
    have c1 : ((nI i * 21) + nI t).toNatClampNeg = i * 21 + t := by rw [e1, nI_clamp (by omega)]
    have c2 : ((84 : Int32) + nI t).toNatClampNeg = 84 + t := by rw [e2, nI_clamp (by omega)]
    refine br_f (nI_ge (b := 21) (by omega) (by decide)) ⟨by rw [e1]; exact vp_in_nI (by omega) (by decide), by rw [e2]; exact vp_in_nI (by omega) (by decide), nm_r (e' := eb_cp 84 (i * 21) (t + 1) fl) ?_ (nm_r (nI_1 t) (ih (t + 1) (by omega)))⟩
    rw [c1, c2, eb_cp_lo (by omega : i * 21 + t < 84)]
    exact eb_cp_s
theorem ex_cn37 {post : SX → Prop} {i : Nat} (h4 : i < 4) (h : post (ic, vc, lm, fm, fc, ss, fl, pl, pc, hs, eb_cp 28 (i * 7) 7 ev, eb_cp 28 (i * 7) 7 rv, eb_cp 28 (i * 7) 7 dv, ov)) : ∀ d t, t + d = 7 → wX_copyNodes_37 post (nI i) ic vc lm fm fc ss (d + 1) (nI t) fl pl pc hs (eb_cp 28 (i * 7) t ev) (eb_cp 28 (i * 7) t rv) (eb_cp 28 (i * 7) t dv) ov := by
  intro d
  induction d with
  | zero =>
    intro t ht
    obtain rfl : t = 7 := by omega
    exact br_t (by decide) h
  | succ d ih =>
    intro t ht
    have e1 : (nI i * 7) + nI t = nI (i * 7 + t) := eb_pm i 7 t
    have e2 : (28 : Int32) + nI t = nI (28 + t) := nI_add 28 t
    have c1 : ((nI i * 7) + nI t).toNatClampNeg = i * 7 + t := by rw [e1, nI_clamp (by omega)]
    have c2 : ((28 : Int32) + nI t).toNatClampNeg = 28 + t := by rw [e2, nI_clamp (by omega)]
    have i1 : vp_in ((nI i * 7) + nI t) 35 := by
      rw [e1]
      exact vp_in_nI (by omega) (by decide)
    have i2 : vp_in ((28 : Int32) + nI t) 35 := by
      rw [e2]
      exact vp_in_nI (by omega) (by decide)
    have st : ∀ a : Nat → Int32, upd (eb_cp 28 (i * 7) t a) ((28 : Int32) + nI t).toNatClampNeg (eb_cp 28 (i * 7) t a ((nI i * 7) + nI t).toNatClampNeg) = eb_cp 28 (i * 7) (t + 1) a := by
      intro a
      rw [c1, c2, eb_cp_lo (by omega : i * 7 + t < 28)]
      exact eb_cp_s
    exact br_f (nI_ge (b := 7) (by omega) (by decide)) ⟨i1, i2, nm_r (st ev) ⟨i1, i2, nm_r (st rv) ⟨i1, i2, nm_r (st dv) (nm_r (nI_1 t) (ih (t + 1) (by omega)))⟩⟩⟩
theorem ex_cn2 {post : SX → Prop} {i : Nat} (h4 : i < 4) (h : post (ic, vc, lm, fm, fc, ss, fl, pl, pc, eb_cp 224 (i * 56) 56 hs, eb_cp 28 (i * 7) 7 ev, eb_cp 28 (i * 7) 7 rv, eb_cp 28 (i * 7) 7 dv, ov)) : ∀ d t, t + d = 56 → wX_copyNodes_2 post (nI i) ic vc lm fm fc ss (d + 1) (nI t) fl pl pc (eb_cp 224 (i * 56) t hs) ev rv dv ov := by
  intro d
  induction d with
  | zero =>
    intro t ht
    obtain rfl : t = 56 := by omega
    refine br_t (by decide) ⟨8, ?_⟩
    have e := ex_cn37 (post := post) h4 h 7 0 rfl
    rw [eb_cp_0, eb_cp_0, eb_cp_0] at e
    exact e
  | succ d ih =>
    intro t ht
    have e1 : (nI i * 56) + nI t = nI (i * 56 + t) := eb_pm i 56 t
    have e2 : (224 : Int32) + nI t = nI (224 + t) := nI_add 224 t
    have c1 : ((nI i * 56) + nI t).toNatClampNeg = i * 56 + t := by rw [e1, nI_clamp (by omega)]
    have c2 : ((224 : Int32) + nI t).toNatClampNeg = 224 + t := by rw [e2, nI_clamp (by omega)]
    refine br_f (nI_ge (b := 56) (by omega) (by decide)) ⟨by rw [e1]; exact vp_in_nI (by omega) (by decide), by rw [e2]; exact vp_in_nI (by omega) (by decide), nm_r (e' := eb_cp 224 (i * 56) (t + 1) hs) ?_ (nm_r (nI_1 t) (ih (t + 1) (by omega)))⟩
    rw [c1, c2, eb_cp_lo (by omega : i * 56 + t < 224)]
    exact eb_cp_s
theorem ex_cps {post : SX → Prop} {i : Nat} (h4 : i < 4) (h : post (ic, vc, lm, fm, fc, nI i, eb_cp 84 (i * 21) 21 fl, eb_cp 588 (i * 147) 147 pl, upd pc 4 (pc i), eb_cp 224 (i * 56) 56 hs, eb_cp 28 (i * 7) 7 ev, eb_cp 28 (i * 7) 7 rv, eb_cp 28 (i * 7) 7 dv, ov)) : wpX_copyToScratch post (ic, vc, lm, fm, fc, ss, fl, pl, pc, hs, ev, rv, dv, ov) (nI i) := by
  have c1 : (nI i).toNatClampNeg = i := nI_clamp (by omega)
  unfold wpX_copyToScratch
  dsimp only
  refine ⟨vp_in_nI (by omega) (by decide), nm_r (e' := upd pc 4 (pc i)) (by rw [c1]) ?_⟩
  unfold wpX_copyMessages
  dsimp only
  refine ⟨22, ?_⟩
  have eM := fun P h => ex_cm2 (ic := ic) (vc := vc) (lm := lm) (fm := fm) (fc := fc) (ss := nI i) (fl := fl) (pl := pl) (pc := upd pc 4 (pc i)) (hs := hs) (ev := ev) (rv := rv) (dv := dv) (ov := ov) (post := P) h4 h 21 0 rfl
  rw [eb_cp_0] at eM
  refine eM _ ?_
  unfold wpX_copyNodes
  dsimp only
  refine ⟨57, ?_⟩
  have eN := fun P h => ex_cn2 (ic := ic) (vc := vc) (lm := lm) (fm := fm) (fc := fc) (ss := nI i) (fl := eb_cp 84 (i * 21) 21 fl) (pl := eb_cp 588 (i * 147) 147 pl) (pc := upd pc 4 (pc i)) (hs := hs) (ev := ev) (rv := rv) (dv := dv) (ov := ov) (post := P) h4 h 56 0 rfl
  rw [eb_cp_0] at eN
  exact eN _ h
/-! ===== the least correct node ===== -/
theorem ex_lc {p : Nat → Bool} (hp : ∀ t, t < 7 → bt fm t = p t) : ∀ d t, t + d = 6 → (∀ s, s < t → p s = true) →
    ∃ a, a ≤ 6 ∧ (∀ s, s < a → p s = true) ∧ (a < 6 → p a = false) ∧ (∀ post : Int32 → Prop, post (nI a) → wX_lowestCorrect_2 post ic vc lm fm fc ss fl pl pc hs ev rv dv ov (d + 1) (nI t)) := by
  intro d
  induction d with
  | zero =>
    intro t ht hs
    obtain rfl : t = 6 := by omega
    exact ⟨6, by omega, hs, fun z => absurd z (by omega), fun post h => br_t (by decide) h⟩
  | succ d ih =>
    intro t ht hs
    have n6 : ¬ (6 : Int32) ≤ nI t := nI_ge (b := 6) (by omega) (by decide)
    have hb := hp t (by omega)
    rcases eb_bc (p t) with z | z
    · obtain ⟨a, ha, h1, h2, h3⟩ := ih (t + 1) (by omega) (fun s hs2 => by
        by_cases e : s = t
        · rw [e]; exact z
        · exact hs s (by omega))
      exact ⟨a, ha, h1, h2, fun post h => br_f n6 (ex_ft (by omega) (fun _ => br_f (by decide) (nm_r (nI_1 t) (h3 post h))) (fun z2 => absurd (z2.symm.trans (hb.trans z)) (by decide)))⟩
    · exact ⟨t, by omega, hs, fun _ => z, fun post h => br_f n6 (ex_ft (by omega) (fun z2 => absurd (z2.symm.trans (hb.trans z)) (by decide)) (fun _ => br_t rfl h))⟩
theorem ey_lc {p : Nat → Bool} {x1 : Int32} (hp : p = fun t => eb_g (mk t)) : ∀ m c0, m ≤ 7 →
    ∃ c, ((c = c0 ∧ ∀ s, s < m → p s = true) ∨ (c < m ∧ p c = false ∧ ∀ s, s < c → p s = true)) ∧
      (∀ post : Int32 → SY → Prop, wY_forecast_126 post x1 ic vc lm mk os yf ya ye yr yd kf ka ke kr kd 1 (nI c) (-1) → wY_forecast_126 post x1 ic vc lm mk os yf ya ye yr yd kf ka ke kr kd (m + 1) (nI c0) (nI m + (-1))) := by
  intro m
  induction m with
  | zero =>
    intro c0 _
    exact ⟨c0, Or.inl ⟨rfl, fun s hs => absurd hs (Nat.not_lt_zero s)⟩, fun post h => h⟩
  | succ m ih =>
    intro c0 hm
    have c1 : (nI m).toNatClampNeg = m := nI_clamp (by omega)
    have n0 : ¬ nI m < 0 := nI_pos (by omega)
    have i7 : vp_in (nI m) 7 := vp_in_nI (by omega) (by decide)
    by_cases hz : mk m = 0
    · have e : p m = false := by rw [hp]; exact eb_gf hz
      obtain ⟨c, hc, h⟩ := ih m (by omega)
      refine ⟨c, Or.inr ?_, fun post hh => ?_⟩
      · rcases hc with ⟨e1, e2⟩ | ⟨e1, e2, e3⟩
        · rw [e1]
          exact ⟨by omega, e, e2⟩
        · exact ⟨by omega, e2, e3⟩
      · rw [pk_m1]
        exact br_f n0 ⟨i7, br_t (by rw [c1]; exact hz) (nm_e (h post hh))⟩
    · have e : p m = true := by rw [hp]; exact eb_gt hz
      obtain ⟨c, hc, h⟩ := ih c0 (by omega)
      refine ⟨c, ?_, fun post hh => ?_⟩
      · rcases hc with ⟨e1, e2⟩ | ⟨e1, e2, e3⟩
        · refine Or.inl ⟨e1, fun s hs => ?_⟩
          by_cases z : s = m
          · rw [z]; exact e
          · exact e2 s (by omega)
        · exact Or.inr ⟨by omega, e2, e3⟩
      · rw [pk_m1]
        exact br_f n0 ⟨i7, br_f (by rw [c1]; exact hz) (nm_e (h post hh))⟩
/-! ===== Y keeps and puts back ===== -/
theorem ey_f224 {post : Int32 → SY → Prop} {x3 : Int32} (h : post x3 (ic, vc, lm, mk, os, yf, ya, eb_ct 28 ye ke, eb_ct 28 yr kr, eb_ct 28 yd kd, kf, ka, ke, kr, kd)) : ∀ d t, t + d = 28 → wY_forecast_224 post x3 ic vc lm (d + 1) (nI t) mk os yf ya (eb_ct t ye ke) (eb_ct t yr kr) (eb_ct t yd kd) kf ka ke kr kd := by
  intro d
  induction d with
  | zero =>
    intro t ht
    obtain rfl : t = 28 := by omega
    exact br_t (by decide) h
  | succ d ih =>
    intro t ht
    have c1 : (nI t).toNatClampNeg = t := nI_clamp (by omega)
    have i1 : vp_in (nI t) 28 := vp_in_nI (by omega) (by decide)
    exact br_f (nI_ge (b := 28) (by omega) (by decide)) ⟨i1, i1, nm_r (e' := eb_ct (t + 1) ye ke) (by rw [c1, eb_ct_s]) ⟨i1, i1, nm_r (e' := eb_ct (t + 1) yr kr) (by rw [c1, eb_ct_s]) ⟨i1, i1, nm_r (e' := eb_ct (t + 1) yd kd) (by rw [c1, eb_ct_s]) (nm_r (nI_1 t) (ih (t + 1) (by omega)))⟩⟩⟩
theorem ey_f193 {post : Int32 → SY → Prop} {x3 : Int32} {b : Nat → Int32} (hb : b = fun j => vp_nar .boolean (ka j)) (h : post x3 (ic, vc, lm, mk, os, yf, eb_ct 1568 ya b, eb_ct 28 ye ke, eb_ct 28 yr kr, eb_ct 28 yd kd, kf, ka, ke, kr, kd)) : ∀ d t, t + d = 1568 → wY_forecast_193 post x3 ic vc lm (d + 1) (nI t) mk os yf (eb_ct t ya b) ye yr yd kf ka ke kr kd := by
  intro d
  induction d with
  | zero =>
    intro t ht
    obtain rfl : t = 1568 := by omega
    refine br_t (by decide) ⟨29, ?_⟩
    have e := ey_f224 (post := post) h 28 0 rfl
    rw [eb_ct_0, eb_ct_0, eb_ct_0] at e
    exact e
  | succ d ih =>
    intro t ht
    have c1 : (nI t).toNatClampNeg = t := nI_clamp (by omega)
    have i1 : vp_in (nI t) 1568 := vp_in_nI (by omega) (by decide)
    exact br_f (nI_ge (b := 1568) (by omega) (by decide)) ⟨i1, i1, nm_r (e' := eb_ct (t + 1) ya b) (by rw [c1, ← eb_ct_s, hb]) (nm_r (nI_1 t) (ih (t + 1) (by omega)))⟩
theorem ey_f162 {post : Int32 → SY → Prop} {x3 : Int32} {b : Nat → Int32} (hb : b = fun j => vp_nar .boolean (ka j)) (h : post x3 (ic, vc, lm, mk, os, eb_ct 588 yf kf, eb_ct 1568 ya b, eb_ct 28 ye ke, eb_ct 28 yr kr, eb_ct 28 yd kd, kf, ka, ke, kr, kd)) : ∀ d t, t + d = 588 → wY_forecast_162 post x3 ic vc lm (d + 1) (nI t) mk os (eb_ct t yf kf) ya ye yr yd kf ka ke kr kd := by
  intro d
  induction d with
  | zero =>
    intro t ht
    obtain rfl : t = 588 := by omega
    refine br_t (by decide) ⟨1569, ?_⟩
    have e := ey_f193 (post := post) hb h 1568 0 rfl
    rw [eb_ct_0] at e
    exact e
  | succ d ih =>
    intro t ht
    have c1 : (nI t).toNatClampNeg = t := nI_clamp (by omega)
    have i1 : vp_in (nI t) 588 := vp_in_nI (by omega) (by decide)
    exact br_f (nI_ge (b := 588) (by omega) (by decide)) ⟨i1, i1, nm_r (e' := eb_ct (t + 1) yf kf) (by rw [c1, ← eb_ct_s]) (nm_r (nI_1 t) (ih (t + 1) (by omega)))⟩
theorem ey_f67 {post : Int32 → SY → Prop} {x1 : Int32} (h : wY_forecast_67 post x1 ic vc lm 1 (nI 28) mk os yf ya ye yr yd kf ka (eb_ct 28 ke ye) (eb_ct 28 kr yr) (eb_ct 28 kd yd)) : ∀ d t, t + d = 28 → wY_forecast_67 post x1 ic vc lm (d + 1) (nI t) mk os yf ya ye yr yd kf ka (eb_ct t ke ye) (eb_ct t kr yr) (eb_ct t kd yd) := by
  intro d
  induction d with
  | zero =>
    intro t ht
    obtain rfl : t = 28 := by omega
    exact h
  | succ d ih =>
    intro t ht
    have c1 : (nI t).toNatClampNeg = t := nI_clamp (by omega)
    have i1 : vp_in (nI t) 28 := vp_in_nI (by omega) (by decide)
    exact br_f (nI_ge (b := 28) (by omega) (by decide)) ⟨i1, i1, nm_r (e' := eb_ct (t + 1) ke ye) (by rw [c1, eb_ct_s]) ⟨i1, i1, nm_r (e' := eb_ct (t + 1) kr yr) (by rw [c1, eb_ct_s]) ⟨i1, i1, nm_r (e' := eb_ct (t + 1) kd yd) (by rw [c1, eb_ct_s]) (nm_r (nI_1 t) (ih (t + 1) (by omega)))⟩⟩⟩
theorem ey_f40 {post : Int32 → SY → Prop} {x1 : Int32} {b : Nat → Int32} (hb : b = fun j => vp_nar .boolean (ya j)) (h : wY_forecast_67 post x1 ic vc lm 1 (nI 28) mk os yf ya ye yr yd kf (eb_ct 1568 ka b) (eb_ct 28 ke ye) (eb_ct 28 kr yr) (eb_ct 28 kd yd)) : ∀ d t, t + d = 1568 → wY_forecast_40 post x1 ic vc lm (d + 1) (nI t) mk os yf ya ye yr yd kf (eb_ct t ka b) ke kr kd := by
  intro d
  induction d with
  | zero =>
    intro t ht
    obtain rfl : t = 1568 := by omega
    refine br_t (by decide) ⟨29, ?_⟩
    have e := ey_f67 (post := post) h 28 0 rfl
    rw [eb_ct_0, eb_ct_0, eb_ct_0] at e
    exact e
  | succ d ih =>
    intro t ht
    have c1 : (nI t).toNatClampNeg = t := nI_clamp (by omega)
    have i1 : vp_in (nI t) 1568 := vp_in_nI (by omega) (by decide)
    exact br_f (nI_ge (b := 1568) (by omega) (by decide)) ⟨i1, i1, nm_r (e' := eb_ct (t + 1) ka b) (by rw [c1, ← eb_ct_s, hb]) (nm_r (nI_1 t) (ih (t + 1) (by omega)))⟩
theorem ey_f13 {post : Int32 → SY → Prop} {x1 : Int32} {b : Nat → Int32} (hb : b = fun j => vp_nar .boolean (ya j)) (h : wY_forecast_67 post x1 ic vc lm 1 (nI 28) mk os yf ya ye yr yd (eb_ct 588 kf yf) (eb_ct 1568 ka b) (eb_ct 28 ke ye) (eb_ct 28 kr yr) (eb_ct 28 kd yd)) : ∀ d t, t + d = 588 → wY_forecast_13 post x1 ic vc lm (d + 1) (nI t) mk os yf ya ye yr yd (eb_ct t kf yf) ka ke kr kd := by
  intro d
  induction d with
  | zero =>
    intro t ht
    obtain rfl : t = 588 := by omega
    refine br_t (by decide) ⟨1569, ?_⟩
    have e := ey_f40 (post := post) hb h 1568 0 rfl
    rw [eb_ct_0] at e
    exact e
  | succ d ih =>
    intro t ht
    have c1 : (nI t).toNatClampNeg = t := nI_clamp (by omega)
    have i1 : vp_in (nI t) 588 := vp_in_nI (by omega) (by decide)
    exact br_f (nI_ge (b := 588) (by omega) (by decide)) ⟨i1, i1, nm_r (e' := eb_ct (t + 1) kf yf) (by rw [c1, ← eb_ct_s]) (nm_r (nI_1 t) (ih (t + 1) (by omega)))⟩
end
end
section
/-! ===== forecast ===== -/
theorem eb_nb {x : Int32} (h : x = 0 ∨ x = 1) : vp_nar .boolean (vp_nar .boolean x) = x := by
  rcases h with h | h
  · rw [h]; rfl
  · rw [h]; rfl
/-- the slots are what they were: X's slots 0 to 3 by the frames, Y's by what was kept -/
theorem eb_keep4 {i : Nat} {fl pl pc hs ev rv dv yf ya ye yr yd fl' pl' pc' hs' ev' rv' dv' yf' ya' ye' yr' yd' kf ka ke kr kd b b2 : Nat → Int32} (h4 : i < 4) (hQ : ∀ j, j < 4 → eb_Q j j fl pl pc hs ev rv dv yf ya ye yr yd)
    (I : eb_I 4 i (eb_cp 84 (i * 21) 21 fl) (eb_cp 588 (i * 147) 147 pl) (upd pc 4 (pc i)) (eb_cp 224 (i * 56) 56 hs) (eb_cp 28 (i * 7) 7 ev) (eb_cp 28 (i * 7) 7 rv) (eb_cp 28 (i * 7) 7 dv) yf ya ye yr yd fl' pl' pc' hs' ev' rv' dv' yf' ya' ye' yr' yd')
    (hb : b = fun j => vp_nar .boolean (ya j)) (hb2 : b2 = fun j => vp_nar .boolean (eb_ct 1568 ka b j)) :
    ∀ j, j < 4 → eb_Q j j fl' pl' pc' hs' ev' rv' dv' (eb_ct 588 yf' (eb_ct 588 kf yf)) (eb_ct 1568 ya' b2) (eb_ct 28 ye' (eb_ct 28 ke ye)) (eb_ct 28 yr' (eb_ct 28 kr yr)) (eb_ct 28 yd' (eb_ct 28 kd yd)) := by
  intro j hj
  obtain ⟨⟨_, a2, a3, a4, _⟩, ⟨_, b3, _⟩, ⟨_, c2, _⟩, ⟨_, d2, _⟩, ⟨_, e2, _⟩⟩ := I
  obtain ⟨q1, q2, q3, q4, q5⟩ := hQ j hj
  refine ⟨eb_QF_cg q1 (fun r hr => ?_) (fun q hq => ?_) ?_ (fun q hq => ?_), eb_QH_cg q2 (fun r hr => ?_) (fun q hq => ?_), eb_QE_cg q3 (fun r hr => ?_) (fun q hq => ?_), eb_QE_cg q4 (fun r hr => ?_) (fun q hq => ?_), eb_QE_cg q5 (fun r hr => ?_) (fun q hq => ?_)⟩
  · rw [a2 _ (by omega), eb_cp_lo (by omega)]
  · rw [a3 _ (by omega), eb_cp_lo (by omega)]
  · rw [a4 _ (by rw [Nat.div_one]; omega), pk_un (by omega)]
  · rw [eb_ct_i (by omega), eb_ct_i (by omega)]
  · rw [b3 _ (by omega), eb_cp_lo (by omega)]
  · rw [eb_ct_i (by omega), hb2]
    show vp_nar .boolean (eb_ct 1568 ka b (j * 392 + q)) = _
    rw [eb_ct_i (by omega), hb]
    exact eb_nb (q2.2 q hq)
  · rw [c2 _ (by omega), eb_cp_lo (by omega)]
  · rw [eb_ct_i (by omega), eb_ct_i (by omega)]
  · rw [d2 _ (by omega), eb_cp_lo (by omega)]
  · rw [eb_ct_i (by omega), eb_ct_i (by omega)]
  · rw [e2 _ (by omega), eb_cp_lo (by omega)]
  · rw [eb_ct_i (by omega), eb_ct_i (by omega)]
theorem eb_scr {i : Nat} {fl pl pc hs ev rv dv yf ya ye yr yd : Nat → Int32} (h4 : i < 4) (h : eb_Q i i fl pl pc hs ev rv dv yf ya ye yr yd) : eb_Q 4 i (eb_cp 84 (i * 21) 21 fl) (eb_cp 588 (i * 147) 147 pl) (upd pc 4 (pc i)) (eb_cp 224 (i * 56) 56 hs) (eb_cp 28 (i * 7) 7 ev) (eb_cp 28 (i * 7) 7 rv) (eb_cp 28 (i * 7) 7 dv) yf ya ye yr yd := by
  obtain ⟨q1, q2, q3, q4, q5⟩ := h
  exact ⟨eb_QF_cg q1 (fun r hr => eb_cp_at rfl hr) (fun q hq => eb_cp_at rfl hq) pk_us (fun _ _ => rfl), eb_QH_cg q2 (fun r hr => eb_cp_at rfl hr) (fun _ _ => rfl), eb_QE_cg q3 (fun r hr => eb_cp_at rfl hr) (fun _ _ => rfl), eb_QE_cg q4 (fun r hr => eb_cp_at rfl hr) (fun _ _ => rfl), eb_QE_cg q5 (fun r hr => eb_cp_at rfl hr) (fun _ _ => rfl)⟩
theorem eb_lc {p : Nat → Bool} {a c : Nat} (hc : eb_c p 7 ≤ 2) (ha : a ≤ 6) (h1 : ∀ s, s < a → p s = true) (h2 : a < 6 → p a = false) (h : (c = 0 ∧ ∀ s, s < 7 → p s = true) ∨ (c < 7 ∧ p c = false ∧ ∀ s, s < c → p s = true)) : c = a := by
  have h6 : ¬ ∀ s, s < 6 → p s = true := by
    intro z
    have e := eb_c_full 6 z
    rw [eb_c_s, e] at hc
    omega
  have ha6 : a < 6 := by
    rcases Nat.lt_or_ge a 6 with z | z
    · exact z
    · exact absurd (fun s hs => h1 s (by omega)) h6
  have e1 := h2 ha6
  rcases h with ⟨_, e⟩ | ⟨_, e2, e3⟩
  · exact absurd (fun s hs => e s (by omega)) h6
  · rcases Nat.lt_trichotomy c a with z | z | z
    · exact absurd ((h1 c z).symm.trans e2) (by decide)
    · exact z
    · exact absurd ((e3 a z).symm.trans e1) (by decide)
theorem i_vc_forecast {k : Nat} {u : SX} {v : SY} (I : i_Rel k u v) (hk : k + 5 ≤ 2563) (v1 : Int32) : wpX_forecast (fun r u' => wpY_forecast (fun r' v' => r' = r ∧ i_Rel (k + 5) u' v') v v1) u v1 := by
  refine eb_el (P := fun u v => wpX_forecast (fun r u' => wpY_forecast (fun r' v' => r' = r ∧ i_Rel (k + 5) u' v') v v1) u v1) ?_ I
  intro n m l fm fc ss fl pl pc hs ev rv dv ov mk os yf ya ye yr yd kf ka ke kr kd hb hfm hfc hcl hov hQ
  have R := eb_mkR (k := k + 5) (ss := ss) (kf := kf) (ka := ka) (ke := ke) (kr := kr) (kd := kd) hb hfm hfc hcl hov hQ
  have hn : n < 2 ^ 31 := by omega
  unfold wpX_forecast wpY_forecast
  dsimp only
  rcases eb_split v1 hn with o | ⟨i, hi, rfl⟩
  · exact ex_in0 hn o (br_t rfl (ey_in1 hn o (br_f (by decide) ⟨rfl, R⟩)))
  have h4 : i < 4 := by omega
  generalize hbb : (fun j => vp_nar .boolean (ya j)) = b
  generalize hbb2 : (fun j => vp_nar .boolean (eb_ct 1568 ka b j)) = b2
  obtain ⟨e, fl', pl', pc', hs', ev', rv', dv', yf', ya', ye', yr', yd', I', hX, hY⟩ := el_drain (vc := nI m) (lm := nI l) (fc := fc) (ss := nI i) (ov := ov) (os := os) (kf := eb_ct 588 kf yf) (ka := eb_ct 1568 ka b) (ke := eb_ct 28 ke ye) (kr := eb_ct 28 kr yr) (kd := eb_ct 28 kd yd) (s := 4) (i := i) rfl hb.2.1 hi (by omega) hfm (Or.inl ⟨rfl, rfl⟩) (eb_Q_I (eb_scr h4 (hQ i h4)))
  obtain ⟨a, ha, ha1, ha2, hLX⟩ := ex_lc (ic := nI n) (vc := nI m) (lm := nI l) (fm := fm) (fc := fc) (ss := nI i) (fl := fl') (pl := pl') (pc := pc') (hs := hs') (ev := ev') (rv := rv') (dv := dv') (ov := ov) (p := fun t => eb_g (mk t)) (fun t ht => by rw [hfm, eb_mbit _ ht]) 6 0 rfl (fun s hs => absurd hs (Nat.not_lt_zero s))
  obtain ⟨c, hc, hLY⟩ := ey_lc (ic := nI n) (vc := nI m) (lm := nI l) (mk := mk) (os := os) (yf := yf') (ya := ya') (ye := ye') (yr := yr') (yd := yd') (kf := eb_ct 588 kf yf) (ka := eb_ct 1568 ka b) (ke := eb_ct 28 ke ye) (kr := eb_ct 28 kr yr) (kd := eb_ct 28 kd yd) (x1 := nI i) rfl 7 0 (by omega)
  have hca : c = a := eb_lc (by omega) ha ha1 ha2 hc
  subst hca
  rw [show nI 7 + (-1) = 6 from by decide] at hLY
  have hD := I'.2.2.2.2.1 c (by omega)
  have e28 : (28 : Int32) + nI c = nI (28 + c) := nI_add 28 c
  have c28 : ((28 : Int32) + nI c).toNatClampNeg = 28 + c := by rw [e28, nI_clamp (by omega)]
  have ci : ((nI i * 7) + nI c).toNatClampNeg = i * 7 + c := by rw [eb_p7, nI_clamp (by omega)]
  refine ex_in1 hn hi (br_f (by decide) (ex_cps h4 ?_))
  refine hX _ ?_
  unfold wpX_lowestCorrect
  dsimp only
  refine ⟨7, hLX _ ⟨by rw [e28]; exact vp_in_nI (by omega) (by decide), ?_⟩⟩
  refine ey_in0 hn hi (br_t rfl ⟨589, ?_⟩)
  have eY := fun P h => ey_f13 (ic := nI n) (vc := nI m) (lm := nI l) (mk := mk) (os := os) (yf := yf) (ya := ya) (ye := ye) (yr := yr) (yd := yd) (kf := kf) (ka := ka) (ke := ke) (kr := kr) (kd := kd) (post := P) (x1 := nI i) hbb.symm h 588 0 rfl
  rw [eb_ct_0] at eY
  refine eY _ (br_t (by decide) (hY _ ⟨8, hLY _ ?_⟩))
  refine br_t (by decide) ⟨by rw [eb_p7]; exact vp_in_nI (by omega) (by decide), nm_r (e' := yd' (i * 7 + c)) (by rw [ci]) ⟨589, ?_⟩⟩
  have eZ := fun P h => ey_f162 (ic := nI n) (vc := nI m) (lm := nI l) (mk := mk) (os := os) (yf := yf') (ya := ya') (ye := ye') (yr := yr') (yd := yd') (kf := eb_ct 588 kf yf) (ka := eb_ct 1568 ka b) (ke := eb_ct 28 ke ye) (kr := eb_ct 28 kr yr) (kd := eb_ct 28 kd yd) (post := P) (x3 := yd' (i * 7 + c)) hbb2.symm h 588 0 rfl
  rw [eb_ct_0] at eZ
  refine eZ _ ⟨?_, eb_mkR hb hfm hfc hcl hov (eb_keep4 h4 hQ I' hbb.symm hbb2.symm)⟩
  rw [c28]
  exact hD.symm
end
