section
/-! rows pasted out of the kit's rows to paste (starting texts): pk_, bt, b_, s_l, nx_and -/
theorem pk_us {f : Nat → Int32} {k : Nat} {x : Int32} : upd f k x k = x := if_pos rfl
theorem pk_un {f : Nat → Int32} {k j : Nat} {x : Int32} (h : j ≠ k) : upd f k x j = f j := if_neg h
theorem pk_sub {a b : Nat} (h : b ≤ a) : nI a - nI b = nI (a - b) := by
  obtain ⟨c, rfl⟩ : ∃ c, a = c + b := ⟨a - b, by omega⟩
  rw [← nI_add, Int32.add_sub_cancel, Nat.add_sub_cancel]
theorem pk_m1 (n : Nat) : nI (n + 1) + (-1) = nI n := by
  rw [← nI_1, Int32.add_assoc, show (1 : Int32) + (-1) = 0 from rfl, Int32.add_zero]
theorem pk_mul (a b : Nat) : nI a * nI b = nI (a * b) := (Int32.ofNat_mul a b).symm
theorem pk_div {a d : Nat} (ha : a < 2 ^ 31) (h0 : 0 < d) (hd : d < 2 ^ 31) : nI a / nI d = nI (a / d) := by
  apply Int32.toInt_inj.mp
  rw [lg_idiv_nonneg (by rw [nI_toInt ha]; omega) (by rw [nI_toInt hd]; omega), nI_toInt ha, nI_toInt hd, nI_toInt (Nat.lt_of_le_of_lt (Nat.div_le_self a d) ha)]
  first | rfl | exact (Int.natCast_ediv _ _).symm
theorem pk_rem {a d : Nat} (ha : a < 2 ^ 31) (h0 : 0 < d) (hd : d < 2 ^ 31) : nI a - nI a / nI d * nI d = nI (a % d) := by
  rw [pk_div ha h0 hd, pk_mul, pk_sub (Nat.div_mul_le_self a d)]
  exact congrArg nI (by have := Nat.div_add_mod' a d; omega)
theorem pk_sub_toInt {a b : Nat} (ha : a < 2 ^ 30) (hb : b < 2 ^ 30) : (nI a - nI b).toInt = (a : Int) - b := by
  rw [Int32.toInt_sub, nI_toInt (by omega), nI_toInt (by omega)]
  exact Int.bmod_eq_of_le (by omega) (by omega)
theorem pk_ix (x : Int32) {n : Nat} (hn : n < 2 ^ 31) : x < 0 ∨ nI n ≤ x ∨ ∃ j : Nat, j < n ∧ x = nI j := by
  by_cases h : x < 0
  · exact Or.inl h
  · obtain ⟨j, hj, rfl⟩ := nI_of h
    by_cases h2 : j < n
    · exact Or.inr (Or.inr ⟨j, h2, rfl⟩)
    · exact Or.inr (Or.inl (nI_le (by omega) hj))
theorem pk_le {x y : Int32} {A B : Prop} (a b : Nat) (f : a ≤ b → A) (g : b < a → B) (hx : x = nI a := by rfl) (hy : y = nI b := by rfl) (ha : a < 2 ^ 31 := by omega) (hb : b < 2 ^ 31 := by omega) : (x ≤ y → A) ∧ (¬ x ≤ y → B) := by
  subst hx hy
  rw [nI_leI ha hb]
  exact ⟨f, fun z => g (by omega)⟩
theorem pk_lt {x y : Int32} {A B : Prop} (a b : Nat) (f : a < b → A) (g : b ≤ a → B) (hx : x = nI a := by rfl) (hy : y = nI b := by rfl) (ha : a < 2 ^ 31 := by omega) (hb : b < 2 ^ 31 := by omega) : (x < y → A) ∧ (¬ x < y → B) := by
  subst hx hy
  rw [nI_ltI ha hb]
  exact ⟨f, fun z => g (by omega)⟩
theorem pk_eq {x y : Int32} {A B : Prop} (a b : Nat) (f : a = b → A) (g : a ≠ b → B) (hx : x = nI a := by rfl) (hy : y = nI b := by rfl) (ha : a < 2 ^ 31 := by omega) (hb : b < 2 ^ 31 := by omega) : (x = y → A) ∧ (¬ x = y → B) := by
  subst hx hy
  rw [nI_eq ha hb]
  exact ⟨f, g⟩
theorem pk_in {x : Int32} (n N : Nat) (h : n < N) (hx : x = nI n := by rfl) (hN : N < 2 ^ 31 := by omega) : vp_in x N := by
  subst hx
  exact vp_in_nI h hN
theorem pk_cl {x : Int32} (n : Nat) (hx : x = nI n := by rfl) (h : n < 2 ^ 31 := by omega) : x.toNatClampNeg = n := by
  subst hx
  exact nI_clamp h
theorem pk_tn {n : Nat} (h : n < 2 ^ 32) : (nI n).toBitVec.toNat = n := Nat.mod_eq_of_lt h
theorem pk_and (x : Int32) {m : Int32} (k : Nat) (hm : m.toBitVec.toNat = 2 ^ k - 1) : x &&& m = nI (x.toBitVec.toNat % 2 ^ k) := by
  apply Int32.toBitVec_inj.mp
  apply BitVec.eq_of_toNat_eq
  rw [Int32.toBitVec_and, BitVec.toNat_and, hm, Nat.and_two_pow_sub_one_eq_mod]
  show _ = (BitVec.ofNat 32 _).toNat
  rw [BitVec.toNat_ofNat]
  exact (Nat.mod_eq_of_lt (Nat.lt_of_le_of_lt (Nat.mod_le _ _) x.toBitVec.isLt)).symm
theorem pk_least (P : Nat → Prop) (h : ∃ k, P k) : ∃ k, P k ∧ ∀ j, j < k → ¬ P j := by
  obtain ⟨k, hk⟩ := h
  induction k using Nat.strongRecOn with
  | ind k ih =>
    by_cases e : ∃ j, j < k ∧ P j
    · obtain ⟨j, hj, pj⟩ := e
      exact ih j hj pj
    · exact ⟨k, hk, fun j hj pj => e ⟨j, hj, pj⟩⟩
def bt (x : Int32) (i : Nat) : Bool := x.toBitVec.getLsbD i
theorem b_ext {x y : Int32} (h : ∀ i, i < 32 → bt x i = bt y i) : x = y := Int32.toBitVec_inj.mp (BitVec.eq_of_getLsbD_eq (fun i hi => h i hi))
theorem b_or (x y : Int32) (i : Nat) : bt (x ||| y) i = (bt x i || bt y i) := by unfold bt; rw [Int32.toBitVec_or, BitVec.getLsbD_or]
theorem b_and (x y : Int32) (i : Nat) : bt (x &&& y) i = (bt x i && bt y i) := by unfold bt; rw [Int32.toBitVec_and, BitVec.getLsbD_and]
theorem b_big {x : Int32} {i : Nat} (h : 32 ≤ i) : bt x i = false := BitVec.getLsbD_of_ge _ _ h
theorem b_255 (i : Nat) : bt 255 i = decide (i < 8) := by
  rcases Nat.lt_or_ge i 32 with h | h
  · exact (by decide +kernel : ∀ i, i < 32 → bt 255 i = decide (i < 8)) i h
  · rw [b_big h, decide_eq_false (by omega)]
theorem b_0 (i : Nat) : bt 0 i = false := BitVec.getLsbD_zero
theorem s_l : ∀ n, n < 32 → ((nI n &&& 31).toBitVec.smod 32).toNat = n := by decide +kernel
theorem b_shl (n : Nat) (hn : n < 32) (x : Int32) {i : Nat} (hi : i < 32) : bt (x <<< (nI n &&& 31)) i = (decide (n ≤ i) && bt x (i - n)) := by
  unfold bt
  rw [Int32.toBitVec_shiftLeft]
  show (x.toBitVec <<< ((nI n &&& 31).toBitVec.smod 32).toNat).getLsbD i = _
  rw [s_l n hn, BitVec.getLsbD_shiftLeft]
  rcases Nat.lt_or_ge i n with h | h
  · simp [h, Nat.not_le.mpr h]
  · simp [hi, h, Nat.not_lt.mpr h]
theorem b_sshr (n : Nat) (hn : n < 32) (x : Int32) {i : Nat} (hi : i < 32) : bt (x >>> (nI n &&& 31)) i = if n + i < 32 then bt x (n + i) else bt x 31 := by
  unfold bt
  rw [Int32.toBitVec_shiftRight]
  show (x.toBitVec.sshiftRight ((nI n &&& 31).toBitVec.smod 32).toNat).getLsbD i = _
  rw [s_l n hn, BitVec.getLsbD_sshiftRight, BitVec.msb_eq_getLsbD_last]
  simp [hi]
theorem nx_and (a b : Nat) : nI a &&& nI b = nI (a &&& b) := by
  apply Int32.toBitVec_inj.1
  show BitVec.ofNat 32 a &&& BitVec.ofNat 32 b = BitVec.ofNat 32 (a &&& b)
  apply BitVec.eq_of_getLsbD_eq
  intro i hi
  simp [hi]
end
section
/-! own rows: numbers, bits -/
theorem ra_n1lt : (-1 : Int32) < 0 := by decide
theorem ra_n1le : ¬ (0 : Int32) ≤ -1 := by decide
theorem ra_ne1 {a : Nat} (h : a < 2 ^ 31) : ¬ nI a = -1 := by
  intro e
  have := nI_pos (n := a) h
  rw [e] at this
  exact this ra_n1lt
theorem ra_vb0 : vp_nar .boolean 0 = 0 := by decide
theorem ra_vb1 : vp_nar .boolean 1 = 1 := by decide
theorem ra_10 : ¬ (1 : Int32) = 0 := by decide
theorem ra_im {a b : Nat} (h : nI a = nI b) (ha : a < 2 ^ 31) (hb : b < 2 ^ 31) : a = b := (nI_eq ha hb).mp h
theorem ra_le0 {a : Nat} (h : a < 2 ^ 31) : nI a ≤ 0 ↔ a = 0 := by
  rw [← nI_0, nI_leI h (by omega)]; omega
theorem ra_eq0 {a : Nat} (h : a < 2 ^ 31) : nI a = 0 ↔ a = 0 := by
  rw [← nI_0, nI_eq h (by omega)]
theorem ra_s {n : Nat} (h : 0 < n) : nI n - 1 = nI (n - 1) := by
  obtain ⟨m, rfl⟩ : ∃ m, n = m + 1 := ⟨n - 1, by omega⟩
  exact nI_pred m
theorem ra_m {n : Nat} (h : 0 < n) : nI n + (-1) = nI (n - 1) := by
  obtain ⟨m, rfl⟩ : ∃ m, n = m + 1 := ⟨n - 1, by omega⟩
  exact pk_m1 m
theorem ra_m8 (a : Nat) : nI a * 8 = nI (a * 8) := pk_mul a 8
theorem ra_N : (1000000 : Int32).toInt = 1000000 := by decide
theorem ra_0 : (0 : Int32).toInt = 0 := by decide
theorem ra_1 : (1 : Int32).toInt = 1 := by decide
theorem ra_p1000 : (1000 : Int32).toInt = 1000 := by decide
theorem ra_m1000 : (-1000 : Int32).toInt = -1000 := by decide
theorem ra_eqN {x : Int32} : x = 1000000 ↔ x.toInt = 1000000 := by
  rw [← Int32.toInt_inj, ra_N]
theorem ra_le {x y : Int32} : x ≤ y ↔ x.toInt ≤ y.toInt := Int32.le_iff_toInt_le
theorem ra_lt {x y : Int32} : x < y ↔ x.toInt < y.toInt := Int32.lt_iff_toInt_lt
theorem ra_add {x y : Int32} (h1 : -2147483648 ≤ x.toInt + y.toInt) (h2 : x.toInt + y.toInt < 2147483648) : (x + y).toInt = x.toInt + y.toInt := by
  rw [Int32.toInt_add]
  exact Int.bmod_eq_of_le (by omega) (by omega)
theorem ra_sub {x y : Int32} (h1 : -2147483648 ≤ x.toInt - y.toInt) (h2 : x.toInt - y.toInt < 2147483648) : (x - y).toInt = x.toInt - y.toInt := by
  rw [Int32.toInt_sub]
  exact Int.bmod_eq_of_le (by omega) (by omega)
theorem ra_neg1 {x : Int32} (h : x = -1 ∨ ∃ k : Nat, k < 6 ∧ x = nI k) : x < 0 ↔ x = -1 := by
  rcases h with h | ⟨k, hk, h⟩
  · rw [h]; exact ⟨fun _ => rfl, fun _ => ra_n1lt⟩
  · rw [h]; exact ⟨fun z => absurd z (nI_pos (by omega)), fun z => absurd z (ra_ne1 (by omega))⟩
/-! a branch on the sign of -1 or a natural -/
theorem ra_b1 (i : Nat) : bt 1 i = decide (i = 0) := by
  rcases Nat.lt_or_ge i 32 with h | h
  · exact (by decide +kernel : ∀ i, i < 32 → bt 1 i = decide (i = 0)) i h
  · rw [b_big h, decide_eq_false (by omega)]
theorem ra_bitAt (x : Int32) (g : Nat) (hg : g < 31) (i : Nat) (hi : i < 32) : bt ((x >>> (nI g &&& 31)) &&& 1) i = (bt x g && decide (i = 0)) := by
  rw [b_and, ra_b1]
  by_cases h : i = 0
  · subst h
    rw [b_sshr g (by omega) x (by omega), if_pos (by omega), Nat.add_zero]
  · rw [decide_eq_false h, Bool.and_false, Bool.and_false]
theorem ra_bitT {x : Int32} {g : Nat} (hg : g < 31) (h : bt x g = true) : (x >>> (nI g &&& 31)) &&& 1 = 1 := by
  apply b_ext
  intro i hi
  rw [ra_bitAt x g hg i hi, h, ra_b1, Bool.true_and]
theorem ra_bitF {x : Int32} {g : Nat} (hg : g < 31) (h : bt x g = false) : (x >>> (nI g &&& 31)) &&& 1 = 0 := by
  apply b_ext
  intro i hi
  rw [ra_bitAt x g hg i hi, h, b_0, Bool.false_and]
theorem ra_bit1 {x : Int32} {g : Nat} (hg : g < 31) : (x >>> (nI g &&& 31)) &&& 1 = 1 ↔ bt x g = true := by
  cases h : bt x g
  · rw [ra_bitF hg h]; exact ⟨fun z => absurd z (by decide), fun z => absurd z (by decide)⟩
  · rw [ra_bitT hg h]; exact ⟨fun _ => rfl, fun _ => rfl⟩
theorem ra_shl (g : Nat) (hg : g < 31) (i : Nat) (hi : i < 32) : bt ((1 : Int32) <<< (nI g &&& 31)) i = decide (i = g) := by
  rw [b_shl g (by omega) 1 hi, ra_b1]
  by_cases h : i = g
  · subst h
    rw [decide_eq_true (Nat.le_refl i), Nat.sub_self, decide_eq_true rfl, decide_eq_true rfl]; rfl
  · rw [decide_eq_false h]
    by_cases h2 : g ≤ i
    · rw [decide_eq_false (show ¬ i - g = 0 by omega), Bool.and_false]
    · rw [decide_eq_false h2, Bool.false_and]
end
section
/-! sums and counts below a number -/
noncomputable def sm_b (p : Prop) : Nat := @ite _ p (Classical.propDecidable p) 1 0
theorem sm_t {p : Prop} (h : p) : sm_b p = 1 := by unfold sm_b; exact if_pos h
theorem sm_f {p : Prop} (h : ¬ p) : sm_b p = 0 := by unfold sm_b; exact if_neg h
theorem sm_01 (p : Prop) : sm_b p = 0 ∨ sm_b p = 1 := by
  by_cases h : p
  · exact Or.inr (sm_t h)
  · exact Or.inl (sm_f h)
theorem sm_c {p q : Prop} (h : p ↔ q) : sm_b p = sm_b q := by rw [propext h]
noncomputable def sm_i (p : Prop) (x : Int) : Int := @ite _ p (Classical.propDecidable p) x 0
theorem sm_it {p : Prop} {x : Int} (h : p) : sm_i p x = x := by unfold sm_i; exact if_pos h
theorem sm_if {p : Prop} {x : Int} (h : ¬ p) : sm_i p x = 0 := by unfold sm_i; exact if_neg h
def sm_s (f : Nat → Int) : Nat → Int
  | 0 => 0
  | n + 1 => sm_s f n + f n
noncomputable def sm_n (P : Nat → Prop) : Nat → Nat
  | 0 => 0
  | n + 1 => sm_n P n + sm_b (P n)
theorem sm_s_s (f : Nat → Int) (n : Nat) : sm_s f (n + 1) = sm_s f n + f n := rfl
theorem sm_n_s (P : Nat → Prop) (n : Nat) : sm_n P (n + 1) = sm_n P n + sm_b (P n) := rfl
theorem sm_n_t {P : Nat → Prop} {n : Nat} (h : P n) : sm_n P (n + 1) = sm_n P n + 1 := by rw [sm_n_s, sm_t h]
theorem sm_n_f {P : Nat → Prop} {n : Nat} (h : ¬ P n) : sm_n P (n + 1) = sm_n P n := by rw [sm_n_s, sm_f h]; rfl
theorem sm_s_c {f g : Nat → Int} : ∀ n : Nat, (∀ i, i < n → f i = g i) → sm_s f n = sm_s g n := by
  intro n
  induction n with
  | zero => intro _; rfl
  | succ n ih => intro h; rw [sm_s_s, sm_s_s, ih (fun i hi => h i (by omega)), h n (by omega)]
theorem sm_s_le {f g : Nat → Int} : ∀ n : Nat, (∀ i, i < n → f i ≤ g i) → sm_s f n ≤ sm_s g n := by
  intro n
  induction n with
  | zero => intro _; exact Int.le_refl 0
  | succ n ih =>
    intro h
    have h1 := ih (fun i hi => h i (by omega))
    have h2 := h n (by omega)
    rw [sm_s_s, sm_s_s]
    omega
theorem sm_s_add (f g : Nat → Int) : ∀ n : Nat, sm_s (fun i => f i + g i) n = sm_s f n + sm_s g n := by
  intro n
  induction n with
  | zero => rfl
  | succ n ih => rw [sm_s_s, sm_s_s, sm_s_s, ih]; omega
theorem sm_s_sub (f g : Nat → Int) : ∀ n : Nat, sm_s (fun i => f i - g i) n = sm_s f n - sm_s g n := by
  intro n
  induction n with
  | zero => rfl
  | succ n ih => rw [sm_s_s, sm_s_s, sm_s_s, ih]; omega
theorem sm_s_0 : ∀ n : Nat, sm_s (fun _ => 0) n = 0 := by
  intro n
  induction n with
  | zero => rfl
  | succ n ih => rw [sm_s_s, ih]; rfl
theorem sm_s_z {f : Nat → Int} (n : Nat) (h : ∀ i, i < n → f i = 0) : sm_s f n = 0 := by
  rw [sm_s_c (g := fun _ => 0) n h, sm_s_0]
theorem sm_s_up {f g : Nat → Int} {x : Nat} : ∀ n : Nat, x < n → (∀ i, i < n → i ≠ x → f i = g i) → sm_s f n = sm_s g n + (f x - g x) := by
  intro n
  induction n with
  | zero => intro h _; omega
  | succ n ih =>
    intro hx h
    rw [sm_s_s, sm_s_s]
    by_cases e : x = n
    · rw [sm_s_c (g := g) n (fun i hi => h i (by omega) (by omega)), e]; omega
    · rw [ih (by omega) (fun i hi hne => h i (by omega) hne), h n (by omega) (fun z => e z.symm)]; omega
theorem sm_s_pt {f : Nat → Int} {x n : Nat} (hx : x < n) (h : ∀ i, i < n → i ≠ x → f i = 0) : sm_s f n = f x := by
  rw [sm_s_up (g := fun _ => 0) n hx h, sm_s_0]; omega
theorem sm_s_swap (f : Nat → Nat → Int) (m : Nat) : ∀ n : Nat, sm_s (fun i => sm_s (fun j => f i j) m) n = sm_s (fun j => sm_s (fun i => f i j) n) m := by
  intro n
  induction n with
  | zero => exact (sm_s_0 m).symm
  | succ n ih =>
    rw [sm_s_s, ih]
    exact (sm_s_add (fun j => sm_s (fun i => f i j) n) (fun j => f n j) m).symm
theorem sm_s_bd {f : Nat → Int} {a b : Int} : ∀ n : Nat, (∀ i, i < n → a ≤ f i ∧ f i ≤ b) → (n : Int) * a ≤ sm_s f n ∧ sm_s f n ≤ (n : Int) * b := by
  intro n
  induction n with
  | zero => intro _; constructor <;> simp [sm_s]
  | succ n ih =>
    intro h
    have h1 := ih (fun i hi => h i (by omega))
    have h2 := h n (by omega)
    have e1 : ((n + 1 : Nat) : Int) * a = (n : Int) * a + a := by rw [Int.natCast_succ, Int.add_mul, Int.one_mul]
    have e2 : ((n + 1 : Nat) : Int) * b = (n : Int) * b + b := by rw [Int.natCast_succ, Int.add_mul, Int.one_mul]
    rw [sm_s_s, e1, e2]
    omega
theorem sm_n_c {P Q : Nat → Prop} : ∀ n : Nat, (∀ i, i < n → (P i ↔ Q i)) → sm_n P n = sm_n Q n := by
  intro n
  induction n with
  | zero => intro _; rfl
  | succ n ih => intro h; rw [sm_n_s, sm_n_s, ih (fun i hi => h i (by omega)), sm_c (h n (by omega))]
theorem sm_n_le {P Q : Nat → Prop} : ∀ n : Nat, (∀ i, i < n → P i → Q i) → sm_n P n ≤ sm_n Q n := by
  intro n
  induction n with
  | zero => intro _; exact Nat.le_refl 0
  | succ n ih =>
    intro h
    have h1 := ih (fun i hi => h i (by omega))
    rw [sm_n_s, sm_n_s]
    by_cases hp : P n
    · rw [sm_t hp, sm_t (h n (by omega) hp)]; omega
    · rw [sm_f hp]; omega
theorem sm_n_bd (P : Nat → Prop) : ∀ n : Nat, sm_n P n ≤ n := by
  intro n
  induction n with
  | zero => exact Nat.le_refl 0
  | succ n ih => rw [sm_n_s]; rcases sm_01 (P n) with h | h <;> rw [h] <;> omega
theorem sm_n_mono (P : Nat → Prop) {a b : Nat} (h : a ≤ b) : sm_n P a ≤ sm_n P b := by
  obtain ⟨c, rfl⟩ : ∃ c, b = a + c := ⟨b - a, by omega⟩
  clear h
  induction c with
  | zero => exact Nat.le_refl _
  | succ c ih => exact Nat.le_trans ih (by rw [← Nat.add_assoc, sm_n_s]; omega)
theorem sm_n_up {P Q : Nat → Prop} {x : Nat} (hp : ¬ P x) (hq : Q x) : ∀ n : Nat, x < n → (∀ i, i < n → i ≠ x → (P i ↔ Q i)) → sm_n Q n = sm_n P n + 1 := by
  intro n
  induction n with
  | zero => intro h _; omega
  | succ n ih =>
    intro hx h
    rw [sm_n_s, sm_n_s]
    by_cases e : x = n
    · subst e
      rw [sm_n_c (Q := Q) x (fun i hi => h i (by omega) (by omega)), sm_f hp, sm_t hq]
    · rw [ih (by omega) (fun i hi hne => h i (by omega) hne), sm_c (h n (by omega) (fun z => e z.symm))]; omega
theorem sm_n_lt {P Q : Nat → Prop} {x n : Nat} (h : ∀ i, i < n → P i → Q i) (hx : x < n) (hq : Q x) (hp : ¬ P x) : sm_n P n < sm_n Q n := by
  have h1 : sm_n (fun i => P i ∨ i = x) n = sm_n P n + 1 :=
    sm_n_up hp (Or.inr rfl) n hx (fun i _ hne => ⟨fun z => Or.inl z, fun z => z.elim id (fun e => absurd e hne)⟩)
  have h2 : sm_n (fun i => P i ∨ i = x) n ≤ sm_n Q n :=
    sm_n_le n (fun i hi z => z.elim (h i hi) (fun e => e ▸ hq))
  omega
theorem sm_n_eq {P Q : Nat → Prop} {n : Nat} (h : ∀ i, i < n → P i → Q i) (e : sm_n Q n ≤ sm_n P n) : ∀ i, i < n → Q i → P i := by
  intro i hi hq
  by_cases hp : P i
  · exact hp
  · have := sm_n_lt h hi hq hp
    omega
theorem sm_n_T (n : Nat) : sm_n (fun _ => True) n = n := by
  induction n with
  | zero => rfl
  | succ n ih => rw [sm_n_t trivial, ih]
theorem sm_n_all {P : Nat → Prop} {n : Nat} (e : n ≤ sm_n P n) : ∀ i, i < n → P i :=
  fun i hi => sm_n_eq (P := P) (Q := fun _ => True) (fun _ _ _ => trivial) (by rw [sm_n_T]; exact e) i hi trivial
theorem sm_n_0 {P : Nat → Prop} (n : Nat) (h : ∀ i, i < n → ¬ P i) : sm_n P n = 0 := by
  induction n with
  | zero => rfl
  | succ n ih => rw [sm_n_f (h n (by omega)), ih (fun i hi => h i (by omega))]
theorem sm_n_ex {P : Nat → Prop} {n : Nat} (h : 0 < sm_n P n) : ∃ i, i < n ∧ P i := by
  by_cases e : ∃ i, i < n ∧ P i
  · exact e
  · rw [sm_n_0 n (fun i hi hp => e ⟨i, hi, hp⟩)] at h
    omega
theorem sm_n_pos {P : Nat → Prop} {x n : Nat} (hx : x < n) (h : P x) : 0 < sm_n P n := by
  have := sm_n_lt (P := fun _ => False) (Q := P) (n := n) (fun _ _ z => z.elim) hx h (fun z => z)
  omega
theorem sm_inj {R : Nat → Nat → Prop} (hR : ∀ a b c, R a c → R b c → a = b) : ∀ (m : Nat) (P Q : Nat → Prop) (n : Nat), (∀ a, a < m → P a → ∃ c, c < n ∧ Q c ∧ R a c) → sm_n P m ≤ sm_n Q n := by
  intro m
  induction m with
  | zero => intro P Q n _; exact Nat.zero_le _
  | succ m ih =>
    intro P Q n h
    by_cases hp : P m
    · obtain ⟨c, hc, qc, rc⟩ := h m (by omega) hp
      have h1 : sm_n P m ≤ sm_n (fun x => Q x ∧ x ≠ c) n := ih P _ n (fun a ha pa => by
        obtain ⟨d, hd, qd, rd⟩ := h a (by omega) pa
        exact ⟨d, hd, ⟨qd, fun e => absurd (hR a m c (e ▸ rd) rc) (by omega)⟩, rd⟩)
      have h2 : sm_n (fun x => Q x ∧ x ≠ c) n < sm_n Q n := sm_n_lt (fun i _ hi => hi.1) hc qc (fun hi => hi.2 rfl)
      rw [sm_n_t hp]; omega
    · rw [sm_n_f hp]
      exact ih P Q n (fun a ha pa => h a (by omega) pa)
theorem sm_max (f : Nat → Int) : ∀ (n : Nat) (P : Nat → Prop), (∃ x, x < n ∧ P x) → ∃ x, x < n ∧ P x ∧ ∀ y, y < n → P y → f y ≤ f x := by
  intro n
  induction n with
  | zero => intro P h; obtain ⟨x, hx, _⟩ := h; omega
  | succ n ih =>
    intro P h
    by_cases e : ∃ x, x < n ∧ P x
    · obtain ⟨x, hx, px, mx⟩ := ih P e
      by_cases hn : P n ∧ f x < f n
      · refine ⟨n, by omega, hn.1, fun y hy py => ?_⟩
        by_cases hyn : y = n
        · rw [hyn]; exact Int.le_refl _
        · have := mx y (by omega) py
          have := hn.2
          omega
      · refine ⟨x, by omega, px, fun y hy py => ?_⟩
        by_cases hyn : y = n
        · subst hyn
          by_cases z : f x < f y
          · exact absurd ⟨py, z⟩ hn
          · omega
        · exact mx y (by omega) py
    · obtain ⟨x, hx, px⟩ := h
      have hxn : x = n := by
        by_cases z : x = n
        · exact z
        · exact absurd ⟨x, by omega, px⟩ e
      subst hxn
      refine ⟨x, by omega, px, fun y hy py => ?_⟩
      by_cases hyn : y = x
      · rw [hyn]; exact Int.le_refl _
      · exact absurd ⟨y, by omega, py⟩ e
theorem sm_min (f : Nat → Int) (n : Nat) (P : Nat → Prop) (h : ∃ x, x < n ∧ P x) : ∃ x, x < n ∧ P x ∧ ∀ y, y < n → P y → f x ≤ f y := by
  obtain ⟨x, hx, px, mx⟩ := sm_max (fun i => - f i) n P h
  exact ⟨x, hx, px, fun y hy py => by have := mx y hy py; omega⟩
theorem sm_si {φ : Nat → Nat} {P : Nat → Prop} {n : Nat} : ∀ (m : Nat) (p : Nat → Int), (∀ x, x < n → 0 ≤ p x) → (∀ a, a < m → P a → φ a < n) → (∀ a b, a < m → b < m → P a → P b → φ a = φ b → a = b) → sm_s (fun a => sm_i (P a) (p (φ a))) m ≤ sm_s p n := by
  intro m
  induction m with
  | zero =>
    intro p hp _ _
    have := sm_s_le (f := fun _ => 0) (g := p) n (fun i hi => hp i hi)
    rw [sm_s_0] at this
    exact this
  | succ m ih =>
    intro p hp hf hi
    rw [sm_s_s]
    by_cases pm : P m
    · have hm := hf m (by omega) pm
      have h1 := ih (fun x => if x = φ m then 0 else p x) (fun x hx => by
          by_cases z : x = φ m
          · simp [z]
          · simp [z]; exact hp x hx) (fun a ha pa => hf a (by omega) pa) (fun a b ha hb pa pb => hi a b (by omega) (by omega) pa pb)
      have h2 : sm_s (fun a => sm_i (P a) (p (φ a))) m = sm_s (fun a => sm_i (P a) (if φ a = φ m then 0 else p (φ a))) m :=
        sm_s_c m (fun a ha => by
          by_cases pa : P a
          · have : ¬ φ a = φ m := fun e => absurd (hi a m (by omega) (by omega) pa pm e) (by omega)
            rw [sm_it pa, sm_it pa, if_neg this]
          · rw [sm_if pa, sm_if pa])
      have h3 : sm_s (fun x => if x = φ m then 0 else p x) n = sm_s p n + ((if φ m = φ m then 0 else p (φ m)) - p (φ m)) :=
        sm_s_up (f := fun x => if x = φ m then 0 else p x) n hm (fun i _ hne => if_neg hne)
      rw [if_pos rfl] at h3
      rw [sm_it pm, h2]
      omega
    · rw [sm_if pm]
      have := ih p hp (fun a ha pa => hf a (by omega) pa) (fun a b ha hb pa pb => hi a b (by omega) (by omega) pa pb)
      omega
theorem sm_ic {p q : Prop} {x y : Int} (h : p ↔ q) (hx : p → x = y) : sm_i p x = sm_i q y := by
  by_cases hp : p
  · rw [sm_it hp, sm_it (h.mp hp), hx hp]
  · rw [sm_if hp, sm_if (fun z => hp (h.mpr z))]
theorem sm_ns (P : Nat → Prop) (n : Nat) : (sm_n P n : Int) = sm_s (fun i => sm_i (P i) 1) n := by
  induction n with
  | zero => rfl
  | succ n ih =>
    rw [sm_s_s, ← ih]
    by_cases h : P n
    · rw [sm_n_t h, sm_it h]; omega
    · rw [sm_n_f h, sm_if h]; omega
end
section
/-! the table in pure form: repairs, their numbers, least and most -/
def tb_R (U : Nat → Prop) (K : Nat → Nat) (k i : Nat) : Prop := i < 14 ∧ U i ∧ K i = k
def tb_iu (U : Nat → Prop) (K : Nat → Nat) (k : Nat) : Prop := ∃ i, tb_R U K k i
def tb_rep (U : Nat → Prop) (K : Nat → Nat) (ρ : Nat → Nat) : Prop := ∀ k, k < 6 → tb_iu U K k → tb_R U K k (ρ k)
noncomputable def tb_idx (U : Nat → Prop) (K : Nat → Nat) (k i : Nat) : Nat := sm_n (fun j => U j ∧ K j = k) i
noncomputable def tb_cnt (U : Nat → Prop) (K : Nat → Nat) (k : Nat) : Nat := tb_idx U K k 14
def tb_dig (c : Nat → Nat) (r : Nat) : Nat → Nat
  | 0 => r
  | k + 1 => if 0 < c k then tb_dig c r k / c k else tb_dig c r k
def tb_P (c : Nat → Nat) : Nat → Nat
  | 0 => 1
  | k + 1 => if 0 < c k then tb_P c k * c k else tb_P c k
theorem tb_dig_s (c : Nat → Nat) (r k : Nat) : tb_dig c r (k + 1) = if 0 < c k then tb_dig c r k / c k else tb_dig c r k := rfl
theorem tb_P_s (c : Nat → Nat) (k : Nat) : tb_P c (k + 1) = if 0 < c k then tb_P c k * c k else tb_P c k := rfl
section TB
variable {U : Nat → Prop} {K : Nat → Nat}
theorem tb_cntp {k : Nat} : 0 < tb_cnt U K k ↔ tb_iu U K k := by
  constructor
  · intro h
    obtain ⟨i, hi, hu, hk⟩ := sm_n_ex h
    exact ⟨i, hi, hu, hk⟩
  · intro ⟨i, hi, hu, hk⟩
    exact sm_n_pos (P := fun j => U j ∧ K j = k) hi ⟨hu, hk⟩
theorem tb_idx_0 {k : Nat} : tb_idx U K k 0 = 0 := rfl
theorem tb_idx_t {k j : Nat} (h1 : U j) (h2 : K j = k) : tb_idx U K k (j + 1) = tb_idx U K k j + 1 := sm_n_t (P := fun j => U j ∧ K j = k) ⟨h1, h2⟩
theorem tb_idx_f {k j : Nat} (h : ¬ (U j ∧ K j = k)) : tb_idx U K k (j + 1) = tb_idx U K k j := sm_n_f (P := fun j => U j ∧ K j = k) h
theorem tb_dig_le (c : Nat → Nat) (r : Nat) : ∀ k : Nat, tb_dig c r k ≤ r := by
  intro k
  induction k with
  | zero => exact Nat.le_refl r
  | succ k ih =>
    rw [tb_dig_s]
    by_cases h : 0 < c k
    · rw [if_pos h]; exact Nat.le_trans (Nat.div_le_self _ _) ih
    · rw [if_neg h]; exact ih
theorem tb_cnt14 (k : Nat) : tb_cnt U K k ≤ 14 := sm_n_bd _ 14
theorem tb_idx_lt2 {k i j : Nat} (h : tb_R U K k i) (hij : i < j) : tb_idx U K k i < tb_idx U K k j := by
  have h1 : tb_idx U K k (i + 1) = tb_idx U K k i + 1 := sm_n_t (P := fun j => U j ∧ K j = k) h.2
  have h2 : tb_idx U K k (i + 1) ≤ tb_idx U K k j := sm_n_mono _ hij
  omega
theorem tb_idx_lt {k i : Nat} (h : tb_R U K k i) : tb_idx U K k i < tb_cnt U K k := tb_idx_lt2 h h.1
theorem tb_idx_inj {k i j : Nat} (hi : tb_R U K k i) (hj : tb_R U K k j) (e : tb_idx U K k i = tb_idx U K k j) : i = j := by
  rcases Nat.lt_trichotomy i j with h | h | h
  · have := tb_idx_lt2 hi h; omega
  · exact h
  · have := tb_idx_lt2 hj h; omega
theorem tb_num {c d : Nat → Nat} (hd : ∀ j, 0 < c j → d j < c j) : ∀ k : Nat, ∃ r, r < tb_P c k ∧ ∀ q, tb_dig c (r + tb_P c k * q) k = q ∧ ∀ j, j < k → 0 < c j → tb_dig c (r + tb_P c k * q) j % c j = d j := by
  intro k
  induction k with
  | zero => exact ⟨0, Nat.one_pos, fun q => ⟨by show 0 + 1 * q = q; omega, fun j hj => absurd hj (by omega)⟩⟩
  | succ k ih =>
    obtain ⟨r, hr, h⟩ := ih
    by_cases hc : 0 < c k
    · have eP : tb_P c (k + 1) = tb_P c k * c k := if_pos hc
      have hdk := hd k hc
      have hlt : r + tb_P c k * d k < tb_P c k * c k := by
        have h1 : tb_P c k * (d k + 1) ≤ tb_P c k * c k := Nat.mul_le_mul_left _ hdk
        rw [Nat.mul_add, Nat.mul_one] at h1
        omega
      refine ⟨r + tb_P c k * d k, by rw [eP]; exact hlt, fun q => ?_⟩
      have e : r + tb_P c k * d k + tb_P c (k + 1) * q = r + tb_P c k * (d k + c k * q) := by
        rw [eP, Nat.mul_add, Nat.mul_assoc, Nat.add_assoc]
      rw [e]
      obtain ⟨h1, h2⟩ := h (d k + c k * q)
      refine ⟨?_, fun j hj hcj => ?_⟩
      · rw [tb_dig_s, if_pos hc, h1, Nat.add_mul_div_left _ _ hc, Nat.div_eq_of_lt hdk, Nat.zero_add]
      · by_cases hjk : j = k
        · subst hjk
          rw [h1, Nat.add_mul_mod_self_left, Nat.mod_eq_of_lt hdk]
        · exact h2 j (by omega) hcj
    · have eP : tb_P c (k + 1) = tb_P c k := if_neg hc
      refine ⟨r, by rw [eP]; exact hr, fun q => ?_⟩
      rw [eP]
      obtain ⟨h1, h2⟩ := h q
      refine ⟨?_, fun j hj hcj => ?_⟩
      · rw [tb_dig_s, if_neg hc, h1]
      · have : j ≠ k := fun e => hc (e ▸ hcj)
        exact h2 j (by omega) hcj
theorem tb_Ppos (c : Nat → Nat) : ∀ k : Nat, 0 < tb_P c k := by
  intro k
  induction k with
  | zero => exact Nat.one_pos
  | succ k ih =>
    rw [tb_P_s]
    by_cases h : 0 < c k
    · rw [if_pos h]; exact Nat.mul_pos ih h
    · rw [if_neg h]; exact ih
theorem tb_Ple {c : Nat → Nat} (hc : ∀ k, c k ≤ 14) : ∀ k : Nat, tb_P c k ≤ 14 ^ k := by
  intro k
  induction k with
  | zero => exact Nat.le_refl 1
  | succ k ih =>
    rw [tb_P_s, Nat.pow_succ]
    by_cases h : 0 < c k
    · rw [if_pos h]; exact Nat.mul_le_mul ih (hc k)
    · rw [if_neg h]; omega
theorem tb_Pbd (k : Nat) (hk : k ≤ 6) : tb_P (tb_cnt U K) k ≤ 7529536 :=
  Nat.le_trans (tb_Ple tb_cnt14 k) (Nat.le_trans (Nat.pow_le_pow_right (by decide) hk) (by decide))
/-- the repair of number r -/
def tb_CH (U : Nat → Prop) (K : Nat → Nat) (r : Nat) (ρ : Nat → Nat) : Prop := ∀ k, k < 6 → tb_iu U K k → tb_R U K k (ρ k) ∧ tb_idx U K k (ρ k) = tb_dig (tb_cnt U K) r k % tb_cnt U K k
theorem tb_CHrep {r : Nat} {ρ : Nat → Nat} (h : tb_CH U K r ρ) : tb_rep U K ρ := fun k hk hu => (h k hk hu).1
theorem tb_CHuniq {r : Nat} {ρ ρ' : Nat → Nat} (h : tb_CH U K r ρ) (h' : tb_CH U K r ρ') : ∀ k, k < 6 → tb_iu U K k → ρ k = ρ' k :=
  fun k hk hu => tb_idx_inj (h k hk hu).1 (h' k hk hu).1 ((h k hk hu).2.trans (h' k hk hu).2.symm)
theorem tb_hit {ρ : Nat → Nat} (h : tb_rep U K ρ) : ∃ r, r < tb_P (tb_cnt U K) 6 ∧ tb_CH U K r ρ := by
  obtain ⟨r, hr, hq⟩ := tb_num (c := tb_cnt U K) (d := fun k => tb_idx U K k (ρ k) % tb_cnt U K k) (fun j hj => Nat.mod_lt _ hj) 6
  refine ⟨r, hr, fun k hk hu => ⟨h k hk hu, ?_⟩⟩
  have h2 := (hq 0).2 k hk (tb_cntp.mpr hu)
  rw [Nat.mul_zero, Nat.add_zero] at h2
  rw [h2, Nat.mod_eq_of_lt (tb_idx_lt (h k hk hu))]
theorem tb_ex : ∃ ρ, tb_rep U K ρ := by
  have h : ∀ k : Nat, ∃ i : Nat, tb_iu U K k → tb_R U K k i := by
    intro k
    by_cases e : tb_iu U K k
    · obtain ⟨i, hi⟩ := e
      exact ⟨i, fun _ => hi⟩
    · exact ⟨0, fun z => absurd z e⟩
  obtain ⟨ρ, hρ⟩ := Classical.axiomOfChoice h
  exact ⟨ρ, fun k _ hu => hρ k hu⟩
theorem tb_exP {P : Nat → Nat → Prop} (h : ∀ k, k < 6 → tb_iu U K k → ∃ i, tb_R U K k i ∧ P k i) : ∃ ρ, tb_rep U K ρ ∧ ∀ k, k < 6 → tb_iu U K k → P k (ρ k) := by
  have h' : ∀ k : Nat, ∃ i : Nat, k < 6 → tb_iu U K k → tb_R U K k i ∧ P k i := by
    intro k
    by_cases e : k < 6 ∧ tb_iu U K k
    · obtain ⟨i, hi⟩ := h k e.1 e.2
      exact ⟨i, fun _ _ => hi⟩
    · exact ⟨0, fun a b => absurd ⟨a, b⟩ e⟩
  obtain ⟨ρ, hρ⟩ := Classical.axiomOfChoice h'
  exact ⟨ρ, fun k hk hu => (hρ k hk hu).1, fun k hk hu => (hρ k hk hu).2⟩
/-! least and most of a measure (a relation: v is the measure of the repair) -/
def tb_least (U : Nat → Prop) (K : Nat → Nat) (M : (Nat → Nat) → Int → Prop) (m : Int) : Prop :=
  (∃ ρ v, tb_rep U K ρ ∧ M ρ v ∧ v ≤ m) ∧ ∀ ρ v, tb_rep U K ρ → M ρ v → m ≤ v
def tb_most (U : Nat → Prop) (K : Nat → Nat) (M : (Nat → Nat) → Int → Prop) (m : Int) : Prop :=
  (∃ ρ, tb_rep U K ρ ∧ M ρ m) ∧ ∀ ρ v, tb_rep U K ρ → M ρ v → v = 1000000 ∨ (m ≠ 1000000 ∧ v ≤ m)
theorem tb_least_u {M : (Nat → Nat) → Int → Prop} {a b : Int} (ha : tb_least U K M a) (hb : tb_least U K M b) : a = b := by
  obtain ⟨⟨ρ, v, h1, h2, h3⟩, h4⟩ := ha
  obtain ⟨⟨σ, w, g1, g2, g3⟩, g4⟩ := hb
  have := h4 σ w g1 g2
  have := g4 ρ v h1 h2
  omega
theorem tb_most_u {M : (Nat → Nat) → Int → Prop} {a b : Int} (ha : tb_most U K M a) (hb : tb_most U K M b) : a = b := by
  obtain ⟨⟨ρ, h1, h2⟩, h4⟩ := ha
  obtain ⟨⟨σ, g1, g2⟩, g4⟩ := hb
  have := h4 σ b g1 g2
  have := g4 ρ a h1 h2
  omega
/-- what a measure must satisfy -/
def tb_ok (U : Nat → Prop) (K : Nat → Nat) (M : (Nat → Nat) → Int → Prop) : Prop :=
  (∀ ρ v v', M ρ v → M ρ v' → v = v') ∧ (∀ ρ ρ' v, (∀ k, k < 6 → tb_iu U K k → ρ k = ρ' k) → M ρ v → M ρ' v) ∧ (∀ ρ v, tb_rep U K ρ → M ρ v → v ≤ 1000000)
def tb_LI (U : Nat → Prop) (K : Nat → Nat) (M : (Nat → Nat) → Int → Prop) (r : Nat) (b : Int) : Prop :=
  b ≤ 1000000 ∧ (r = 0 → b = 1000000) ∧ (0 < r → ∃ ρ v, tb_rep U K ρ ∧ M ρ v ∧ v ≤ b) ∧ ∀ r', r' < r → ∀ ρ v, tb_CH U K r' ρ → M ρ v → b ≤ v
theorem tb_LI0 {M : (Nat → Nat) → Int → Prop} : tb_LI U K M 0 1000000 :=
  ⟨Int.le_refl _, fun _ => rfl, fun h => absurd h (by omega), fun r' h => absurd h (by omega)⟩
theorem tb_LIs {M : (Nat → Nat) → Int → Prop} (hM : tb_ok U K M) {r : Nat} {b b' v : Int} {ρ : Nat → Nat} (I : tb_LI U K M r b) (hc : tb_CH U K r ρ) (hv : M ρ v) (h1 : b' ≤ b) (h2 : b' ≤ v) (h3 : b' = b ∨ b' = v) : tb_LI U K M (r + 1) b' := by
  obtain ⟨i1, i2, i3, i4⟩ := I
  have hN := hM.2.2 ρ v (tb_CHrep hc) hv
  refine ⟨by omega, fun z => absurd z (by omega), fun _ => ?_, fun r' hr' ρ' v' hc' hv' => ?_⟩
  · rcases h3 with h3 | h3
    · by_cases hr : r = 0
      · exact ⟨ρ, v, tb_CHrep hc, hv, by have := i2 hr; omega⟩
      · obtain ⟨σ, w, a, c, d⟩ := i3 (by omega)
        exact ⟨σ, w, a, c, by omega⟩
    · exact ⟨ρ, v, tb_CHrep hc, hv, by omega⟩
  · by_cases hr : r' = r
    · subst hr
      have := hM.1 ρ v v' hv (hM.2.1 ρ' ρ v' (tb_CHuniq hc' hc) hv')
      omega
    · have := i4 r' (by omega) ρ' v' hc' hv'
      omega
theorem tb_LIe {M : (Nat → Nat) → Int → Prop} {b : Int} (I : tb_LI U K M (tb_P (tb_cnt U K) 6) b) : tb_least U K M b := by
  obtain ⟨i1, i2, i3, i4⟩ := I
  refine ⟨i3 (tb_Ppos _ 6), fun ρ v hr hv => ?_⟩
  obtain ⟨r, h, hc⟩ := tb_hit hr
  exact i4 r h ρ v hc hv
def tb_MI (U : Nat → Prop) (K : Nat → Nat) (M : (Nat → Nat) → Int → Prop) (r : Nat) (b : Int) : Prop :=
  (r = 0 → b = 1000000) ∧ (0 < r → ∃ ρ, tb_rep U K ρ ∧ M ρ b) ∧ ∀ r', r' < r → ∀ ρ v, tb_CH U K r' ρ → M ρ v → v = 1000000 ∨ (b ≠ 1000000 ∧ v ≤ b)
theorem tb_MI0 {M : (Nat → Nat) → Int → Prop} : tb_MI U K M 0 1000000 :=
  ⟨fun _ => rfl, fun h => absurd h (by omega), fun r' h => absurd h (by omega)⟩
theorem tb_MIs {M : (Nat → Nat) → Int → Prop} (hM : tb_ok U K M) {r : Nat} {b b' v : Int} {ρ : Nat → Nat} (I : tb_MI U K M r b) (hc : tb_CH U K r ρ) (hv : M ρ v)
    (h : (v = 1000000 ∧ b' = b) ∨ (v ≠ 1000000 ∧ b = 1000000 ∧ b' = v) ∨ (v ≠ 1000000 ∧ b ≠ 1000000 ∧ v ≤ b ∧ b' = b) ∨ (v ≠ 1000000 ∧ b ≠ 1000000 ∧ b ≤ v ∧ b' = v)) : tb_MI U K M (r + 1) b' := by
  obtain ⟨i2, i3, i4⟩ := I
  refine ⟨fun z => absurd z (by omega), fun _ => ?_, fun r' hr' ρ' v' hc' hv' => ?_⟩
  · by_cases hr : r = 0
    · have hb := i2 hr
      have : b' = v := by omega
      rw [this]
      exact ⟨ρ, tb_CHrep hc, hv⟩
    · have : b' = b ∨ b' = v := by omega
      rcases this with e | e
      · rw [e]; exact i3 (by omega)
      · rw [e]; exact ⟨ρ, tb_CHrep hc, hv⟩
  · by_cases hr : r' = r
    · subst hr
      have := hM.1 ρ v v' hv (hM.2.1 ρ' ρ v' (tb_CHuniq hc' hc) hv')
      omega
    · have := i4 r' (by omega) ρ' v' hc' hv'
      omega
theorem tb_MIe {M : (Nat → Nat) → Int → Prop} {b : Int} (I : tb_MI U K M (tb_P (tb_cnt U K) 6) b) : tb_most U K M b := by
  obtain ⟨i2, i3, i4⟩ := I
  refine ⟨i3 (tb_Ppos _ 6), fun ρ v hr hv => ?_⟩
  obtain ⟨r, h, hc⟩ := tb_hit hr
  exact i4 r h ρ v hc hv
end TB
end
section
/-! the measures of a repair -/
section MS
variable (U : Nat → Prop) (K G : Nat → Nat) (V : Nat → Int)
def ms_cnt (g : Nat) (ρ : Nat → Nat) (v : Int) : Prop := v = (sm_n (fun k => tb_iu U K k ∧ G (ρ k) = g) 6 : Int)
def ms_sum (g : Nat) (ρ : Nat → Nat) (v : Int) : Prop := v = sm_s (fun k => sm_i (tb_iu U K k ∧ G (ρ k) = g) (V (ρ k))) 6
def ms_im (ρ : Nat → Nat) (g : Nat) : Prop := ∃ k, k < 6 ∧ tb_iu U K k ∧ G (ρ k) = g
def ms_dif (ρ : Nat → Nat) (v : Int) : Prop := v = (sm_n (ms_im U K G ρ) 8 : Int)
noncomputable def ms_sz : Nat := sm_n (tb_iu U K) 6
def ms_bef (ρ : Nat → Nat) (j k : Nat) : Prop := tb_iu U K j ∧ (V (ρ j) < V (ρ k) ∨ (V (ρ j) = V (ρ k) ∧ j < k))
noncomputable def ms_rk (ρ : Nat → Nat) (k : Nat) : Nat := sm_n (fun j => ms_bef U K V ρ j k) 6
def ms_va (ρ : Nat → Nat) (p : Nat) (v : Int) : Prop := ∃ k, k < 6 ∧ tb_iu U K k ∧ ms_rk U K V ρ k = p ∧ v = V (ρ k)
def ms_spr (ρ : Nat → Nat) (v : Int) : Prop := (ms_sz U K = 0 ∧ v = 1000000) ∨ (0 < ms_sz U K ∧ ∃ a b, ms_va U K V ρ (ms_sz U K - 1) a ∧ ms_va U K V ρ 0 b ∧ v = a - b)
def ms_mid (ρ : Nat → Nat) (v : Int) : Prop := (ms_sz U K = 0 ∧ v = 1000000) ∨ (0 < ms_sz U K ∧ ms_va U K V ρ ((ms_sz U K - 1) / 2) v)
def ms_mix (ρ : Nat → Nat) (v : Int) : Prop := (ms_sz U K = 0 ∧ v = 1000000) ∨ (0 < ms_sz U K ∧ sm_n (ms_im U K G ρ) 8 = ms_sz U K ∧ v = sm_s (fun k => sm_i (tb_iu U K k) (V (ρ k))) 6) ∨ (0 < ms_sz U K ∧ sm_n (ms_im U K G ρ) 8 ≠ ms_sz U K ∧ v = 1000000)
end MS
section MS2
variable {U : Nat → Prop} {K G : Nat → Nat} {V : Nat → Int}
theorem ms_tri {ρ : Nat → Nat} {j k : Nat} (hj : tb_iu U K j) (hk : tb_iu U K k) (h : j ≠ k) : ms_bef U K V ρ j k ∨ ms_bef U K V ρ k j := by
  rcases Int.lt_trichotomy (V (ρ j)) (V (ρ k)) with a | a | a
  · exact Or.inl ⟨hj, Or.inl a⟩
  · rcases Nat.lt_or_gt_of_ne h with b | b
    · exact Or.inl ⟨hj, Or.inr ⟨a, b⟩⟩
    · exact Or.inr ⟨hk, Or.inr ⟨a.symm, b⟩⟩
  · exact Or.inr ⟨hk, Or.inl a⟩
theorem ms_trans {ρ : Nat → Nat} {i j k : Nat} (h1 : ms_bef U K V ρ i j) (h2 : ms_bef U K V ρ j k) : ms_bef U K V ρ i k := by
  obtain ⟨a, b⟩ := h1
  obtain ⟨c, d⟩ := h2
  exact ⟨a, by omega⟩
theorem ms_irr {ρ : Nat → Nat} {k : Nat} (h : ms_bef U K V ρ k k) : False := by
  obtain ⟨a, b⟩ := h
  omega
theorem ms_rk_lt {ρ : Nat → Nat} {j k : Nat} (hj : j < 6) (h : ms_bef U K V ρ j k) : ms_rk U K V ρ j < ms_rk U K V ρ k :=
  sm_n_lt (fun i _ hi => ms_trans hi h) hj h (fun z => ms_irr z)
theorem ms_rk_inj {ρ : Nat → Nat} {j k : Nat} (hj : j < 6) (hk : k < 6) (uj : tb_iu U K j) (uk : tb_iu U K k) (e : ms_rk U K V ρ j = ms_rk U K V ρ k) : j = k := by
  by_cases h : j = k
  · exact h
  · rcases ms_tri (V := V) (ρ := ρ) uj uk h with b | b
    · have := ms_rk_lt hj b; omega
    · have := ms_rk_lt hk b; omega
theorem ms_rk_sz {ρ : Nat → Nat} {k : Nat} (hk : k < 6) (uk : tb_iu U K k) : ms_rk U K V ρ k < ms_sz U K :=
  sm_n_lt (fun i _ hi => hi.1) hk uk (fun z => ms_irr z)
theorem ms_surj {ρ : Nat → Nat} {p : Nat} (hp : p < ms_sz U K) : ∃ k, k < 6 ∧ tb_iu U K k ∧ ms_rk U K V ρ k = p := by
  by_cases e : ∃ k, k < 6 ∧ tb_iu U K k ∧ ms_rk U K V ρ k = p
  · exact e
  · have h1 : sm_n (tb_iu U K) 6 ≤ sm_n (fun x => x ≠ p) (ms_sz U K) :=
      sm_inj (R := fun a c => a < 6 ∧ tb_iu U K a ∧ ms_rk U K V ρ a = c) (fun a b c ha hb => ms_rk_inj ha.1 hb.1 ha.2.1 hb.2.1 (ha.2.2.trans hb.2.2.symm)) 6 _ _ _
        (fun a ha ua => ⟨ms_rk U K V ρ a, ms_rk_sz ha ua, fun z => e ⟨a, ha, ua, z⟩, ha, ua, rfl⟩)
    have h2 : sm_n (fun x => x ≠ p) (ms_sz U K) < sm_n (fun _ => True) (ms_sz U K) := sm_n_lt (fun _ _ _ => trivial) hp trivial (fun z => z rfl)
    rw [sm_n_T] at h2
    have h3 : sm_n (tb_iu U K) 6 = ms_sz U K := rfl
    omega
theorem ms_va_u {ρ : Nat → Nat} {p : Nat} {v w : Int} (h1 : ms_va U K V ρ p v) (h2 : ms_va U K V ρ p w) : v = w := by
  obtain ⟨k, hk, uk, rk, e⟩ := h1
  obtain ⟨j, hj, uj, rj, f⟩ := h2
  rw [e, f, ms_rk_inj hk hj uk uj (rk.trans rj.symm)]
theorem ms_va_min {ρ : Nat → Nat} {v : Int} (h : ms_va U K V ρ 0 v) : ∀ k, k < 6 → tb_iu U K k → v ≤ V (ρ k) := by
  obtain ⟨j, hj, uj, rj, e⟩ := h
  intro k hk uk
  rcases Int.lt_or_le (V (ρ k)) (V (ρ j)) with a | a
  · have := ms_rk_lt (ρ := ρ) (V := V) hk ⟨uk, Or.inl a⟩ (k := j); omega
  · omega
theorem ms_va_max {ρ : Nat → Nat} {v : Int} (h : ms_va U K V ρ (ms_sz U K - 1) v) : ∀ k, k < 6 → tb_iu U K k → V (ρ k) ≤ v := by
  obtain ⟨j, hj, uj, rj, e⟩ := h
  intro k hk uk
  rcases Int.lt_or_le (V (ρ j)) (V (ρ k)) with a | a
  · have h1 := ms_rk_lt (ρ := ρ) (V := V) hj ⟨uj, Or.inl a⟩ (k := k)
    have h2 := ms_rk_sz (ρ := ρ) (V := V) hk uk
    omega
  · omega
theorem ms_bef_cg {ρ ρ' : Nat → Nat} (h : ∀ k, k < 6 → tb_iu U K k → ρ k = ρ' k) {j k : Nat} (hj : j < 6) (hk : k < 6) (uk : tb_iu U K k) : ms_bef U K V ρ j k ↔ ms_bef U K V ρ' j k := by
  constructor
  · intro ⟨a, b⟩
    refine ⟨a, ?_⟩
    rw [← h j hj a, ← h k hk uk]; exact b
  · intro ⟨a, b⟩
    refine ⟨a, ?_⟩
    rw [h j hj a, h k hk uk]; exact b
theorem ms_va_cg {ρ ρ' : Nat → Nat} (h : ∀ k, k < 6 → tb_iu U K k → ρ k = ρ' k) {p : Nat} {v : Int} (hv : ms_va U K V ρ p v) : ms_va U K V ρ' p v := by
  obtain ⟨k, hk, uk, rk, e⟩ := hv
  refine ⟨k, hk, uk, ?_, by rw [← h k hk uk]; exact e⟩
  rw [← rk]
  exact (sm_n_c 6 (fun j hj => ms_bef_cg h hj hk uk)).symm
theorem ms_im_cg {ρ ρ' : Nat → Nat} (h : ∀ k, k < 6 → tb_iu U K k → ρ k = ρ' k) (g : Nat) : ms_im U K G ρ g ↔ ms_im U K G ρ' g := by
  constructor
  · intro ⟨k, hk, uk, e⟩; exact ⟨k, hk, uk, by rw [← h k hk uk]; exact e⟩
  · intro ⟨k, hk, uk, e⟩; exact ⟨k, hk, uk, by rw [h k hk uk]; exact e⟩
theorem ms_dn_cg {ρ ρ' : Nat → Nat} (h : ∀ k, k < 6 → tb_iu U K k → ρ k = ρ' k) : sm_n (ms_im U K G ρ) 8 = sm_n (ms_im U K G ρ') 8 :=
  sm_n_c 8 (fun g _ => ms_im_cg h g)
theorem ms_g_cg {ρ ρ' : Nat → Nat} (h : ∀ k, k < 6 → tb_iu U K k → ρ k = ρ' k) {g k : Nat} (hk : k < 6) : (tb_iu U K k ∧ G (ρ k) = g) ↔ (tb_iu U K k ∧ G (ρ' k) = g) := by
  constructor
  · intro ⟨a, b⟩; exact ⟨a, by rw [← h k hk a]; exact b⟩
  · intro ⟨a, b⟩; exact ⟨a, by rw [h k hk a]; exact b⟩
theorem ms_sum_bd (hV : ∀ i, i < 14 → -1000 ≤ V i ∧ V i ≤ 1000) {ρ : Nat → Nat} (hr : tb_rep U K ρ) (P : Nat → Prop) (hP : ∀ k, P k → tb_iu U K k) (n : Nat) (hn : n ≤ 6) : (n : Int) * (-1000) ≤ sm_s (fun k => sm_i (P k) (V (ρ k))) n ∧ sm_s (fun k => sm_i (P k) (V (ρ k))) n ≤ (n : Int) * 1000 := by
  refine sm_s_bd n (fun k hk => ?_)
  by_cases h : P k
  · rw [sm_it h]; exact hV _ (hr k (by omega) (hP k h)).1
  · rw [sm_if h]; omega
theorem ms_cnt_ok (g : Nat) : tb_ok U K (ms_cnt U K G g) := by
  refine ⟨fun ρ v v' h h' => h.trans h'.symm, fun ρ ρ' v h hv => ?_, fun ρ v _ hv => ?_⟩
  · exact hv.trans (congrArg _ (sm_n_c 6 (fun k hk => ms_g_cg h hk)))
  · have := sm_n_bd (fun k => tb_iu U K k ∧ G (ρ k) = g) 6
    unfold ms_cnt at hv
    omega
theorem ms_sum_ok (hV : ∀ i, i < 14 → -1000 ≤ V i ∧ V i ≤ 1000) (g : Nat) : tb_ok U K (ms_sum U K G V g) := by
  refine ⟨fun ρ v v' h h' => h.trans h'.symm, fun ρ ρ' v h hv => ?_, fun ρ v hr hv => ?_⟩
  · exact hv.trans (sm_s_c 6 (fun k hk => sm_ic (ms_g_cg h hk) (fun z => by rw [h k hk z.1])))
  · have := ms_sum_bd hV hr (fun k => tb_iu U K k ∧ G (ρ k) = g) (fun k h => h.1) 6 (by omega)
    unfold ms_sum at hv
    omega
theorem ms_dif_ok : tb_ok U K (ms_dif U K G) := by
  refine ⟨fun ρ v v' h h' => h.trans h'.symm, fun ρ ρ' v h hv => ?_, fun ρ v hr hv => ?_⟩
  · exact hv.trans (congrArg _ (ms_dn_cg h))
  · have := sm_n_bd (ms_im U K G ρ) 8
    unfold ms_dif at hv
    omega
theorem ms_va_bd (hV : ∀ i, i < 14 → -1000 ≤ V i ∧ V i ≤ 1000) {ρ : Nat → Nat} (hr : tb_rep U K ρ) {p : Nat} {v : Int} (h : ms_va U K V ρ p v) : -1000 ≤ v ∧ v ≤ 1000 := by
  obtain ⟨k, hk, uk, _, e⟩ := h
  rw [e]
  exact hV _ (hr k hk uk).1
theorem ms_spr_ok (hV : ∀ i, i < 14 → -1000 ≤ V i ∧ V i ≤ 1000) : tb_ok U K (ms_spr U K V) := by
  refine ⟨fun ρ v v' h h' => ?_, fun ρ ρ' v h hv => ?_, fun ρ v hr hv => ?_⟩
  · rcases h with ⟨a, b⟩ | ⟨a, x, y, hx, hy, e⟩
    · rcases h' with ⟨c, d⟩ | ⟨c, _⟩
      · omega
      · omega
    · rcases h' with ⟨c, d⟩ | ⟨c, x', y', hx', hy', e'⟩
      · omega
      · have := ms_va_u hx hx'
        have := ms_va_u hy hy'
        omega
  · rcases hv with a | ⟨a, x, y, hx, hy, e⟩
    · exact Or.inl a
    · exact Or.inr ⟨a, x, y, ms_va_cg h hx, ms_va_cg h hy, e⟩
  · rcases hv with a | ⟨a, x, y, hx, hy, e⟩
    · omega
    · have := ms_va_bd hV hr hx
      have := ms_va_bd hV hr hy
      omega
theorem ms_mid_ok (hV : ∀ i, i < 14 → -1000 ≤ V i ∧ V i ≤ 1000) : tb_ok U K (ms_mid U K V) := by
  refine ⟨fun ρ v v' h h' => ?_, fun ρ ρ' v h hv => ?_, fun ρ v hr hv => ?_⟩
  · rcases h with ⟨a, b⟩ | ⟨a, b⟩
    · rcases h' with ⟨c, d⟩ | ⟨c, _⟩
      · omega
      · omega
    · rcases h' with ⟨c, d⟩ | ⟨c, d⟩
      · omega
      · exact ms_va_u b d
  · rcases hv with a | ⟨a, b⟩
    · exact Or.inl a
    · exact Or.inr ⟨a, ms_va_cg h b⟩
  · rcases hv with a | ⟨a, b⟩
    · omega
    · have := ms_va_bd hV hr b
      omega
theorem ms_mix_ok (hV : ∀ i, i < 14 → -1000 ≤ V i ∧ V i ≤ 1000) : tb_ok U K (ms_mix U K G V) := by
  refine ⟨fun ρ v v' h h' => ?_, fun ρ ρ' v h hv => ?_, fun ρ v hr hv => ?_⟩
  · unfold ms_mix at h h'
    omega
  · have e1 : sm_n (ms_im U K G ρ) 8 = sm_n (ms_im U K G ρ') 8 := ms_dn_cg h
    have e2 : sm_s (fun k => sm_i (tb_iu U K k) (V (ρ k))) 6 = sm_s (fun k => sm_i (tb_iu U K k) (V (ρ' k))) 6 := sm_s_c 6 (fun k hk => sm_ic Iff.rfl (fun z => by rw [h k hk z]))
    unfold ms_mix at hv ⊢
    rw [← e1, ← e2]
    exact hv
  · have := ms_sum_bd hV hr (fun k => tb_iu U K k) (fun k h => h) 6 (by omega)
    unfold ms_mix at hv
    omega
end MS2
end
section
/-! the table as it stands in the arrays; the reference's walks -/
def tv_ok (ko go vo : Nat → Int32) : Prop := ∀ i, i < 14 → (∃ k, k < 6 ∧ ko i = nI k) ∧ (∃ g, g < 8 ∧ go i = nI g) ∧ -1000 ≤ (vo i).toInt ∧ (vo i).toInt ≤ 1000
abbrev tv_U (us : Nat → Int32) : Nat → Prop := fun i => ¬ us i = 0
abbrev tv_N (a : Nat → Int32) : Nat → Nat := fun i => (a i).toNatClampNeg
abbrev tv_V (a : Nat → Int32) : Nat → Int := fun i => (a i).toInt
theorem tv_ko {ko go vo : Nat → Int32} (h : tv_ok ko go vo) {i : Nat} (hi : i < 14) : ∃ k, k < 6 ∧ ko i = nI k ∧ tv_N ko i = k := by
  obtain ⟨⟨k, hk, e⟩, _⟩ := h i hi
  exact ⟨k, hk, e, by show (ko i).toNatClampNeg = k; rw [e]; exact nI_clamp (by omega)⟩
theorem tv_go {ko go vo : Nat → Int32} (h : tv_ok ko go vo) {i : Nat} (hi : i < 14) : ∃ g, g < 8 ∧ go i = nI g ∧ tv_N go i = g := by
  obtain ⟨_, ⟨g, hg, e⟩, _⟩ := h i hi
  exact ⟨g, hg, e, by show (go i).toNatClampNeg = g; rw [e]; exact nI_clamp (by omega)⟩
theorem tv_vo {ko go vo : Nat → Int32} (h : tv_ok ko go vo) : ∀ i, i < 14 → -1000 ≤ tv_V vo i ∧ tv_V vo i ≤ 1000 := fun i hi => (h i hi).2.2
theorem tv_key {ko go vo : Nat → Int32} (h : tv_ok ko go vo) {i k : Nat} (hi : i < 14) (hk : k < 6) : ko i = nI k ↔ tv_N ko i = k := by
  obtain ⟨k', hk', e, e2⟩ := tv_ko h hi
  rw [e, e2, nI_eq (by omega) (by omega)]
theorem tv_grp {ko go vo : Nat → Int32} (h : tv_ok ko go vo) {i g : Nat} (hi : i < 14) (hg : g < 8) : go i = nI g ↔ tv_N go i = g := by
  obtain ⟨g', hg', e, e2⟩ := tv_go h hi
  rw [e, e2, nI_eq (by omega) (by omega)]
def tv_PK (us ko : Nat → Int32) (ρ : Nat → Nat) (pk : Nat → Int32) : Prop := ∀ k, k < 6 → (tb_iu (tv_U us) (tv_N ko) k → pk k = nI (ρ k)) ∧ (¬ tb_iu (tv_U us) (tv_N ko) k → pk k = -1)
section YW
variable {us ko go vo pk : Nat → Int32}
theorem tv_pk {ρ : Nat → Nat} (hr : tb_rep (tv_U us) (tv_N ko) ρ) (hpk : tv_PK us ko ρ pk) {k : Nat} (hk : k < 6) : (tb_iu (tv_U us) (tv_N ko) k ∧ pk k = nI (ρ k) ∧ ρ k < 14) ∨ (¬ tb_iu (tv_U us) (tv_N ko) k ∧ pk k = -1) := by
  by_cases h : tb_iu (tv_U us) (tv_N ko) k
  · exact Or.inl ⟨h, (hpk k hk).1 h, (hr k hk h).1⟩
  · exact Or.inr ⟨h, (hpk k hk).2 h⟩
theorem yw_rowsOf4 (hv : tv_ok ko go vo) {k : Nat} (hk : k < 6) {post : Int32 → Prop} (hp : post (nI (tb_cnt (tv_U us) (tv_N ko) k))) : ∀ d j : Nat, j + d = 14 → wY_rowsOf_4 post (nI k) us ko go vo pk (d + 1) (nI (tb_idx (tv_U us) (tv_N ko) k j)) (nI j) := by
  intro d
  induction d with
  | zero =>
    intro j hj
    have e : j = 14 := by omega
    subst e
    exact pk_le 14 14 (fun _ => hp) (fun h => absurd h (by omega))
  | succ d ih =>
    intro j hj
    have e : (nI j).toNatClampNeg = j := nI_clamp (by omega)
    refine pk_le 14 j (fun h => absurd h (by omega)) (fun _ => And.intro (vp_in_nI (by omega) (by omega)) ?_)
    rw [e]
    by_cases hu : us j = 0
    · refine br_t hu (nm_r (nI_1 j) ?_)
      rw [← tb_idx_f (U := tv_U us) (K := tv_N ko) (k := k) (j := j) (fun z => z.1 hu)]
      exact ih (j + 1) (by omega)
    · refine br_f hu (And.intro (vp_in_nI (by omega) (by omega)) ?_)
      by_cases hk2 : ko j = nI k
      · refine br_t hk2 (nm_r (nI_1 _) (nm_r (nI_1 j) ?_))
        rw [← tb_idx_t (U := tv_U us) (K := tv_N ko) (k := k) (j := j) hu ((tv_key hv (by omega) hk).mp hk2)]
        exact ih (j + 1) (by omega)
      · refine br_f hk2 (nm_r (nI_1 j) ?_)
        rw [← tb_idx_f (U := tv_U us) (K := tv_N ko) (k := k) (j := j) (fun z => hk2 ((tv_key hv (by omega) hk).mpr z.2))]
        exact ih (j + 1) (by omega)
theorem yw_rowsOf (hv : tv_ok ko go vo) {k : Nat} (hk : k < 6) {post : Int32 → Prop} (hp : post (nI (tb_cnt (tv_U us) (tv_N ko) k))) : wpY_rowsOf post (us, ko, go, vo, pk) (nI k) := by
  have h := yw_rowsOf4 (pk := pk) hv hk hp 14 0 (by omega)
  rw [tb_idx_0, nI_0] at h
  exact Exists.intro 15 h
theorem yw_repairs4 (hv : tv_ok ko go vo) {post : Int32 → Prop} (hp : post (nI (tb_P (tb_cnt (tv_U us) (tv_N ko)) 6))) : ∀ d j : Nat, j + d = 6 → wY_repairs_4 post us ko go vo pk (d + 1) (nI (tb_P (tb_cnt (tv_U us) (tv_N ko)) j)) (nI j) := by
  intro d
  induction d with
  | zero =>
    intro j hj
    have e : j = 6 := by omega
    subst e
    exact pk_le 6 6 (fun _ => hp) (fun h => absurd h (by omega))
  | succ d ih =>
    intro j hj
    refine pk_le 6 j (fun h => absurd h (by omega)) (fun _ => yw_rowsOf hv (by omega) ?_)
    have hc := tb_cnt14 (U := tv_U us) (K := tv_N ko) j
    refine pk_le (tb_cnt (tv_U us) (tv_N ko) j) 0 (fun h => nm_r (nI_1 j) ?_) (fun h => nm_r (pk_mul _ _) (nm_r (nI_1 j) ?_))
    · have h2 := ih (j + 1) (by omega)
      rw [tb_P_s, if_neg (by omega)] at h2
      exact h2
    · have h2 := ih (j + 1) (by omega)
      rw [tb_P_s, if_pos h] at h2
      exact h2
theorem yw_repairs (hv : tv_ok ko go vo) {post : Int32 → Prop} (hp : post (nI (tb_P (tb_cnt (tv_U us) (tv_N ko)) 6))) : wpY_repairs post (us, ko, go, vo, pk) := by
  have h := yw_repairs4 (pk := pk) hv hp 6 0 (by omega)
  exact Exists.intro 7 h
theorem yw_row5 (hv : tv_ok ko go vo) {k q : Nat} (hk : k < 6) (hq : q < tb_cnt (tv_U us) (tv_N ko) k) {post : Int32 → Prop} (hp : ∀ i, tb_R (tv_U us) (tv_N ko) k i → tb_idx (tv_U us) (tv_N ko) k i = q → post (nI i)) : ∀ d j : Nat, j + d = 14 → tb_idx (tv_U us) (tv_N ko) k j ≤ q → wY_row_5 post (nI k) (nI q) us ko go vo pk (d + 1) (nI (tb_idx (tv_U us) (tv_N ko) k j)) (nI j) := by
  have hc := tb_cnt14 (U := tv_U us) (K := tv_N ko) k
  intro d
  induction d with
  | zero =>
    intro j hj hle
    have e : j = 14 := by omega
    subst e
    have : tb_cnt (tv_U us) (tv_N ko) k = tb_idx (tv_U us) (tv_N ko) k 14 := rfl
    omega
  | succ d ih =>
    intro j hj hle
    have e : (nI j).toNatClampNeg = j := nI_clamp (by omega)
    refine pk_le 14 j (fun h => absurd h (by omega)) (fun _ => And.intro (vp_in_nI (by omega) (by omega)) ?_)
    rw [e]
    by_cases hu : us j = 0
    · refine br_t hu (nm_r (nI_1 j) ?_)
      have e2 := tb_idx_f (U := tv_U us) (K := tv_N ko) (k := k) (j := j) (fun z => z.1 hu)
      have h2 := ih (j + 1) (by omega) (by omega)
      rw [e2] at h2
      exact h2
    · refine br_f hu (And.intro (vp_in_nI (by omega) (by omega)) ?_)
      by_cases hk2 : ko j = nI k
      · have hK := (tv_key hv (by omega) hk).mp hk2
        refine br_t hk2 ?_
        refine pk_eq (tb_idx (tv_U us) (tv_N ko) k j) q (fun he => hp j ⟨by omega, hu, hK⟩ he) (fun he => nm_r (nI_1 _) (nm_r (nI_1 j) ?_))
        have e2 := tb_idx_t (U := tv_U us) (K := tv_N ko) (k := k) (j := j) hu hK
        have h2 := ih (j + 1) (by omega) (by omega)
        rw [e2] at h2
        exact h2
      · refine br_f hk2 (nm_r (nI_1 j) ?_)
        have e2 := tb_idx_f (U := tv_U us) (K := tv_N ko) (k := k) (j := j) (fun z => hk2 ((tv_key hv (by omega) hk).mpr z.2))
        have h2 := ih (j + 1) (by omega) (by omega)
        rw [e2] at h2
        exact h2
theorem yw_row (hv : tv_ok ko go vo) {k q : Nat} (hk : k < 6) (hq : q < tb_cnt (tv_U us) (tv_N ko) k) {post : Int32 → Prop} (hp : ∀ i, tb_R (tv_U us) (tv_N ko) k i → tb_idx (tv_U us) (tv_N ko) k i = q → post (nI i)) : wpY_row post (us, ko, go, vo, pk) (nI k) (nI q) := by
  have h := yw_row5 (pk := pk) hv hk hq hp 14 0 (by omega) (by rw [tb_idx_0]; omega)
  rw [tb_idx_0, nI_0] at h
  exact Exists.intro 15 h
def yw_CI (us ko : Nat → Int32) (r j : Nat) (pk : Nat → Int32) : Prop := ∀ k, k < j → (tb_iu (tv_U us) (tv_N ko) k → ∃ i, pk k = nI i ∧ tb_R (tv_U us) (tv_N ko) k i ∧ tb_idx (tv_U us) (tv_N ko) k i = tb_dig (tb_cnt (tv_U us) (tv_N ko)) r k % tb_cnt (tv_U us) (tv_N ko) k) ∧ (¬ tb_iu (tv_U us) (tv_N ko) k → pk k = -1)
theorem yw_CIold {r j : Nat} {pk pk' : Nat → Int32} (h : yw_CI us ko r j pk) (hk : ∀ k, k < j → pk' k = pk k) : yw_CI us ko r j pk' := by
  intro k hj
  rw [hk k hj]
  exact h k hj
theorem yw_CIs {r j : Nat} {pk : Nat → Int32} (h : yw_CI us ko r j pk) (h2 : (tb_iu (tv_U us) (tv_N ko) j → ∃ i, pk j = nI i ∧ tb_R (tv_U us) (tv_N ko) j i ∧ tb_idx (tv_U us) (tv_N ko) j i = tb_dig (tb_cnt (tv_U us) (tv_N ko)) r j % tb_cnt (tv_U us) (tv_N ko) j) ∧ (¬ tb_iu (tv_U us) (tv_N ko) j → pk j = -1)) : yw_CI us ko r (j + 1) pk := by
  intro k hk
  by_cases e : k = j
  · subst e; exact h2
  · exact h k (by omega)
theorem yw_choose4 (hv : tv_ok ko go vo) {r : Nat} (hr : r < 2 ^ 31) {post : SY → Prop} (hp : ∀ pk', yw_CI us ko r 6 pk' → post (us, ko, go, vo, pk')) : ∀ (d j : Nat) (pk : Nat → Int32), j + d = 6 → yw_CI us ko r j pk → wY_choose_4 post (d + 1) (nI (tb_dig (tb_cnt (tv_U us) (tv_N ko)) r j)) (nI j) us ko go vo pk := by
  intro d
  induction d with
  | zero =>
    intro j pk hj I
    have e : j = 6 := by omega
    subst e
    exact pk_le 6 6 (fun _ => hp pk I) (fun h => absurd h (by omega))
  | succ d ih =>
    intro j pk hj I
    have e : (nI j).toNatClampNeg = j := nI_clamp (by omega)
    have hdg := tb_dig_le (tb_cnt (tv_U us) (tv_N ko)) r j
    have hc := tb_cnt14 (U := tv_U us) (K := tv_N ko) j
    refine pk_le 6 j (fun h => absurd h (by omega)) (fun _ => And.intro (vp_in_nI (by omega) (by omega)) ?_)
    rw [e]
    refine nm_e (yw_rowsOf hv (by omega) ?_)
    have I2 : yw_CI us ko r j (upd pk j (-1)) := yw_CIold I (fun k hk => pk_un (by omega))
    refine pk_le (tb_cnt (tv_U us) (tv_N ko) j) 0 (fun h => nm_r (nI_1 j) ?_) (fun h => And.intro (nI_ne0 h (by omega)) ?_)
    · have h2 := ih (j + 1) (upd pk j (-1)) (by omega) (yw_CIs I2 ⟨fun z => absurd (tb_cntp.mpr z) (by omega), fun _ => pk_us⟩)
      rw [tb_dig_s, if_neg (by omega)] at h2
      exact h2
    · rw [pk_rem (by omega) h (by omega)]
      refine yw_row hv (by omega) (Nat.mod_lt _ h) (fun i hR hi => ?_)
      refine And.intro (vp_in_nI (by omega) (by omega)) ?_
      refine nm_e (And.intro (nI_ne0 h (by omega)) (nm_r (pk_div (by omega) h (by omega)) (nm_r (nI_1 j) ?_)))
      have h2 := ih (j + 1) (upd (upd pk j (-1)) j (nI i)) (by omega) (yw_CIs (yw_CIold I2 (fun k hk => pk_un (by omega))) ⟨fun _ => ⟨i, pk_us, hR, hi⟩, fun z => absurd (tb_cntp.mp h) z⟩)
      rw [tb_dig_s, if_pos h] at h2
      exact h2
theorem yw_choose (hv : tv_ok ko go vo) {r : Nat} (hr : r < 2 ^ 31) {post : SY → Prop} (hp : ∀ ρ pk', tb_CH (tv_U us) (tv_N ko) r ρ → tv_PK us ko ρ pk' → post (us, ko, go, vo, pk')) : wpY_choose post (us, ko, go, vo, pk) (nI r) := by
  have h := yw_choose4 (us := us) hv hr (post := post) (fun pk' I => by
    have hx : ∀ k : Nat, ∃ i : Nat, k < 6 → tb_iu (tv_U us) (tv_N ko) k → pk' k = nI i ∧ tb_R (tv_U us) (tv_N ko) k i ∧ tb_idx (tv_U us) (tv_N ko) k i = tb_dig (tb_cnt (tv_U us) (tv_N ko)) r k % tb_cnt (tv_U us) (tv_N ko) k := by
      intro k
      by_cases z : k < 6 ∧ tb_iu (tv_U us) (tv_N ko) k
      · obtain ⟨i, hi⟩ := (I k z.1).1 z.2
        exact ⟨i, fun _ _ => hi⟩
      · exact ⟨0, fun a b => absurd ⟨a, b⟩ z⟩
    obtain ⟨ρ, hρ⟩ := Classical.axiomOfChoice hx
    exact hp ρ pk' (fun k hk hu => (hρ k hk hu).2) (fun k hk => ⟨fun hu => (hρ k hk hu).1, (I k hk).2⟩)) 6 0 pk (by omega) (fun k hk => absurd hk (by omega))
  exact Exists.intro 7 h
end YW
end
section
/-! the reference's measures of the repair picked -/
section YM
variable {us ko go vo pk : Nat → Int32} {ρ : Nat → Nat}
theorem yw_count4 (hv : tv_ok ko go vo) (hr : tb_rep (tv_U us) (tv_N ko) ρ) (hpk : tv_PK us ko ρ pk) {g : Nat} (hg : g < 8) {post : Int32 → Prop} (hp : post (nI (sm_n (fun k => tb_iu (tv_U us) (tv_N ko) k ∧ tv_N go (ρ k) = g) 6))) : ∀ d j : Nat, j + d = 6 → wY_count_4 post (nI g) us ko go vo pk (d + 1) (nI (sm_n (fun k => tb_iu (tv_U us) (tv_N ko) k ∧ tv_N go (ρ k) = g) j)) (nI j) := by
  intro d
  induction d with
  | zero =>
    intro j hj
    have e : j = 6 := by omega
    subst e
    exact pk_le 6 6 (fun _ => hp) (fun h => absurd h (by omega))
  | succ d ih =>
    intro j hj
    have e : (nI j).toNatClampNeg = j := nI_clamp (by omega)
    have h2 := ih (j + 1) (by omega)
    refine pk_le 6 j (fun h => absurd h (by omega)) (fun _ => And.intro (vp_in_nI (by omega) (by omega)) ?_)
    rw [e]
    rcases tv_pk hr hpk (k := j) (by omega) with ⟨hu, ep, hl⟩ | ⟨hu, ep⟩
    · rw [ep]
      refine br_f (nI_pos (by omega)) (And.intro (vp_in_nI (by omega) (by omega)) (And.intro (vp_in_nI hl (by omega)) ?_))
      rw [nI_clamp (by omega)]
      by_cases hg2 : go (ρ j) = nI g
      · rw [sm_n_t (P := fun k => tb_iu (tv_U us) (tv_N ko) k ∧ tv_N go (ρ k) = g) ⟨hu, (tv_grp hv hl hg).mp hg2⟩] at h2
        exact br_t hg2 (nm_r (nI_1 _) (nm_r (nI_1 j) h2))
      · rw [sm_n_f (P := fun k => tb_iu (tv_U us) (tv_N ko) k ∧ tv_N go (ρ k) = g) (fun z => hg2 ((tv_grp hv hl hg).mpr z.2))] at h2
        exact br_f hg2 (nm_r (nI_1 j) h2)
    · rw [ep]
      rw [sm_n_f (P := fun k => tb_iu (tv_U us) (tv_N ko) k ∧ tv_N go (ρ k) = g) (fun z => hu z.1)] at h2
      exact br_t ra_n1lt (nm_r (nI_1 j) h2)
theorem yw_count (hv : tv_ok ko go vo) (hr : tb_rep (tv_U us) (tv_N ko) ρ) (hpk : tv_PK us ko ρ pk) {g : Nat} (hg : g < 8) {post : Int32 → Prop} (hp : post (nI (sm_n (fun k => tb_iu (tv_U us) (tv_N ko) k ∧ tv_N go (ρ k) = g) 6))) : wpY_count post (us, ko, go, vo, pk) (nI g) := by
  have h := yw_count4 hv hr hpk hg hp 6 0 (by omega)
  exact Exists.intro 7 h
theorem yw_sum4 (hv : tv_ok ko go vo) (hr : tb_rep (tv_U us) (tv_N ko) ρ) (hpk : tv_PK us ko ρ pk) {g : Nat} (hg : g < 8) {post : Int32 → Prop} (hp : ∀ x : Int32, x.toInt = sm_s (fun k => sm_i (tb_iu (tv_U us) (tv_N ko) k ∧ tv_N go (ρ k) = g) (tv_V vo (ρ k))) 6 → post x) : ∀ (d j : Nat) (x : Int32), j + d = 6 → x.toInt = sm_s (fun k => sm_i (tb_iu (tv_U us) (tv_N ko) k ∧ tv_N go (ρ k) = g) (tv_V vo (ρ k))) j → wY_sum_4 post (nI g) us ko go vo pk (d + 1) x (nI j) := by
  intro d
  induction d with
  | zero =>
    intro j x hj hx
    have e : j = 6 := by omega
    subst e
    exact pk_le 6 6 (fun _ => hp x hx) (fun h => absurd h (by omega))
  | succ d ih =>
    intro j x hj hx
    have e : (nI j).toNatClampNeg = j := nI_clamp (by omega)
    have hb := ms_sum_bd (V := tv_V vo) (tv_vo hv) hr (fun k => tb_iu (tv_U us) (tv_N ko) k ∧ tv_N go (ρ k) = g) (fun k h => h.1) j (by omega)
    have hs := sm_s_s (fun k => sm_i (tb_iu (tv_U us) (tv_N ko) k ∧ tv_N go (ρ k) = g) (tv_V vo (ρ k))) j
    refine pk_le 6 j (fun h => absurd h (by omega)) (fun _ => And.intro (vp_in_nI (by omega) (by omega)) ?_)
    rw [e]
    rcases tv_pk hr hpk (k := j) (by omega) with ⟨hu, ep, hl⟩ | ⟨hu, ep⟩
    · rw [ep]
      refine br_f (nI_pos (by omega)) (And.intro (vp_in_nI (by omega) (by omega)) (And.intro (vp_in_nI hl (by omega)) ?_))
      rw [nI_clamp (by omega)]
      by_cases hg2 : go (ρ j) = nI g
      · refine br_t hg2 (And.intro (vp_in_nI (by omega) (by omega)) (And.intro (vp_in_nI hl (by omega)) (nm_e (nm_r (nI_1 j) (ih (j + 1) _ (by omega) ?_)))))
        have hv1 := tv_vo hv (ρ j) hl
        rw [sm_it ⟨hu, (tv_grp hv hl hg).mp hg2⟩] at hs
        have hv2 : tv_V vo (ρ j) = (vo (ρ j)).toInt := rfl
        rw [hs, hv2, ra_add (by omega) (by omega), hx]
      · rw [sm_if (fun z => hg2 ((tv_grp hv hl hg).mpr z.2))] at hs
        exact br_f hg2 (nm_r (nI_1 j) (ih (j + 1) x (by omega) (by omega)))
    · rw [ep]
      rw [sm_if (fun z => hu z.1)] at hs
      exact br_t ra_n1lt (nm_r (nI_1 j) (ih (j + 1) x (by omega) (by omega)))
theorem yw_sum (hv : tv_ok ko go vo) (hr : tb_rep (tv_U us) (tv_N ko) ρ) (hpk : tv_PK us ko ρ pk) {g : Nat} (hg : g < 8) {post : Int32 → Prop} (hp : ∀ x : Int32, x.toInt = sm_s (fun k => sm_i (tb_iu (tv_U us) (tv_N ko) k ∧ tv_N go (ρ k) = g) (tv_V vo (ρ k))) 6 → post x) : wpY_sum post (us, ko, go, vo, pk) (nI g) :=
  Exists.intro 7 (yw_sum4 hv hr hpk hg hp 6 0 0 (by omega) ra_0)
/-- the bits of the groups of the keys below j -/
def yw_MB (us ko go : Nat → Int32) (ρ : Nat → Nat) (j : Nat) (m : Int32) : Prop := ∀ b, b < 32 → (bt m b = true ↔ ∃ k, k < j ∧ tb_iu (tv_U us) (tv_N ko) k ∧ tv_N go (ρ k) = b)
theorem yw_mask4 (hv : tv_ok ko go vo) (hr : tb_rep (tv_U us) (tv_N ko) ρ) (hpk : tv_PK us ko ρ pk) {post : Int32 → Prop} (hp : ∀ m, yw_MB us ko go ρ 6 m → post m) : ∀ (d j : Nat) (m : Int32), j + d = 6 → yw_MB us ko go ρ j m → wY_mask_4 post us ko go vo pk (d + 1) m (nI j) := by
  intro d
  induction d with
  | zero =>
    intro j m hj hm
    have e : j = 6 := by omega
    subst e
    exact pk_le 6 6 (fun _ => hp m hm) (fun h => absurd h (by omega))
  | succ d ih =>
    intro j m hj hm
    have e : (nI j).toNatClampNeg = j := nI_clamp (by omega)
    refine pk_le 6 j (fun h => absurd h (by omega)) (fun _ => And.intro (vp_in_nI (by omega) (by omega)) ?_)
    rw [e]
    rcases tv_pk hr hpk (k := j) (by omega) with ⟨hu, ep, hl⟩ | ⟨hu, ep⟩
    · rw [ep]
      refine br_f (nI_pos (by omega)) (And.intro (vp_in_nI (by omega) (by omega)) (And.intro (vp_in_nI hl (by omega)) ?_))
      rw [nI_clamp (by omega)]
      obtain ⟨g, hg, eg, eG⟩ := tv_go hv hl
      rw [eg]
      refine nm_e (nm_r (nI_1 j) (ih (j + 1) _ (by omega) (fun b hb => ?_)))
      rw [b_or, ra_shl g (by omega) b hb, Bool.or_eq_true, decide_eq_true_eq, hm b hb]
      constructor
      · rintro (⟨k, hk, hu2, h2⟩ | h2)
        · exact ⟨k, by omega, hu2, h2⟩
        · exact ⟨j, by omega, hu, eG.trans h2.symm⟩
      · rintro ⟨k, hk, hu2, h2⟩
        by_cases z : k = j
        · right; rw [← h2, z]; exact eG
        · left; exact ⟨k, by omega, hu2, h2⟩
    · rw [ep]
      refine br_t ra_n1lt (nm_r (nI_1 j) (ih (j + 1) m (by omega) (fun b hb => ?_)))
      rw [hm b hb]
      constructor
      · rintro ⟨k, hk, hu2, h2⟩
        exact ⟨k, by omega, hu2, h2⟩
      · rintro ⟨k, hk, hu2, h2⟩
        by_cases z : k = j
        · subst z; exact absurd hu2 hu
        · exact ⟨k, by omega, hu2, h2⟩
theorem yw_mask (hv : tv_ok ko go vo) (hr : tb_rep (tv_U us) (tv_N ko) ρ) (hpk : tv_PK us ko ρ pk) {post : Int32 → Prop} (hp : ∀ m, yw_MB us ko go ρ 6 m → post m) : wpY_mask post (us, ko, go, vo, pk) :=
  Exists.intro 7 (yw_mask4 hv hr hpk hp 6 0 0 (by omega) (fun b _ => ⟨fun z => by rw [b_0] at z; exact absurd z (by decide), fun ⟨k, hk, _⟩ => absurd hk (by omega)⟩))
theorem yw_size4 (hr : tb_rep (tv_U us) (tv_N ko) ρ) (hpk : tv_PK us ko ρ pk) {post : Int32 → Prop} (hp : post (nI (ms_sz (tv_U us) (tv_N ko)))) : ∀ d j : Nat, j + d = 6 → wY_size_4 post us ko go vo pk (d + 1) (nI (sm_n (tb_iu (tv_U us) (tv_N ko)) j)) (nI j) := by
  intro d
  induction d with
  | zero =>
    intro j hj
    have e : j = 6 := by omega
    subst e
    exact pk_le 6 6 (fun _ => hp) (fun h => absurd h (by omega))
  | succ d ih =>
    intro j hj
    have e : (nI j).toNatClampNeg = j := nI_clamp (by omega)
    have h2 := ih (j + 1) (by omega)
    refine pk_le 6 j (fun h => absurd h (by omega)) (fun _ => And.intro (vp_in_nI (by omega) (by omega)) ?_)
    rw [e]
    rcases tv_pk hr hpk (k := j) (by omega) with ⟨hu, ep, hl⟩ | ⟨hu, ep⟩
    · rw [ep]
      rw [sm_n_t hu] at h2
      exact br_f (nI_pos (by omega)) (nm_r (nI_1 _) (nm_r (nI_1 j) h2))
    · rw [ep]
      rw [sm_n_f hu] at h2
      exact br_t ra_n1lt (nm_r (nI_1 j) h2)
theorem yw_size (hr : tb_rep (tv_U us) (tv_N ko) ρ) (hpk : tv_PK us ko ρ pk) {post : Int32 → Prop} (hp : post (nI (ms_sz (tv_U us) (tv_N ko)))) : wpY_size post (us, ko, go, vo, pk) :=
  Exists.intro 7 (yw_size4 hr hpk hp 6 0 (by omega))
/-! valueAt -/
theorem yw_va13n (hpk : ∀ k, k < 6 → tb_iu (tv_U us) (tv_N ko) k ∨ pk k = -1) {k : Nat} (hk : k < 6) (hn : pk k = -1) {post : Int32 → Prop} {J : Int32 → Prop} {x1 : Int32} (hJ : J (nI (k + 1))) : ∀ (d j : Nat) (x : Int32), j + d = 6 → wY_valueAt_13 post J x1 (nI k) us ko go vo pk (d + 1) x (nI j) := by
  have ek : (nI k).toNatClampNeg = k := nI_clamp (by omega)
  intro d
  induction d with
  | zero =>
    intro j x hj
    refine pk_le 6 j (fun _ => And.intro (vp_in_nI hk (by omega)) ?_) (fun h => absurd h (by omega))
    rw [ek, hn]
    exact br_t ra_n1lt (nm_r (nI_1 k) hJ)
  | succ d ih =>
    intro j x hj
    refine pk_le 6 j (fun h => absurd h (by omega)) (fun _ => And.intro (vp_in_nI hk (by omega)) ?_)
    rw [ek, hn]
    exact br_t ra_n1lt (nm_r (nI_1 j) (ih (j + 1) x (by omega)))
theorem yw_va13 (hv : tv_ok ko go vo) (hr : tb_rep (tv_U us) (tv_N ko) ρ) (hpk : tv_PK us ko ρ pk) {k p : Nat} (hk : k < 6) (hp6 : p < 6) (hu : tb_iu (tv_U us) (tv_N ko) k) {post : Int32 → Prop} {J : Int32 → Prop} (hP : ms_rk (tv_U us) (tv_N ko) (tv_V vo) ρ k = p → post (vo (ρ k))) (hJ : ms_rk (tv_U us) (tv_N ko) (tv_V vo) ρ k ≠ p → J (nI (k + 1))) : ∀ (d j : Nat), j + d = 6 → wY_valueAt_13 post J (nI p) (nI k) us ko go vo pk (d + 1) (nI (sm_n (fun j => ms_bef (tv_U us) (tv_N ko) (tv_V vo) ρ j k) j)) (nI j) := by
  have ek : (nI k).toNatClampNeg = k := nI_clamp (by omega)
  have epk : pk k = nI (ρ k) := (hpk k hk).1 hu
  have hlk : ρ k < 14 := (hr k hk hu).1
  have elk : (nI (ρ k)).toNatClampNeg = ρ k := nI_clamp (by omega)
  intro d
  induction d with
  | zero =>
    intro j hj
    have e : j = 6 := by omega
    subst e
    have hb : ms_rk (tv_U us) (tv_N ko) (tv_V vo) ρ k ≤ 6 := sm_n_bd _ 6
    refine pk_le 6 6 (fun _ => And.intro (vp_in_nI hk (by omega)) ?_) (fun h => absurd h (by omega))
    rw [ek, epk, elk]
    refine br_f (nI_pos (by omega)) ?_
    exact pk_eq (ms_rk (tv_U us) (tv_N ko) (tv_V vo) ρ k) p (fun he => And.intro (vp_in_nI hk (by omega)) (And.intro (vp_in_nI hlk (by omega)) (hP he))) (fun he => nm_r (nI_1 k) (hJ he))
  | succ d ih =>
    intro j hj
    have ej : (nI j).toNatClampNeg = j := nI_clamp (by omega)
    have h2 := ih (j + 1) (by omega)
    refine pk_le 6 j (fun h => absurd h (by omega)) (fun _ => And.intro (vp_in_nI hk (by omega)) ?_)
    rw [ek, epk, elk]
    refine br_f (nI_pos (by omega)) (And.intro (vp_in_nI (by omega) (by omega)) ?_)
    rw [ej]
    rcases tv_pk hr hpk (k := j) (by omega) with ⟨huj, epj, hlj⟩ | ⟨huj, epj⟩
    · have elj : (nI (ρ j)).toNatClampNeg = ρ j := nI_clamp (by omega)
      rw [epj, elj]
      refine br_f (nI_pos (by omega)) (And.intro (vp_in_nI (by omega) (by omega)) (And.intro (vp_in_nI hlj (by omega)) (nm_e (And.intro (vp_in_nI hk (by omega)) (And.intro (vp_in_nI hlk (by omega)) (nm_e ?_))))))
      by_cases h3 : vo (ρ j) < vo (ρ k)
      · rw [sm_n_t (P := fun j => ms_bef (tv_U us) (tv_N ko) (tv_V vo) ρ j k) ⟨huj, Or.inl (ra_lt.mp h3)⟩] at h2
        exact br_t h3 (nm_r (nI_1 _) (nm_r (nI_1 j) h2))
      · refine br_f h3 ?_
        by_cases h4 : vo (ρ j) = vo (ρ k)
        · refine br_t h4 (pk_le k j (fun h5 => nm_r (nI_1 j) ?_) (fun h5 => nm_r (nI_1 _) (nm_r (nI_1 j) ?_)))
          · rw [sm_n_f (P := fun j => ms_bef (tv_U us) (tv_N ko) (tv_V vo) ρ j k) (fun z => z.2.elim (fun a => h3 (ra_lt.mpr a)) (fun a => absurd a.2 (by omega)))] at h2
            exact h2
          · rw [sm_n_t (P := fun j => ms_bef (tv_U us) (tv_N ko) (tv_V vo) ρ j k) ⟨huj, Or.inr ⟨congrArg Int32.toInt h4, h5⟩⟩] at h2
            exact h2
        · rw [sm_n_f (P := fun j => ms_bef (tv_U us) (tv_N ko) (tv_V vo) ρ j k) (fun z => z.2.elim (fun a => h3 (ra_lt.mpr a)) (fun a => h4 (Int32.toInt_inj.mp a.1)))] at h2
          exact br_f h4 (nm_r (nI_1 j) h2)
    · rw [epj]
      rw [sm_n_f (P := fun j => ms_bef (tv_U us) (tv_N ko) (tv_V vo) ρ j k) (fun z => huj z.1)] at h2
      exact br_t ra_n1lt (nm_r (nI_1 j) h2)
theorem yw_va2 (hv : tv_ok ko go vo) (hr : tb_rep (tv_U us) (tv_N ko) ρ) (hpk : tv_PK us ko ρ pk) {p : Nat} (hp : p < ms_sz (tv_U us) (tv_N ko)) {post : Int32 → Prop} (hP : ∀ x : Int32, ms_va (tv_U us) (tv_N ko) (tv_V vo) ρ p x.toInt → post x) : ∀ d k : Nat, k + d = 6 → (∀ k', k' < k → tb_iu (tv_U us) (tv_N ko) k' → ms_rk (tv_U us) (tv_N ko) (tv_V vo) ρ k' ≠ p) → wY_valueAt_2 post (nI p) us ko go vo pk (d + 1) (nI k) := by
  have hsz : ms_sz (tv_U us) (tv_N ko) ≤ 6 := sm_n_bd _ 6
  intro d
  induction d with
  | zero =>
    intro k hk hn
    obtain ⟨k', h1, h2, h3⟩ := ms_surj (V := tv_V vo) (ρ := ρ) hp
    exact absurd h3 (hn k' (by omega) h2)
  | succ d ih =>
    intro k hk hn
    refine pk_le 6 k (fun h => absurd h (by omega)) (fun _ => Exists.intro 7 ?_)
    rcases tv_pk hr hpk (k := k) (by omega) with ⟨hu, ep, hl⟩ | ⟨hu, ep⟩
    · have h := yw_va13 (J := wY_valueAt_2 post (nI p) us ko go vo pk (d + 1)) (post := post) hv hr hpk (k := k) (p := p) (by omega) (by omega) hu (fun he => hP _ ⟨k, by omega, hu, he, rfl⟩) (fun he => ih (k + 1) (by omega) (fun k' hk' hu' => by
        by_cases z : k' = k
        · rw [z]; exact he
        · exact hn k' (by omega) hu')) 6 0 (by omega)
      exact h
    · exact yw_va13n (ko := ko) (us := us) (J := wY_valueAt_2 post (nI p) us ko go vo pk (d + 1)) (fun j hj => (tv_pk hr hpk hj).elim (fun a => Or.inl a.1) (fun a => Or.inr a.2)) (by omega) ep (ih (k + 1) (by omega) (fun k' hk' hu' => by
        by_cases z : k' = k
        · rw [z] at hu'; exact absurd hu' hu
        · exact hn k' (by omega) hu')) 6 0 0 (by omega)
theorem yw_va (hv : tv_ok ko go vo) (hr : tb_rep (tv_U us) (tv_N ko) ρ) (hpk : tv_PK us ko ρ pk) {p : Nat} (hp : p < ms_sz (tv_U us) (tv_N ko)) {post : Int32 → Prop} (hP : ∀ x : Int32, ms_va (tv_U us) (tv_N ko) (tv_V vo) ρ p x.toInt → post x) : wpY_valueAt post (us, ko, go, vo, pk) (nI p) :=
  Exists.intro 7 (yw_va2 hv hr hpk hp hP 6 0 (by omega) (fun k' hk' => absurd hk' (by omega)))
end YM
end
section
/-! the reference: measure, least, most, exactly -/
section YL
variable {us ko go vo pk : Nat → Int32} {ρ : Nat → Nat}
theorem ms_all {U : Nat → Prop} {K G : Nat → Nat} {V : Nat → Int} (hG : ∀ k, k < 6 → tb_iu U K k → G (ρ k) < 8) : sm_s (fun g => sm_s (fun k => sm_i (tb_iu U K k ∧ G (ρ k) = g) (V (ρ k))) 6) 8 = sm_s (fun k => sm_i (tb_iu U K k) (V (ρ k))) 6 := by
  rw [sm_s_swap (fun g k => sm_i (tb_iu U K k ∧ G (ρ k) = g) (V (ρ k))) 6 8]
  refine sm_s_c 6 (fun k hk => ?_)
  by_cases hu : tb_iu U K k
  · rw [sm_it hu, sm_s_pt (x := G (ρ k)) (hG k hk hu) (fun i _ hne => sm_if (fun z => hne z.2.symm)), sm_it ⟨hu, rfl⟩]
  · rw [sm_if hu]
    exact sm_s_z 8 (fun i _ => sm_if (fun z => hu z.1))
theorem yw_m41 (hv : tv_ok ko go vo) (hr : tb_rep (tv_U us) (tv_N ko) ρ) (hpk : tv_PK us ko ρ pk) {what x3 m : Int32} (hm : yw_MB us ko go ρ 6 m) {post : Int32 → Prop}
    (hE : ∀ x5 : Int32, x5.toInt = sm_s (fun g => sm_s (fun k => sm_i (tb_iu (tv_U us) (tv_N ko) k ∧ tv_N go (ρ k) = g) (tv_V vo (ρ k))) 6) 8 → wY_measure_41 post what x3 m us ko go vo pk 1 (nI (sm_n (ms_im (tv_U us) (tv_N ko) (tv_N go) ρ) 8)) x5 (nI 8)) :
    ∀ (d g : Nat) (x5 : Int32), g + d = 8 → x5.toInt = sm_s (fun g => sm_s (fun k => sm_i (tb_iu (tv_U us) (tv_N ko) k ∧ tv_N go (ρ k) = g) (tv_V vo (ρ k))) 6) g → wY_measure_41 post what x3 m us ko go vo pk (d + 1) (nI (sm_n (ms_im (tv_U us) (tv_N ko) (tv_N go) ρ) g)) x5 (nI g) := by
  intro d
  induction d with
  | zero =>
    intro g x5 hg hx
    have e : g = 8 := by omega
    subst e
    exact hE x5 hx
  | succ d ih =>
    intro g x5 hg hx
    have eb : nI (sm_n (ms_im (tv_U us) (tv_N ko) (tv_N go) ρ) g) + ((m >>> (nI g &&& 31)) &&& 1) = nI (sm_n (ms_im (tv_U us) (tv_N ko) (tv_N go) ρ) (g + 1)) := by
      by_cases h : ms_im (tv_U us) (tv_N ko) (tv_N go) ρ g
      · rw [ra_bitT (by omega) ((hm g (by omega)).mpr h), sm_n_t h, nI_1]
      · have hf : bt m g = false := by
          cases hb : bt m g
          · rfl
          · exact absurd ((hm g (by omega)).mp hb) h
        rw [ra_bitF (by omega) hf, sm_n_f h, Int32.add_zero]
    have hb : ∀ g', g' < g → -6000 ≤ sm_s (fun k => sm_i (tb_iu (tv_U us) (tv_N ko) k ∧ tv_N go (ρ k) = g') (tv_V vo (ρ k))) 6 ∧ sm_s (fun k => sm_i (tb_iu (tv_U us) (tv_N ko) k ∧ tv_N go (ρ k) = g') (tv_V vo (ρ k))) 6 ≤ 6000 := by
      intro g' _
      have := ms_sum_bd (V := tv_V vo) (tv_vo hv) hr (fun k => tb_iu (tv_U us) (tv_N ko) k ∧ tv_N go (ρ k) = g') (fun k h => h.1) 6 (by omega)
      omega
    have hb2 := sm_s_bd g hb
    have hb3 := ms_sum_bd (V := tv_V vo) (tv_vo hv) hr (fun k => tb_iu (tv_U us) (tv_N ko) k ∧ tv_N go (ρ k) = g) (fun k h => h.1) 6 (by omega)
    refine pk_le 8 g (fun h => absurd h (by omega)) (fun _ => nm_r eb (yw_sum hv hr hpk (by omega) (fun x hx2 => nm_e (nm_r (nI_1 g) (ih (g + 1) _ (by omega) ?_)))))
    rw [sm_s_s, ra_add (by omega) (by omega), hx, hx2]
theorem yw_m0 (hv : tv_ok ko go vo) {g : Nat} (hg : g < 8) (hr : tb_rep (tv_U us) (tv_N ko) ρ) (hpk : tv_PK us ko ρ pk) {post : Int32 → Prop} (hp : ∀ r : Int32, ms_cnt (tv_U us) (tv_N ko) (tv_N go) g ρ r.toInt → post r) : wpY_measure post (us, ko, go, vo, pk) 0 (nI g) := by
  refine br_t rfl (yw_count hv hr hpk hg (hp _ ?_))
  have := sm_n_bd (fun k => tb_iu (tv_U us) (tv_N ko) k ∧ tv_N go (ρ k) = g) 6
  exact nI_toInt (by omega)
theorem yw_m1 (hv : tv_ok ko go vo) {g : Nat} (hg : g < 8) (hr : tb_rep (tv_U us) (tv_N ko) ρ) (hpk : tv_PK us ko ρ pk) {post : Int32 → Prop} (hp : ∀ r : Int32, ms_sum (tv_U us) (tv_N ko) (tv_N go) (tv_V vo) g ρ r.toInt → post r) : wpY_measure post (us, ko, go, vo, pk) 1 (nI g) :=
  br_f (by decide) (br_t rfl (yw_sum hv hr hpk hg (fun x hx => hp x hx)))
theorem yw_mE (hv : tv_ok ko go vo) (hr : tb_rep (tv_U us) (tv_N ko) ρ) (hpk : tv_PK us ko ρ pk) {what grp : Int32} (h0 : ¬ what = 0) (h1 : ¬ what = 1) {post : Int32 → Prop}
    (hE : ∀ (m x5 : Int32), x5.toInt = sm_s (fun k => sm_i (tb_iu (tv_U us) (tv_N ko) k) (tv_V vo (ρ k))) 6 → wY_measure_41 post what (nI (ms_sz (tv_U us) (tv_N ko))) m us ko go vo pk 1 (nI (sm_n (ms_im (tv_U us) (tv_N ko) (tv_N go) ρ) 8)) x5 (nI 8)) : wpY_measure post (us, ko, go, vo, pk) what grp := by
  have hG : ∀ k, k < 6 → tb_iu (tv_U us) (tv_N ko) k → tv_N go (ρ k) < 8 := by
    intro k hk hu
    obtain ⟨g, hg, _, e⟩ := tv_go hv (hr k hk hu).1
    omega
  refine br_f h0 (br_f h1 (yw_size hr hpk (yw_mask hv hr hpk (fun m hm => Exists.intro 9 ?_))))
  exact yw_m41 hv hr hpk hm (fun x5 hx => hE m x5 (hx.trans (ms_all hG))) 8 0 0 (by omega) ra_0
theorem yw_m2 (hv : tv_ok ko go vo) {grp : Int32} (hr : tb_rep (tv_U us) (tv_N ko) ρ) (hpk : tv_PK us ko ρ pk) {post : Int32 → Prop} (hp : ∀ r : Int32, ms_dif (tv_U us) (tv_N ko) (tv_N go) ρ r.toInt → post r) : wpY_measure post (us, ko, go, vo, pk) 2 grp := by
  refine yw_mE hv hr hpk (by decide) (by decide) (fun m x5 hx => pk_le 8 8 (fun _ => br_t rfl (hp _ ?_)) (fun h => absurd h (by omega)))
  have := sm_n_bd (ms_im (tv_U us) (tv_N ko) (tv_N go) ρ) 8
  exact nI_toInt (by omega)
theorem yw_m3 (hv : tv_ok ko go vo) {grp : Int32} (hr : tb_rep (tv_U us) (tv_N ko) ρ) (hpk : tv_PK us ko ρ pk) {post : Int32 → Prop} (hp : ∀ r : Int32, ms_spr (tv_U us) (tv_N ko) (tv_V vo) ρ r.toInt → post r) : wpY_measure post (us, ko, go, vo, pk) 3 grp := by
  have hsz : ms_sz (tv_U us) (tv_N ko) ≤ 6 := sm_n_bd _ 6
  refine yw_mE hv hr hpk (by decide) (by decide) (fun m x5 hx => pk_le 8 8 (fun _ => br_f (by decide) ?_) (fun h => absurd h (by omega)))
  refine pk_eq (ms_sz (tv_U us) (tv_N ko)) 0 (fun h => hp _ (Or.inl ⟨h, ra_N⟩)) (fun h => br_t rfl ?_)
  rw [ra_s (by omega)]
  refine yw_va hv hr hpk (by omega) (fun a ha => yw_va (p := 0) hv hr hpk (by omega) (fun b hb => hp (a - b) (Or.inr ⟨by omega, _, _, ha, hb, ?_⟩)))
  have := ms_va_bd (tv_vo hv) hr ha
  have := ms_va_bd (tv_vo hv) hr hb
  exact ra_sub (by omega) (by omega)
theorem yw_m4 (hv : tv_ok ko go vo) {grp : Int32} (hr : tb_rep (tv_U us) (tv_N ko) ρ) (hpk : tv_PK us ko ρ pk) {post : Int32 → Prop} (hp : ∀ r : Int32, ms_mid (tv_U us) (tv_N ko) (tv_V vo) ρ r.toInt → post r) : wpY_measure post (us, ko, go, vo, pk) 4 grp := by
  have hsz : ms_sz (tv_U us) (tv_N ko) ≤ 6 := sm_n_bd _ 6
  refine yw_mE hv hr hpk (by decide) (by decide) (fun m x5 hx => pk_le 8 8 (fun _ => br_f (by decide) ?_) (fun h => absurd h (by omega)))
  refine pk_eq (ms_sz (tv_U us) (tv_N ko)) 0 (fun h => hp _ (Or.inl ⟨h, ra_N⟩)) (fun h => br_f (by decide) (br_t rfl (And.intro (by decide) ?_)))
  have e : nI (ms_sz (tv_U us) (tv_N ko) - 1) / 2 = nI ((ms_sz (tv_U us) (tv_N ko) - 1) / 2) := pk_div (d := 2) (by omega) (by omega) (by omega)
  rw [ra_s (by omega), e]
  exact yw_va hv hr hpk (by omega) (fun a ha => hp a (Or.inr ⟨by omega, ha⟩))
theorem yw_m5 (hv : tv_ok ko go vo) {grp : Int32} (hr : tb_rep (tv_U us) (tv_N ko) ρ) (hpk : tv_PK us ko ρ pk) {post : Int32 → Prop} (hp : ∀ r : Int32, ms_mix (tv_U us) (tv_N ko) (tv_N go) (tv_V vo) ρ r.toInt → post r) : wpY_measure post (us, ko, go, vo, pk) 5 grp := by
  have hsz : ms_sz (tv_U us) (tv_N ko) ≤ 6 := sm_n_bd _ 6
  have hd := sm_n_bd (ms_im (tv_U us) (tv_N ko) (tv_N go) ρ) 8
  refine yw_mE hv hr hpk (by decide) (by decide) (fun m x5 hx => pk_le 8 8 (fun _ => br_f (by decide) ?_) (fun h => absurd h (by omega)))
  refine pk_eq (ms_sz (tv_U us) (tv_N ko)) 0 (fun h => hp _ (Or.inl ⟨h, ra_N⟩)) (fun h => br_f (by decide) (br_f (by decide) ?_))
  exact pk_eq (sm_n (ms_im (tv_U us) (tv_N ko) (tv_N go) ρ) 8) (ms_sz (tv_U us) (tv_N ko)) (fun h2 => hp x5 (Or.inr (Or.inl ⟨by omega, h2, hx⟩))) (fun h2 => hp _ (Or.inr (Or.inr ⟨by omega, h2, ra_N⟩)))
end YL
section YL2
variable {us ko go vo : Nat → Int32}
theorem yw_least12 (hv : tv_ok ko go vo) {M : (Nat → Nat) → Int → Prop} (hM : tb_ok (tv_U us) (tv_N ko) M) {what grp : Int32}
    (hm : ∀ (ρ : Nat → Nat) (pk : Nat → Int32) (post : Int32 → Prop), tb_rep (tv_U us) (tv_N ko) ρ → tv_PK us ko ρ pk → (∀ r : Int32, M ρ r.toInt → post r) → wpY_measure post (us, ko, go, vo, pk) what grp)
    {post : Int32 → SY → Prop} (hp : ∀ (r : Int32) (pk : Nat → Int32), tb_least (tv_U us) (tv_N ko) M r.toInt → post r (us, ko, go, vo, pk)) :
    ∀ (d r : Nat) (b : Int32) (pk : Nat → Int32), r + d = tb_P (tb_cnt (tv_U us) (tv_N ko)) 6 → tb_LI (tv_U us) (tv_N ko) M r b.toInt → wY_least_12 post what grp (nI (tb_P (tb_cnt (tv_U us) (tv_N ko)) 6)) (d + 1) b (nI r) us ko go vo pk := by
  have hP := tb_Pbd (U := tv_U us) (K := tv_N ko) 6 (by omega)
  intro d
  induction d with
  | zero =>
    intro r b pk hr I
    refine pk_le (tb_P (tb_cnt (tv_U us) (tv_N ko)) 6) r (fun _ => hp b pk ?_) (fun h => absurd h (by omega))
    rw [show r = tb_P (tb_cnt (tv_U us) (tv_N ko)) 6 from by omega] at I
    exact tb_LIe I
  | succ d ih =>
    intro r b pk hr I
    refine pk_le (tb_P (tb_cnt (tv_U us) (tv_N ko)) 6) r (fun h => absurd h (by omega)) (fun _ => yw_choose hv (by omega) (fun ρ pk' hc hpk => hm ρ pk' _ (tb_CHrep hc) hpk (fun v hMv => ?_)))
    have hN := hM.2.2 ρ _ (tb_CHrep hc) hMv
    have hb := I.1
    by_cases h1 : v = 1000000
    · have h1' := ra_eqN.mp h1
      exact br_t h1 (nm_r (nI_1 r) (ih (r + 1) b pk' (by omega) (tb_LIs hM I hc hMv (by omega) (by omega) (Or.inl rfl))))
    · refine br_f h1 ?_
      by_cases h2 : b = 1000000
      · have h2' := ra_eqN.mp h2
        exact br_t h2 (nm_r (nI_1 r) (ih (r + 1) v pk' (by omega) (tb_LIs hM I hc hMv (by omega) (by omega) (Or.inr rfl))))
      · refine br_f h2 ?_
        by_cases h3 : b ≤ v
        · exact br_t h3 (nm_r (nI_1 r) (ih (r + 1) b pk' (by omega) (tb_LIs hM I hc hMv (by omega) (ra_le.mp h3) (Or.inl rfl))))
        · have h3' : ¬ b.toInt ≤ v.toInt := fun z => h3 (ra_le.mpr z)
          exact br_f h3 (nm_r (nI_1 r) (ih (r + 1) v pk' (by omega) (tb_LIs hM I hc hMv (by omega) (by omega) (Or.inr rfl))))
theorem yw_least (hv : tv_ok ko go vo) {M : (Nat → Nat) → Int → Prop} (hM : tb_ok (tv_U us) (tv_N ko) M) {what grp : Int32}
    (hm : ∀ (ρ : Nat → Nat) (pk : Nat → Int32) (post : Int32 → Prop), tb_rep (tv_U us) (tv_N ko) ρ → tv_PK us ko ρ pk → (∀ r : Int32, M ρ r.toInt → post r) → wpY_measure post (us, ko, go, vo, pk) what grp)
    {post : Int32 → SY → Prop} (hp : ∀ (r : Int32) (pk : Nat → Int32), tb_least (tv_U us) (tv_N ko) M r.toInt → post r (us, ko, go, vo, pk)) (pk : Nat → Int32) : wpY_least post (us, ko, go, vo, pk) what grp :=
  yw_repairs hv (Exists.intro (tb_P (tb_cnt (tv_U us) (tv_N ko)) 6 + 1) (yw_least12 hv hM hm hp (tb_P (tb_cnt (tv_U us) (tv_N ko)) 6) 0 1000000 pk (by omega) (by rw [ra_N]; exact tb_LI0)))
theorem yw_most12 (hv : tv_ok ko go vo) {M : (Nat → Nat) → Int → Prop} (hM : tb_ok (tv_U us) (tv_N ko) M) {what grp : Int32}
    (hm : ∀ (ρ : Nat → Nat) (pk : Nat → Int32) (post : Int32 → Prop), tb_rep (tv_U us) (tv_N ko) ρ → tv_PK us ko ρ pk → (∀ r : Int32, M ρ r.toInt → post r) → wpY_measure post (us, ko, go, vo, pk) what grp)
    {post : Int32 → SY → Prop} (hp : ∀ (r : Int32) (pk : Nat → Int32), tb_most (tv_U us) (tv_N ko) M r.toInt → post r (us, ko, go, vo, pk)) :
    ∀ (d r : Nat) (b : Int32) (pk : Nat → Int32), r + d = tb_P (tb_cnt (tv_U us) (tv_N ko)) 6 → tb_MI (tv_U us) (tv_N ko) M r b.toInt → wY_most_12 post what grp (nI (tb_P (tb_cnt (tv_U us) (tv_N ko)) 6)) (d + 1) b (nI r) us ko go vo pk := by
  have hP := tb_Pbd (U := tv_U us) (K := tv_N ko) 6 (by omega)
  intro d
  induction d with
  | zero =>
    intro r b pk hr I
    refine pk_le (tb_P (tb_cnt (tv_U us) (tv_N ko)) 6) r (fun _ => hp b pk ?_) (fun h => absurd h (by omega))
    rw [show r = tb_P (tb_cnt (tv_U us) (tv_N ko)) 6 from by omega] at I
    exact tb_MIe I
  | succ d ih =>
    intro r b pk hr I
    refine pk_le (tb_P (tb_cnt (tv_U us) (tv_N ko)) 6) r (fun h => absurd h (by omega)) (fun _ => yw_choose hv (by omega) (fun ρ pk' hc hpk => hm ρ pk' _ (tb_CHrep hc) hpk (fun v hMv => ?_)))
    by_cases h1 : v = 1000000
    · have h1' := ra_eqN.mp h1
      exact br_t h1 (nm_r (nI_1 r) (ih (r + 1) b pk' (by omega) (tb_MIs hM I hc hMv (by omega))))
    · have h1' : ¬ v.toInt = 1000000 := fun z => h1 (ra_eqN.mpr z)
      refine br_f h1 ?_
      by_cases h2 : b = 1000000
      · have h2' := ra_eqN.mp h2
        exact br_t h2 (nm_r (nI_1 r) (ih (r + 1) v pk' (by omega) (tb_MIs hM I hc hMv (by omega))))
      · have h2' : ¬ b.toInt = 1000000 := fun z => h2 (ra_eqN.mpr z)
        refine br_f h2 ?_
        by_cases h3 : v ≤ b
        · have h3' := ra_le.mp h3
          exact br_t h3 (nm_r (nI_1 r) (ih (r + 1) b pk' (by omega) (tb_MIs hM I hc hMv (by omega))))
        · have h3' : ¬ v.toInt ≤ b.toInt := fun z => h3 (ra_le.mpr z)
          exact br_f h3 (nm_r (nI_1 r) (ih (r + 1) v pk' (by omega) (tb_MIs hM I hc hMv (by omega))))
theorem yw_most (hv : tv_ok ko go vo) {M : (Nat → Nat) → Int → Prop} (hM : tb_ok (tv_U us) (tv_N ko) M) {what grp : Int32}
    (hm : ∀ (ρ : Nat → Nat) (pk : Nat → Int32) (post : Int32 → Prop), tb_rep (tv_U us) (tv_N ko) ρ → tv_PK us ko ρ pk → (∀ r : Int32, M ρ r.toInt → post r) → wpY_measure post (us, ko, go, vo, pk) what grp)
    {post : Int32 → SY → Prop} (hp : ∀ (r : Int32) (pk : Nat → Int32), tb_most (tv_U us) (tv_N ko) M r.toInt → post r (us, ko, go, vo, pk)) (pk : Nat → Int32) : wpY_most post (us, ko, go, vo, pk) what grp :=
  yw_repairs hv (Exists.intro (tb_P (tb_cnt (tv_U us) (tv_N ko)) 6 + 1) (yw_most12 hv hM hm hp (tb_P (tb_cnt (tv_U us) (tv_N ko)) 6) 0 1000000 pk (by omega) (by rw [ra_N]; exact tb_MI0)))
/-! exactly -/
theorem yw_exactly7 (hv : tv_ok ko go vo) {x1 : Int32} {post : Int32 → SY → Prop}
    (hp1 : ∀ pk, (∃ ρ m, tb_rep (tv_U us) (tv_N ko) ρ ∧ yw_MB us ko go ρ 6 m ∧ m = x1 &&& 255) → post 1 (us, ko, go, vo, pk))
    (hp0 : ∀ pk, (∀ ρ m, tb_rep (tv_U us) (tv_N ko) ρ → yw_MB us ko go ρ 6 m → ¬ m = x1 &&& 255) → post 0 (us, ko, go, vo, pk)) :
    ∀ (d r : Nat) (pk : Nat → Int32), r + d = tb_P (tb_cnt (tv_U us) (tv_N ko)) 6 → (∀ r', r' < r → ∀ ρ m, tb_CH (tv_U us) (tv_N ko) r' ρ → yw_MB us ko go ρ 6 m → ¬ m = x1 &&& 255) → wY_exactly_7 post x1 (nI (tb_P (tb_cnt (tv_U us) (tv_N ko)) 6)) (d + 1) (nI r) us ko go vo pk := by
  have hP := tb_Pbd (U := tv_U us) (K := tv_N ko) 6 (by omega)
  intro d
  induction d with
  | zero =>
    intro r pk hr I
    refine pk_le (tb_P (tb_cnt (tv_U us) (tv_N ko)) 6) r (fun _ => hp0 pk (fun ρ m h1 h2 => ?_)) (fun h => absurd h (by omega))
    obtain ⟨r', h3, h4⟩ := tb_hit h1
    exact I r' (by omega) ρ m h4 h2
  | succ d ih =>
    intro r pk hr I
    refine pk_le (tb_P (tb_cnt (tv_U us) (tv_N ko)) 6) r (fun h => absurd h (by omega)) (fun _ => yw_choose hv (by omega) (fun ρ pk' hc hpk => yw_mask hv (tb_CHrep hc) hpk (fun m hm => ?_)))
    refine br_c (fun h => hp1 pk' ⟨ρ, m, tb_CHrep hc, hm, h⟩) (fun h => nm_r (nI_1 r) (ih (r + 1) pk' (by omega) (fun r' hr' ρ' m' hc' hm' => ?_)))
    by_cases e : r' = r
    · subst e
      have hu := tb_CHuniq hc' hc
      have : m' = m := by
        apply b_ext
        intro b hb
        have h1 := hm b hb
        have h2 := hm' b hb
        have h3 : (∃ k, k < 6 ∧ tb_iu (tv_U us) (tv_N ko) k ∧ tv_N go (ρ' k) = b) ↔ (∃ k, k < 6 ∧ tb_iu (tv_U us) (tv_N ko) k ∧ tv_N go (ρ k) = b) := ms_im_cg (G := tv_N go) hu b
        rw [h3, ← h1] at h2
        cases h4 : bt m b <;> cases h5 : bt m' b <;> simp_all
      rw [this]; exact h
    · exact I r' (by omega) ρ' m' hc' hm'
theorem yw_exactly (hv : tv_ok ko go vo) {x1 : Int32} {post : Int32 → SY → Prop}
    (hp1 : ∀ pk, (∃ ρ m, tb_rep (tv_U us) (tv_N ko) ρ ∧ yw_MB us ko go ρ 6 m ∧ m = x1 &&& 255) → post 1 (us, ko, go, vo, pk))
    (hp0 : ∀ pk, (∀ ρ m, tb_rep (tv_U us) (tv_N ko) ρ → yw_MB us ko go ρ 6 m → ¬ m = x1 &&& 255) → post 0 (us, ko, go, vo, pk)) (pk : Nat → Int32) : wpY_exactly post (us, ko, go, vo, pk) x1 :=
  yw_repairs hv (Exists.intro (tb_P (tb_cnt (tv_U us) (tv_N ko)) 6 + 1) (yw_exactly7 hv hp1 hp0 (tb_P (tb_cnt (tv_U us) (tv_N ko)) 6) 0 pk (by omega) (fun r' h => absurd h (by omega))))
end YL2
end
section
/-! what the component keeps for each key; summarise -/
def xs_S (us ko go vo : Nat → Int32) (n : Nat) (ro gs be : Nat → Int32) : Prop :=
  (∀ k, k < 6 → ro k = nI (tb_idx (tv_U us) (tv_N ko) k n)) ∧
  (∀ k, k < 6 → ∀ b, b < 32 → (bt (gs k) b = true ↔ ∃ i, i < n ∧ tv_U us i ∧ tv_N ko i = k ∧ tv_N go i = b)) ∧
  (∀ k, k < 6 → ∀ g, g < 8 → (be (k * 8 + g) = 1000000 ∧ ∀ i, i < n → tv_U us i → tv_N ko i = k → tv_N go i ≠ g) ∨
    (∃ i, i < n ∧ tv_U us i ∧ tv_N ko i = k ∧ tv_N go i = g ∧ be (k * 8 + g) = vo i ∧ ∀ j, j < n → tv_U us j → tv_N ko j = k → tv_N go j = g → tv_V vo j ≤ tv_V vo i))
def xs_inv (fr : Int32) (us ko go vo ro gs be : Nat → Int32) : Prop :=
  tv_ok ko go vo ∧ fr = nI (sm_n (tv_U us) 14) ∧ xs_S us ko go vo 14 ro gs be
section XS
variable {fr : Int32} {us ko go vo ro gs be ho re bb se li od iw so : Nat → Int32}
theorem xs_skip {j : Nat} (h : xs_S us ko go vo j ro gs be) (hu : us j = 0) : xs_S us ko go vo (j + 1) ro gs be := by
  obtain ⟨h1, h2, h3⟩ := h
  refine ⟨fun k hk => ?_, fun k hk b hb => ?_, fun k hk g hg => ?_⟩
  · rw [h1 k hk, tb_idx_f (U := tv_U us) (K := tv_N ko) (k := k) (j := j) (fun z => z.1 hu)]
  · rw [h2 k hk b hb]
    constructor
    · rintro ⟨i, hi, hr⟩; exact ⟨i, by omega, hr⟩
    · rintro ⟨i, hi, hr⟩
      by_cases e : i = j
      · subst e; exact absurd hu hr.1
      · exact ⟨i, by omega, hr⟩
  · rcases h3 k hk g hg with ⟨a, b⟩ | ⟨i, hi, a, b, c, d, e⟩
    · left
      refine ⟨a, fun i hi ui => ?_⟩
      by_cases e : i = j
      · subst e; exact absurd hu ui
      · exact b i (by omega) ui
    · right
      refine ⟨i, by omega, a, b, c, d, fun j' hj' uj => ?_⟩
      by_cases e2 : j' = j
      · subst e2; exact absurd hu uj
      · exact e j' (by omega) uj
theorem xs_step {j k g : Nat} {be' : Nat → Int32} (hN : ∀ i, i < j → ¬ vo i = 1000000) (h : xs_S us ko go vo j ro gs be) (hu : ¬ us j = 0) (hk : k < 6) (hg : g < 8) (eK : tv_N ko j = k) (eG : tv_N go j = g)
    (hb : (be' = upd be (k * 8 + g) (vo j) ∧ (be (k * 8 + g) = 1000000 ∨ (be (k * 8 + g)).toInt ≤ (vo j).toInt)) ∨ (be' = be ∧ ¬ be (k * 8 + g) = 1000000 ∧ (vo j).toInt ≤ (be (k * 8 + g)).toInt)) :
    xs_S us ko go vo (j + 1) (upd ro k (ro k + 1)) (upd gs k (gs k ||| ((1 : Int32) <<< (nI g &&& 31)))) be' := by
  obtain ⟨h1, h2, h3⟩ := h
  refine ⟨fun k' hk' => ?_, fun k' hk' b hb' => ?_, fun k' hk' g' hg' => ?_⟩
  · by_cases e : k' = k
    · rw [e, pk_us, h1 k hk, nI_1, tb_idx_t (U := tv_U us) (K := tv_N ko) (k := k) (j := j) hu eK]
    · rw [pk_un e, h1 k' hk', tb_idx_f (U := tv_U us) (K := tv_N ko) (k := k') (j := j) (fun z => e (z.2.symm.trans eK))]
  · by_cases e : k' = k
    · rw [e, pk_us, b_or, ra_shl g (by omega) b hb', Bool.or_eq_true, decide_eq_true_eq, h2 k hk b hb']
      constructor
      · rintro (⟨i, hi, hr⟩ | h4)
        · exact ⟨i, by omega, hr⟩
        · exact ⟨j, by omega, hu, eK, eG.trans h4.symm⟩
      · rintro ⟨i, hi, hr⟩
        by_cases e2 : i = j
        · right; rw [← hr.2.2, e2]; exact eG
        · left; exact ⟨i, by omega, hr⟩
    · rw [pk_un e, h2 k' hk' b hb']
      constructor
      · rintro ⟨i, hi, hr⟩; exact ⟨i, by omega, hr⟩
      · rintro ⟨i, hi, hr⟩
        by_cases e2 : i = j
        · subst e2; exact absurd (hr.2.1.symm.trans eK) e
        · exact ⟨i, by omega, hr⟩
  · by_cases e : k' = k ∧ g' = g
    · obtain ⟨rfl, rfl⟩ := e
      have h4 := h3 k' hk' g' hg'
      rcases hb with ⟨rfl, hb⟩ | ⟨rfl, hb, hb2⟩
      · right
        refine ⟨j, by omega, hu, eK, eG, pk_us, fun i hi ui ki gi => ?_⟩
        by_cases e2 : i = j
        · subst e2; exact Int.le_refl _
        · rcases h4 with ⟨a, b⟩ | ⟨i0, hi0, a, b, c, d, f⟩
          · exact absurd gi (b i (by omega) ui ki)
          · have h5 := f i (by omega) ui ki gi
            rw [d] at hb
            rcases hb with hb | hb
            · exact absurd hb (hN i0 hi0)
            · exact Int.le_trans h5 hb
      · rcases h4 with ⟨a, b⟩ | ⟨i0, hi0, a, b, c, d, f⟩
        · exact absurd a hb
        · right
          refine ⟨i0, by omega, a, b, c, d, fun i hi ui ki gi => ?_⟩
          by_cases e2 : i = j
          · subst e2
            rw [d] at hb2; exact hb2
          · exact f i (by omega) ui ki gi
    · have e3 : be' (k' * 8 + g') = be (k' * 8 + g') := by
        rcases hb with ⟨rfl, hb⟩ | ⟨rfl, hb, hb2⟩
        · exact pk_un (by omega)
        · rfl
      rw [e3]
      rcases h3 k' hk' g' hg' with ⟨a, b⟩ | ⟨i0, hi0, a, b, c, d, f⟩
      · left
        refine ⟨a, fun i hi ui ki gi => ?_⟩
        by_cases e2 : i = j
        · subst e2; exact e ⟨ki.symm.trans eK, gi.symm.trans eG⟩
        · exact b i (by omega) ui ki gi
      · right
        refine ⟨i0, by omega, a, b, c, d, fun i hi ui ki gi => ?_⟩
        by_cases e2 : i = j
        · subst e2; exact absurd ⟨ki.symm.trans eK, gi.symm.trans eG⟩ e
        · exact f i (by omega) ui ki gi
theorem xs_52 (hv : tv_ok ko go vo) {post : SX → Prop} (hp : ∀ ro' gs' be', xs_S us ko go vo 14 ro' gs' be' → post (fr, us, ko, go, vo, ro', gs', be', ho, re, bb, se, li, od, iw, so)) : ∀ (d j : Nat) (ro gs be : Nat → Int32), j + d = 14 → xs_S us ko go vo j ro gs be → wX_summarise_52 post fr (d + 1) (nI j) us ko go vo ro gs be ho re bb se li od iw so := by
  intro d
  induction d with
  | zero =>
    intro j ro gs be hj h
    have e : j = 14 := by omega
    subst e
    exact pk_le 14 14 (fun _ => hp ro gs be h) (fun h => absurd h (by omega))
  | succ d ih =>
    intro j ro gs be hj h
    have e : (nI j).toNatClampNeg = j := nI_clamp (by omega)
    have vj : vp_in (nI j) 14 := vp_in_nI (by omega) (by omega)
    refine pk_le 14 j (fun h => absurd h (by omega)) (fun _ => And.intro vj ?_)
    rw [e]
    by_cases hu : us j = 0
    · exact br_t hu (nm_r (nI_1 j) (ih (j + 1) ro gs be (by omega) (xs_skip h hu)))
    · obtain ⟨k, hk, ek, eK⟩ := tv_ko hv (i := j) (by omega)
      obtain ⟨g, hg, eg, eG⟩ := tv_go hv (i := j) (by omega)
      have hN : ∀ i, i < j → ¬ vo i = 1000000 := by
        intro i hi z
        have h8 := (hv i (by omega)).2.2
        rw [z, ra_N] at h8
        omega
      have vk : vp_in (nI k) 6 := vp_in_nI hk (by omega)
      have ck : (nI k).toNatClampNeg = k := nI_clamp (by omega)
      have cx : (nI (k * 8 + g)).toNatClampNeg = k * 8 + g := nI_clamp (by omega)
      have ex : nI k * 8 + nI g = nI (k * 8 + g) := by rw [ra_m8, nI_add]
      have vx : vp_in (nI (k * 8 + g)) 48 := vp_in_nI (by omega) (by omega)
      refine br_f hu (And.intro vj (nm_r ek (And.intro vj ?_)))
      rw [eg]
      refine nm_r ex (And.intro vk (And.intro vk ?_))
      rw [ck]
      refine nm_e (And.intro vk (And.intro vj (And.intro vk (nm_e (And.intro vx ?_)))))
      rw [cx]
      have h139 : ∀ be', be' = upd be (k * 8 + g) (vo j) → xs_S us ko go vo (j + 1) (upd ro k (ro k + 1)) (upd gs k (gs k ||| ((1 : Int32) <<< (nI g &&& 31)))) be' → wX_summarise_139 post (wX_summarise_52 post fr (d + 1)) (nI j) (nI (k * 8 + g)) fr us ko go vo (upd ro k (ro k + 1)) (upd gs k (gs k ||| ((1 : Int32) <<< (nI g &&& 31)))) be ho re bb se li od iw so := by
        intro be' hbe hS
        refine And.intro vj (And.intro vx ?_)
        rw [e, cx]
        refine nm_r hbe.symm (nm_r (nI_1 j) (ih (j + 1) _ _ _ (by omega) hS))
      by_cases h4 : be (k * 8 + g) = 1000000
      · exact br_t h4 (h139 _ rfl (xs_step hN h hu hk hg eK eG (Or.inl ⟨rfl, Or.inl h4⟩)))
      · refine br_f h4 (And.intro vj (And.intro vx ?_))
        by_cases h5 : vo j ≤ be (k * 8 + g)
        · exact br_t h5 (nm_r (nI_1 j) (ih (j + 1) _ _ _ (by omega) (xs_step hN h hu hk hg eK eG (Or.inr ⟨rfl, h4, ra_le.mp h5⟩))))
        · have h6 : ¬ (vo j).toInt ≤ (be (k * 8 + g)).toInt := fun z => h5 (ra_le.mpr z)
          exact br_f h5 (h139 _ rfl (xs_step hN h hu hk hg eK eG (Or.inl ⟨rfl, Or.inr (by omega)⟩)))
theorem xs_30 (hv : tv_ok ko go vo) (hro : ∀ k, k < 6 → ro k = 0 ∧ gs k = 0) {post : SX → Prop} (hp : ∀ ro' gs' be', xs_S us ko go vo 14 ro' gs' be' → post (fr, us, ko, go, vo, ro', gs', be', ho, re, bb, se, li, od, iw, so)) : ∀ (d j : Nat) (be : Nat → Int32), j + d = 48 → (∀ i, i < j → be i = 1000000) → wX_summarise_30 post fr (d + 1) (nI j) us ko go vo ro gs be ho re bb se li od iw so := by
  intro d
  induction d with
  | zero =>
    intro j be hj h
    have e : j = 48 := by omega
    subst e
    refine pk_le 48 48 (fun _ => Exists.intro 15 (xs_52 hv hp 14 0 ro gs be (by omega) ⟨fun k hk => (hro k hk).1, fun k hk b hb => ?_, fun k hk g hg => Or.inl ⟨h _ (by omega), fun i hi => absurd hi (by omega)⟩⟩)) (fun h => absurd h (by omega))
    rw [(hro k hk).2, b_0]
    exact ⟨fun z => absurd z (by decide), fun ⟨i, hi, _⟩ => absurd hi (by omega)⟩
  | succ d ih =>
    intro j be hj h
    have e : (nI j).toNatClampNeg = j := nI_clamp (by omega)
    refine pk_le 48 j (fun h => absurd h (by omega)) (fun _ => And.intro (vp_in_nI (by omega) (by omega)) ?_)
    rw [e]
    refine nm_e (nm_r (nI_1 j) (ih (j + 1) _ (by omega) (fun i hi => ?_)))
    by_cases z : i = j
    · rw [z, pk_us]
    · rw [pk_un z]; exact h i (by omega)
theorem xs_2 (hv : tv_ok ko go vo) {post : SX → Prop} (hp : ∀ ro' gs' be', xs_S us ko go vo 14 ro' gs' be' → post (fr, us, ko, go, vo, ro', gs', be', ho, re, bb, se, li, od, iw, so)) : ∀ (d j : Nat) (ro gs : Nat → Int32), j + d = 6 → (∀ i, i < j → ro i = 0 ∧ gs i = 0) → wX_summarise_2 post fr (d + 1) (nI j) us ko go vo ro gs be ho re bb se li od iw so := by
  intro d
  induction d with
  | zero =>
    intro j ro gs hj h
    have e : j = 6 := by omega
    subst e
    exact pk_le 6 6 (fun _ => Exists.intro 49 (xs_30 hv h hp 48 0 be (by omega) (fun i hi => absurd hi (by omega)))) (fun h => absurd h (by omega))
  | succ d ih =>
    intro j ro gs hj h
    have e : (nI j).toNatClampNeg = j := nI_clamp (by omega)
    have vj : vp_in (nI j) 6 := vp_in_nI (by omega) (by omega)
    refine pk_le 6 j (fun h => absurd h (by omega)) (fun _ => And.intro vj ?_)
    rw [e]
    refine nm_e (And.intro vj (nm_e (nm_r (nI_1 j) (ih (j + 1) _ _ (by omega) (fun i hi => ?_)))))
    by_cases z : i = j
    · rw [z, pk_us, pk_us]; exact ⟨rfl, rfl⟩
    · rw [pk_un z, pk_un z]; exact h i (by omega)
theorem xs_summ (hv : tv_ok ko go vo) {post : SX → Prop} (hp : ∀ ro' gs' be', xs_S us ko go vo 14 ro' gs' be' → post (fr, us, ko, go, vo, ro', gs', be', ho, re, bb, se, li, od, iw, so)) : wpX_summarise post (fr, us, ko, go, vo, ro, gs, be, ho, re, bb, se, li, od, iw, so) :=
  Exists.intro 7 (xs_2 hv hp 6 0 ro gs (by omega) (fun i hi => absurd hi (by omega)))
end XS
end
section
/-! the relation; init, add, remove, repairs -/
def i_Rel (_ : Nat) (u : SX) (v : SY) : Prop := match u, v with
  | (fr, us, ko, go, vo, ro, gs, be, ho, re, bb, se, li, od, iw, so), (us2, ko2, go2, vo2, _) => us2 = us ∧ ko2 = ko ∧ go2 = go ∧ vo2 = vo ∧ xs_inv fr us ko go vo ro gs be
theorem i_up {k : Nat} {u : SX} {v : SY} (h : i_Rel k u v) : i_Rel (k + 4) u v := h
theorem i_vc0 : wpX_init (fun u => wpY_init (fun v => i_Rel 0 u v)) := by
  have hv : tv_ok (fun _ => 0) (fun _ => 0) (fun _ => 0) := by
    intro i hi
    refine ⟨⟨0, by omega, nI_0.symm⟩, ⟨0, by omega, nI_0.symm⟩, ?_⟩
    show -1000 ≤ (0 : Int32).toInt ∧ (0 : Int32).toInt ≤ 1000
    rw [ra_0]; omega
  refine xs_summ hv (fun ro' gs' be' h => ?_)
  refine ⟨rfl, rfl, rfl, rfl, hv, ?_, h⟩
  rw [sm_n_0 14 (fun i _ z => z rfl), nI_0]
section ST
variable {fr : Int32} {us ko go vo ro gs be ho re bb se li od iw so : Nat → Int32}
theorem st_free (h : sm_n (tv_U us) 14 < 14) : ∃ i, i < 14 ∧ us i = 0 ∧ ∀ j, j < i → ¬ us j = 0 := by
  have h1 : ∃ i, i < 14 ∧ us i = 0 := by
    by_cases e : ∃ i, i < 14 ∧ us i = 0
    · exact e
    · have h2 : sm_n (fun _ => True) 14 ≤ sm_n (tv_U us) 14 := sm_n_le 14 (fun i hi _ z => e ⟨i, hi, z⟩)
      rw [sm_n_T] at h2
      omega
  obtain ⟨i, ⟨hi, hz⟩, hl⟩ := pk_least (fun i => i < 14 ∧ us i = 0) h1
  exact ⟨i, hi, hz, fun j hj z => hl j hj ⟨by omega, z⟩⟩
theorem st_x57 {x1 x2 x3 : Int32} {post : Int32 → SX → Prop} {i : Nat} (hi : i < 14) (hz : us i = 0) (hl : ∀ j, j < i → ¬ us j = 0) (hp : wX_add_80 post x1 x2 x3 (nI i) fr us ko go vo ro gs be ho re bb se li od iw so) : ∀ d j : Nat, j + d = i → wX_add_57 post x1 x2 x3 fr us ko go vo ro gs be ho re bb se li od iw so (d + 1) (nI j) := by
  intro d
  induction d with
  | zero =>
    intro j hj
    have e : j = i := by omega
    subst e
    have e : (nI j).toNatClampNeg = j := nI_clamp (by omega)
    refine pk_le 13 j (fun _ => hp) (fun _ => And.intro (vp_in_nI (by omega) (by omega)) ?_)
    rw [e]
    exact br_t hz hp
  | succ d ih =>
    intro j hj
    have e : (nI j).toNatClampNeg = j := nI_clamp (by omega)
    refine pk_le 13 j (fun h => absurd h (by omega)) (fun _ => And.intro (vp_in_nI (by omega) (by omega)) ?_)
    rw [e]
    exact br_f (hl j (by omega)) (nm_r (nI_1 j) (ih (j + 1) (by omega)))
theorem st_y44 {pk : Nat → Int32} {x1 x2 x3 : Int32} {post : Int32 → SY → Prop} {i : Nat} (hi : i < 14) (hz : us i = 0) (hl : ∀ j, j < i → ¬ us j = 0) (hp : post (nI i) (upd us i 1, upd ko i x1, upd go i x2, upd vo i x3, pk)) : ∀ d j : Nat, j + d = i → wY_add_44 post x1 x2 x3 us ko go vo pk (d + 1) (nI j) := by
  intro d
  induction d with
  | zero =>
    intro j hj
    have e : j = i := by omega
    subst e
    have e : (nI j).toNatClampNeg = j := nI_clamp (by omega)
    have vj : vp_in (nI j) 14 := vp_in_nI (by omega) (by omega)
    refine pk_le 14 j (fun h => absurd h (by omega)) (fun _ => And.intro vj ?_)
    rw [e]
    exact br_t hz (And.intro vj (nm_r (by rw [ra_vb1]) (And.intro vj (nm_e (And.intro vj (nm_e (And.intro vj (nm_e hp))))))))
  | succ d ih =>
    intro j hj
    have e : (nI j).toNatClampNeg = j := nI_clamp (by omega)
    refine pk_le 14 j (fun h => absurd h (by omega)) (fun _ => And.intro (vp_in_nI (by omega) (by omega)) ?_)
    rw [e]
    exact br_f (hl j (by omega)) (nm_r (nI_1 j) (ih (j + 1) (by omega)))
theorem st_y44f {pk : Nat → Int32} {x1 x2 x3 : Int32} {post : Int32 → SY → Prop} (hl : ∀ j, j < 14 → ¬ us j = 0) (hp : post (-4) (us, ko, go, vo, pk)) : ∀ d j : Nat, j + d = 14 → wY_add_44 post x1 x2 x3 us ko go vo pk (d + 1) (nI j) := by
  intro d
  induction d with
  | zero =>
    intro j hj
    exact pk_le 14 j (fun _ => hp) (fun h => absurd h (by omega))
  | succ d ih =>
    intro j hj
    have e : (nI j).toNatClampNeg = j := nI_clamp (by omega)
    refine pk_le 14 j (fun h => absurd h (by omega)) (fun _ => And.intro (vp_in_nI (by omega) (by omega)) ?_)
    rw [e]
    exact br_f (hl j (by omega)) (nm_r (nI_1 j) (ih (j + 1) (by omega)))
theorem st_lt6 {x : Int32} (h0 : ¬ x < 0) {n : Nat} (hn : n < 2 ^ 31) (h : x < nI n) : ∃ j, j < n ∧ x = nI j := by
  obtain ⟨j, hj, rfl⟩ := nI_of h0
  rw [nI_ltI hj hn] at h
  exact ⟨j, h, rfl⟩
end ST
theorem i_vc_add {k : Nat} {u : SX} {v : SY} (I : i_Rel k u v) (hk : k + 4 ≤ 2048) (v1 : Int32) (v2 : Int32) (v3 : Int32) : wpX_add (fun r u' => wpY_add (fun r' v' => r' = r ∧ i_Rel (k + 4) u' v') v v1 v2 v3) u v1 v2 v3 := by
  obtain ⟨fr, us, ko, go, vo, ro, gs, be, ho, re, bb, se, li, od, iw, so⟩ := u
  obtain ⟨us2, ko2, go2, vo2, pk⟩ := v
  obtain ⟨rfl, rfl, rfl, rfl, hv, hf, hS⟩ := I
  by_cases a0 : v1 < 0
  · exact br_t a0 (br_t a0 ⟨rfl, rfl, rfl, rfl, rfl, hv, hf, hS⟩)
  by_cases a1 : v1 < 6
  case neg =>
    have a1' : ¬ v1 ≤ 5 := by
      intro z
      apply a1
      rw [ra_le] at z
      rw [ra_lt]
      rw [show (5 : Int32).toInt = 5 from by decide] at z
      rw [show (6 : Int32).toInt = 6 from by decide]
      omega
    exact br_f a0 (br_f a1 (br_f a0 (br_f a1' ⟨rfl, rfl, rfl, rfl, rfl, hv, hf, hS⟩)))
  have a1' : v1 ≤ 5 := by
    rw [ra_lt] at a1
    rw [ra_le]
    rw [show (5 : Int32).toInt = 5 from by decide]
    rw [show (6 : Int32).toInt = 6 from by decide] at a1
    omega
  by_cases b0 : v2 < 0
  · exact br_f a0 (br_t a1 (br_t b0 (br_f a0 (br_t a1' (br_t b0 ⟨rfl, rfl, rfl, rfl, rfl, hv, hf, hS⟩)))))
  by_cases b1 : v2 < 8
  case neg =>
    have b1' : ¬ v2 ≤ 7 := by
      intro z
      apply b1
      rw [ra_le] at z
      rw [ra_lt]
      rw [show (7 : Int32).toInt = 7 from by decide] at z
      rw [show (8 : Int32).toInt = 8 from by decide]
      omega
    exact br_f a0 (br_t a1 (br_f b0 (br_f b1 (br_f a0 (br_t a1' (br_f b0 (br_f b1' ⟨rfl, rfl, rfl, rfl, rfl, hv, hf, hS⟩)))))))
  have b1' : v2 ≤ 7 := by
    rw [ra_lt] at b1
    rw [ra_le]
    rw [show (7 : Int32).toInt = 7 from by decide]
    rw [show (8 : Int32).toInt = 8 from by decide] at b1
    omega
  by_cases c0 : v3 < -1000
  · exact br_f a0 (br_t a1 (br_f b0 (br_t b1 (br_t c0 (br_f a0 (br_t a1' (br_f b0 (br_t b1' (br_t c0 ⟨rfl, rfl, rfl, rfl, rfl, hv, hf, hS⟩)))))))))
  by_cases c1 : v3 ≤ 1000
  case neg =>
    exact br_f a0 (br_t a1 (br_f b0 (br_t b1 (br_f c0 (br_f c1 (br_f a0 (br_t a1' (br_f b0 (br_t b1' (br_f c0 (br_f c1 ⟨rfl, rfl, rfl, rfl, rfl, hv, hf, hS⟩)))))))))))
  have hn := sm_n_bd (tv_U us2) 14
  by_cases hfull : sm_n (tv_U us2) 14 < 14
  · obtain ⟨i, hi, hz, hl⟩ := st_free hfull
    have d1 : fr < 14 := by rw [hf]; exact nI_lt (b := 14) hfull (by omega)
    have ei : (nI i).toNatClampNeg = i := nI_clamp (by omega)
    have vi : vp_in (nI i) 14 := vp_in_nI hi (by omega)
    obtain ⟨kk, hkk, rfl⟩ := st_lt6 (n := 6) a0 (by omega) a1
    obtain ⟨gg, hgg, rfl⟩ := st_lt6 (n := 8) b0 (by omega) b1
    have hv' : tv_ok (upd ko2 i (nI kk)) (upd go2 i (nI gg)) (upd vo2 i v3) := by
      intro j hj
      by_cases e : j = i
      · subst e
        rw [pk_us, pk_us, pk_us]
        rw [ra_lt, ra_m1000] at c0
        rw [ra_le, ra_p1000] at c1
        exact ⟨⟨kk, hkk, rfl⟩, ⟨gg, hgg, rfl⟩, by omega, c1⟩
      · rw [pk_un e, pk_un e, pk_un e]
        exact hv j hj
    have hf' : fr + 1 = nI (sm_n (tv_U (upd us2 i 1)) 14) := by
      rw [hf, nI_1]
      refine congrArg nI ?_
      refine (sm_n_up (P := tv_U us2) (Q := tv_U (upd us2 i 1)) (x := i) (fun z => z hz) ?_ 14 hi (fun j hj hne => ?_)).symm
      · show ¬ upd us2 i 1 i = 0
        rw [pk_us]; exact ra_10
      · show ¬ us2 j = 0 ↔ ¬ upd us2 i 1 j = 0
        rw [pk_un hne]
    refine br_f a0 (br_t a1 (br_f b0 (br_t b1 (br_f c0 (br_t c1 (br_t d1 (Exists.intro (i + 1) ?_)))))))
    refine st_x57 hi hz hl ?_ i 0 (by omega)
    refine And.intro vi ?_
    rw [ei]
    refine nm_r (by rw [ra_vb1]) (And.intro vi (nm_e (And.intro vi (nm_e (And.intro vi (nm_e (nm_r hf' ?_)))))))
    refine xs_summ hv' (fun ro' gs' be' hS' => ?_)
    refine br_f a0 (br_t a1' (br_f b0 (br_t b1' (br_f c0 (br_t c1 (Exists.intro (i + 1) ?_))))))
    exact st_y44 hi hz hl ⟨rfl, rfl, rfl, rfl, rfl, hv', rfl, hS'⟩ i 0 (by omega)
  · have d1 : ¬ fr < 14 := by rw [hf]; exact nI_nlt (b := 14) (by omega) (by omega)
    have hl := sm_n_all (P := tv_U us2) (n := 14) (by omega)
    refine br_f a0 (br_t a1 (br_f b0 (br_t b1 (br_f c0 (br_t c1 (br_f d1 ?_))))))
    refine br_f a0 (br_t a1' (br_f b0 (br_t b1' (br_f c0 (br_t c1 (Exists.intro 15 ?_))))))
    exact st_y44f hl ⟨rfl, rfl, rfl, rfl, rfl, hv, hf, hS⟩ 14 0 (by omega)
theorem st_y33 {us ko go vo pk : Nat → Int32} {post : Int32 → SY → Prop} (hp : post (nI (sm_n (tv_U us) 14)) (us, ko, go, vo, pk)) : ∀ d j : Nat, j + d = 14 → wY_remove_33 post us ko go vo pk (d + 1) (nI (sm_n (tv_U us) j)) (nI j) := by
  intro d
  induction d with
  | zero =>
    intro j hj
    have e : j = 14 := by omega
    subst e
    exact pk_le 14 14 (fun _ => hp) (fun h => absurd h (by omega))
  | succ d ih =>
    intro j hj
    have e : (nI j).toNatClampNeg = j := nI_clamp (by omega)
    have h2 := ih (j + 1) (by omega)
    refine pk_le 14 j (fun h => absurd h (by omega)) (fun _ => And.intro (vp_in_nI (by omega) (by omega)) ?_)
    rw [e]
    by_cases hu : us j = 0
    · rw [sm_n_f (P := tv_U us) (fun z => z hu)] at h2
      exact br_t hu (nm_r (nI_1 j) h2)
    · rw [sm_n_t (P := tv_U us) hu] at h2
      exact br_f hu (nm_r (nI_1 _) (nm_r (nI_1 j) h2))
theorem i_vc_remove {k : Nat} {u : SX} {v : SY} (I : i_Rel k u v) (hk : k + 4 ≤ 2048) (v1 : Int32) : wpX_remove (fun r u' => wpY_remove (fun r' v' => r' = r ∧ i_Rel (k + 4) u' v') v v1) u v1 := by
  obtain ⟨fr, us, ko, go, vo, ro, gs, be, ho, re, bb, se, li, od, iw, so⟩ := u
  obtain ⟨us2, ko2, go2, vo2, pk⟩ := v
  obtain ⟨rfl, rfl, rfl, rfl, hv, hf, hS⟩ := I
  by_cases a0 : v1 < 0
  · exact br_t a0 (br_t a0 ⟨rfl, rfl, rfl, rfl, rfl, hv, hf, hS⟩)
  obtain ⟨i, hi, rfl⟩ := nI_of a0
  by_cases h14 : i < 14
  · have a1 : ¬ (14 : Int32) ≤ nI i := nI_ge (b := 14) h14 (by omega)
    have a2 : ¬ (13 : Int32) < nI i := nI_nlt (a := 13) (by omega) (by omega)
    have ei : (nI i).toNatClampNeg = i := nI_clamp (by omega)
    have vi : vp_in (nI i) 14 := vp_in_nI h14 (by omega)
    by_cases hu : us2 i = 0
    · refine br_f a0 (br_f a1 (And.intro vi ?_))
      rw [ei]
      refine br_t hu (br_f a0 (br_f a2 (And.intro vi ?_)))
      rw [ei]
      exact br_t hu ⟨rfl, rfl, rfl, rfl, rfl, hv, hf, hS⟩
    · have hn := sm_n_bd (tv_U us2) 14
      have h1 : sm_n (tv_U us2) 14 = sm_n (tv_U (upd us2 i 0)) 14 + 1 := by
        refine sm_n_up (P := tv_U (upd us2 i 0)) (Q := tv_U us2) (x := i) (fun z => z pk_us) hu 14 h14 (fun j hj hne => ?_)
        show ¬ upd us2 i 0 j = 0 ↔ ¬ us2 j = 0
        rw [pk_un hne]
      have hf' : fr - 1 = nI (sm_n (tv_U (upd us2 i 0)) 14) := by
        rw [hf, h1, nI_pred]
      refine br_f a0 (br_f a1 (And.intro vi ?_))
      rw [ei]
      refine br_f hu (And.intro vi (nm_r (by rw [ra_vb0]) (nm_r hf' ?_)))
      refine xs_summ hv (fun ro' gs' be' hS' => ?_)
      refine br_f a0 (br_f a2 (And.intro vi ?_))
      rw [ei]
      refine br_f hu (And.intro vi (nm_r (by rw [ra_vb0]) (Exists.intro 15 ?_)))
      exact st_y33 ⟨rfl, rfl, rfl, rfl, rfl, hv, rfl, hS'⟩ 14 0 (by omega)
  · have a1 : (14 : Int32) ≤ nI i := nI_le (a := 14) (by omega) hi
    have a2 : (13 : Int32) < nI i := nI_lt (a := 13) (by omega) hi
    exact br_f a0 (br_t a1 (br_f a0 (br_t a2 ⟨rfl, rfl, rfl, rfl, rfl, hv, hf, hS⟩)))
section ST2
variable {fr : Int32} {us ko go vo ro gs be ho re bb se li od iw so : Nat → Int32}
theorem st_x4 (hS : xs_S us ko go vo 14 ro gs be) {post : Int32 → Prop} (hp : post (nI (tb_P (tb_cnt (tv_U us) (tv_N ko)) 6))) : ∀ d j : Nat, j + d = 6 → wX_repairs_4 post fr us ko go vo ro gs be ho re bb se li od iw so (d + 1) (nI (tb_P (tb_cnt (tv_U us) (tv_N ko)) j)) (nI j) := by
  intro d
  induction d with
  | zero =>
    intro j hj
    have e : j = 6 := by omega
    subst e
    exact pk_le 6 6 (fun _ => hp) (fun h => absurd h (by omega))
  | succ d ih =>
    intro j hj
    have e : (nI j).toNatClampNeg = j := nI_clamp (by omega)
    have h2 := ih (j + 1) (by omega)
    have hc := tb_cnt14 (U := tv_U us) (K := tv_N ko) j
    have er : ro j = nI (tb_cnt (tv_U us) (tv_N ko) j) := hS.1 j (by omega)
    have vj : vp_in (nI j) 6 := vp_in_nI (by omega) (by omega)
    refine pk_le 6 j (fun h => absurd h (by omega)) (fun _ => And.intro vj ?_)
    rw [e, er]
    refine pk_le (tb_cnt (tv_U us) (tv_N ko) j) 0 (fun h => nm_r (nI_1 j) ?_) (fun h => And.intro vj (nm_r (pk_mul _ _) (nm_r (nI_1 j) ?_)))
    · rw [tb_P_s, if_neg (by omega)] at h2
      exact h2
    · rw [tb_P_s, if_pos h] at h2
      exact h2
end ST2
theorem i_vc_repairs {k : Nat} {u : SX} {v : SY} (I : i_Rel k u v) (hk : k + 4 ≤ 2048) : wpX_repairs (fun r => wpY_repairs (fun r' => r' = r ∧ i_Rel (k + 4) u v) v) u := by
  obtain ⟨fr, us, ko, go, vo, ro, gs, be, ho, re, bb, se, li, od, iw, so⟩ := u
  obtain ⟨us2, ko2, go2, vo2, pk⟩ := v
  obtain ⟨rfl, rfl, rfl, rfl, hv, hf, hS⟩ := I
  exact Exists.intro 7 (st_x4 hS (yw_repairs hv ⟨rfl, rfl, rfl, rfl, rfl, hv, hf, hS⟩) 6 0 (by omega))
end
section
/-! count and sum: key by key -/
theorem sm_ii {p q : Prop} {x : Int} : sm_i (p ∧ q) x = sm_i p (sm_i q x) := by
  by_cases hp : p
  · rw [sm_it (p := p) hp]
    exact sm_ic ⟨fun z => z.2, fun z => ⟨hp, z⟩⟩ (fun _ => rfl)
  · rw [sm_if (p := p) hp, sm_if (fun z => hp z.1)]
theorem cs_least {U : Nat → Prop} {K : Nat → Nat} {M : (Nat → Nat) → Int → Prop} {F L : Nat → Int} (hM : ∀ ρ v, M ρ v ↔ v = sm_s (fun k => sm_i (tb_iu U K k) (F (ρ k))) 6)
    (hL : ∀ k, k < 6 → tb_iu U K k → (∃ i, tb_R U K k i ∧ F i = L k) ∧ ∀ i, tb_R U K k i → L k ≤ F i) : tb_least U K M (sm_s (fun k => sm_i (tb_iu U K k) (L k)) 6) := by
  constructor
  · obtain ⟨ρ, hr, hF⟩ := tb_exP (U := U) (K := K) (P := fun k i => F i = L k) (fun k hk hu => (hL k hk hu).1)
    refine ⟨ρ, _, hr, (hM ρ _).mpr rfl, Int.le_of_eq (sm_s_c 6 (fun k hk => sm_ic Iff.rfl (fun hu => hF k hk hu)))⟩
  · intro ρ v hr hv
    rw [(hM ρ v).mp hv]
    refine sm_s_le 6 (fun k hk => ?_)
    by_cases hu : tb_iu U K k
    · rw [sm_it hu, sm_it hu]; exact (hL k hk hu).2 _ (hr k hk hu)
    · rw [sm_if hu, sm_if hu]; exact Int.le_refl 0
theorem cs_most {U : Nat → Prop} {K : Nat → Nat} {M : (Nat → Nat) → Int → Prop} {F L : Nat → Int} (hM : ∀ ρ v, M ρ v ↔ v = sm_s (fun k => sm_i (tb_iu U K k) (F (ρ k))) 6)
    (hL : ∀ k, k < 6 → tb_iu U K k → (∃ i, tb_R U K k i ∧ F i = L k) ∧ ∀ i, tb_R U K k i → F i ≤ L k) (hb : sm_s (fun k => sm_i (tb_iu U K k) (L k)) 6 ≠ 1000000) : tb_most U K M (sm_s (fun k => sm_i (tb_iu U K k) (L k)) 6) := by
  constructor
  · obtain ⟨ρ, hr, hF⟩ := tb_exP (U := U) (K := K) (P := fun k i => F i = L k) (fun k hk hu => (hL k hk hu).1)
    refine ⟨ρ, hr, (hM ρ _).mpr ?_⟩
    exact (sm_s_c 6 (fun k hk => sm_ic Iff.rfl (fun hu => (hF k hk hu).symm)))
  · intro ρ v hr hv
    right
    refine ⟨hb, ?_⟩
    rw [(hM ρ v).mp hv]
    refine sm_s_le 6 (fun k hk => ?_)
    by_cases hu : tb_iu U K k
    · rw [sm_it hu, sm_it hu]; exact (hL k hk hu).2 _ (hr k hk hu)
    · rw [sm_if hu, sm_if hu]; exact Int.le_refl 0
theorem cs_Mc {U : Nat → Prop} {K G : Nat → Nat} (g : Nat) : ∀ ρ v, ms_cnt U K G g ρ v ↔ v = sm_s (fun k => sm_i (tb_iu U K k) ((fun i => sm_i (G i = g) 1) (ρ k))) 6 := by
  intro ρ v
  unfold ms_cnt
  rw [sm_ns, sm_s_c (g := fun k => sm_i (tb_iu U K k) (sm_i (G (ρ k) = g) 1)) 6 (fun k hk => sm_ii)]
theorem cs_Ms {U : Nat → Prop} {K G : Nat → Nat} {V : Nat → Int} (g : Nat) : ∀ ρ v, ms_sum U K G V g ρ v ↔ v = sm_s (fun k => sm_i (tb_iu U K k) ((fun i => sm_i (G i = g) (V i)) (ρ k))) 6 := by
  intro ρ v
  unfold ms_sum
  rw [sm_s_c (g := fun k => sm_i (tb_iu U K k) (sm_i (G (ρ k) = g) (V (ρ k)))) 6 (fun k hk => sm_ii)]
section CS
variable {fr : Int32} {us ko go vo ro gs be ho re bb se li od iw so : Nat → Int32}
theorem cs_bit (hS : xs_S us ko go vo 14 ro gs be) {k b : Nat} (hk : k < 6) (hb : b < 32) : bt (gs k) b = true ↔ ∃ i, tb_R (tv_U us) (tv_N ko) k i ∧ tv_N go i = b := by
  rw [hS.2.1 k hk b hb]
  exact ⟨fun ⟨i, a, b, c, d⟩ => ⟨i, ⟨a, b, c⟩, d⟩, fun ⟨i, ⟨a, b, c⟩, d⟩ => ⟨i, a, b, c, d⟩⟩
theorem cs_one (hv : tv_ok ko go vo) (hS : xs_S us ko go vo 14 ro gs be) {k g : Nat} (hk : k < 6) (hg : g < 8) : gs k = (1 : Int32) <<< (nI g &&& 31) ↔ tb_iu (tv_U us) (tv_N ko) k ∧ ∀ i, tb_R (tv_U us) (tv_N ko) k i → tv_N go i = g := by
  constructor
  · intro h
    constructor
    · have h1 : bt (gs k) g = true := by rw [h, ra_shl g (by omega) g (by omega), decide_eq_true rfl]
      obtain ⟨i, hi, _⟩ := (cs_bit hS hk (by omega)).mp h1
      exact ⟨i, hi⟩
    · intro i hi
      obtain ⟨g', hg', _, e⟩ := tv_go hv hi.1
      have h1 : bt (gs k) (tv_N go i) = true := (cs_bit hS hk (by omega)).mpr ⟨i, hi, rfl⟩
      rw [h, ra_shl g (by omega) _ (by omega), decide_eq_true_eq] at h1
      exact h1
  · intro ⟨⟨i, hi⟩, h2⟩
    apply b_ext
    intro b hb
    rw [ra_shl g (by omega) b hb]
    by_cases e : b = g
    · rw [decide_eq_true e]
      exact (cs_bit hS hk hb).mpr ⟨i, hi, (h2 i hi).trans e.symm⟩
    · rw [decide_eq_false e]
      cases h : bt (gs k) b
      · rfl
      · obtain ⟨i', hi', e'⟩ := (cs_bit hS hk hb).mp h
        exact absurd (e'.symm.trans (h2 i' hi')) e
theorem cs_cl14 {g : Nat} {post : Int32 → Prop} (hp : post (nI (sm_n (fun k => gs k = (1 : Int32) <<< (nI g &&& 31)) 6))) : ∀ d j : Nat, j + d = 6 → wX_countLeast_14 post (nI g) fr us ko go vo ro gs be ho re bb se li od iw so (d + 1) (nI (sm_n (fun k => gs k = (1 : Int32) <<< (nI g &&& 31)) j)) (nI j) := by
  intro d
  induction d with
  | zero =>
    intro j hj
    have e : j = 6 := by omega
    subst e
    exact pk_le 6 6 (fun _ => hp) (fun h => absurd h (by omega))
  | succ d ih =>
    intro j hj
    have e : (nI j).toNatClampNeg = j := nI_clamp (by omega)
    have h2 := ih (j + 1) (by omega)
    refine pk_le 6 j (fun h => absurd h (by omega)) (fun _ => And.intro (vp_in_nI (by omega) (by omega)) ?_)
    rw [e]
    by_cases h : gs j = (1 : Int32) <<< (nI g &&& 31)
    · rw [sm_n_t (P := fun k => gs k = (1 : Int32) <<< (nI g &&& 31)) h] at h2
      exact br_t h (nm_r (nI_1 _) (nm_r (nI_1 j) h2))
    · rw [sm_n_f (P := fun k => gs k = (1 : Int32) <<< (nI g &&& 31)) h] at h2
      exact br_f h (nm_r (nI_1 j) h2)
theorem cs_cm14 {g : Nat} (hg : g < 8) {post : Int32 → Prop} (hp : post (nI (sm_n (fun k => bt (gs k) g = true) 6))) : ∀ d j : Nat, j + d = 6 → wX_countMost_14 post (nI g) fr us ko go vo ro gs be ho re bb se li od iw so (d + 1) (nI (sm_n (fun k => bt (gs k) g = true) j)) (nI j) := by
  intro d
  induction d with
  | zero =>
    intro j hj
    have e : j = 6 := by omega
    subst e
    exact pk_le 6 6 (fun _ => hp) (fun h => absurd h (by omega))
  | succ d ih =>
    intro j hj
    have e : (nI j).toNatClampNeg = j := nI_clamp (by omega)
    have h2 := ih (j + 1) (by omega)
    refine pk_le 6 j (fun h => absurd h (by omega)) (fun _ => And.intro (vp_in_nI (by omega) (by omega)) ?_)
    rw [e]
    have eb : nI (sm_n (fun k => bt (gs k) g = true) j) + ((gs j >>> (nI g &&& 31)) &&& 1) = nI (sm_n (fun k => bt (gs k) g = true) (j + 1)) := by
      by_cases h : bt (gs j) g = true
      · rw [ra_bitT (by omega) h, sm_n_t (P := fun k => bt (gs k) g = true) h, nI_1]
      · rw [ra_bitF (by omega) (Bool.not_eq_true _ ▸ h), sm_n_f (P := fun k => bt (gs k) g = true) h, Int32.add_zero]
    exact nm_r eb (nm_r (nI_1 j) h2)
theorem cs_xcl (hv : tv_ok ko go vo) (hS : xs_S us ko go vo 14 ro gs be) {g : Nat} (hg : g < 8) {post : Int32 → Prop} (hp : ∀ r : Int32, tb_least (tv_U us) (tv_N ko) (ms_cnt (tv_U us) (tv_N ko) (tv_N go) g) r.toInt → post r) : ∃ n, wX_countLeast_14 post (nI g) fr us ko go vo ro gs be ho re bb se li od iw so n 0 0 := by
  refine Exists.intro 7 (cs_cl14 (hp _ ?_) 6 0 (by omega))
  have hb := sm_n_bd (fun k => gs k = (1 : Int32) <<< (nI g &&& 31)) 6
  rw [nI_toInt (by omega), sm_ns]
  rw [sm_s_c (g := fun k => sm_i (tb_iu (tv_U us) (tv_N ko) k) (sm_i (∀ i, tb_R (tv_U us) (tv_N ko) k i → tv_N go i = g) 1)) 6 (fun k hk => by
    rw [← sm_ii]; exact sm_ic (cs_one hv hS hk hg) (fun _ => rfl))]
  refine cs_least (F := fun i => sm_i (tv_N go i = g) 1) (L := fun k => sm_i (∀ i, tb_R (tv_U us) (tv_N ko) k i → tv_N go i = g) 1) (cs_Mc (G := tv_N go) g) (fun k hk hu => ?_)
  by_cases h : ∀ i, tb_R (tv_U us) (tv_N ko) k i → tv_N go i = g
  · rw [sm_it h]
    obtain ⟨i, hi⟩ := hu
    exact ⟨⟨i, hi, sm_it (h i hi)⟩, fun i' hi' => by rw [sm_it (h i' hi')]; exact Int.le_refl 1⟩
  · rw [sm_if h]
    refine ⟨?_, fun i' hi' => ?_⟩
    · by_cases z : ∃ i, tb_R (tv_U us) (tv_N ko) k i ∧ tv_N go i ≠ g
      · obtain ⟨i, hi, hne⟩ := z
        exact ⟨i, hi, sm_if hne⟩
      · exact absurd (fun i hi => by
          by_cases q : tv_N go i = g
          · exact q
          · exact absurd ⟨i, hi, q⟩ z) h
    · by_cases q : tv_N go i' = g
      · rw [sm_it q]; omega
      · rw [sm_if q]; exact Int.le_refl 0
theorem cs_xcm (hv : tv_ok ko go vo) (hS : xs_S us ko go vo 14 ro gs be) {g : Nat} (hg : g < 8) {post : Int32 → Prop} (hp : ∀ r : Int32, tb_most (tv_U us) (tv_N ko) (ms_cnt (tv_U us) (tv_N ko) (tv_N go) g) r.toInt → post r) : ∃ n, wX_countMost_14 post (nI g) fr us ko go vo ro gs be ho re bb se li od iw so n 0 0 := by
  refine Exists.intro 7 (cs_cm14 hg (hp _ ?_) 6 0 (by omega))
  have hb := sm_n_bd (fun k => bt (gs k) g = true) 6
  have hc : (sm_n (fun k => bt (gs k) g = true) 6 : Int) = sm_s (fun k => sm_i (tb_iu (tv_U us) (tv_N ko) k) (sm_i (∃ i, tb_R (tv_U us) (tv_N ko) k i ∧ tv_N go i = g) 1)) 6 := by
    rw [sm_ns]
    refine sm_s_c 6 (fun k hk => ?_)
    rw [← sm_ii]
    refine sm_ic ?_ (fun _ => rfl)
    rw [cs_bit hS hk (by omega)]
    exact ⟨fun ⟨i, a, b⟩ => ⟨⟨i, a⟩, i, a, b⟩, fun z => z.2⟩
  rw [nI_toInt (by omega), hc]
  refine cs_most (F := fun i => sm_i (tv_N go i = g) 1) (L := fun k => sm_i (∃ i, tb_R (tv_U us) (tv_N ko) k i ∧ tv_N go i = g) 1) (cs_Mc (G := tv_N go) g) (fun k hk hu => ?_) (fun z => by rw [← hc] at z; omega)
  by_cases h : ∃ i, tb_R (tv_U us) (tv_N ko) k i ∧ tv_N go i = g
  · rw [sm_it h]
    obtain ⟨i, hi, e⟩ := h
    refine ⟨⟨i, hi, sm_it e⟩, fun i' hi' => ?_⟩
    by_cases q : tv_N go i' = g
    · rw [sm_it q]; exact Int.le_refl 1
    · rw [sm_if q]; omega
  · rw [sm_if h]
    obtain ⟨i, hi⟩ := hu
    exact ⟨⟨i, hi, sm_if (fun q => h ⟨i, hi, q⟩)⟩, fun i' hi' => by rw [sm_if (fun q => h ⟨i', hi', q⟩)]; exact Int.le_refl 0⟩
end CS
end
section
/-! part, sumOf; the four owed ones of count and sum -/
theorem cs_opt {U : Nat → Prop} {K : Nat → Nat} (F : Nat → Int) (le : Int → Int → Prop) (hle : (∀ a b, le a b ↔ a ≤ b) ∨ (∀ a b, le a b ↔ b ≤ a)) : ∃ L : Nat → Int, ∀ k, tb_iu U K k → (∃ i, tb_R U K k i ∧ F i = L k) ∧ ∀ i, tb_R U K k i → le (L k) (F i) := by
  have h : ∀ k : Nat, ∃ l : Int, tb_iu U K k → (∃ i, tb_R U K k i ∧ F i = l) ∧ ∀ i, tb_R U K k i → le l (F i) := by
    intro k
    by_cases hu : tb_iu U K k
    · obtain ⟨i0, h0⟩ := hu
      rcases hle with hle | hle
      · obtain ⟨i, h1, h2, h3⟩ := sm_min F 14 (fun i => tb_R U K k i) ⟨i0, h0.1, h0⟩
        exact ⟨F i, fun _ => ⟨⟨i, h2, rfl⟩, fun j hj => (hle _ _).mpr (h3 j hj.1 hj)⟩⟩
      · obtain ⟨i, h1, h2, h3⟩ := sm_max F 14 (fun i => tb_R U K k i) ⟨i0, h0.1, h0⟩
        exact ⟨F i, fun _ => ⟨⟨i, h2, rfl⟩, fun j hj => (hle _ _).mpr (h3 j hj.1 hj)⟩⟩
    · exact ⟨0, fun z => absurd z hu⟩
  obtain ⟨L, hL⟩ := Classical.axiomOfChoice h
  exact ⟨L, hL⟩
def cs_PI (us ko : Nat → Int32) (F : Nat → Int) (le : Int → Int → Prop) (k j : Nat) (x : Int32) : Prop :=
  (x = 1000000 ∧ ∀ i, i < j → ¬ tb_R (tv_U us) (tv_N ko) k i) ∨ (∃ i, i < j ∧ tb_R (tv_U us) (tv_N ko) k i ∧ x.toInt = F i ∧ ∀ i', i' < j → tb_R (tv_U us) (tv_N ko) k i' → le (F i) (F i'))
section SU
variable {fr : Int32} {us ko go vo ro gs be ho re bb se li od iw so : Nat → Int32}
theorem cs_PIskip {F : Nat → Int} {le : Int → Int → Prop} {k j : Nat} {x : Int32} (h : cs_PI us ko F le k j x) (hn : ¬ tb_R (tv_U us) (tv_N ko) k j) : cs_PI us ko F le k (j + 1) x := by
  rcases h with ⟨a, b⟩ | ⟨i, hi, hR, e, hl⟩
  · left
    refine ⟨a, fun i hi => ?_⟩
    by_cases z : i = j
    · rw [z]; exact hn
    · exact b i (by omega)
  · right
    refine ⟨i, by omega, hR, e, fun i' hi' hR' => ?_⟩
    by_cases z : i' = j
    · rw [z] at hR'; exact absurd hR' hn
    · exact hl i' (by omega) hR'
theorem cs_PInew {F : Nat → Int} {le : Int → Int → Prop} {k j : Nat} {x z : Int32} (hF : ∀ i, i < 14 → F i ≠ 1000000) (h : cs_PI us ko F le k j x) (hR : tb_R (tv_U us) (tv_N ko) k j) (hz : z.toInt = F j) (hr : le (F j) (F j)) (hx : x = 1000000 ∨ ∀ i, x.toInt = F i → ∀ i', le (F i) (F i') → le (F j) (F i')) : cs_PI us ko F le k (j + 1) z := by
  right
  refine ⟨j, by omega, hR, hz, fun i' hi' hR' => ?_⟩
  by_cases q : i' = j
  · rw [q]; exact hr
  · rcases h with ⟨a, b⟩ | ⟨i, hi, hRi, e, hl⟩
    · exact absurd hR' (b i' (by omega))
    · rcases hx with hx | hx
      · exact absurd (e.symm.trans (ra_eqN.mp hx)) (hF i hRi.1)
      · exact hx i e i' (hl i' (by omega) hR')
theorem cs_PIold {F : Nat → Int} {le : Int → Int → Prop} {k j : Nat} {x : Int32} (h : cs_PI us ko F le k j x) (hN : ¬ x = 1000000) (hx : ∀ i, x.toInt = F i → le (F i) (F j)) : cs_PI us ko F le k (j + 1) x := by
  rcases h with ⟨a, b⟩ | ⟨i, hi, hRi, e, hl⟩
  · exact absurd a hN
  · right
    refine ⟨i, by omega, hRi, e, fun i' hi' hR' => ?_⟩
    by_cases q : i' = j
    · rw [q]; exact hx i e
    · exact hl i' (by omega) hR'
theorem cs_Fbd (hv : tv_ok ko go vo) (g : Nat) : ∀ i, i < 14 → -1000 ≤ sm_i (tv_N go i = g) (tv_V vo i) ∧ sm_i (tv_N go i = g) (tv_V vo i) ≤ 1000 := by
  intro i hi
  by_cases h : tv_N go i = g
  · rw [sm_it h]; exact tv_vo hv i hi
  · rw [sm_if h]; omega
theorem cs_part7 (hv : tv_ok ko go vo) {k g : Nat} (hk : k < 6) (hg : g < 8) {le : Int → Int → Prop} {x3 : Int32} (hx3 : (x3 = 0 ∧ ∀ a b, le a b ↔ a ≤ b) ∨ (x3 = 1 ∧ ∀ a b, le a b ↔ b ≤ a)) {post : Int32 → Prop} (hp : ∀ x, cs_PI us ko (fun i => sm_i (tv_N go i = g) (tv_V vo i)) le k 14 x → post x) : ∀ (d j : Nat) (x : Int32), j + d = 14 → cs_PI us ko (fun i => sm_i (tv_N go i = g) (tv_V vo i)) le k j x → wX_part_7 post (nI k) (nI g) x3 fr us ko go vo ro gs be ho re bb se li od iw so (d + 1) x (nI j) := by
  have hF : ∀ i, i < 14 → (fun i => sm_i (tv_N go i = g) (tv_V vo i)) i ≠ 1000000 := by
    intro i hi
    have := cs_Fbd hv g i hi
    show sm_i (tv_N go i = g) (tv_V vo i) ≠ 1000000
    omega
  intro d
  induction d with
  | zero =>
    intro j x hj I
    have e : j = 14 := by omega
    subst e
    exact pk_le 14 14 (fun _ => hp x I) (fun h => absurd h (by omega))
  | succ d ih =>
    intro j x hj I
    have e : (nI j).toNatClampNeg = j := nI_clamp (by omega)
    have vj : vp_in (nI j) 14 := vp_in_nI (by omega) (by omega)
    refine pk_le 14 j (fun h => absurd h (by omega)) (fun _ => And.intro vj ?_)
    rw [e]
    by_cases hu : us j = 0
    · exact br_t hu (nm_r (nI_1 j) (ih (j + 1) x (by omega) (cs_PIskip I (fun z => z.2.1 hu))))
    · refine br_f hu (And.intro vj ?_)
      by_cases hk2 : ko j = nI k
      · have hR : tb_R (tv_U us) (tv_N ko) k j := ⟨by omega, hu, (tv_key hv (by omega) hk).mp hk2⟩
        have h57 : ∀ z0 : Int32, z0.toInt = sm_i (tv_N go j = g) (tv_V vo j) → wX_part_57 post (wX_part_7 post (nI k) (nI g) x3 fr us ko go vo ro gs be ho re bb se li od iw so (d + 1)) (nI k) (nI g) x3 x (nI j) z0 fr us ko go vo ro gs be ho re bb se li od iw so := by
          intro z0 hz
          by_cases hN : x = 1000000
          · refine br_t hN (nm_r (nI_1 j) (ih (j + 1) z0 (by omega) (cs_PInew hF I hR hz ?_ (Or.inl hN))))
            rcases hx3 with ⟨_, hle⟩ | ⟨_, hle⟩
            · exact (hle _ _).mpr (Int.le_refl _)
            · exact (hle _ _).mpr (Int.le_refl _)
          · refine br_f hN ?_
            rcases hx3 with ⟨rfl, hle⟩ | ⟨rfl, hle⟩
            · refine br_t rfl ?_
              by_cases h2 : x ≤ z0
              · refine br_t h2 (nm_r (nI_1 j) (ih (j + 1) x (by omega) (cs_PIold I hN (fun i ei => (hle _ _).mpr ?_))))
                have h3 := ra_le.mp h2
                rw [← ei, ← hz]; exact h3
              · have h3 : ¬ x.toInt ≤ z0.toInt := fun z => h2 (ra_le.mpr z)
                refine br_f h2 (nm_r (nI_1 j) (ih (j + 1) z0 (by omega) (cs_PInew hF I hR hz ((hle _ _).mpr (Int.le_refl _)) (Or.inr (fun i ei i' hl => (hle _ _).mpr ?_)))))
                have h4 := (hle _ _).mp hl
                rw [← ei] at h4
                rw [← hz]; omega
            · refine br_f ra_10 ?_
              by_cases h2 : z0 ≤ x
              · refine br_t h2 (nm_r (nI_1 j) (ih (j + 1) x (by omega) (cs_PIold I hN (fun i ei => (hle _ _).mpr ?_))))
                have h3 := ra_le.mp h2
                rw [← ei, ← hz]; exact h3
              · have h3 : ¬ z0.toInt ≤ x.toInt := fun z => h2 (ra_le.mpr z)
                refine br_f h2 (nm_r (nI_1 j) (ih (j + 1) z0 (by omega) (cs_PInew hF I hR hz ((hle _ _).mpr (Int.le_refl _)) (Or.inr (fun i ei i' hl => (hle _ _).mpr ?_)))))
                have h4 := (hle _ _).mp hl
                rw [← ei] at h4
                rw [← hz]; omega
        refine br_t hk2 (And.intro vj ?_)
        by_cases hg2 : go j = nI g
        · exact br_t hg2 (And.intro vj (h57 (vo j) (sm_it ((tv_grp hv (by omega) hg).mp hg2)).symm))
        · exact br_f hg2 (h57 0 (by rw [sm_if (fun z => hg2 ((tv_grp hv (by omega) hg).mpr z))]; exact ra_0))
      · exact br_f hk2 (nm_r (nI_1 j) (ih (j + 1) x (by omega) (cs_PIskip I (fun z => hk2 ((tv_key hv (by omega) hk).mpr z.2.2)))))
theorem cs_part (hv : tv_ok ko go vo) {k g : Nat} (hk : k < 6) (hg : g < 8) {le : Int → Int → Prop} {x3 : Int32} (hx3 : (x3 = 0 ∧ ∀ a b, le a b ↔ a ≤ b) ∨ (x3 = 1 ∧ ∀ a b, le a b ↔ b ≤ a)) {L : Int}
    (hL : (∃ i, tb_R (tv_U us) (tv_N ko) k i ∧ sm_i (tv_N go i = g) (tv_V vo i) = L) ∧ ∀ i, tb_R (tv_U us) (tv_N ko) k i → le L (sm_i (tv_N go i = g) (tv_V vo i))) {post : Int32 → Prop} (hp : ∀ x : Int32, x.toInt = L → post x) : wpX_part post (fr, us, ko, go, vo, ro, gs, be, ho, re, bb, se, li, od, iw, so) (nI k) (nI g) x3 := by
  refine Exists.intro 15 (cs_part7 hv hk hg hx3 (fun x hx => hp x ?_) 14 0 1000000 (by omega) (Or.inl ⟨rfl, fun i hi => absurd hi (by omega)⟩))
  obtain ⟨⟨i0, hR0, e0⟩, hl0⟩ := hL
  rcases hx with ⟨_, b⟩ | ⟨i, hi, hR, e, hl⟩
  · exact absurd hR0 (b i0 hR0.1)
  · have h1 := hl i0 hR0.1 hR0
    have h2 := hl0 i hR
    dsimp only at e h1
    rw [e0] at h1
    rcases hx3 with ⟨_, hle⟩ | ⟨_, hle⟩
    · have := (hle _ _).mp h1
      have := (hle _ _).mp h2
      omega
    · have := (hle _ _).mp h1
      have := (hle _ _).mp h2
      omega
theorem cs_sum5 (hv : tv_ok ko go vo) (hS : xs_S us ko go vo 14 ro gs be) {g : Nat} (hg : g < 8) {le : Int → Int → Prop} {x3 : Int32} (hx3 : (x3 = 0 ∧ ∀ a b, le a b ↔ a ≤ b) ∨ (x3 = 1 ∧ ∀ a b, le a b ↔ b ≤ a)) {L : Nat → Int}
    (hL : ∀ k, tb_iu (tv_U us) (tv_N ko) k → (∃ i, tb_R (tv_U us) (tv_N ko) k i ∧ sm_i (tv_N go i = g) (tv_V vo i) = L k) ∧ ∀ i, tb_R (tv_U us) (tv_N ko) k i → le (L k) (sm_i (tv_N go i = g) (tv_V vo i))) {post : Int32 → Prop} (hp : ∀ x : Int32, x.toInt = sm_s (fun k => sm_i (tb_iu (tv_U us) (tv_N ko) k) (L k)) 6 → post x) :
    ∀ (d j : Nat) (x : Int32), j + d = 6 → x.toInt = sm_s (fun k => sm_i (tb_iu (tv_U us) (tv_N ko) k) (L k)) j → wX_sumOf_5 post (nI g) x3 fr us ko go vo ro gs be ho re bb se li od iw so (d + 1) x (nI j) := by
  have hb1 : ∀ k, k < 6 → -1000 ≤ sm_i (tb_iu (tv_U us) (tv_N ko) k) (L k) ∧ sm_i (tb_iu (tv_U us) (tv_N ko) k) (L k) ≤ 1000 := by
    intro k hk
    by_cases hu : tb_iu (tv_U us) (tv_N ko) k
    · obtain ⟨i, hR, e⟩ := (hL k hu).1
      rw [sm_it hu, ← e]
      exact cs_Fbd hv g i hR.1
    · rw [sm_if hu]; omega
  intro d
  induction d with
  | zero =>
    intro j x hj hx
    have e : j = 6 := by omega
    subst e
    exact pk_le 6 6 (fun _ => hp x hx) (fun h => absurd h (by omega))
  | succ d ih =>
    intro j x hj hx
    have e : (nI j).toNatClampNeg = j := nI_clamp (by omega)
    have hc := tb_cnt14 (U := tv_U us) (K := tv_N ko) j
    have er : ro j = nI (tb_cnt (tv_U us) (tv_N ko) j) := hS.1 j (by omega)
    have hb2 := sm_s_bd (f := fun k => sm_i (tb_iu (tv_U us) (tv_N ko) k) (L k)) (a := -1000) (b := 1000) j (fun k hk => hb1 k (by omega))
    have hb3 := hb1 j (by omega)
    refine pk_le 6 j (fun h => absurd h (by omega)) (fun _ => And.intro (vp_in_nI (by omega) (by omega)) ?_)
    rw [e, er]
    refine pk_le (tb_cnt (tv_U us) (tv_N ko) j) 0 (fun h => nm_r (nI_1 j) (ih (j + 1) x (by omega) ?_)) (fun h => ?_)
    · rw [sm_s_s, sm_if (fun z => absurd (tb_cntp.mpr z) (by omega)), hx]; omega
    · have hu := tb_cntp.mp h
      refine cs_part hv (by omega) hg hx3 (hL j hu) (fun y hy => nm_e (nm_r (nI_1 j) (ih (j + 1) _ (by omega) ?_)))
      rw [sm_it hu] at hb3
      rw [sm_s_s, sm_it hu, ra_add (by omega) (by omega), hx, hy]
theorem cs_xsl (hv : tv_ok ko go vo) (hS : xs_S us ko go vo 14 ro gs be) {g : Nat} (hg : g < 8) {post : Int32 → Prop} (hp : ∀ r : Int32, tb_least (tv_U us) (tv_N ko) (ms_sum (tv_U us) (tv_N ko) (tv_N go) (tv_V vo) g) r.toInt → post r) : wpX_sumOf post (fr, us, ko, go, vo, ro, gs, be, ho, re, bb, se, li, od, iw, so) (nI g) 0 := by
  obtain ⟨L, hL⟩ := cs_opt (U := tv_U us) (K := tv_N ko) (fun i => sm_i (tv_N go i = g) (tv_V vo i)) (fun a b => a ≤ b) (Or.inl (fun a b => Iff.rfl))
  refine Exists.intro 7 (cs_sum5 hv hS hg (Or.inl ⟨rfl, fun a b => Iff.rfl⟩) hL (fun x hx => hp x ?_) 6 0 0 (by omega) ra_0)
  rw [hx]
  exact cs_least (F := fun i => sm_i (tv_N go i = g) (tv_V vo i)) (cs_Ms (G := tv_N go) (V := tv_V vo) g) (fun k _ hu => hL k hu)
theorem cs_xsm (hv : tv_ok ko go vo) (hS : xs_S us ko go vo 14 ro gs be) {g : Nat} (hg : g < 8) {post : Int32 → Prop} (hp : ∀ r : Int32, tb_most (tv_U us) (tv_N ko) (ms_sum (tv_U us) (tv_N ko) (tv_N go) (tv_V vo) g) r.toInt → post r) : wpX_sumOf post (fr, us, ko, go, vo, ro, gs, be, ho, re, bb, se, li, od, iw, so) (nI g) 1 := by
  obtain ⟨L, hL⟩ := cs_opt (U := tv_U us) (K := tv_N ko) (fun i => sm_i (tv_N go i = g) (tv_V vo i)) (fun a b => b ≤ a) (Or.inr (fun a b => Iff.rfl))
  refine Exists.intro 7 (cs_sum5 hv hS hg (Or.inr ⟨rfl, fun a b => Iff.rfl⟩) hL (fun x hx => hp x ?_) 6 0 0 (by omega) ra_0)
  rw [hx]
  refine cs_most (F := fun i => sm_i (tv_N go i = g) (tv_V vo i)) (cs_Ms (G := tv_N go) (V := tv_V vo) g) (fun k _ hu => hL k hu) ?_
  have hb := sm_s_bd (f := fun k => sm_i (tb_iu (tv_U us) (tv_N ko) k) (L k)) (a := -1000) (b := 1000) 6 (fun k hk => by
    by_cases hu : tb_iu (tv_U us) (tv_N ko) k
    · obtain ⟨i, hR, e⟩ := (hL k hu).1
      rw [sm_it hu, ← e]
      exact cs_Fbd hv g i hR.1
    · rw [sm_if hu]; omega)
  omega
end SU
theorem cs_two (p : Int32) : (∃ g, g < 8 ∧ p = nI g) ∨ (∀ post : Int32 → Prop, post 1 → wpX_badGroup post p) ∧ (∀ (post : Int32 → Prop) (v : SY), post 1 → wpY_bad post v p) := by
  by_cases h0 : p < 0
  · exact Or.inr ⟨fun post hp => br_t h0 hp, fun post v hp => br_t h0 hp⟩
  · by_cases h8 : p < 8
    · obtain ⟨j, hj, e⟩ := st_lt6 (n := 8) h0 (by omega) h8
      exact Or.inl ⟨j, hj, e⟩
    · have h7 : ¬ p ≤ 7 := by
        intro z
        apply h8
        rw [ra_le] at z
        rw [ra_lt]
        rw [show (7 : Int32).toInt = 7 from by decide] at z
        rw [show (8 : Int32).toInt = 8 from by decide]
        omega
      exact Or.inr ⟨fun post hp => br_f h0 (br_f h8 hp), fun post v hp => br_f h0 (br_f h7 hp)⟩
theorem cs_xg {g : Nat} (hg : g < 8) {post : Int32 → Prop} (hp : post 0) : wpX_badGroup post (nI g) :=
  br_f (nI_pos (by omega)) (br_t (nI_lt (b := 8) hg (by omega)) hp)
theorem cs_yg {g : Nat} (hg : g < 8) {post : Int32 → Prop} {v : SY} (hp : post 0) : wpY_bad post v (nI g) :=
  br_f (nI_pos (by omega)) (br_t (nI_le (b := 7) (by omega) (by omega)) hp)
theorem i_vc_countLeast {k : Nat} {u : SX} {v : SY} (I : i_Rel k u v) (hk : k + 4 ≤ 2048) (v1 : Int32) : wpX_countLeast (fun r => wpY_countLeast (fun r' v' => r' = r ∧ i_Rel (k + 4) u v') v v1) u v1 := by
  obtain ⟨fr, us, ko, go, vo, ro, gs, be, ho, re, bb, se, li, od, iw, so⟩ := u
  obtain ⟨us2, ko2, go2, vo2, pk⟩ := v
  obtain ⟨rfl, rfl, rfl, rfl, hv, hf, hS⟩ := I
  unfold wpX_countLeast wpY_countLeast
  dsimp only
  rcases cs_two v1 with ⟨g, hg, rfl⟩ | ⟨hX, hY⟩
  · refine cs_xg hg ?_
    refine br_t rfl ?_
    refine cs_xcl hv hS hg (fun r hr => ?_)
    refine cs_yg hg ?_
    refine br_t rfl ?_
    exact yw_least hv (ms_cnt_ok g) (fun ρ pk post h1 h2 h3 => yw_m0 hv hg h1 h2 h3) (fun r' pk' hr' => ⟨Int32.toInt_inj.mp (tb_least_u hr' hr), rfl, rfl, rfl, rfl, hv, hf, hS⟩) pk
  · refine hX _ ?_
    refine br_f ra_10 ?_
    refine hY _ _ ?_
    exact br_f ra_10 ⟨rfl, rfl, rfl, rfl, rfl, hv, hf, hS⟩
theorem i_vc_countMost {k : Nat} {u : SX} {v : SY} (I : i_Rel k u v) (hk : k + 4 ≤ 2048) (v1 : Int32) : wpX_countMost (fun r => wpY_countMost (fun r' v' => r' = r ∧ i_Rel (k + 4) u v') v v1) u v1 := by
  obtain ⟨fr, us, ko, go, vo, ro, gs, be, ho, re, bb, se, li, od, iw, so⟩ := u
  obtain ⟨us2, ko2, go2, vo2, pk⟩ := v
  obtain ⟨rfl, rfl, rfl, rfl, hv, hf, hS⟩ := I
  unfold wpX_countMost wpY_countMost
  dsimp only
  rcases cs_two v1 with ⟨g, hg, rfl⟩ | ⟨hX, hY⟩
  · refine cs_xg hg ?_
    refine br_t rfl ?_
    refine cs_xcm hv hS hg (fun r hr => ?_)
    refine cs_yg hg ?_
    refine br_t rfl ?_
    exact yw_most hv (ms_cnt_ok g) (fun ρ pk post h1 h2 h3 => yw_m0 hv hg h1 h2 h3) (fun r' pk' hr' => ⟨Int32.toInt_inj.mp (tb_most_u hr' hr), rfl, rfl, rfl, rfl, hv, hf, hS⟩) pk
  · refine hX _ ?_
    refine br_f ra_10 ?_
    refine hY _ _ ?_
    exact br_f ra_10 ⟨rfl, rfl, rfl, rfl, rfl, hv, hf, hS⟩
theorem i_vc_sumLeast {k : Nat} {u : SX} {v : SY} (I : i_Rel k u v) (hk : k + 4 ≤ 2048) (v1 : Int32) : wpX_sumLeast (fun r => wpY_sumLeast (fun r' v' => r' = r ∧ i_Rel (k + 4) u v') v v1) u v1 := by
  obtain ⟨fr, us, ko, go, vo, ro, gs, be, ho, re, bb, se, li, od, iw, so⟩ := u
  obtain ⟨us2, ko2, go2, vo2, pk⟩ := v
  obtain ⟨rfl, rfl, rfl, rfl, hv, hf, hS⟩ := I
  unfold wpX_sumLeast wpY_sumLeast
  dsimp only
  rcases cs_two v1 with ⟨g, hg, rfl⟩ | ⟨hX, hY⟩
  · refine cs_xg hg ?_
    refine br_t rfl ?_
    refine cs_xsl hv hS hg (fun r hr => ?_)
    refine cs_yg hg ?_
    refine br_t rfl ?_
    exact yw_least hv (ms_sum_ok (tv_vo hv) g) (fun ρ pk post h1 h2 h3 => yw_m1 hv hg h1 h2 h3) (fun r' pk' hr' => ⟨Int32.toInt_inj.mp (tb_least_u hr' hr), rfl, rfl, rfl, rfl, hv, hf, hS⟩) pk
  · refine hX _ ?_
    refine br_f ra_10 ?_
    refine hY _ _ ?_
    exact br_f ra_10 ⟨rfl, rfl, rfl, rfl, rfl, hv, hf, hS⟩
theorem i_vc_sumMost {k : Nat} {u : SX} {v : SY} (I : i_Rel k u v) (hk : k + 4 ≤ 2048) (v1 : Int32) : wpX_sumMost (fun r => wpY_sumMost (fun r' v' => r' = r ∧ i_Rel (k + 4) u v') v v1) u v1 := by
  obtain ⟨fr, us, ko, go, vo, ro, gs, be, ho, re, bb, se, li, od, iw, so⟩ := u
  obtain ⟨us2, ko2, go2, vo2, pk⟩ := v
  obtain ⟨rfl, rfl, rfl, rfl, hv, hf, hS⟩ := I
  unfold wpX_sumMost wpY_sumMost
  dsimp only
  rcases cs_two v1 with ⟨g, hg, rfl⟩ | ⟨hX, hY⟩
  · refine cs_xg hg ?_
    refine br_t rfl ?_
    refine cs_xsm hv hS hg (fun r hr => ?_)
    refine cs_yg hg ?_
    refine br_t rfl ?_
    exact yw_most hv (ms_sum_ok (tv_vo hv) g) (fun ρ pk post h1 h2 h3 => yw_m1 hv hg h1 h2 h3) (fun r' pk' hr' => ⟨Int32.toInt_inj.mp (tb_most_u hr' hr), rfl, rfl, rfl, rfl, hv, hf, hS⟩) pk
  · refine hX _ ?_
    refine br_f ra_10 ?_
    refine hY _ _ ?_
    exact br_f ra_10 ⟨rfl, rfl, rfl, rfl, rfl, hv, hf, hS⟩
end
section
/-! bits, coversAll, groupsLeast -/
theorem gl_mk (P : Nat → Prop) : ∀ n : Nat, n ≤ 8 → ∃ x : Int32, ∀ b, b < 32 → (bt x b = true ↔ b < n ∧ P b) := by
  intro n
  induction n with
  | zero => intro _; exact ⟨0, fun b _ => by rw [b_0]; exact ⟨fun z => absurd z (by decide), fun z => absurd z.1 (by omega)⟩⟩
  | succ n ih =>
    intro hn
    obtain ⟨x, hx⟩ := ih (by omega)
    by_cases hp : P n
    · refine ⟨x ||| ((1 : Int32) <<< (nI n &&& 31)), fun b hb => ?_⟩
      rw [b_or, ra_shl n (by omega) b hb, Bool.or_eq_true, decide_eq_true_eq, hx b hb]
      constructor
      · rintro (⟨h1, h2⟩ | h1)
        · exact ⟨by omega, h2⟩
        · exact ⟨by omega, h1 ▸ hp⟩
      · rintro ⟨h1, h2⟩
        by_cases e : b = n
        · exact Or.inr e
        · exact Or.inl ⟨by omega, h2⟩
    · refine ⟨x, fun b hb => ?_⟩
      rw [hx b hb]
      constructor
      · rintro ⟨h1, h2⟩; exact ⟨by omega, h2⟩
      · rintro ⟨h1, h2⟩
        by_cases e : b = n
        · exact absurd (e ▸ h2) hp
        · exact ⟨by omega, h2⟩
theorem gl_mk8 (P : Nat → Prop) : ∃ m, m < 256 ∧ ∀ g, g < 8 → (bt (nI m) g = true ↔ P g) := by
  obtain ⟨x, hx⟩ := gl_mk P 8 (by omega)
  have e : x &&& 255 = x := by
    apply b_ext
    intro b hb
    rw [b_and, b_255]
    cases h : bt x b
    · rfl
    · rw [decide_eq_true ((hx b hb).mp h).1]; rfl
  have e2 := pk_and x (m := 255) 8 (by decide)
  rw [e] at e2
  refine ⟨x.toBitVec.toNat % 2 ^ 8, Nat.mod_lt _ (by decide), fun g hg => ?_⟩
  rw [← e2, hx g (by omega)]
  exact ⟨fun z => z.2, fun z => ⟨hg, z⟩⟩
theorem gl_bits4 {m : Int32} {post : Int32 → Prop} (hp : post (nI (sm_n (fun g => bt m g = true) 8))) : ∀ d j : Nat, j + d = 8 → wX_bits_4 post m (d + 1) (nI (sm_n (fun g => bt m g = true) j)) (nI j) := by
  intro d
  induction d with
  | zero =>
    intro j hj
    have e : j = 8 := by omega
    subst e
    exact pk_le 8 8 (fun _ => hp) (fun h => absurd h (by omega))
  | succ d ih =>
    intro j hj
    have h2 := ih (j + 1) (by omega)
    have eb : nI (sm_n (fun g => bt m g = true) j) + ((m >>> (nI j &&& 31)) &&& 1) = nI (sm_n (fun g => bt m g = true) (j + 1)) := by
      by_cases h : bt m j = true
      · rw [ra_bitT (by omega) h, sm_n_t (P := fun g => bt m g = true) h, nI_1]
      · rw [ra_bitF (by omega) (Bool.not_eq_true _ ▸ h), sm_n_f (P := fun g => bt m g = true) h, Int32.add_zero]
    exact pk_le 8 j (fun h => absurd h (by omega)) (fun _ => nm_r eb (nm_r (nI_1 j) h2))
theorem gl_bits {m : Int32} {post : Int32 → Prop} (hp : post (nI (sm_n (fun g => bt m g = true) 8))) : wpX_bits post m :=
  Exists.intro 9 (gl_bits4 hp 8 0 (by omega))
def gl_ok (us ko go : Nat → Int32) (m : Int32) (k : Nat) : Prop := ∃ i, tb_R (tv_U us) (tv_N ko) k i ∧ bt m (tv_N go i) = true
def gl_cov (us ko go : Nat → Int32) (m : Int32) : Prop := ∀ k, k < 6 → tb_iu (tv_U us) (tv_N ko) k → gl_ok us ko go m k
section GL
variable {fr : Int32} {us ko go vo ro gs be ho re bb se li od iw so : Nat → Int32}
theorem gl_and (hv : tv_ok ko go vo) (hS : xs_S us ko go vo 14 ro gs be) {m : Int32} {k : Nat} (hk : k < 6) : gs k &&& m = 0 ↔ ¬ gl_ok us ko go m k := by
  constructor
  · intro h ⟨i, hR, hb⟩
    obtain ⟨g, hg, _, e⟩ := tv_go hv hR.1
    have h1 : bt (gs k) (tv_N go i) = true := (cs_bit hS hk (by omega)).mpr ⟨i, hR, rfl⟩
    have h2 : bt (gs k &&& m) (tv_N go i) = true := by rw [b_and, h1, hb]; rfl
    rw [h, b_0] at h2
    exact absurd h2 (by decide)
  · intro h
    apply b_ext
    intro b hb
    rw [b_0, b_and]
    cases h1 : bt (gs k) b
    · rfl
    · cases h2 : bt m b
      · rfl
      · obtain ⟨i, hR, e⟩ := (cs_bit hS hk hb).mp h1
        exact absurd ⟨i, hR, by rw [e]; exact h2⟩ h
theorem gl_c2 (hv : tv_ok ko go vo) (hS : xs_S us ko go vo 14 ro gs be) {m : Int32} {post : Int32 → Prop} (h1 : gl_cov us ko go m → post 1) (h0 : ¬ gl_cov us ko go m → post 0) : ∀ d j : Nat, j + d = 6 → (∀ k, k < j → tb_iu (tv_U us) (tv_N ko) k → gl_ok us ko go m k) → wX_coversAll_2 post m fr us ko go vo ro gs be ho re bb se li od iw so (d + 1) (nI j) := by
  intro d
  induction d with
  | zero =>
    intro j hj I
    have e : j = 6 := by omega
    subst e
    exact pk_le 6 6 (fun _ => h1 I) (fun h => absurd h (by omega))
  | succ d ih =>
    intro j hj I
    have e : (nI j).toNatClampNeg = j := nI_clamp (by omega)
    have hc := tb_cnt14 (U := tv_U us) (K := tv_N ko) j
    have er : ro j = nI (tb_cnt (tv_U us) (tv_N ko) j) := hS.1 j (by omega)
    have vj : vp_in (nI j) 6 := vp_in_nI (by omega) (by omega)
    refine pk_le 6 j (fun h => absurd h (by omega)) (fun _ => And.intro vj ?_)
    rw [e, er]
    refine pk_le (tb_cnt (tv_U us) (tv_N ko) j) 0 (fun h => nm_r (nI_1 j) (ih (j + 1) (by omega) (fun k hk hu => ?_))) (fun h => And.intro vj ?_)
    · by_cases z : k = j
      · rw [z] at hu; exact absurd (tb_cntp.mpr hu) (by omega)
      · exact I k (by omega) hu
    · have hu := tb_cntp.mp h
      by_cases ho : gl_ok us ko go m j
      · refine br_f (fun z => (gl_and hv hS (by omega)).mp z ho) (nm_r (nI_1 j) (ih (j + 1) (by omega) (fun k hk huk => ?_)))
        by_cases z : k = j
        · rw [z]; exact ho
        · exact I k (by omega) huk
      · exact br_t ((gl_and hv hS (by omega)).mpr ho) (h0 (fun z => ho (z j (by omega) hu)))
theorem gl_covers (hv : tv_ok ko go vo) (hS : xs_S us ko go vo 14 ro gs be) {m : Int32} {post : Int32 → Prop} (h1 : gl_cov us ko go m → post 1) (h0 : ¬ gl_cov us ko go m → post 0) : wpX_coversAll post (fr, us, ko, go, vo, ro, gs, be, ho, re, bb, se, li, od, iw, so) m :=
  Exists.intro 7 (gl_c2 hv hS h1 h0 6 0 (by omega) (fun k hk => absurd hk (by omega)))
def gl_I (us ko go : Nat → Int32) (j L : Nat) : Prop := L ≤ 8 ∧ (L = 8 ∨ ∃ m : Nat, gl_cov us ko go (nI m) ∧ sm_n (fun g => bt (nI m) g = true) 8 = L) ∧ ∀ m, m < j → gl_cov us ko go (nI m) → L ≤ sm_n (fun g => bt (nI m) g = true) 8
theorem gl_end (hv : tv_ok ko go vo) {L : Nat} (I : gl_I us ko go 256 L) : tb_least (tv_U us) (tv_N ko) (ms_dif (tv_U us) (tv_N ko) (tv_N go)) (L : Int) := by
  obtain ⟨h1, h2, h3⟩ := I
  constructor
  · rcases h2 with h2 | ⟨m, hm, e⟩
    · obtain ⟨ρ, hr⟩ := tb_ex (U := tv_U us) (K := tv_N ko)
      refine ⟨ρ, _, hr, rfl, ?_⟩
      have := sm_n_bd (ms_im (tv_U us) (tv_N ko) (tv_N go) ρ) 8
      omega
    · obtain ⟨ρ, hr, hb⟩ := tb_exP (U := tv_U us) (K := tv_N ko) (P := fun k i => bt (nI m) (tv_N go i) = true) hm
      refine ⟨ρ, _, hr, rfl, ?_⟩
      have h4 : sm_n (ms_im (tv_U us) (tv_N ko) (tv_N go) ρ) 8 ≤ sm_n (fun g => bt (nI m) g = true) 8 := by
        refine sm_n_le 8 (fun g hg ⟨k, hk, hu, e⟩ => ?_)
        rw [← e]
        exact hb k hk hu
      omega
  · intro ρ v hr hv'
    rw [show v = (sm_n (ms_im (tv_U us) (tv_N ko) (tv_N go) ρ) 8 : Int) from hv']
    obtain ⟨m, hm, hb⟩ := gl_mk8 (ms_im (tv_U us) (tv_N ko) (tv_N go) ρ)
    have h4 := h3 m hm (fun k hk hu => by
      have hR := hr k hk hu
      obtain ⟨g, hg, _, e⟩ := tv_go hv hR.1
      exact ⟨ρ k, hR, (hb (tv_N go (ρ k)) (by omega)).mpr ⟨k, hk, hu, rfl⟩⟩)
    have h5 : sm_n (fun g => bt (nI m) g = true) 8 = sm_n (ms_im (tv_U us) (tv_N ko) (tv_N go) ρ) 8 := sm_n_c 8 (fun g hg => hb g hg)
    omega
theorem gl_5 (hv : tv_ok ko go vo) (hS : xs_S us ko go vo 14 ro gs be) {post : Int32 → Prop} (hp : ∀ L, gl_I us ko go 256 L → post (nI L)) : ∀ d j L : Nat, j + d = 256 → gl_I us ko go j L → wX_groupsLeast_5 post fr us ko go vo ro gs be ho re bb se li od iw so (d + 1) (nI L) (nI j) := by
  intro d
  induction d with
  | zero =>
    intro j L hj I
    have e : j = 256 := by omega
    subst e
    exact pk_le 256 256 (fun _ => hp L I) (fun h => absurd h (by omega))
  | succ d ih =>
    intro j L hj I
    have hL := I.1
    have hb := sm_n_bd (fun g => bt (nI j) g = true) 8
    refine pk_le 256 j (fun h => absurd h (by omega)) (fun _ => gl_bits ?_)
    refine pk_le L (sm_n (fun g => bt (nI j) g = true) 8) (fun h => nm_r (nI_1 j) (ih (j + 1) L (by omega) ?_)) (fun h => gl_covers hv hS (fun hc => ?_) (fun hc => ?_))
    · refine ⟨I.1, I.2.1, fun m hm hcm => ?_⟩
      by_cases z : m = j
      · rw [z]; exact h
      · exact I.2.2 m (by omega) hcm
    · refine br_f ra_10 (nm_r (nI_1 j) (ih (j + 1) _ (by omega) ⟨hb, Or.inr ⟨j, hc, rfl⟩, fun m hm hcm => ?_⟩))
      by_cases z : m = j
      · rw [z]; exact Nat.le_refl _
      · have := I.2.2 m (by omega) hcm
        omega
    · refine br_t rfl (nm_r (nI_1 j) (ih (j + 1) L (by omega) ⟨I.1, I.2.1, fun m hm hcm => ?_⟩))
      by_cases z : m = j
      · rw [z] at hcm; exact absurd hcm hc
      · exact I.2.2 m (by omega) hcm
end GL
theorem i_vc_groupsLeast {k : Nat} {u : SX} {v : SY} (I : i_Rel k u v) (hk : k + 4 ≤ 2048) : wpX_groupsLeast (fun r => wpY_groupsLeast (fun r' v' => r' = r ∧ i_Rel (k + 4) u v') v) u := by
  obtain ⟨fr, us, ko, go, vo, ro, gs, be, ho, re, bb, se, li, od, iw, so⟩ := u
  obtain ⟨us2, ko2, go2, vo2, pk⟩ := v
  obtain ⟨rfl, rfl, rfl, rfl, hv, hf, hS⟩ := I
  unfold wpX_groupsLeast wpY_groupsLeast
  dsimp only
  refine Exists.intro 257 (gl_5 hv hS (fun L hL => ?_) 256 0 8 (by omega) ⟨by omega, Or.inl rfl, fun m hm => absurd hm (by omega)⟩)
  have hb := hL.1
  have hr := gl_end hv hL
  exact yw_least hv ms_dif_ok (fun ρ pk post h1 h2 h3 => yw_m2 hv h1 h2 h3) (fun r' pk' hr' => ⟨Int32.toInt_inj.mp ((tb_least_u hr' hr).trans (nI_toInt (by omega)).symm), rfl, rfl, rfl, rfl, hv, hf, hS⟩) pk
end
section
/-! holders with a hole; shift -/
def sh_M (H : Nat → Int32) (o : Nat) (Q : Nat → Nat → Prop) (A : Nat → Prop) : Prop :=
  (∀ x, x < 8 → x ≠ o → H x = -1 ∨ ∃ κ, κ < 6 ∧ H x = nI κ ∧ A κ ∧ Q κ x) ∧
  (∀ x y κ, x < 8 → y < 8 → x ≠ o → y ≠ o → κ < 6 → H x = nI κ → H y = nI κ → x = y)
noncomputable def sh_f (H : Nat → Int32) (o : Nat) (W : Nat → Nat → Int) (x : Nat) : Int := sm_i (x ≠ o ∧ ¬ H x = -1) (W (tv_N H x) x)
noncomputable def sh_w (H : Nat → Int32) (o : Nat) (W : Nat → Nat → Int) : Int := sm_s (sh_f H o W) 8
theorem sh_nI {a b : Nat} (ha : a < 6) (hb : b < 6) (h : nI a = nI b) : a = b := ra_im h (by omega) (by omega)
theorem sh_at {H : Nat → Int32} {o : Nat} {Q : Nat → Nat → Prop} {A : Nat → Prop} (h : sh_M H o Q A) {x κ : Nat} (hx : x < 8) (hxo : x ≠ o) (hκ : κ < 6) (e : H x = nI κ) : A κ ∧ Q κ x := by
  rcases h.1 x hx hxo with h1 | ⟨κ', h2, h3, h4, h5⟩
  · rw [e] at h1; exact absurd h1 (ra_ne1 (by omega))
  · have := sh_nI hκ h2 (e.symm.trans h3)
    subst this
    exact ⟨h4, h5⟩
/-- a hole moves from g to g' -/
theorem sh_move {H : Nat → Int32} {g g' κ : Nat} {Q : Nat → Nat → Prop} {A : Nat → Prop} (h : sh_M H g Q A) (hg : g < 8) (hg' : g' < 8) (hne : g' ≠ g) (hκ : κ < 6) (e : H g' = nI κ) (hq : Q κ g) : sh_M (upd H g (nI κ)) g' Q A := by
  refine ⟨fun x hx hxo => ?_, fun x y κ' hx hy hxo hyo hκ' ex ey => ?_⟩
  · by_cases z : x = g
    · right
      rw [z, pk_us]
      exact ⟨κ, hκ, rfl, (sh_at h hg' hne hκ e).1, hq⟩
    · rw [pk_un z]
      exact h.1 x hx z
  · by_cases zx : x = g
    · by_cases zy : y = g
      · rw [zx, zy]
      · rw [zx, pk_us] at ex
        rw [pk_un zy] at ey
        have h1 := sh_nI hκ hκ' ex
        subst h1
        exact absurd (h.2 y g' κ hy hg' zy hne hκ ey e) hyo
    · rw [pk_un zx] at ex
      by_cases zy : y = g
      · rw [zy, pk_us] at ey
        have h1 := sh_nI hκ hκ' ey
        subst h1
        exact absurd (h.2 x g' κ hx hg' zx hne hκ ex e) hxo
      · rw [pk_un zy] at ey
        exact h.2 x y κ' hx hy zx zy hκ' ex ey
theorem sh_fill {H : Nat → Int32} {g key : Nat} {Q : Nat → Nat → Prop} {A : Nat → Prop} (h : sh_M H g Q A) (hg : g < 8) (hκ : key < 6) (hA : ∀ κ, A κ → κ ≠ key) (hq : Q key g) : sh_M (upd H g (nI key)) 8 Q (fun κ => A κ ∨ κ = key) := by
  have hno : ∀ x, x < 8 → x ≠ g → ¬ H x = nI key := fun x hx hxg e => hA key (sh_at h hx hxg hκ e).1 rfl
  refine ⟨fun x hx _ => ?_, fun x y κ' hx hy _ _ hκ' ex ey => ?_⟩
  · by_cases z : x = g
    · right
      rw [z, pk_us]
      exact ⟨key, hκ, rfl, Or.inr rfl, hq⟩
    · rw [pk_un z]
      rcases h.1 x hx z with h1 | ⟨κ', h2, h3, h4, h5⟩
      · exact Or.inl h1
      · exact Or.inr ⟨κ', h2, h3, Or.inl h4, h5⟩
  · by_cases zx : x = g
    · by_cases zy : y = g
      · rw [zx, zy]
      · rw [zx, pk_us] at ex
        rw [pk_un zy] at ey
        have h1 := sh_nI hκ hκ' ex
        subst h1
        exact absurd ey (hno y hy zy)
    · rw [pk_un zx] at ex
      by_cases zy : y = g
      · rw [zy, pk_us] at ey
        have h1 := sh_nI hκ hκ' ey
        subst h1
        exact absurd ex (hno x hx zx)
      · rw [pk_un zy] at ey
        exact h.2 x y κ' hx hy zx zy hκ' ex ey
theorem sh_clN {H : Nat → Int32} {x κ : Nat} (hκ : κ < 6) (e : H x = nI κ) : tv_N H x = κ := by
  show (H x).toNatClampNeg = κ
  rw [e]; exact nI_clamp (by omega)
theorem sh_w_move {H : Nat → Int32} {g g' κ : Nat} {W : Nat → Nat → Int} (hg : g < 8) (hg' : g' < 8) (hne : g' ≠ g) (hκ : κ < 6) (e : H g' = nI κ) : sh_w (upd H g (nI κ)) g' W = sh_w H g W + W κ g - W κ g' := by
  have hk1 : ¬ nI κ = -1 := ra_ne1 (by omega)
  have e1 : sm_s (fun x => if x = g then W κ g else sh_f H g W x) 8 = sh_w H g W + ((if g = g then W κ g else sh_f H g W g) - sh_f H g W g) :=
    sm_s_up (f := fun x => if x = g then W κ g else sh_f H g W x) 8 hg (fun i _ hi => if_neg hi)
  have e2 : sh_w (upd H g (nI κ)) g' W = sm_s (fun x => if x = g then W κ g else sh_f H g W x) 8 + (sh_f (upd H g (nI κ)) g' W g' - (if g' = g then W κ g else sh_f H g W g')) := by
    refine sm_s_up (g := fun x => if x = g then W κ g else sh_f H g W x) 8 hg' (fun i _ hi => ?_)
    unfold sh_f
    by_cases z : i = g
    · rw [if_pos z, z, sm_it ⟨Ne.symm hne, by rw [pk_us]; exact hk1⟩, sh_clN (H := upd H g (nI κ)) hκ pk_us]
    · rw [if_neg z]
      refine sm_ic ?_ (fun _ => ?_)
      · rw [pk_un z]; exact ⟨fun a => ⟨z, a.2⟩, fun a => ⟨hi, a.2⟩⟩
      · show W (upd H g (nI κ) i).toNatClampNeg i = W (H i).toNatClampNeg i
        rw [pk_un z]
  have e3 : sh_f H g W g = 0 := sm_if (fun z => z.1 rfl)
  have e4 : sh_f (upd H g (nI κ)) g' W g' = 0 := sm_if (fun z => z.1 rfl)
  have e5 : sh_f H g W g' = W κ g' := by
    unfold sh_f
    rw [sm_it ⟨hne, by rw [e]; exact hk1⟩, sh_clN hκ e]
  rw [if_pos rfl] at e1
  rw [if_neg hne] at e2
  omega
theorem sh_w_fill {H : Nat → Int32} {g key : Nat} {W : Nat → Nat → Int} (hg : g < 8) (hκ : key < 6) : sh_w (upd H g (nI key)) 8 W = sh_w H g W + W key g := by
  have hk1 : ¬ nI key = -1 := ra_ne1 (by omega)
  have e2 : sh_w (upd H g (nI key)) 8 W = sh_w H g W + (sh_f (upd H g (nI key)) 8 W g - sh_f H g W g) := by
    refine sm_s_up 8 hg (fun i hi8 hi => ?_)
    unfold sh_f
    refine sm_ic ?_ (fun _ => ?_)
    · rw [pk_un hi]; exact ⟨fun a => ⟨hi, a.2⟩, fun a => ⟨by omega, a.2⟩⟩
    · show W (upd H g (nI key) i).toNatClampNeg i = W (H i).toNatClampNeg i
      rw [pk_un hi]
  have e3 : sh_f H g W g = 0 := sm_if (fun z => z.1 rfl)
  have e5 : sh_f (upd H g (nI key)) 8 W g = W key g := by
    unfold sh_f
    rw [sm_it ⟨by omega, by rw [pk_us]; exact hk1⟩, sh_clN (H := upd H g (nI key)) hκ pk_us]
  omega
theorem sh_w_free {H : Nat → Int32} {g : Nat} {W : Nat → Nat → Int} (hg : g < 8) (e : H g = -1) : sh_w H g W = sh_w H 8 W := by
  refine sm_s_c 8 (fun x hx => ?_)
  refine sm_ic ?_ (fun _ => rfl)
  exact ⟨fun a => ⟨by omega, a.2⟩, fun a => ⟨fun z => a.2 (by rw [z]; exact e), a.2⟩⟩
theorem sh_M_free {H : Nat → Int32} {g : Nat} {Q : Nat → Nat → Prop} {A : Nat → Prop} (h : sh_M H 8 Q A) : sh_M H g Q A :=
  ⟨fun x hx _ => h.1 x hx (by omega), fun x y κ hx hy _ _ => h.2 x y κ hx hy (by omega) (by omega)⟩
/-- what the way found by a search satisfies at a group x on it -/
def sh_st (H0 bb : Nat → Int32) (key : Nat) (Q : Nat → Nat → Prop) (W : Nat → Nat → Int) (D : Nat → Int) (N : Nat → Prop) (r : Nat → Nat) (x : Nat) : Prop :=
  r x < 8 ∧ ((bb x = -1 ∧ Q key x ∧ D x = W key x) ∨ ∃ g κ, g < 8 ∧ κ < 6 ∧ bb x = nI g ∧ N g ∧ r g < r x ∧ H0 g = nI κ ∧ Q κ x ∧ D x = D g - W κ g + W κ x)
def sh_I (H0 : Nat → Int32) (Q : Nat → Nat → Prop) (A : Nat → Prop) (W : Nat → Nat → Int) (D : Nat → Int) (N : Nat → Prop) (r : Nat → Nat) (fre : Nat) (T : Int) (i g : Nat) (H : Nat → Int32) : Prop :=
  (g < 8 ∧ N g ∧ i + r g ≤ 7) ∧ sh_M H g Q A ∧ sh_w H g W + D g = T ∧ (∀ κ, κ < 6 → (∃ x, x < 8 ∧ H0 x = nI κ) → ∃ x, x < 8 ∧ x ≠ g ∧ H x = nI κ) ∧
  (∀ x, x < 8 → N x → r x < r g → H x = H0 x) ∧ (∀ x, x < 8 → ¬ N x → H x = H0 x) ∧ (∀ x, x < 8 → x ≠ g → H x = -1 → H0 x = -1 ∧ x ≠ fre)
def sh_E (H0 : Nat → Int32) (Q : Nat → Nat → Prop) (A : Nat → Prop) (W : Nat → Nat → Int) (N : Nat → Prop) (fre key : Nat) (T : Int) (H : Nat → Int32) : Prop :=
  sh_M H 8 Q (fun κ => A κ ∨ κ = key) ∧ sh_w H 8 W = T ∧ (∀ κ, κ < 6 → (∃ x, x < 8 ∧ H0 x = nI κ) → ∃ x, x < 8 ∧ H x = nI κ) ∧ (∃ x, x < 8 ∧ H x = nI key) ∧
  (∀ x, x < 8 → ¬ N x → H x = H0 x) ∧ (∀ x, x < 8 → H x = -1 → H0 x = -1 ∧ x ≠ fre)
section SH
variable {fr : Int32} {us ko go vo ro gs be ho re bb se li od iw so : Nat → Int32} {H0 : Nat → Int32} {Q : Nat → Nat → Prop} {A : Nat → Prop} {W : Nat → Nat → Int} {D : Nat → Int} {N : Nat → Prop} {r : Nat → Nat} {fre key : Nat} {T : Int}
theorem sh_start (hM : sh_M H0 8 Q A) (hf : fre < 8) (hN : N fre) (hr : r fre < 8) (e : H0 fre = -1) : sh_I H0 Q A W D N r fre (sh_w H0 8 W + D fre) 0 fre H0 := by
  refine ⟨⟨hf, hN, by omega⟩, sh_M_free hM, by rw [sh_w_free hf e], fun κ hκ ⟨x, hx, ex⟩ => ⟨x, hx, fun z => ?_, ex⟩, fun x _ _ _ => rfl, fun x _ _ => rfl, fun x hx hxf ex => ⟨ex, hxf⟩⟩
  rw [z, e] at ex
  exact ra_ne1 (by omega) ex.symm
theorem sh_stp {i g g' κ : Nat} {H : Nat → Int32} (I : sh_I H0 Q A W D N r fre T i g H) (hg' : g' < 8) (hκ : κ < 6) (hN : N g') (hr : r g' < r g) (e : H0 g' = nI κ) (hq : Q κ g) (hD : D g = D g' - W κ g' + W κ g) :
    H g' = nI κ ∧ sh_I H0 Q A W D N r fre T (i + 1) g' (upd H g (nI κ)) := by
  obtain ⟨⟨i1, i2, i3⟩, i4, i5, i6, i7, i8, i9⟩ := I
  have hne : g' ≠ g := fun z => by rw [z] at hr; omega
  have eH : H g' = nI κ := (i7 g' hg' hN hr).trans e
  refine ⟨eH, ⟨hg', hN, by omega⟩, sh_move i4 i1 hg' hne hκ eH hq, ?_, fun κ' hκ' hp => ?_, fun x hx hNx hrx => ?_, fun x hx hNx => ?_, fun x hx hxg ex => ?_⟩
  · rw [sh_w_move i1 hg' hne hκ eH]; omega
  · obtain ⟨x, hx, hxg, ex⟩ := i6 κ' hκ' hp
    by_cases z : x = g'
    · have h1 : κ' = κ := sh_nI hκ' hκ (ex.symm.trans (by rw [z]; exact eH))
      exact ⟨g, i1, Ne.symm hne, by rw [pk_us, h1]⟩
    · exact ⟨x, hx, z, by rw [pk_un hxg]; exact ex⟩
  · have z : x ≠ g := fun z => by rw [z] at hrx; omega
    rw [pk_un z]
    exact i7 x hx hNx (by omega)
  · have z : x ≠ g := fun z => by rw [z] at hNx; exact hNx i2
    rw [pk_un z]
    exact i8 x hx hNx
  · by_cases z : x = g
    · rw [z, pk_us] at ex
      exact absurd ex (ra_ne1 (by omega))
    · rw [pk_un z] at ex
      exact i9 x hx z ex
theorem sh_fin {i g : Nat} {H : Nat → Int32} (I : sh_I H0 Q A W D N r fre T i g H) (hκ : key < 6) (hA : ∀ κ, A κ → κ ≠ key) (hq : Q key g) (hD : D g = W key g) : sh_E H0 Q A W N fre key T (upd H g (nI key)) := by
  obtain ⟨⟨i1, i2, i3⟩, i4, i5, i6, i7, i8, i9⟩ := I
  refine ⟨sh_fill i4 i1 hκ hA hq, ?_, fun κ' hκ' hp => ?_, ⟨g, i1, pk_us⟩, fun x hx hNx => ?_, fun x hx ex => ?_⟩
  · rw [sh_w_fill i1 hκ]; omega
  · obtain ⟨x, hx, hxg, ex⟩ := i6 κ' hκ' hp
    exact ⟨x, hx, by rw [pk_un hxg]; exact ex⟩
  · have z : x ≠ g := fun z => by rw [z] at hNx; exact hNx i2
    rw [pk_un z]
    exact i8 x hx hNx
  · by_cases z : x = g
    · rw [z, pk_us] at ex
      exact absurd ex (ra_ne1 (by omega))
    · rw [pk_un z] at ex
      exact i9 x hx z ex
theorem sh_5 (hκ : key < 6) (hA : ∀ κ, A κ → κ ≠ key) (hs : ∀ x, x < 8 → N x → sh_st H0 bb key Q W D N r x) {post : SX → Prop} (hp : ∀ H', sh_E H0 Q A W N fre key T H' → post (fr, us, ko, go, vo, ro, gs, be, H', re, bb, se, li, od, iw, so)) : ∀ (d i g : Nat) (ho : Nat → Int32), i + d = 8 → sh_I H0 Q A W D N r fre T i g ho → wX_shift_5 post (nI key) fr (d + 1) (nI g) (nI i) us ko go vo ro gs be ho re bb se li od iw so := by
  intro d
  induction d with
  | zero =>
    intro i g ho hi I
    have := I.1.2.2
    omega
  | succ d ih =>
    intro i g ho hi I
    have hg := I.1.1
    have e : (nI g).toNatClampNeg = g := nI_clamp (by omega)
    have vg : vp_in (nI g) 8 := vp_in_nI hg (by omega)
    refine pk_le 8 i (fun h => absurd h (by omega)) (fun _ => And.intro vg ?_)
    rw [e]
    rcases (hs g hg I.1.2.1).2 with ⟨eb, hq, hD⟩ | ⟨g', κ, hg', hκ', eb, hN, hr, eH, hq, hD⟩
    · rw [eb]
      exact br_t ra_n1lt (And.intro vg (nm_e (hp _ (sh_fin I hκ hA hq hD))))
    · have e' : (nI g').toNatClampNeg = g' := nI_clamp (by omega)
      have vg' : vp_in (nI g') 8 := vp_in_nI hg' (by omega)
      obtain ⟨eH', I'⟩ := sh_stp I hg' hκ' hN hr eH hq hD
      rw [eb, e', eH']
      exact br_f (nI_pos (by omega)) (And.intro vg (And.intro vg' (And.intro vg (nm_e (And.intro vg (nm_e (nm_r (nI_1 i) (ih (i + 1) g' _ (by omega) I'))))))))
theorem sh_shift (hκ : key < 6) (hA : ∀ κ, A κ → κ ≠ key) (hs : ∀ x, x < 8 → N x → sh_st ho bb key Q W D N r x) (hM : sh_M ho 8 Q A) (hf : fre < 8) (hN : N fre) (e : ho fre = -1) {post : SX → Prop} (hp : ∀ H', sh_E ho Q A W N fre key (sh_w ho 8 W + D fre) H' → post (fr, us, ko, go, vo, ro, gs, be, H', re, bb, se, li, od, iw, so)) : wpX_shift post (fr, us, ko, go, vo, ro, gs, be, ho, re, bb, se, li, od, iw, so) (nI fre) (nI key) :=
  Exists.intro 9 (sh_5 hκ hA hs hp 8 0 fre ho (by omega) (sh_start hM hf hN (hs fre hf hN).1 e))
end SH
end
section
/-! place: breadth-first; matching -/
abbrev ma_E (gs : Nat → Int32) (m : Int32) (k g : Nat) : Prop := bt (gs k &&& m) g = true
def ma_I (E : Nat → Nat → Prop) (k n : Nat) (H : Nat → Int32) (S : Nat → Prop) : Prop :=
  sh_M H 8 E (fun κ => κ < k) ∧ sh_w H 8 (fun _ _ => 1) = (n : Int) ∧ (∀ x, x < 8 → S x → ∃ κ, κ < 6 ∧ H x = nI κ ∧ ∀ h, h < 8 → E κ h → S h) ∧ (∀ κ, κ < k → (∀ x, x < 8 → ¬ H x = nI κ) → ∀ h, h < 8 → E κ h → S h)
def ma_B (E : Nat → Nat → Prop) (k : Nat) (H : Nat → Int32) (i en : Nat) (se bb li : Nat → Int32) : Prop := ∃ r : Nat → Nat,
  (∀ x, x < 8 → ¬ se x = 0 → r x < en ∧ li (r x) = nI x ∧ ((bb x = -1 ∧ E k x) ∨ ∃ g κ, g < 8 ∧ κ < 6 ∧ bb x = nI g ∧ ¬ se g = 0 ∧ r g < r x ∧ H g = nI κ ∧ E κ x)) ∧
  (∀ j, j < en → ∃ x, x < 8 ∧ li j = nI x ∧ ¬ se x = 0) ∧
  (∀ x, x < 8 → E k x → ¬ se x = 0) ∧
  (∀ x, x < 8 → ¬ se x = 0 → r x < i → ∃ κ, κ < 6 ∧ H x = nI κ ∧ ∀ h, h < 8 → E κ h → ¬ se h = 0) ∧
  en = sm_n (fun x => ¬ se x = 0) 8
theorem ma_B8 {E : Nat → Nat → Prop} {k i en : Nat} {H se bb li : Nat → Int32} (h : ma_B E k H i en se bb li) : en ≤ 8 := by
  obtain ⟨r, b1, b2, b3, b4, b5⟩ := h
  rw [b5]; exact sm_n_bd _ 8
theorem ma_Bs {E : Nat → Nat → Prop} {k i en x κ h : Nat} {H se bb li : Nat → Int32} (B : ma_B E k H i en se bb li) (hx : x < 8) (hs : ¬ se x = 0) (hκ : κ < 6) (eH : H x = nI κ) (hh : h < 8) (h0 : se h = 0) (hE : E κ h) (hi : i < en) :
    en < 8 ∧ ma_B E k H i (en + 1) (upd se h 1) (upd bb h (nI x)) (upd li en (nI h)) := by
  obtain ⟨r, b1, b2, b3, b4, b5⟩ := B
  have hcnt : sm_n (fun y => ¬ upd se h 1 y = 0) 8 = sm_n (fun y => ¬ se y = 0) 8 + 1 := by
    refine sm_n_up (x := h) (fun z => z h0) ?_ 8 hh (fun y _ hne => ?_)
    · show ¬ upd se h 1 h = 0
      rw [pk_us]; exact ra_10
    · show ¬ se y = 0 ↔ ¬ upd se h 1 y = 0
      rw [pk_un hne]
  have hb := sm_n_bd (fun y => ¬ upd se h 1 y = 0) 8
  have hmono : ∀ y, ¬ se y = 0 → ¬ upd se h 1 y = 0 := by
    intro y hy
    by_cases z : y = h
    · rw [z, pk_us]; exact ra_10
    · rw [pk_un z]; exact hy
  have hxh : x ≠ h := fun z => hs (by rw [z]; exact h0)
  obtain ⟨r', ra, rb⟩ : ∃ r' : Nat → Nat, r' h = en ∧ ∀ y, y ≠ h → r' y = r y := ⟨fun y => if y = h then en else r y, if_pos rfl, fun y hy => if_neg hy⟩
  refine ⟨by omega, r', fun y hy hsy => ?_, fun j hj => ?_, fun y hy hEy => hmono y (b3 y hy hEy), fun y hy hsy hry => ?_, by omega⟩
  · by_cases z : y = h
    · have rx := (b1 x hx hs).1
      refine ⟨by rw [z, ra]; omega, by rw [z, ra, pk_us], Or.inr ⟨x, κ, hx, hκ, by rw [z, pk_us], hmono x hs, ?_, eH, by rw [z]; exact hE⟩⟩
      rw [z, ra, rb x hxh]; exact rx
    · have hsy' : ¬ se y = 0 := by rw [pk_un z] at hsy; exact hsy
      obtain ⟨c1, c2, c3⟩ := b1 y hy hsy'
      refine ⟨by rw [rb y z]; omega, by rw [rb y z, pk_un (by omega)]; exact c2, ?_⟩
      rw [pk_un z, rb y z]
      rcases c3 with c3 | ⟨g, κ', d1, d2, d3, d4, d5, d6, d7⟩
      · exact Or.inl c3
      · have hgh : g ≠ h := fun z => d4 (by rw [z]; exact h0)
        exact Or.inr ⟨g, κ', d1, d2, d3, hmono g d4, by rw [rb g hgh]; exact d5, d6, d7⟩
  · by_cases z : j = en
    · exact ⟨h, hh, by rw [z, pk_us], by rw [pk_us]; exact ra_10⟩
    · obtain ⟨y, hy, e1, e2⟩ := b2 j (by omega)
      exact ⟨y, hy, by rw [pk_un z]; exact e1, hmono y e2⟩
  · by_cases z : y = h
    · rw [z, ra] at hry; omega
    · rw [rb y z] at hry
      rw [pk_un z] at hsy
      obtain ⟨κ', d1, d2, d3⟩ := b4 y hy hsy hry
      exact ⟨κ', d1, d2, fun h' hh' hE' => hmono h' (d3 h' hh' hE')⟩
theorem ma_Bn {E : Nat → Nat → Prop} {k i en x κ : Nat} {H se bb li : Nat → Int32} (B : ma_B E k H i en se bb li) (hx : x < 8) (hli : li i = nI x) (hκ : κ < 6) (eH : H x = nI κ) (hall : ∀ h, h < 8 → E κ h → ¬ se h = 0) : ma_B E k H (i + 1) en se bb li := by
  obtain ⟨r, b1, b2, b3, b4, b5⟩ := B
  refine ⟨r, b1, b2, b3, fun y hy hsy hry => ?_, b5⟩
  by_cases z : r y = i
  · have h1 := (b1 y hy hsy).2.1
    rw [z, hli] at h1
    have h2 : x = y := ra_im h1 (by omega) (by omega)
    rw [← h2]
    exact ⟨κ, hκ, eH, hall⟩
  · exact b4 y hy hsy (by omega)
/-- the search fails: the groups seen join the certificate -/
theorem ma_fail {E : Nat → Nat → Prop} {k n i en : Nat} {H se bb li : Nat → Int32} {S : Nat → Prop} (I : ma_I E k n H S) (B : ma_B E k H i en se bb li) (h : en ≤ i) : ma_I E (k + 1) n H (fun x => S x ∨ ¬ se x = 0) := by
  obtain ⟨i1, i2, i3, i4⟩ := I
  obtain ⟨r, b1, b2, b3, b4, b5⟩ := B
  refine ⟨⟨fun x hx hxo => ?_, i1.2⟩, i2, fun x hx hS => ?_, fun κ hκ hno h hh hE => ?_⟩
  · rcases i1.1 x hx hxo with c | ⟨κ, c1, c2, c3, c4⟩
    · exact Or.inl c
    · exact Or.inr ⟨κ, c1, c2, by omega, c4⟩
  · by_cases hs : S x
    · obtain ⟨κ, c1, c2, c3⟩ := i3 x hx hs
      exact ⟨κ, c1, c2, fun h hh hE => Or.inl (c3 h hh hE)⟩
    · rcases hS with hS | hS
      · exact absurd hS hs
      · have h1 := (b1 x hx hS).1
        obtain ⟨κ, c1, c2, c3⟩ := b4 x hx hS (by omega)
        exact ⟨κ, c1, c2, fun h hh hE => Or.inr (c3 h hh hE)⟩
  · by_cases z : κ = k
    · rw [z] at hE; exact Or.inr (b3 h hh hE)
    · exact Or.inl (i4 κ (by omega) hno h hh hE)
theorem ma_succ {E : Nat → Nat → Prop} {k n : Nat} {H H' : Nat → Int32} {S N : Nat → Prop} {fre : Nat} {T : Int} (hk : k < 6) (I : ma_I E k n H S) (hN : ∀ x, S x → ¬ N x) (R : sh_E H E (fun κ => κ < k) (fun _ _ => 1) N fre k T H') (hT : T = (n : Int) + 1) : ma_I E (k + 1) (n + 1) H' S := by
  obtain ⟨i1, i2, i3, i4⟩ := I
  obtain ⟨r1, r2, r3, r4, r5, r6⟩ := R
  refine ⟨⟨fun x hx hxo => ?_, r1.2⟩, by omega, fun x hx hS => ?_, fun κ hκ hno h hh hE => ?_⟩
  · rcases r1.1 x hx hxo with c | ⟨κ, c1, c2, c3, c4⟩
    · exact Or.inl c
    · exact Or.inr ⟨κ, c1, c2, by omega, c4⟩
  · rw [r5 x hx (hN x hS)]
    exact i3 x hx hS
  · by_cases z : κ = k
    · obtain ⟨x, hx, ex⟩ := r4
      exact absurd (by rw [z]; exact ex) (hno x hx)
    · refine i4 κ (by omega) (fun x hx ex => ?_) h hh hE
      obtain ⟨y, hy, ey⟩ := r3 κ (by omega) ⟨x, hx, ex⟩
      exact hno y hy ey
section PL
variable {fr : Int32} {us ko go vo ro gs be ho re bb se li od iw so : Nat → Int32} {m : Int32} {k n : Nat} {S : Nat → Prop}
theorem ma_139 {x κ i : Nat} (hx : x < 8) (hκ : κ < 6) (eH : ho x = nI κ) {post : Int32 → SX → Prop} {J : Int32 → Int32 → (Nat → Int32) → (Nat → Int32) → (Nat → Int32) → (Nat → Int32) → (Nat → Int32) → (Nat → Int32) → (Nat → Int32) → (Nat → Int32) → (Nat → Int32) → (Nat → Int32) → (Nat → Int32) → (Nat → Int32) → (Nat → Int32) → (Nat → Int32) → (Nat → Int32) → Prop} {x1 x2 : Int32}
    (hJ : ∀ (en : Nat) (se bb li : Nat → Int32), ma_B (ma_E gs m) k ho (i + 1) en se bb li → J (nI en) (nI (i + 1)) us ko go vo ro gs be ho re bb se li od iw so) :
    ∀ (d j en : Nat) (se bb li : Nat → Int32), j + d = 8 → ma_B (ma_E gs m) k ho i en se bb li → ¬ se x = 0 → li i = nI x → i < en → (∀ h, h < j → ma_E gs m κ h → ¬ se h = 0) → wX_place_139 post J x1 x2 (nI i) (nI x) (gs κ &&& m) fr (d + 1) (nI en) (nI j) us ko go vo ro gs be ho re bb se li od iw so := by
  intro d
  induction d with
  | zero =>
    intro j en se bb li hj B hs hli hi hall
    exact pk_le 8 j (fun _ => nm_r (nI_1 i) (hJ en se bb li (ma_Bn B hx hli hκ eH (fun h hh => hall h (by omega))))) (fun h => absurd h (by omega))
  | succ d ih =>
    intro j en se bb li hj B hs hli hi hall
    have ej : (nI j).toNatClampNeg = j := nI_clamp (by omega)
    have vj : vp_in (nI j) 8 := vp_in_nI (by omega) (by omega)
    have hen := ma_B8 B
    have een : (nI en).toNatClampNeg = en := nI_clamp (by omega)
    refine pk_le 8 j (fun h => absurd h (by omega)) (fun _ => ?_)
    by_cases hE : ma_E gs m κ j
    · refine br_t ((ra_bit1 (by omega)).mpr hE) (And.intro vj ?_)
      rw [ej]
      by_cases h0 : se j = 0
      · obtain ⟨hlt, B'⟩ := ma_Bs B hx hs hκ eH (h := j) (by omega) h0 hE hi
        refine br_t h0 (And.intro vj (nm_r (e' := upd se j 1) (by rw [ra_vb1]) (And.intro vj (nm_e (And.intro (vp_in_nI hlt (by omega)) ?_)))))
        rw [een]
        refine nm_e (nm_r (nI_1 en) (nm_r (nI_1 j) (ih (j + 1) (en + 1) _ _ _ (by omega) B' ?_ ?_ (by omega) (fun h hh hEh => ?_))))
        · by_cases z : x = j
          · rw [z, pk_us]; exact ra_10
          · rw [pk_un z]; exact hs
        · rw [pk_un (by omega)]; exact hli
        · by_cases z : h = j
          · rw [z, pk_us]; exact ra_10
          · rw [pk_un z]; exact hall h (by omega) hEh
      · refine br_f h0 (nm_r (nI_1 j) (ih (j + 1) en _ _ _ (by omega) B hs hli hi (fun h hh hEh => ?_)))
        by_cases z : h = j
        · rw [z]; exact h0
        · exact hall h (by omega) hEh
    · refine br_f (fun z => hE ((ra_bit1 (by omega)).mp z)) (nm_r (nI_1 j) (ih (j + 1) en _ _ _ (by omega) B hs hli hi (fun h hh hEh => ?_)))
      by_cases z : h = j
      · rw [z] at hEh; exact absurd hEh hE
      · exact hall h (by omega) hEh
theorem ma_79 (hk : k < 6) (I : ma_I (ma_E gs m) k n ho S) {post : Int32 → SX → Prop}
    (hp0 : ∀ (se bb li : Nat → Int32) (S' : Nat → Prop), ma_I (ma_E gs m) (k + 1) n ho S' → post 0 (fr, us, ko, go, vo, ro, gs, be, ho, re, bb, se, li, od, iw, so))
    (hp1 : ∀ (ho se bb li : Nat → Int32), ma_I (ma_E gs m) (k + 1) (n + 1) ho S → post 1 (fr, us, ko, go, vo, ro, gs, be, ho, re, bb, se, li, od, iw, so)) :
    ∀ (d i en : Nat) (se bb li : Nat → Int32), i + d = 8 → ma_B (ma_E gs m) k ho i en se bb li → wX_place_79 post (nI k) m fr (d + 1) (nI en) (nI i) us ko go vo ro gs be ho re bb se li od iw so := by
  intro d
  induction d with
  | zero =>
    intro i en se bb li hi B
    have hen := ma_B8 B
    exact pk_le en i (fun h => hp0 se bb li _ (ma_fail I B h)) (fun h => absurd h (by omega))
  | succ d ih =>
    intro i en se bb li hi B
    have hen := ma_B8 B
    have ei : (nI i).toNatClampNeg = i := nI_clamp (by omega)
    refine pk_le en i (fun h => hp0 se bb li _ (ma_fail I B h)) (fun h => pk_le 8 i (fun h8 => absurd h8 (by omega)) (fun _ => And.intro (vp_in_nI (by omega) (by omega)) ?_))
    rw [ei]
    obtain ⟨x, hx, hli, hs⟩ : ∃ x, x < 8 ∧ li i = nI x ∧ ¬ se x = 0 := by
      obtain ⟨r, b1, b2, b3, b4, b5⟩ := B
      exact b2 i h
    have ex : (nI x).toNatClampNeg = x := nI_clamp (by omega)
    have vx : vp_in (nI x) 8 := vp_in_nI hx (by omega)
    refine nm_r hli (And.intro vx ?_)
    rw [ex]
    rcases I.1.1 x hx (by omega) with hH | ⟨κ, hκ, hH, hκk, hE⟩
    · rw [hH]
      refine br_f ra_n1le ?_
      have hSx : ¬ S x := by
        intro z
        obtain ⟨κ, c1, c2, _⟩ := I.2.2.1 x hx z
        rw [hH] at c2
        exact ra_ne1 (by omega) c2.symm
      obtain ⟨r, b1, b2, b3, b4, b5⟩ := B
      refine sh_shift (Q := ma_E gs m) (A := fun κ => κ < k) (W := fun _ _ => 1) (D := fun _ => 1) (N := fun y => ¬ se y = 0 ∧ ¬ S y) (r := r) hk (fun κ hκ => by omega) (fun y hy hN => ?_) I.1 hx ⟨hs, hSx⟩ hH (fun H' R => ?_)
      · obtain ⟨c1, c2, c3⟩ := b1 y hy hN.1
        refine ⟨by omega, ?_⟩
        rcases c3 with c3 | ⟨g, κ', d1, d2, d3, d4, d5, d6, d7⟩
        · exact Or.inl ⟨c3.1, c3.2, rfl⟩
        · refine Or.inr ⟨g, κ', d1, d2, d3, ⟨d4, fun z => ?_⟩, d5, d6, d7, rfl⟩
          obtain ⟨κ2, f1, f2, f3⟩ := I.2.2.1 g d1 z
          have : κ' = κ2 := sh_nI d2 f1 (d6.symm.trans f2)
          rw [this] at d7
          exact hN.2 (f3 y hy d7)
      · exact hp1 H' se bb li (ma_succ hk I (fun y hS hN => hN.2 hS) R (by rw [I.2.1]))
    · have eκ : (nI κ).toNatClampNeg = κ := nI_clamp (by omega)
      rw [hH, eκ]
      refine br_t (nI_pos' (by omega)) (And.intro vx (And.intro (vp_in_nI hκ (by omega)) (nm_e (Exists.intro 9 ?_))))
      exact ma_139 hx hκ hH (J := wX_place_79 post (nI k) m fr (d + 1)) (fun en se bb li B' => ih (i + 1) en se bb li (by omega) B') 8 0 en se bb li (by omega) B hs hli h (fun h hh => absurd hh (by omega))
def ma_P (E : Nat → Prop) (j : Nat) (se bb li : Nat → Int32) : Prop :=
  (∀ x, x < j → (se x = 0 ↔ ¬ E x) ∧ bb x = -1 ∧ (E x → li (sm_n E x) = nI x)) ∧ (∀ j', j' < sm_n E j → ∃ x, x < j ∧ li j' = nI x ∧ E x)
theorem ma_PB {E : Nat → Nat → Prop} {H se bb li : Nat → Int32} (h : ma_P (E k) 8 se bb li) : ma_B E k H 0 (sm_n (E k) 8) se bb li := by
  obtain ⟨h1, h2⟩ := h
  have hE : ∀ x, x < 8 → ¬ se x = 0 → E k x := by
    intro x hx hs
    by_cases z : E k x
    · exact z
    · exact absurd ((h1 x hx).1.mpr z) hs
  have hE' : ∀ x, x < 8 → E k x → ¬ se x = 0 := fun x hx hx' z => ((h1 x hx).1.mp z) hx'
  refine ⟨fun x => sm_n (E k) x, fun x hx hs => ?_, fun j hj => ?_, hE', fun x _ _ hr => absurd hr (by omega), ?_⟩
  · have e1 := hE x hx hs
    refine ⟨?_, (h1 x hx).2.2 e1, Or.inl ⟨(h1 x hx).2.1, e1⟩⟩
    have e2 := sm_n_t (P := E k) e1
    have e3 := sm_n_mono (E k) (a := x + 1) (b := 8) (by omega)
    show sm_n (E k) x < sm_n (E k) 8
    omega
  · obtain ⟨x, hx, e1, e2⟩ := h2 j hj
    exact ⟨x, hx, e1, hE' x hx e2⟩
  · exact sm_n_c 8 (fun x hx => ⟨hE' x hx, hE x hx⟩)
theorem ma_Ps {E : Nat → Prop} {j : Nat} {se bb li : Nat → Int32} (h : ma_P E j se bb li) (hE : E j) : ma_P E (j + 1) (upd se j 1) (upd bb j (-1)) (upd li (sm_n E j) (nI j)) := by
  obtain ⟨h1, h2⟩ := h
  refine ⟨fun x hx => ?_, fun j' hj' => ?_⟩
  · by_cases z : x = j
    · rw [z, pk_us, pk_us]
      exact ⟨⟨fun q => absurd q ra_10, fun q => absurd hE q⟩, rfl, fun _ => pk_us⟩
    · rw [pk_un z, pk_un z]
      refine ⟨(h1 x (by omega)).1, (h1 x (by omega)).2.1, fun hx' => ?_⟩
      have e2 := sm_n_t (P := E) hx'
      have e3 := sm_n_mono E (a := x + 1) (b := j) (by omega)
      rw [pk_un (by omega)]
      exact (h1 x (by omega)).2.2 hx'
  · rw [sm_n_t hE] at hj'
    by_cases z : j' = sm_n E j
    · exact ⟨j, by omega, by rw [z, pk_us], hE⟩
    · obtain ⟨x, hx, e1, e2⟩ := h2 j' (by omega)
      exact ⟨x, by omega, by rw [pk_un z]; exact e1, e2⟩
theorem ma_Pn {E : Nat → Prop} {j : Nat} {se bb li : Nat → Int32} (h : ma_P E j se bb li) (hE : ¬ E j) : ma_P E (j + 1) (upd se j 0) (upd bb j (-1)) li := by
  obtain ⟨h1, h2⟩ := h
  refine ⟨fun x hx => ?_, fun j' hj' => ?_⟩
  · by_cases z : x = j
    · rw [z, pk_us, pk_us]
      exact ⟨⟨fun _ => hE, fun _ => rfl⟩, rfl, fun q => absurd q hE⟩
    · rw [pk_un z, pk_un z]
      exact h1 x (by omega)
  · rw [sm_n_f hE] at hj'
    obtain ⟨x, hx, e1, e2⟩ := h2 j' hj'
    exact ⟨x, by omega, e1, e2⟩
theorem ma_5 (hk : k < 6) {post : Int32 → SX → Prop} (hB : ∀ (en : Nat) (se bb li : Nat → Int32), ma_B (ma_E gs m) k ho 0 en se bb li → ∃ n79, wX_place_79 post (nI k) m fr n79 (nI en) 0 us ko go vo ro gs be ho re bb se li od iw so) :
    ∀ (d j : Nat) (se bb li : Nat → Int32), j + d = 8 → ma_P (ma_E gs m k) j se bb li → wX_place_5 post (nI k) m fr (d + 1) (nI (sm_n (ma_E gs m k) j)) (nI j) us ko go vo ro gs be ho re bb se li od iw so := by
  have ek : (nI k).toNatClampNeg = k := nI_clamp (by omega)
  intro d
  induction d with
  | zero =>
    intro j se bb li hj h
    have e : j = 8 := by omega
    subst e
    exact pk_le 8 8 (fun _ => hB _ se bb li (ma_PB h)) (fun h => absurd h (by omega))
  | succ d ih =>
    intro j se bb li hj h
    have ej : (nI j).toNatClampNeg = j := nI_clamp (by omega)
    have vj : vp_in (nI j) 8 := vp_in_nI (by omega) (by omega)
    have hn := sm_n_bd (ma_E gs m k) j
    have en : (nI (sm_n (ma_E gs m k) j)).toNatClampNeg = sm_n (ma_E gs m k) j := nI_clamp (by omega)
    refine pk_le 8 j (fun h => absurd h (by omega)) (fun _ => And.intro (vp_in_nI hk (by omega)) ?_)
    rw [ek]
    by_cases hE : ma_E gs m k j
    · refine br_t ((ra_bit1 (by omega)).mpr hE) (And.intro vj ?_)
      rw [ej]
      refine nm_r (e' := upd se j 1) (by rw [ra_vb1]) (And.intro vj (nm_e (And.intro vj ?_)))
      rw [pk_us]
      refine br_f ra_10 (And.intro (vp_in_nI (by omega) (by omega)) ?_)
      rw [en]
      refine nm_e (nm_r (nI_1 _) (nm_r (nI_1 j) ?_))
      have h2 := ih (j + 1) _ _ _ (by omega) (ma_Ps h hE)
      rw [sm_n_t hE] at h2
      exact h2
    · refine br_f (fun z => hE ((ra_bit1 (by omega)).mp z)) (And.intro vj ?_)
      rw [ej]
      refine nm_r (e' := upd se j 0) (by rw [ra_vb0]) (And.intro vj (nm_e (And.intro vj ?_)))
      rw [pk_us]
      refine br_t rfl (nm_r (nI_1 j) ?_)
      have h2 := ih (j + 1) _ _ _ (by omega) (ma_Pn h hE)
      rw [sm_n_f hE] at h2
      exact h2
theorem ma_place (hk : k < 6) (I : ma_I (ma_E gs m) k n ho S) {post : Int32 → SX → Prop}
    (hp0 : ∀ (se bb li : Nat → Int32) (S' : Nat → Prop), ma_I (ma_E gs m) (k + 1) n ho S' → post 0 (fr, us, ko, go, vo, ro, gs, be, ho, re, bb, se, li, od, iw, so))
    (hp1 : ∀ (ho se bb li : Nat → Int32), ma_I (ma_E gs m) (k + 1) (n + 1) ho S → post 1 (fr, us, ko, go, vo, ro, gs, be, ho, re, bb, se, li, od, iw, so)) : wpX_place post (fr, us, ko, go, vo, ro, gs, be, ho, re, bb, se, li, od, iw, so) (nI k) m :=
  Exists.intro 9 (ma_5 hk (fun en se bb li B => Exists.intro 9 (ma_79 hk I hp0 hp1 8 0 en se bb li (by omega) B)) 8 0 se bb li (by omega) ⟨fun x hx => absurd hx (by omega), fun x hx => absurd hx (by show ¬ x < 0; omega)⟩)
end PL
section MA
variable {fr : Int32} {us ko go vo ro gs be ho re bb se li od iw so : Nat → Int32} {m : Int32}
theorem ma_25 {post : Int32 → SX → Prop} (hp : ∀ (n : Nat) (ho se bb li : Nat → Int32) (S : Nat → Prop), ma_I (ma_E gs m) 6 n ho S → post (nI n) (fr, us, ko, go, vo, ro, gs, be, ho, re, bb, se, li, od, iw, so)) :
    ∀ (d k n : Nat) (ho se bb li : Nat → Int32) (S : Nat → Prop), k + d = 6 → ma_I (ma_E gs m) k n ho S → wX_matching_25 post m (d + 1) (nI n) (nI k) fr us ko go vo ro gs be ho re bb se li od iw so := by
  intro d
  induction d with
  | zero =>
    intro k n ho se bb li S hk I
    have e : k = 6 := by omega
    subst e
    exact pk_le 6 6 (fun _ => hp n ho se bb li S I) (fun h => absurd h (by omega))
  | succ d ih =>
    intro k n ho se bb li S hk I
    refine pk_le 6 k (fun h => absurd h (by omega)) (fun _ => ?_)
    refine ma_place (by omega) I (fun se bb li S' I' => ?_) (fun ho se bb li I' => ?_)
    · exact br_t rfl (nm_r (nI_1 k) (ih (k + 1) n ho se bb li S' (by omega) I'))
    · exact br_f ra_10 (nm_r (nI_1 n) (nm_r (nI_1 k) (ih (k + 1) (n + 1) ho se bb li S (by omega) I')))
theorem ma_4 {post : Int32 → SX → Prop} (hp : ∀ (n : Nat) (ho se bb li : Nat → Int32) (S : Nat → Prop), ma_I (ma_E gs m) 6 n ho S → post (nI n) (fr, us, ko, go, vo, ro, gs, be, ho, re, bb, se, li, od, iw, so)) :
    ∀ (d j : Nat) (ho : Nat → Int32), j + d = 8 → (∀ x, x < j → ho x = -1) → wX_matching_4 post m 0 fr (d + 1) (nI j) us ko go vo ro gs be ho re bb se li od iw so := by
  intro d
  induction d with
  | zero =>
    intro j ho hj h
    refine pk_le 8 j (fun _ => Exists.intro 7 (ma_25 hp 6 0 0 ho se bb li (fun _ => False) (by omega) ?_)) (fun h => absurd h (by omega))
    refine ⟨⟨fun x hx _ => Or.inl (h x (by omega)), fun x y κ hx hy _ _ hκ ex => ?_⟩, ?_, fun x hx z => z.elim, fun κ hκ => absurd hκ (by omega)⟩
    · rw [h x (by omega)] at ex
      exact absurd ex.symm (ra_ne1 (by omega))
    · exact sm_s_z 8 (fun x hx => sm_if (fun z => z.2 (h x (by omega))))
  | succ d ih =>
    intro j ho hj h
    have ej : (nI j).toNatClampNeg = j := nI_clamp (by omega)
    refine pk_le 8 j (fun h => absurd h (by omega)) (fun _ => And.intro (vp_in_nI (by omega) (by omega)) ?_)
    rw [ej]
    refine nm_e (nm_r (nI_1 j) (ih (j + 1) _ (by omega) (fun x hx => ?_)))
    by_cases z : x = j
    · rw [z, pk_us]
    · rw [pk_un z]; exact h x (by omega)
theorem ma_matching {post : Int32 → SX → Prop} (hp : ∀ (n : Nat) (ho se bb li : Nat → Int32) (S : Nat → Prop), ma_I (ma_E gs m) 6 n ho S → post (nI n) (fr, us, ko, go, vo, ro, gs, be, ho, re, bb, se, li, od, iw, so)) : wpX_matching post (fr, us, ko, go, vo, ro, gs, be, ho, re, bb, se, li, od, iw, so) m :=
  Exists.intro 9 (ma_4 hp 8 0 ho (by omega) (fun x hx => absurd hx (by omega)))
end MA
end
section
/-! groupsMost and exactly -/
section MG
variable {fr : Int32} {us ko go vo ro gs be ho re bb se li od iw so : Nat → Int32} {m : Int32}
theorem mg_adj (hS : xs_S us ko go vo 14 ro gs be) {k g : Nat} (hk : k < 6) (hg : g < 8) : ma_E gs m k g ↔ (∃ i, tb_R (tv_U us) (tv_N ko) k i ∧ tv_N go i = g) ∧ bt m g = true := by
  unfold ma_E
  rw [b_and, Bool.and_eq_true, cs_bit hS hk (by omega)]
/-- the number of held groups -/
theorem mg_n {n : Nat} {H : Nat → Int32} (h : sh_w H 8 (fun _ _ => 1) = (n : Int)) : sm_n (fun x => ¬ H x = -1) 8 = n := by
  have h1 := sm_ns (fun x => ¬ H x = -1) 8
  have h2 : sh_w H 8 (fun _ _ => 1) = sm_s (fun x => sm_i (¬ H x = -1) 1) 8 :=
    sm_s_c 8 (fun x hx => sm_ic ⟨fun a => a.2, fun a => ⟨by omega, a⟩⟩ (fun _ => rfl))
  omega
/-- no choice of groups for keys has more than n different ones -/
theorem mg_ub {E : Nat → Nat → Prop} {n : Nat} {H : Nat → Int32} {S I : Nat → Prop} (M : ma_I E 6 n H S) (γ : Nat → Nat) (h : ∀ g, g < 8 → I g → ∃ κ, κ < 6 ∧ γ κ = g ∧ E κ g) : sm_n I 8 ≤ n := by
  obtain ⟨m1, m2, m3, m4⟩ := M
  rw [← mg_n m2]
  refine sm_inj (R := fun g c => g < 8 ∧ c < 8 ∧ ((S g ∧ c = g) ∨ (¬ S g ∧ ¬ S c ∧ ∃ κ, κ < 6 ∧ γ κ = g ∧ H c = nI κ))) (fun a b c ha hb => ?_) 8 I _ 8 (fun g hg hI => ?_)
  · obtain ⟨_, _, ha⟩ := ha
    obtain ⟨_, _, hb⟩ := hb
    rcases ha with ⟨a1, a2⟩ | ⟨a1, a2, κ, a3, a4, a5⟩
    · rcases hb with ⟨b1, b2⟩ | ⟨b1, b2, _⟩
      · omega
      · rw [a2] at b2; exact absurd a1 b2
    · rcases hb with ⟨b1, b2⟩ | ⟨b1, b2, κ', b3, b4, b5⟩
      · rw [b2] at a2; exact absurd b1 a2
      · have : κ = κ' := sh_nI a3 b3 (a5.symm.trans b5)
        rw [← a4, ← b4, this]
  · by_cases hs : S g
    · obtain ⟨κ, c1, c2, _⟩ := m3 g hg hs
      exact ⟨g, hg, by rw [c2]; exact ra_ne1 (by omega), hg, hg, Or.inl ⟨hs, rfl⟩⟩
    · obtain ⟨κ, hκ, eg, hE⟩ := h g hg hI
      by_cases hx : ∃ x, x < 8 ∧ H x = nI κ
      · obtain ⟨x, hx, ex⟩ := hx
        refine ⟨x, hx, by rw [ex]; exact ra_ne1 (by omega), hg, hx, Or.inr ⟨hs, fun z => ?_, κ, hκ, eg, ex⟩⟩
        obtain ⟨κ', c1, c2, c3⟩ := m3 x hx z
        have : κ = κ' := sh_nI hκ c1 (ex.symm.trans c2)
        rw [this] at hE
        exact hs (c3 g hg hE)
      · exact absurd (m4 κ hκ (fun x hx' ex => hx ⟨x, hx', ex⟩) g hg hE) hs
/-- a repair that takes the groups held -/
theorem mg_rep (hS : xs_S us ko go vo 14 ro gs be) {n : Nat} {H : Nat → Int32} {S : Nat → Prop} (M : ma_I (ma_E gs m) 6 n H S) (P : Nat → Prop) (hP : ∀ k, k < 6 → tb_iu (tv_U us) (tv_N ko) k → ∃ i, tb_R (tv_U us) (tv_N ko) k i ∧ P (tv_N go i)) (hP2 : ∀ g, g < 8 → bt m g = true → P g) :
    ∃ ρ, tb_rep (tv_U us) (tv_N ko) ρ ∧ (∀ k, k < 6 → tb_iu (tv_U us) (tv_N ko) k → P (tv_N go (ρ k))) ∧ ∀ x, x < 8 → ¬ H x = -1 → ms_im (tv_U us) (tv_N ko) (tv_N go) ρ x ∧ bt m x = true := by
  obtain ⟨m1, m2, m3, m4⟩ := M
  obtain ⟨ρ, hr, hq⟩ := tb_exP (U := tv_U us) (K := tv_N ko) (P := fun k i => P (tv_N go i) ∧ ∀ x, x < 8 → H x = nI k → tv_N go i = x) (fun k hk hu => by
    by_cases hx : ∃ x, x < 8 ∧ H x = nI k
    · obtain ⟨x, hx, ex⟩ := hx
      have hE := (sh_at m1 hx (by omega) hk ex).2
      obtain ⟨⟨i, hi, e⟩, hb⟩ := (mg_adj hS hk hx).mp hE
      refine ⟨i, hi, by rw [e]; exact hP2 x hx hb, fun y hy ey => ?_⟩
      rw [e]
      exact m1.2 x y k hx hy (by omega) (by omega) hk ex ey
    · obtain ⟨i, hi, hp⟩ := hP k hk hu
      exact ⟨i, hi, hp, fun x hx' ex => absurd ⟨x, hx', ex⟩ hx⟩)
  refine ⟨ρ, hr, fun k hk hu => (hq k hk hu).1, fun x hx hne => ?_⟩
  rcases m1.1 x hx (by omega) with c | ⟨κ, c1, c2, c3, c4⟩
  · exact absurd c hne
  · obtain ⟨⟨i, hi, e⟩, hb⟩ := (mg_adj hS c1 hx).mp c4
    exact ⟨⟨κ, c1, ⟨i, hi⟩, (hq κ c1 ⟨i, hi⟩).2 x hx c2⟩, hb⟩
theorem mg_most (hv : tv_ok ko go vo) (hS : xs_S us ko go vo 14 ro gs be) {n : Nat} {H : Nat → Int32} {S : Nat → Prop} (M : ma_I (ma_E gs 255) 6 n H S) : tb_most (tv_U us) (tv_N ko) (ms_dif (tv_U us) (tv_N ko) (tv_N go)) (n : Int) := by
  have hub : ∀ ρ, tb_rep (tv_U us) (tv_N ko) ρ → sm_n (ms_im (tv_U us) (tv_N ko) (tv_N go) ρ) 8 ≤ n := by
    intro ρ hr
    refine mg_ub M (fun κ => tv_N go (ρ κ)) (fun g hg ⟨k, hk, hu, e⟩ => ⟨k, hk, e, (mg_adj hS hk hg).mpr ⟨⟨ρ k, hr k hk hu, e⟩, ?_⟩⟩)
    rw [b_255, decide_eq_true hg]
  have hn : n ≤ 8 := by
    rw [← mg_n M.2.1]; exact sm_n_bd _ 8
  constructor
  · obtain ⟨ρ, hr, _, h2⟩ := mg_rep hS M (fun _ => True) (fun k hk ⟨i, hi⟩ => ⟨i, hi, trivial⟩) (fun _ _ _ => trivial)
    refine ⟨ρ, hr, ?_⟩
    have h3 : n ≤ sm_n (ms_im (tv_U us) (tv_N ko) (tv_N go) ρ) 8 := by
      rw [← mg_n M.2.1]
      exact sm_n_le 8 (fun x hx hne => (h2 x hx hne).1)
    have h4 := hub ρ hr
    show (n : Int) = (sm_n (ms_im (tv_U us) (tv_N ko) (tv_N go) ρ) 8 : Int)
    omega
  · intro ρ v hr hv'
    have h4 := hub ρ hr
    right
    rw [show v = (sm_n (ms_im (tv_U us) (tv_N ko) (tv_N go) ρ) 8 : Int) from hv']
    exact ⟨by omega, by omega⟩
/-- exactly, X's way: both ways -/
theorem mg_ex1 (hv : tv_ok ko go vo) (hS : xs_S us ko go vo 14 ro gs be) {n : Nat} {H : Nat → Int32} {S : Nat → Prop} (hm : m &&& 255 = m) (M : ma_I (ma_E gs m) 6 n H S) (hc : gl_cov us ko go m) (e : n = sm_n (fun g => bt m g = true) 8) : ∃ ρ, tb_rep (tv_U us) (tv_N ko) ρ ∧ yw_MB us ko go ρ 6 m := by
  obtain ⟨ρ, hr, h1, h2⟩ := mg_rep hS M (fun g => bt m g = true) hc (fun g _ h => h)
  refine ⟨ρ, hr, fun b hb => ?_⟩
  constructor
  · intro hbt
    have hb8 : b < 8 := by
      rw [← hm, b_and, b_255] at hbt
      by_cases z : b < 8
      · exact z
      · rw [decide_eq_false z, Bool.and_false] at hbt
        exact absurd hbt (by decide)
    have h3 := sm_n_eq (P := fun x => ¬ H x = -1) (Q := fun g => bt m g = true) (n := 8) (fun x hx hne => (h2 x hx hne).2) (by rw [mg_n M.2.1]; omega) b hb8 hbt
    exact (h2 b hb8 h3).1
  · intro ⟨k, hk, hu, eb⟩
    rw [← eb]
    exact h1 k hk hu
theorem mg_ex0 (hv : tv_ok ko go vo) (hS : xs_S us ko go vo 14 ro gs be) {ρ : Nat → Nat} (hr : tb_rep (tv_U us) (tv_N ko) ρ) (hb : yw_MB us ko go ρ 6 m) : gl_cov us ko go m ∧ ∀ (n : Nat) (H : Nat → Int32) (S : Nat → Prop), ma_I (ma_E gs m) 6 n H S → n = sm_n (fun g => bt m g = true) 8 := by
  have hG : ∀ k, k < 6 → tb_iu (tv_U us) (tv_N ko) k → tv_N go (ρ k) < 8 := by
    intro k hk hu
    obtain ⟨g, hg, _, e⟩ := tv_go hv (hr k hk hu).1
    omega
  constructor
  · intro k hk hu
    have h8 := hG k hk hu
    exact ⟨ρ k, hr k hk hu, (hb _ (by omega)).mpr ⟨k, hk, hu, rfl⟩⟩
  · intro n H S M
    have h1 : sm_n (fun g => bt m g = true) 8 ≤ n := by
      refine mg_ub M (fun κ => tv_N go (ρ κ)) (fun g hg hbg => ?_)
      obtain ⟨k, hk, hu, e⟩ := (hb g (by omega)).mp hbg
      exact ⟨k, hk, e, (mg_adj hS hk hg).mpr ⟨⟨ρ k, hr k hk hu, e⟩, hbg⟩⟩
    have h2 : n ≤ sm_n (fun g => bt m g = true) 8 := by
      rw [← mg_n M.2.1]
      refine sm_n_le 8 (fun x hx hne => ?_)
      rcases M.1.1 x hx (by omega) with c | ⟨κ, c1, c2, c3, c4⟩
      · exact absurd c hne
      · exact ((mg_adj hS c1 hx).mp c4).2
    omega
end MG
theorem i_vc_groupsMost {k : Nat} {u : SX} {v : SY} (I : i_Rel k u v) (hk : k + 4 ≤ 2048) : wpX_groupsMost (fun r u' => wpY_groupsMost (fun r' v' => r' = r ∧ i_Rel (k + 4) u' v') v) u := by
  obtain ⟨fr, us, ko, go, vo, ro, gs, be, ho, re, bb, se, li, od, iw, so⟩ := u
  obtain ⟨us2, ko2, go2, vo2, pk⟩ := v
  obtain ⟨rfl, rfl, rfl, rfl, hv, hf, hS⟩ := I
  unfold wpX_groupsMost wpY_groupsMost
  dsimp only
  refine ma_matching (fun n ho se bb li S M => ?_)
  have hr := mg_most hv hS M
  have hn : n ≤ 8 := by
    rw [← mg_n M.2.1]; exact sm_n_bd _ 8
  exact yw_most hv ms_dif_ok (fun ρ pk post h1 h2 h3 => yw_m2 hv h1 h2 h3) (fun r' pk' hr' => ⟨Int32.toInt_inj.mp ((tb_most_u hr' hr).trans (nI_toInt (by omega)).symm), rfl, rfl, rfl, rfl, hv, hf, hS⟩) pk
theorem i_vc_exactly {k : Nat} {u : SX} {v : SY} (I : i_Rel k u v) (hk : k + 4 ≤ 2048) (v1 : Int32) : wpX_exactly (fun r u' => wpY_exactly (fun r' v' => r' = r ∧ i_Rel (k + 4) u' v') v v1) u v1 := by
  obtain ⟨fr, us, ko, go, vo, ro, gs, be, ho, re, bb, se, li, od, iw, so⟩ := u
  obtain ⟨us2, ko2, go2, vo2, pk⟩ := v
  obtain ⟨rfl, rfl, rfl, rfl, hv, hf, hS⟩ := I
  unfold wpX_exactly
  dsimp only
  have hm : (v1 &&& 255) &&& 255 = v1 &&& 255 := by
    apply b_ext
    intro b _
    rw [b_and, b_and]
    cases bt v1 b <;> cases bt 255 b <;> rfl
  refine nm_e ?_
  refine gl_covers hv hS (fun hc => ?_) (fun hc => ?_)
  · refine br_f ra_10 ?_
    refine ma_matching (fun n ho se bb li S M => ?_)
    refine gl_bits ?_
    have hn : n ≤ 8 := by
      rw [← mg_n M.2.1]; exact sm_n_bd _ 8
    have hb := sm_n_bd (fun g => bt (v1 &&& 255) g = true) 8
    refine pk_eq n (sm_n (fun g => bt (v1 &&& 255) g = true) 8) (fun e => ?_) (fun e => ?_)
    · refine yw_exactly hv (fun pk' _ => ⟨rfl, rfl, rfl, rfl, rfl, hv, hf, hS⟩) (fun pk' hno => ?_) pk
      obtain ⟨ρ, hr, hB⟩ := mg_ex1 hv hS hm M hc e
      exact absurd rfl (hno ρ _ hr hB)
    · refine yw_exactly hv (fun pk' hyes => ?_) (fun pk' _ => ⟨rfl, rfl, rfl, rfl, rfl, hv, hf, hS⟩) pk
      obtain ⟨ρ, m, hr, hB, em⟩ := hyes
      rw [em] at hB
      exact absurd ((mg_ex0 hv hS hr hB).2 n ho S M) e
  · refine br_t rfl ?_
    refine yw_exactly hv (fun pk' hyes => ?_) (fun pk' _ => ⟨rfl, rfl, rfl, rfl, rfl, hv, hf, hS⟩) pk
    obtain ⟨ρ, m, hr, hB, em⟩ := hyes
    rw [em] at hB
    exact absurd (mg_ex0 hv hS hr hB).1 hc
end
section
/-! insertion into a sorted row of numbers, with a hole; sortRows, insertSorted -/
def in_S (s : Nat → Int32) (f : Int32 → Int) (n : Nat) : Prop := ∀ i j, i < j → j < n → f (s i) ≤ f (s j)
def in_I (s0 : Nat → Int32) (f : Int32 → Int) (v : Int) (n a : Nat) (s : Nat → Int32) : Prop :=
  a ≤ n ∧ (∀ P : Int32 → Prop, sm_n (fun j => j ≠ a ∧ P (s j)) (n + 1) = sm_n (fun j => P (s0 j)) n) ∧
  (∀ i j, i < j → j < n + 1 → i ≠ a → j ≠ a → f (s i) ≤ f (s j)) ∧ (∀ j, a < j → j < n + 1 → v < f (s j))
def in_R (s0 : Nat → Int32) (f : Int32 → Int) (x : Int32) (n : Nat) (s : Nat → Int32) : Prop :=
  in_S s f (n + 1) ∧ ∀ P : Int32 → Prop, sm_n (fun j => P (s j)) (n + 1) = sm_n (fun j => P (s0 j)) n + sm_b (P x)
theorem in_start {s0 : Nat → Int32} {f : Int32 → Int} {v : Int} {n : Nat} (h : in_S s0 f n) : in_I s0 f v n n s0 := by
  refine ⟨Nat.le_refl n, fun P => ?_, fun i j hij hj _ hjn => h i j hij (by omega), fun j hj hj2 => absurd hj (by omega)⟩
  rw [sm_n_f (P := fun j => j ≠ n ∧ P (s0 j)) (fun z => z.1 rfl)]
  exact sm_n_c n (fun j hj => ⟨fun z => z.2, fun z => ⟨by omega, z⟩⟩)
theorem in_step {s0 s : Nat → Int32} {f : Int32 → Int} {v : Int} {n a : Nat} (I : in_I s0 f v n (a + 1) s) (h : v < f (s a)) : in_I s0 f v n a (upd s (a + 1) (s a)) := by
  obtain ⟨i1, i2, i3, i4⟩ := I
  refine ⟨by omega, fun P => ?_, fun i j hij hj hi ha => ?_, fun j hj hj2 => ?_⟩
  · rw [← i2 P]
    by_cases hp : P (s a)
    · have h1 : sm_n (fun j => j ≠ a ∧ P (upd s (a + 1) (s a) j)) (n + 1) = sm_n (fun j => (j ≠ a + 1 ∧ P (s j)) ∧ j ≠ a) (n + 1) + 1 := by
        refine sm_n_up (x := a + 1) (fun z => z.1.1 rfl) ⟨by omega, by rw [pk_us]; exact hp⟩ (n + 1) (by omega) (fun j _ hne => ?_)
        rw [pk_un hne]
        exact ⟨fun z => ⟨z.2, z.1.2⟩, fun z => ⟨⟨hne, z.2⟩, z.1⟩⟩
      have h2 : sm_n (fun j => j ≠ a + 1 ∧ P (s j)) (n + 1) = sm_n (fun j => (j ≠ a + 1 ∧ P (s j)) ∧ j ≠ a) (n + 1) + 1 := by
        refine sm_n_up (x := a) (fun z => z.2 rfl) ⟨by omega, hp⟩ (n + 1) (by omega) (fun j _ hne => ⟨fun z => z.1, fun z => ⟨z, hne⟩⟩)
      omega
    · refine sm_n_c (n + 1) (fun j _ => ?_)
      by_cases z : j = a + 1
      · rw [z, pk_us]
        exact ⟨fun q => absurd q.2 hp, fun q => absurd rfl q.1⟩
      · rw [pk_un z]
        refine ⟨fun q => ⟨z, q.2⟩, fun q => ⟨fun e => ?_, q.2⟩⟩
        rw [e] at q
        exact hp q.2
  · by_cases zj : j = a + 1
    · have zi : i ≠ a + 1 := by omega
      rw [zj, pk_us, pk_un zi]
      exact i3 i a (by omega) (by omega) zi (by omega)
    · rw [pk_un zj]
      by_cases zi : i = a + 1
      · rw [zi, pk_us]
        exact i3 a j (by omega) hj (by omega) zj
      · rw [pk_un zi]
        exact i3 i j hij hj zi zj
  · by_cases zj : j = a + 1
    · rw [zj, pk_us]; exact h
    · rw [pk_un zj]; exact i4 j (by omega) hj2
theorem in_fill {s0 s : Nat → Int32} {f : Int32 → Int} {x : Int32} {n a : Nat} (I : in_I s0 f (f x) n a s) (h : a = 0 ∨ f (s (a - 1)) ≤ f x) : in_R s0 f x n (upd s a x) := by
  obtain ⟨i1, i2, i3, i4⟩ := I
  constructor
  · intro i j hij hj
    by_cases zj : j = a
    · have zi : i ≠ a := by omega
      rw [zj, pk_us, pk_un zi]
      rcases h with h | h
      · omega
      · by_cases z : i = a - 1
        · rw [z]; exact h
        · have := i3 i (a - 1) (by omega) (by omega) zi (by omega)
          omega
    · rw [pk_un zj]
      by_cases zi : i = a
      · rw [zi, pk_us]
        have := i4 j (by omega) hj
        omega
      · rw [pk_un zi]
        exact i3 i j hij hj zi zj
  · intro P
    rw [← i2 P]
    by_cases hp : P x
    · rw [sm_t hp]
      refine sm_n_up (x := a) (fun z => z.1 rfl) (by rw [pk_us]; exact hp) (n + 1) (by omega) (fun j _ hne => ?_)
      rw [pk_un hne]
      exact ⟨fun z => z.2, fun z => ⟨hne, z⟩⟩
    · rw [sm_f hp]
      refine sm_n_c (n + 1) (fun j _ => ?_)
      by_cases z : j = a
      · rw [z, pk_us]
        exact ⟨fun q => absurd q hp, fun q => absurd rfl q.1⟩
      · rw [pk_un z]
        exact ⟨fun q => ⟨z, q⟩, fun q => q.2⟩
theorem in_all {s0 s : Nat → Int32} {f : Int32 → Int} {v : Int} {n a : Nat} (I : in_I s0 f v n a s) {P : Int32 → Prop} (h : ∀ j, j < n → P (s0 j)) {j : Nat} (hj : j < n + 1) (hja : j ≠ a) : P (s j) := by
  by_cases z : P (s j)
  · exact z
  · have h1 := I.2.1 (fun x => ¬ P x)
    rw [sm_n_0 (P := fun j => ¬ P (s0 j)) n (fun i hi q => q (h i hi))] at h1
    have h2 := sm_n_pos (P := fun j => j ≠ a ∧ ¬ P (s j)) hj ⟨hja, z⟩
    omega
section SO
variable {fr : Int32} {us ko go vo ro gs be ho re bb se li od iw so : Nat → Int32}
/-- the order so far: the rows used below j -/
def so_I (us vo : Nat → Int32) (j n : Nat) (od : Nat → Int32) : Prop :=
  n = sm_n (tv_U us) j ∧ in_S od (fun x => tv_V vo x.toNatClampNeg) n ∧ ∀ P : Int32 → Prop, sm_n (fun t => P (od t)) n = sm_n (fun i => tv_U us i ∧ P (nI i)) j
theorem so_el {j n : Nat} (h : so_I us vo j n od) : ∀ t, t < n → ∃ i, i < j ∧ od t = nI i ∧ tv_U us i := by
  intro t ht
  by_cases z : ∃ i, i < j ∧ od t = nI i ∧ tv_U us i
  · exact z
  · have h1 := h.2.2 (fun x => ¬ ∃ i, i < j ∧ x = nI i ∧ tv_U us i)
    rw [sm_n_0 (P := fun i => tv_U us i ∧ ¬ ∃ i', i' < j ∧ nI i = nI i' ∧ tv_U us i') j (fun i hi q => q.2 ⟨i, hi, rfl, q.1⟩)] at h1
    have h2 := sm_n_pos (P := fun t => ¬ ∃ i, i < j ∧ od t = nI i ∧ tv_U us i) ht z
    omega
theorem so_cov {j n : Nat} (h : so_I us vo j n od) : ∀ i, i < j → tv_U us i → ∃ t, t < n ∧ od t = nI i := by
  intro i hi hu
  have h1 := h.2.2 (fun x => x = nI i)
  have h2 := sm_n_pos (P := fun i' => tv_U us i' ∧ nI i' = nI i) hi ⟨hu, rfl⟩
  have h3 : 0 < sm_n (fun t => od t = nI i) n := by omega
  exact sm_n_ex h3
theorem so_21 {n id : Nat} (hid : id < 14) (hn : n ≤ id) {s0 : Nat → Int32} (h0 : ∀ t, t < n → ∃ i, i < 14 ∧ s0 t = nI i) {post : SX → Prop} {J : Int32 → Int32 → (Nat → Int32) → (Nat → Int32) → (Nat → Int32) → (Nat → Int32) → (Nat → Int32) → (Nat → Int32) → (Nat → Int32) → (Nat → Int32) → (Nat → Int32) → (Nat → Int32) → (Nat → Int32) → (Nat → Int32) → (Nat → Int32) → (Nat → Int32) → (Nat → Int32) → Prop}
    (hJ : ∀ od, in_R s0 (fun x => tv_V vo x.toNatClampNeg) (nI id) n od → J (nI (n + 1)) (nI (id + 1)) us ko go vo ro gs be ho re bb se li od iw so) :
    ∀ (a : Nat) (od : Nat → Int32), in_I s0 (fun x => tv_V vo x.toNatClampNeg) (tv_V vo id) n a od → wX_sortRows_21 post J (nI n) (nI id) fr (a + 1) (nI a) us ko go vo ro gs be ho re bb se li od iw so := by
  have eid : (nI id).toNatClampNeg = id := nI_clamp (by omega)
  have h67 : ∀ (a : Nat) (od : Nat → Int32), in_I s0 (fun x => tv_V vo x.toNatClampNeg) (tv_V vo id) n a od → (a = 0 ∨ tv_V vo (od (a - 1)).toNatClampNeg ≤ tv_V vo id) → wX_sortRows_67 post J (nI n) (nI id) (nI a) fr us ko go vo ro gs be ho re bb se li od iw so := by
    intro a od I h
    have ha := I.1
    have ea : (nI a).toNatClampNeg = a := nI_clamp (by omega)
    refine And.intro (vp_in_nI (by omega) (by omega)) ?_
    rw [ea]
    refine nm_e (nm_r (nI_1 n) (nm_r (nI_1 id) (hJ _ (in_fill (by rw [eid]; exact I) ?_))))
    rw [eid]
    exact h
  intro a
  induction a with
  | zero =>
    intro od I
    exact pk_le 0 0 (fun _ => h67 0 od I (Or.inl rfl)) (fun h => absurd h (by omega))
  | succ a ih =>
    intro od I
    have ha := I.1
    have ea : (nI a).toNatClampNeg = a := nI_clamp (by omega)
    have ea1 : (nI (a + 1)).toNatClampNeg = a + 1 := nI_clamp (by omega)
    have va : vp_in (nI a) 14 := vp_in_nI (by omega) (by omega)
    obtain ⟨i, hi, ei⟩ := in_all I (P := fun x => ∃ i, i < 14 ∧ x = nI i) h0 (j := a) (by omega) (by omega)
    have eii : (nI i).toNatClampNeg = i := nI_clamp (by omega)
    refine pk_le (a + 1) 0 (fun h => absurd h (by omega)) (fun _ => ?_)
    rw [nI_pred, ea, ei, eii, eid, ea1]
    refine And.intro va (And.intro (vp_in_nI hi (by omega)) (And.intro (vp_in_nI hid (by omega)) ?_))
    by_cases hle : vo i ≤ vo id
    · refine br_t hle (h67 (a + 1) od I (Or.inr ?_))
      rw [Nat.add_sub_cancel, ei, eii]
      exact ra_le.mp hle
    · have hlt : tv_V vo id < tv_V vo i := by
        have : ¬ (vo i).toInt ≤ (vo id).toInt := fun z => hle (ra_le.mpr z)
        show (vo id).toInt < (vo i).toInt
        omega
      refine br_f hle (And.intro va (And.intro (vp_in_nI (by omega) (by omega)) (nm_e (nm_r (pk_m1 a) ?_))))
      have I2 := in_step I (by show tv_V vo id < tv_V vo (od a).toNatClampNeg; rw [ei, eii]; exact hlt)
      rw [ei] at I2
      exact ih _ I2
theorem so_4 {post : SX → Prop} (hp : ∀ (n : Nat) (od : Nat → Int32), so_I us vo 14 n od → post (fr, us, ko, go, vo, ro, gs, be, ho, re, bb, se, li, od, iw, so)) :
    ∀ (d j n : Nat) (od : Nat → Int32), j + d = 14 → so_I us vo j n od → wX_sortRows_4 post fr (d + 1) (nI n) (nI j) us ko go vo ro gs be ho re bb se li od iw so := by
  intro d
  induction d with
  | zero =>
    intro j n od hj h
    have e : j = 14 := by omega
    subst e
    exact pk_le 14 14 (fun _ => hp n od h) (fun h => absurd h (by omega))
  | succ d ih =>
    intro j n od hj h
    have ej : (nI j).toNatClampNeg = j := nI_clamp (by omega)
    have hn : n ≤ j := by rw [h.1]; exact sm_n_bd _ j
    refine pk_le 14 j (fun h => absurd h (by omega)) (fun _ => And.intro (vp_in_nI (by omega) (by omega)) ?_)
    rw [ej]
    by_cases hu : us j = 0
    · refine br_t hu (nm_r (nI_1 j) (ih (j + 1) n od (by omega) ⟨?_, h.2.1, fun P => ?_⟩))
      · rw [sm_n_f (P := tv_U us) (fun z => z hu)]; exact h.1
      · rw [sm_n_f (P := fun i => tv_U us i ∧ P (nI i)) (fun z => z.1 hu)]; exact h.2.2 P
    · refine br_f hu (Exists.intro (n + 1) ?_)
      refine so_21 (by omega) hn (s0 := od) (fun t ht => ?_) (J := wX_sortRows_4 post fr (d + 1)) (fun od' R => ih (j + 1) (n + 1) od' (by omega) ⟨?_, R.1, fun P => ?_⟩) n od (in_start h.2.1)
      · obtain ⟨i, hi, e, _⟩ := so_el h t ht
        exact ⟨i, by omega, e⟩
      · rw [sm_n_t (P := tv_U us) hu, ← h.1]
      · rw [R.2 P, h.2.2 P, sm_n_s]
        refine congrArg _ (sm_c ⟨fun z => ⟨hu, z⟩, fun z => z.2⟩)
theorem so_sort {post : SX → Prop} (hp : ∀ (n : Nat) (od : Nat → Int32), so_I us vo 14 n od → post (fr, us, ko, go, vo, ro, gs, be, ho, re, bb, se, li, od, iw, so)) : wpX_sortRows post (fr, us, ko, go, vo, ro, gs, be, ho, re, bb, se, li, od, iw, so) :=
  Exists.intro 15 (so_4 hp 14 0 0 od (by omega) ⟨rfl, fun i j _ hj => absurd hj (by omega), fun P => rfl⟩)
theorem so_ins {n : Nat} {x : Int32} (hn : n < 6) {s0 : Nat → Int32} {post : SX → Prop} (hp : ∀ so, in_R s0 (fun x => x.toInt) x n so → post (fr, us, ko, go, vo, ro, gs, be, ho, re, bb, se, li, od, iw, so)) :
    ∀ (a : Nat) (so : Nat → Int32), in_I s0 (fun x => x.toInt) x.toInt n a so → wX_insertSorted_2 post x fr (a + 1) (nI a) us ko go vo ro gs be ho re bb se li od iw so := by
  intro a
  induction a with
  | zero =>
    intro so I
    refine pk_le 0 0 (fun _ => And.intro (vp_in_nI (by omega) (by omega)) (nm_e (hp _ ?_))) (fun h => absurd h (by omega))
    exact in_fill I (Or.inl rfl)
  | succ a ih =>
    intro so I
    have ha := I.1
    have ea : (nI a).toNatClampNeg = a := nI_clamp (by omega)
    have ea1 : (nI (a + 1)).toNatClampNeg = a + 1 := nI_clamp (by omega)
    have va : vp_in (nI a) 6 := vp_in_nI (by omega) (by omega)
    have va1 : vp_in (nI (a + 1)) 6 := vp_in_nI (by omega) (by omega)
    refine pk_le (a + 1) 0 (fun h => absurd h (by omega)) (fun _ => ?_)
    rw [nI_pred, ea, ea1]
    refine And.intro va ?_
    by_cases hle : so a ≤ x
    · exact br_t hle (And.intro va1 (nm_e (hp _ (in_fill I (Or.inr (by rw [Nat.add_sub_cancel]; exact ra_le.mp hle))))))
    · have hlt : x.toInt < (so a).toInt := by
        have : ¬ (so a).toInt ≤ x.toInt := fun z => hle (ra_le.mpr z)
        omega
      exact br_f hle (And.intro va (And.intro va1 (nm_e (nm_r (pk_m1 a) (ih _ (in_step I hlt))))))
theorem so_insert {n : Nat} {x : Int32} (hn : n < 6) (hs : in_S so (fun x => x.toInt) n) {post : SX → Prop} (hp : ∀ so', in_R so (fun x => x.toInt) x n so' → post (fr, us, ko, go, vo, ro, gs, be, ho, re, bb, se, li, od, iw, so')) : wpX_insertSorted post (fr, us, ko, go, vo, ro, gs, be, ho, re, bb, se, li, od, iw, so) (nI n) x :=
  Exists.intro (n + 1) (so_ins hn hp n so (in_start hs))
end SO
end
section
/-! spreadLeast: a window over the rows in order -/
noncomputable def sp_cw (kw : Nat → Nat) (f t k : Nat) : Nat := sm_n (fun s => f ≤ s ∧ kw s = k) t
def sp_W (kw : Nat → Nat) (f t : Nat) : Prop := ∀ k, (∃ s, s < t ∧ kw s = k) → ∃ s, f ≤ s ∧ s < t ∧ kw s = k
noncomputable def sp_hv (kw : Nat → Nat) (t : Nat) : Nat := sm_n (fun k => ∃ s, s < t ∧ kw s = k) 6
/-- all keys in use have a row at p .. t -/
def sp_A (iu : Nat → Prop) (kw : Nat → Nat) (p t : Nat) : Prop := ∀ k, k < 6 → iu k → ∃ s, p ≤ s ∧ s ≤ t ∧ kw s = k
def sp_L (iu : Nat → Prop) (kw : Nat → Nat) (vw : Nat → Int) (to : Nat) (b : Int) : Prop :=
  b ≤ 1000000 ∧ (b = 1000000 ∨ ∃ f t, f ≤ t ∧ t < to ∧ sp_A iu kw f t ∧ b = vw t - vw f) ∧ ∀ t p, t < to → p ≤ t → sp_A iu kw p t → b ≤ vw t - vw p
theorem sp_ext_t {kw : Nat → Nat} {f t k : Nat} (h : f ≤ t) (e : kw t = k) : sp_cw kw f (t + 1) k = sp_cw kw f t k + 1 := sm_n_t (P := fun s => f ≤ s ∧ kw s = k) ⟨h, e⟩
theorem sp_ext_f {kw : Nat → Nat} {f t k : Nat} (e : ¬ kw t = k) : sp_cw kw f (t + 1) k = sp_cw kw f t k := sm_n_f (P := fun s => f ≤ s ∧ kw s = k) (fun z => e z.2)
theorem sp_drop_t {kw : Nat → Nat} {f t : Nat} (h : f < t) : sp_cw kw f t (kw f) = sp_cw kw (f + 1) t (kw f) + 1 :=
  sm_n_up (P := fun s => f + 1 ≤ s ∧ kw s = kw f) (Q := fun s => f ≤ s ∧ kw s = kw f) (x := f) (fun z => absurd z.1 (by omega)) ⟨Nat.le_refl f, rfl⟩ t h (fun s _ hne => ⟨fun z => ⟨by omega, z.2⟩, fun z => ⟨by omega, z.2⟩⟩)
theorem sp_drop_f {kw : Nat → Nat} {f t k : Nat} (h : kw f ≠ k) : sp_cw kw f t k = sp_cw kw (f + 1) t k := by
  refine sm_n_c t (fun s _ => ⟨fun z => ⟨?_, z.2⟩, fun z => ⟨by omega, z.2⟩⟩)
  by_cases e : s = f
  · rw [e] at z; exact absurd z.2 h
  · omega
theorem sp_cw0 {kw : Nat → Nat} {f t k : Nat} (h : sp_cw kw f t k = 0) : ∀ s, f ≤ s → s < t → ¬ kw s = k := by
  intro s h1 h2 e
  have := sm_n_pos (P := fun s => f ≤ s ∧ kw s = k) h2 ⟨h1, e⟩
  unfold sp_cw at h
  omega
theorem sp_cwpos {kw : Nat → Nat} {f t k s : Nat} (h1 : f ≤ s) (h2 : s < t) (e : kw s = k) : 0 < sp_cw kw f t k := sm_n_pos (P := fun s => f ≤ s ∧ kw s = k) h2 ⟨h1, e⟩
theorem sp_cwp {kw : Nat → Nat} {f t k : Nat} (h : 0 < sp_cw kw f t k) : ∃ s, f ≤ s ∧ s < t ∧ kw s = k := by
  obtain ⟨s, h1, h2⟩ := sm_n_ex h
  exact ⟨s, h2.1, h1, h2.2⟩
theorem sp_Ws {kw : Nat → Nat} {f t : Nat} (h : sp_W kw f t) (hf : f ≤ t) : sp_W kw f (t + 1) := by
  intro k ⟨s, hs, e⟩
  by_cases z : s = t
  · exact ⟨t, hf, by omega, by rw [← z]; exact e⟩
  · obtain ⟨s', a, b, c⟩ := h k ⟨s, by omega, e⟩
    exact ⟨s', a, by omega, c⟩
theorem sp_Wd {kw : Nat → Nat} {f t : Nat} (h : sp_W kw f t) (hf : f < t) (hc : 1 < sp_cw kw f t (kw f)) : sp_W kw (f + 1) t := by
  intro k hk
  obtain ⟨s, a, b, c⟩ := h k hk
  by_cases z : s = f
  · rw [sp_drop_t hf] at hc
    obtain ⟨s', a', b', c'⟩ := sp_cwp (show 0 < sp_cw kw (f + 1) t (kw f) by omega)
    exact ⟨s', a', b', by rw [c', ← z]; exact c⟩
  · exact ⟨s, by omega, b, c⟩
theorem sp_hv_t {kw : Nat → Nat} {t : Nat} (h6 : kw t < 6) (h : ∀ s, s < t → ¬ kw s = kw t) : sp_hv kw (t + 1) = sp_hv kw t + 1 := by
  refine sm_n_up (x := kw t) (fun ⟨s, hs, e⟩ => h s hs e) ⟨t, by omega, rfl⟩ 6 h6 (fun k _ hne => ⟨fun ⟨s, hs, e⟩ => ⟨s, by omega, e⟩, fun ⟨s, hs, e⟩ => ⟨s, ?_, e⟩⟩)
  by_cases z : s = t
  · rw [z] at e; exact absurd e.symm hne
  · omega
theorem sp_hv_f {kw : Nat → Nat} {t : Nat} (h : ∃ s, s < t ∧ kw s = kw t) : sp_hv kw (t + 1) = sp_hv kw t := by
  refine sm_n_c 6 (fun k _ => ⟨fun ⟨s, hs, e⟩ => ?_, fun ⟨s, hs, e⟩ => ⟨s, by omega, e⟩⟩)
  by_cases z : s = t
  · obtain ⟨s', hs', e'⟩ := h
    exact ⟨s', hs', by rw [e', ← z]; exact e⟩
  · exact ⟨s, by omega, e⟩
/-- all keys in use seen: the window is a candidate; and it is the best one that ends here -/
theorem sp_have {iu : Nat → Prop} {kw : Nat → Nat} {t : Nat} (hiu : ∀ s, s ≤ t → iu (kw s)) : sp_hv kw (t + 1) = sm_n iu 6 ↔ ∀ k, k < 6 → iu k → ∃ s, s ≤ t ∧ kw s = k := by
  constructor
  · intro h k hk hu
    obtain ⟨s, hs, e⟩ := sm_n_eq (P := fun k => ∃ s, s < t + 1 ∧ kw s = k) (Q := iu) (n := 6) (fun k _ ⟨s, hs, e⟩ => e ▸ hiu s (by omega)) (Nat.le_of_eq h.symm) k hk hu
    exact ⟨s, by omega, e⟩
  · intro h
    refine sm_n_c 6 (fun k hk => ⟨fun ⟨s, hs, e⟩ => e ▸ hiu s (by omega), fun hu => ?_⟩)
    obtain ⟨s, hs, e⟩ := h k hk hu
    exact ⟨s, by omega, e⟩
theorem sp_best {iu : Nat → Prop} {kw : Nat → Nat} {vw : Nat → Int} {f t p : Nat} (hs : ∀ a b, a ≤ b → b ≤ t → vw a ≤ vw b) (hf : f ≤ t) (h6 : kw f < 6) (hiu : iu (kw f)) (hZ : ∀ s, f < s → s ≤ t → ¬ kw s = kw f) (hA : sp_A iu kw p t) : vw t - vw f ≤ vw t - vw p := by
  obtain ⟨s, a, b, c⟩ := hA (kw f) h6 hiu
  have hsf : s ≤ f := by
    by_cases z : f < s
    · exact absurd c (hZ s z b)
    · omega
  have := hs p f (by omega) hf
  omega
/-- one more end of a window -/
theorem sp_Lnew {iu : Nat → Prop} {kw : Nat → Nat} {vw : Nat → Int} {f t : Nat} {b b' : Int} (L : sp_L iu kw vw t b) (hs : ∀ a b, a ≤ b → b ≤ t → vw a ≤ vw b) (hf : f ≤ t) (h6 : kw f < 6) (hiu : iu (kw f)) (hZ : ∀ s, f < s → s ≤ t → ¬ kw s = kw f) (hA : sp_A iu kw f t) (h1 : b' ≤ b) (h2 : b' ≤ vw t - vw f) (h3 : b' = b ∨ b' = vw t - vw f) : sp_L iu kw vw (t + 1) b' := by
  obtain ⟨l1, l2, l3⟩ := L
  refine ⟨by omega, ?_, fun t' p ht' hp hA' => ?_⟩
  · rcases h3 with h3 | h3
    · rcases l2 with l2 | ⟨f', t', a1, a2, a3, a4⟩
      · exact Or.inl (by omega)
      · exact Or.inr ⟨f', t', a1, by omega, a3, by omega⟩
    · exact Or.inr ⟨f, t, hf, by omega, hA, h3⟩
  · by_cases z : t' = t
    · subst z
      have := sp_best hs hf h6 hiu hZ hA'
      omega
    · have := l3 t' p (by omega) hp hA'
      omega
theorem sp_Lold {iu : Nat → Prop} {kw : Nat → Nat} {vw : Nat → Int} {t : Nat} {b : Int} (L : sp_L iu kw vw t b) (hn : ¬ ∀ k, k < 6 → iu k → ∃ s, s ≤ t ∧ kw s = k) : sp_L iu kw vw (t + 1) b := by
  obtain ⟨l1, l2, l3⟩ := L
  refine ⟨l1, ?_, fun t' p ht' hp hA' => ?_⟩
  · rcases l2 with l2 | ⟨f', t', a1, a2, a3, a4⟩
    · exact Or.inl l2
    · exact Or.inr ⟨f', t', a1, by omega, a3, a4⟩
  · by_cases z : t' = t
    · subst z
      refine absurd (fun k hk hu => ?_) hn
      obtain ⟨s, a, b, c⟩ := hA' k hk hu
      exact ⟨s, b, c⟩
    · exact l3 t' p (by omega) hp hA'
end
section
/-! spreadLeast: the walk -/
def sp_F (us ko vo od : Nat → Int32) (R : Nat) : Prop :=
  (∀ t, t < R → ∃ i k, i < 14 ∧ k < 6 ∧ od t = nI i ∧ ko i = nI k ∧ tv_N od t = i ∧ tv_N ko i = k ∧ tv_U us i) ∧ (∀ i, i < 14 → tv_U us i → ∃ t, t < R ∧ tv_N od t = i) ∧ (∀ a b, a ≤ b → b < R → tv_V vo (tv_N od a) ≤ tv_V vo (tv_N od b))
section SPW
variable {fr : Int32} {us ko go vo ro gs be ho re bb se li od iw so : Nat → Int32}
theorem sp_mkF (hv : tv_ok ko go vo) {R : Nat} (h : so_I us vo 14 R od) : sp_F us ko vo od R := by
  refine ⟨fun t ht => ?_, fun i hi hu => ?_, fun a b hab hb => ?_⟩
  · obtain ⟨i, hi, e, hu⟩ := so_el h t ht
    obtain ⟨k, hk, ek, eK⟩ := tv_ko hv hi
    refine ⟨i, k, hi, hk, e, ek, ?_, eK, hu⟩
    show (od t).toNatClampNeg = i
    rw [e]; exact nI_clamp (by omega)
  · obtain ⟨t, ht, e⟩ := so_cov h i hi hu
    refine ⟨t, ht, ?_⟩
    show (od t).toNatClampNeg = i
    rw [e]; exact nI_clamp (by omega)
  · by_cases z : a = b
    · rw [z]; exact Int.le_refl _
    · exact h.2.1 a b (by omega) hb
theorem sp_row {R : Nat} (F : sp_F us ko vo od R) {t : Nat} (ht : t < R) : tb_R (tv_U us) (tv_N ko) (tv_N ko (tv_N od t)) (tv_N od t) := by
  obtain ⟨i, k, hi, hk, e1, e2, e3, e4, hu⟩ := F.1 t ht
  exact ⟨by omega, by rw [e3]; exact hu, rfl⟩
theorem sp_end (hv : tv_ok ko go vo) {R : Nat} (F : sp_F us ko vo od R) (hsz : 0 < ms_sz (tv_U us) (tv_N ko)) {b : Int} (L : sp_L (tb_iu (tv_U us) (tv_N ko)) (fun t => tv_N ko (tv_N od t)) (fun t => tv_V vo (tv_N od t)) R b) : tb_least (tv_U us) (tv_N ko) (ms_spr (tv_U us) (tv_N ko) (tv_V vo)) b := by
  obtain ⟨l1, l2, l3⟩ := L
  have hex : ∀ ρ, ∃ x y, ms_va (tv_U us) (tv_N ko) (tv_V vo) ρ (ms_sz (tv_U us) (tv_N ko) - 1) x ∧ ms_va (tv_U us) (tv_N ko) (tv_V vo) ρ 0 y := by
    intro ρ
    obtain ⟨k1, a1, a2, a3⟩ := ms_surj (V := tv_V vo) (ρ := ρ) (show ms_sz (tv_U us) (tv_N ko) - 1 < ms_sz (tv_U us) (tv_N ko) by omega)
    obtain ⟨k2, b1, b2, b3⟩ := ms_surj (V := tv_V vo) (ρ := ρ) hsz
    exact ⟨_, _, ⟨k1, a1, a2, a3, rfl⟩, ⟨k2, b1, b2, b3, rfl⟩⟩
  constructor
  · rcases l2 with l2 | ⟨f, t, hft, ht, hA, e⟩
    · obtain ⟨ρ, hr⟩ := tb_ex (U := tv_U us) (K := tv_N ko)
      obtain ⟨x, y, hx, hy⟩ := hex ρ
      have hM : ms_spr (tv_U us) (tv_N ko) (tv_V vo) ρ (x - y) := Or.inr ⟨hsz, x, y, hx, hy, rfl⟩
      have := (ms_spr_ok (tv_vo hv)).2.2 ρ _ hr hM
      exact ⟨ρ, _, hr, hM, by omega⟩
    · obtain ⟨ρ, hr, hP⟩ := tb_exP (U := tv_U us) (K := tv_N ko) (P := fun k i => tv_V vo (tv_N od f) ≤ tv_V vo i ∧ tv_V vo i ≤ tv_V vo (tv_N od t)) (fun k hk hu => by
        obtain ⟨s, a1, a2, a3⟩ := hA k hk hu
        have hR := sp_row F (t := s) (by omega)
        have a3' : tv_N ko (tv_N od s) = k := a3
        rw [a3'] at hR
        exact ⟨tv_N od s, hR, F.2.2 f s a1 (by omega), F.2.2 s t a2 ht⟩)
      obtain ⟨x, y, hx, hy⟩ := hex ρ
      refine ⟨ρ, x - y, hr, Or.inr ⟨hsz, x, y, hx, hy, rfl⟩, ?_⟩
      obtain ⟨k1, a1, a2, a3, a4⟩ := hx
      obtain ⟨k2, b1, b2, b3, b4⟩ := hy
      have h1 := (hP k1 a1 a2).2
      have h2 := (hP k2 b1 b2).1
      rw [e, a4, b4]
      show tv_V vo (ρ k1) - tv_V vo (ρ k2) ≤ tv_V vo (tv_N od t) - tv_V vo (tv_N od f)
      omega
  · intro ρ v hr hM
    rcases hM with ⟨z, _⟩ | ⟨_, x, y, hx, hy, e⟩
    · omega
    · have hq : ∀ k : Nat, ∃ t : Nat, k < 6 → tb_iu (tv_U us) (tv_N ko) k → t < R ∧ tv_N od t = ρ k := by
        intro k
        by_cases z : k < 6 ∧ tb_iu (tv_U us) (tv_N ko) k
        · have hR := hr k z.1 z.2
          obtain ⟨t, h1, h2⟩ := F.2.1 (ρ k) hR.1 hR.2.1
          exact ⟨t, fun _ _ => ⟨h1, h2⟩⟩
        · exact ⟨0, fun a b => absurd ⟨a, b⟩ z⟩
      obtain ⟨q, hq⟩ := Classical.axiomOfChoice hq
      obtain ⟨k0, h01, h02⟩ := sm_n_ex (P := tb_iu (tv_U us) (tv_N ko)) (n := 6) hsz
      obtain ⟨k1, a1, a2, a3⟩ := sm_max (fun k => (q k : Int)) 6 (tb_iu (tv_U us) (tv_N ko)) ⟨k0, h01, h02⟩
      obtain ⟨k2, b1, b2, b3⟩ := sm_min (fun k => (q k : Int)) 6 (tb_iu (tv_U us) (tv_N ko)) ⟨k0, h01, h02⟩
      have c1 := hq k1 a1 a2
      have c2 := hq k2 b1 b2
      have c3 := b3 k1 a1 a2
      have h := l3 (q k1) (q k2) c1.1 (by omega) (fun k hk hu => by
        have d1 := a3 k hk hu
        have d2 := b3 k hk hu
        refine ⟨q k, by omega, by omega, ?_⟩
        show tv_N ko (tv_N od (q k)) = k
        rw [(hq k hk hu).2]
        exact (hr k hk hu).2.2)
      have h1 := ms_va_max hx k1 a1 a2
      have h2 := ms_va_min hy k2 b1 b2
      dsimp only at h
      rw [c1.2, c2.2] at h
      omega
theorem sp_keys4 (hS : xs_S us ko go vo 14 ro gs be) {post : Int32 → Prop} (hp : post (nI (ms_sz (tv_U us) (tv_N ko)))) : ∀ d j : Nat, j + d = 6 → wX_keysInUse_4 post fr us ko go vo ro gs be ho re bb se li od iw so (d + 1) (nI (sm_n (tb_iu (tv_U us) (tv_N ko)) j)) (nI j) := by
  intro d
  induction d with
  | zero =>
    intro j hj
    have e : j = 6 := by omega
    subst e
    exact pk_le 6 6 (fun _ => hp) (fun h => absurd h (by omega))
  | succ d ih =>
    intro j hj
    have e : (nI j).toNatClampNeg = j := nI_clamp (by omega)
    have h2 := ih (j + 1) (by omega)
    have hc := tb_cnt14 (U := tv_U us) (K := tv_N ko) j
    have er : ro j = nI (tb_cnt (tv_U us) (tv_N ko) j) := hS.1 j (by omega)
    refine pk_le 6 j (fun h => absurd h (by omega)) (fun _ => And.intro (vp_in_nI (by omega) (by omega)) ?_)
    rw [e, er]
    refine pk_le (tb_cnt (tv_U us) (tv_N ko) j) 0 (fun h => nm_r (nI_1 j) ?_) (fun h => nm_r (nI_1 _) (nm_r (nI_1 j) ?_))
    · rw [sm_n_f (P := tb_iu (tv_U us) (tv_N ko)) (fun z => absurd (tb_cntp.mpr z) (by omega))] at h2
      exact h2
    · rw [sm_n_t (P := tb_iu (tv_U us) (tv_N ko)) (tb_cntp.mp h)] at h2
      exact h2
theorem sp_keys (hS : xs_S us ko go vo 14 ro gs be) {post : Int32 → Prop} (hp : post (nI (ms_sz (tv_U us) (tv_N ko)))) : wpX_keysInUse post (fr, us, ko, go, vo, ro, gs, be, ho, re, bb, se, li, od, iw, so) :=
  Exists.intro 7 (sp_keys4 hS hp 6 0 (by omega))
theorem sp_98 {R to h : Nat} (hR : R ≤ 14) (hto : to < R) (F : sp_F us ko vo od R) {b x1 : Int32} {post : Int32 → SX → Prop} {J : Int32 → Int32 → Int32 → Int32 → (Nat → Int32) → (Nat → Int32) → (Nat → Int32) → (Nat → Int32) → (Nat → Int32) → (Nat → Int32) → (Nat → Int32) → (Nat → Int32) → (Nat → Int32) → (Nat → Int32) → (Nat → Int32) → (Nat → Int32) → (Nat → Int32) → (Nat → Int32) → (Nat → Int32) → Prop}
    (h150 : ∀ (f : Nat) (iw : Nat → Int32), f ≤ to → (∀ k, k < 6 → iw k = nI (sp_cw (fun t => tv_N ko (tv_N od t)) f (to + 1) k)) → sp_W (fun t => tv_N ko (tv_N od t)) f (to + 1) → (∀ s, f < s → s ≤ to → ¬ tv_N ko (tv_N od s) = tv_N ko (tv_N od f)) → wX_spreadLeast_150 post J x1 b (nI f) (nI h) (nI to) fr us ko go vo ro gs be ho re bb se li od iw so) :
    ∀ (d f : Nat) (iw : Nat → Int32), f + d = to → (∀ k, k < 6 → iw k = nI (sp_cw (fun t => tv_N ko (tv_N od t)) f (to + 1) k)) → sp_W (fun t => tv_N ko (tv_N od t)) f (to + 1) → wX_spreadLeast_98 post J x1 b (nI h) (nI to) fr (d + 1) (nI f) us ko go vo ro gs be ho re bb se li od iw so := by
  intro d
  induction d with
  | zero =>
    intro f iw hf hiw hW
    exact pk_le to f (fun _ => h150 f iw (by omega) hiw hW (fun s h1 h2 => absurd h1 (by omega))) (fun h => absurd h (by omega))
  | succ d ih =>
    intro f iw hf hiw hW
    have ef : (nI f).toNatClampNeg = f := nI_clamp (by omega)
    obtain ⟨i, k, hi, hk, e1, e2, e3, e4, hu⟩ := F.1 f (by omega)
    have ei : (nI i).toNatClampNeg = i := nI_clamp (by omega)
    have ek : (nI k).toNatClampNeg = k := nI_clamp (by omega)
    have vf : vp_in (nI f) 14 := vp_in_nI (by omega) (by omega)
    have vi : vp_in (nI i) 14 := vp_in_nI hi (by omega)
    have vk : vp_in (nI k) 6 := vp_in_nI hk (by omega)
    have ekw : tv_N ko (tv_N od f) = k := by rw [e3]; exact e4
    have hcw : sp_cw (fun t => tv_N ko (tv_N od t)) f (to + 1) k ≤ to + 1 := sm_n_bd _ _
    have hdt := sp_drop_t (kw := fun t => tv_N ko (tv_N od t)) (f := f) (t := to + 1) (by omega)
    rw [ekw] at hdt
    refine pk_le to f (fun h => absurd h (by omega)) (fun _ => And.intro vf ?_)
    rw [ef, e1, ei, e2, ek, hiw k hk]
    refine And.intro vi (And.intro vk ?_)
    refine pk_le (sp_cw (fun t => tv_N ko (tv_N od t)) f (to + 1) k) 1 (fun hle => h150 f iw (by omega) hiw hW (fun s h1 h2 hs => ?_)) (fun hlt => And.intro vf (And.intro vi (And.intro vk (And.intro vk ?_))))
    · rw [ekw] at hs
      have := sp_cwpos (kw := fun t => tv_N ko (tv_N od t)) (f := f + 1) (t := to + 1) (s := s) (by omega) (by omega) hs
      omega
    · rw [ra_s (by omega)]
      refine nm_e (nm_r (nI_1 f) (ih (f + 1) _ (by omega) (fun k' hk' => ?_) (sp_Wd hW (by omega) ?_)))
      · by_cases z : k' = k
        · rw [z, pk_us]
          exact congrArg nI (by omega)
        · rw [pk_un z, hiw k' hk', sp_drop_f (kw := fun t => tv_N ko (tv_N od t)) (fun q => z (by rw [← q]; exact ekw))]
      · rw [ekw]; exact hlt
theorem sp_51 (hv : tv_ok ko go vo) {R : Nat} (hR : R ≤ 14) (hfr : fr = nI R) (F : sp_F us ko vo od R) {post : Int32 → SX → Prop}
    (hp : ∀ (b : Int32) (iw : Nat → Int32), sp_L (tb_iu (tv_U us) (tv_N ko)) (fun t => tv_N ko (tv_N od t)) (fun t => tv_V vo (tv_N od t)) R b.toInt → post b (fr, us, ko, go, vo, ro, gs, be, ho, re, bb, se, li, od, iw, so)) :
    ∀ (d to f : Nat) (b : Int32) (iw : Nat → Int32), to + d = R → f ≤ to → (∀ k, k < 6 → iw k = nI (sp_cw (fun t => tv_N ko (tv_N od t)) f to k)) → sp_W (fun t => tv_N ko (tv_N od t)) f to → sp_L (tb_iu (tv_U us) (tv_N ko)) (fun t => tv_N ko (tv_N od t)) (fun t => tv_V vo (tv_N od t)) to b.toInt →
      wX_spreadLeast_51 post (nI (ms_sz (tv_U us) (tv_N ko))) fr (d + 1) b (nI f) (nI (sp_hv (fun t => tv_N ko (tv_N od t)) to)) (nI to) us ko go vo ro gs be ho re bb se li od iw so := by
  intro d
  induction d with
  | zero =>
    intro to f b iw hto hf hiw hW L
    have e : to = R := by omega
    subst e
    exact pk_le to to (fun _ => hp b iw L) (fun h => absurd h (by omega)) (hx := hfr)
  | succ d ih =>
    intro to f b iw hto hf hiw hW L
    have eto : (nI to).toNatClampNeg = to := nI_clamp (by omega)
    obtain ⟨i, k, hi, hk, e1, e2, e3, e4, hu⟩ := F.1 to (by omega)
    have ei : (nI i).toNatClampNeg = i := nI_clamp (by omega)
    have ek : (nI k).toNatClampNeg = k := nI_clamp (by omega)
    have vt : vp_in (nI to) 14 := vp_in_nI (by omega) (by omega)
    have vi : vp_in (nI i) 14 := vp_in_nI hi (by omega)
    have vk : vp_in (nI k) 6 := vp_in_nI hk (by omega)
    have ekw : tv_N ko (tv_N od to) = k := by rw [e3]; exact e4
    have hcw : sp_cw (fun t => tv_N ko (tv_N od t)) f to k ≤ to := sm_n_bd _ _
    have hhv : sp_hv (fun t => tv_N ko (tv_N od t)) (to + 1) ≤ 6 := sm_n_bd _ _
    have hsz : ms_sz (tv_U us) (tv_N ko) ≤ 6 := sm_n_bd _ _
    have hiu : ∀ s, s ≤ to → tb_iu (tv_U us) (tv_N ko) (tv_N ko (tv_N od s)) := fun s hs => ⟨_, sp_row F (by omega)⟩
    have hk6 : ∀ s, s ≤ to → tv_N ko (tv_N od s) < 6 := by
      intro s hs
      obtain ⟨i', k', a1, a2, a3, a4, a5, a6, a7⟩ := F.1 s (by omega)
      rw [a5, a6]; exact a2
    have hsort : ∀ a c, a ≤ c → c ≤ to → tv_V vo (tv_N od a) ≤ tv_V vo (tv_N od c) := fun a c h1 h2 => F.2.2 a c h1 (by omega)
    -- the walk behind the count of keys seen
    have h87 : wX_spreadLeast_87 post (wX_spreadLeast_51 post (nI (ms_sz (tv_U us) (tv_N ko))) fr (d + 1)) (nI (ms_sz (tv_U us) (tv_N ko))) b (nI f) (nI (sp_hv (fun t => tv_N ko (tv_N od t)) (to + 1))) (nI to) (nI k) fr us ko go vo ro gs be ho re bb se li od iw so := by
      refine And.intro vk (And.intro vk ?_)
      rw [ek, hiw k hk, nI_1]
      refine nm_e (Exists.intro (to - f + 1) ?_)
      refine sp_98 (h := sp_hv (fun t => tv_N ko (tv_N od t)) (to + 1)) hR (by omega) F (fun f' iw' hf' hiw' hW' hZ => ?_) (to - f) f _ (by omega) (fun k' hk' => ?_) (sp_Ws hW hf)
      · obtain ⟨i', k', a1, a2, a3, a4, a5, a6, a7⟩ := F.1 f' (by omega)
        have ei' : (nI i').toNatClampNeg = i' := nI_clamp (by omega)
        have ef' : (nI f').toNatClampNeg = f' := nI_clamp (by omega)
        have hb1 : -1000 ≤ (vo i).toInt ∧ (vo i).toInt ≤ 1000 := tv_vo hv i hi
        have hb2 : -1000 ≤ (vo i').toInt ∧ (vo i').toInt ≤ 1000 := tv_vo hv i' a1
        have hx7 : (vo i - vo i').toInt = tv_V vo (tv_N od to) - tv_V vo (tv_N od f') := by
          rw [e3, a5]
          exact ra_sub (by omega) (by omega)
        refine And.intro vt ?_
        rw [eto, e1, ei, ef', a3, ei']
        refine And.intro vi (And.intro (vp_in_nI (by omega) (by omega)) (And.intro (vp_in_nI a1 (by omega)) (nm_e ?_)))
        refine pk_eq (sp_hv (fun t => tv_N ko (tv_N od t)) (to + 1)) (ms_sz (tv_U us) (tv_N ko)) (fun he => ?_) (fun he => nm_r (nI_1 to) (ih (to + 1) f' b iw' (by omega) (by omega) hiw' hW' (sp_Lold L (fun z => he ((sp_have (iu := tb_iu (tv_U us) (tv_N ko)) (kw := fun t => tv_N ko (tv_N od t)) hiu).mpr z)))))
        have hall := (sp_have (iu := tb_iu (tv_U us) (tv_N ko)) (kw := fun t => tv_N ko (tv_N od t)) hiu).mp he
        have hA : sp_A (tb_iu (tv_U us) (tv_N ko)) (fun t => tv_N ko (tv_N od t)) f' to := by
          intro k2 hk2 hu2
          obtain ⟨s, q1, q2⟩ := hall k2 hk2 hu2
          obtain ⟨s', q3, q4, q5⟩ := hW' k2 ⟨s, by omega, q2⟩
          exact ⟨s', q3, by omega, q5⟩
        by_cases hle : b ≤ vo i - vo i'
        · have hle' := ra_le.mp hle
          rw [hx7] at hle'
          exact br_t hle (nm_r (nI_1 to) (ih (to + 1) f' b iw' (by omega) (by omega) hiw' hW' (sp_Lnew L hsort hf' (hk6 f' hf') (hiu f' hf') hZ hA (Int.le_refl _) hle' (Or.inl rfl))))
        · have hlt : ¬ b.toInt ≤ (vo i - vo i').toInt := fun z => hle (ra_le.mpr z)
          refine br_f hle (nm_r (nI_1 to) (ih (to + 1) f' _ iw' (by omega) (by omega) hiw' hW' (sp_Lnew L hsort hf' (hk6 f' hf') (hiu f' hf') hZ hA (by omega) (Int.le_of_eq hx7) (Or.inr hx7))))
      · by_cases z : k' = k
        · rw [z, pk_us, sp_ext_t (kw := fun t => tv_N ko (tv_N od t)) hf ekw]
        · rw [pk_un z, hiw k' hk', sp_ext_f (kw := fun t => tv_N ko (tv_N od t)) (fun q => z (by rw [← q]; exact ekw))]
    refine pk_le R to (fun h => absurd h (by omega)) (fun _ => And.intro vt ?_) (hx := hfr)
    rw [eto, e1, ei, e2]
    refine And.intro vi (nm_e (And.intro vk ?_))
    rw [ek, hiw k hk]
    refine pk_eq (sp_cw (fun t => tv_N ko (tv_N od t)) f to k) 0 (fun h0 => nm_r ?_ h87) (fun h0 => ?_)
    · rw [sp_hv_t (kw := fun t => tv_N ko (tv_N od t)) (by rw [ekw]; exact hk) (fun s hs q => ?_), nI_1]
      rw [ekw] at q
      obtain ⟨s', q1, q2, q3⟩ := hW k ⟨s, hs, q⟩
      exact sp_cw0 h0 s' q1 q2 q3
    · rw [sp_hv_f (kw := fun t => tv_N ko (tv_N od t)) (by
        obtain ⟨s', q1, q2, q3⟩ := sp_cwp (show 0 < sp_cw (fun t => tv_N ko (tv_N od t)) f to k by omega)
        exact ⟨s', q2, q3.trans ekw.symm⟩)] at h87
      exact h87
theorem sp_16 (hv : tv_ok ko go vo) (hS : xs_S us ko go vo 14 ro gs be) {R : Nat} (hR : R ≤ 14) (hfr : fr = nI R) (F : sp_F us ko vo od R) {post : Int32 → SX → Prop}
    (hp : ∀ (b : Int32) (iw : Nat → Int32), sp_L (tb_iu (tv_U us) (tv_N ko)) (fun t => tv_N ko (tv_N od t)) (fun t => tv_V vo (tv_N od t)) R b.toInt → post b (fr, us, ko, go, vo, ro, gs, be, ho, re, bb, se, li, od, iw, so)) :
    ∀ (d j : Nat) (iw : Nat → Int32), j + d = 6 → (∀ k, k < j → iw k = 0) → wX_spreadLeast_16 post fr (d + 1) (nI j) us ko go vo ro gs be ho re bb se li od iw so := by
  intro d
  induction d with
  | zero =>
    intro j iw hj h
    refine pk_le 6 j (fun _ => sp_keys hS (Exists.intro (R + 1) ?_)) (fun h => absurd h (by omega))
    have h2 := sp_51 hv hR hfr F hp R 0 0 1000000 iw (by omega) (by omega) (fun k hk => by rw [h k (by omega)]; rfl) (fun k ⟨s, hs, _⟩ => absurd hs (by omega)) ⟨by rw [ra_N]; exact Int.le_refl _, Or.inl ra_N, fun t p ht => absurd ht (by omega)⟩
    rw [show sp_hv (fun t => tv_N ko (tv_N od t)) 0 = 0 from sm_n_0 6 (fun k _ ⟨s, hs, _⟩ => absurd hs (by omega)), nI_0] at h2
    exact h2
  | succ d ih =>
    intro j iw hj h
    have ej : (nI j).toNatClampNeg = j := nI_clamp (by omega)
    refine pk_le 6 j (fun h => absurd h (by omega)) (fun _ => And.intro (vp_in_nI (by omega) (by omega)) ?_)
    rw [ej]
    refine nm_e (nm_r (nI_1 j) (ih (j + 1) _ (by omega) (fun k hk => ?_)))
    by_cases z : k = j
    · rw [z, pk_us]
    · rw [pk_un z]; exact h k (by omega)
end SPW
theorem sp_r0 {us ko go vo : Nat → Int32} (hv : tv_ok ko go vo) : sm_n (tv_U us) 14 = 0 ↔ ms_sz (tv_U us) (tv_N ko) = 0 := by
  constructor
  · intro h
    refine sm_n_0 6 (fun k _ ⟨i, hi, hu, _⟩ => ?_)
    have := sm_n_pos (P := tv_U us) hi hu
    omega
  · intro h
    refine sm_n_0 14 (fun i hi hu => ?_)
    obtain ⟨k, hk, _, e⟩ := tv_ko hv hi
    have := sm_n_pos (P := tb_iu (tv_U us) (tv_N ko)) (x := k) (n := 6) hk ⟨i, hi, hu, e⟩
    unfold ms_sz at h
    omega
theorem i_vc_spreadLeast {k : Nat} {u : SX} {v : SY} (I : i_Rel k u v) (hk : k + 4 ≤ 2048) : wpX_spreadLeast (fun r u' => wpY_spreadLeast (fun r' v' => r' = r ∧ i_Rel (k + 4) u' v') v) u := by
  obtain ⟨fr, us, ko, go, vo, ro, gs, be, ho, re, bb, se, li, od, iw, so⟩ := u
  obtain ⟨us2, ko2, go2, vo2, pk⟩ := v
  obtain ⟨rfl, rfl, rfl, rfl, hv, hf, hS⟩ := I
  have hn := sm_n_bd (tv_U us2) 14
  unfold wpX_spreadLeast wpY_spreadLeast
  dsimp only
  have hY : ∀ r : Int32, tb_least (tv_U us2) (tv_N ko2) (ms_spr (tv_U us2) (tv_N ko2) (tv_V vo2)) r.toInt → ∀ (od iw : Nat → Int32), wpY_least (fun r_1 u => r_1 = r ∧ i_Rel (k + 4) (fr, us2, ko2, go2, vo2, ro, gs, be, ho, re, bb, se, li, od, iw, so) (u.1, u.2.1, u.2.2.1, u.2.2.2.1, u.2.2.2.2)) (us2, ko2, go2, vo2, pk) 3 0 := by
    intro r hr od iw
    exact yw_least hv (ms_spr_ok (tv_vo hv)) (fun ρ pk post h1 h2 h3 => yw_m3 hv h1 h2 h3) (fun r' pk' hr' => ⟨Int32.toInt_inj.mp (tb_least_u hr' hr), rfl, rfl, rfl, rfl, hv, hf, hS⟩) pk
  refine pk_eq (sm_n (tv_U us2) 14) 0 (fun h0 => ?_) (fun h0 => ?_) (hx := hf)
  · refine hY 1000000 ?_ od iw
    have hsz := (sp_r0 hv).mp h0
    rw [ra_N]
    obtain ⟨ρ, hr⟩ := tb_ex (U := tv_U us2) (K := tv_N ko2)
    refine ⟨⟨ρ, 1000000, hr, Or.inl ⟨hsz, rfl⟩, Int.le_refl _⟩, fun ρ v _ hM => ?_⟩
    rcases hM with ⟨_, e⟩ | ⟨h1, _⟩
    · omega
    · omega
  · refine so_sort (fun n od ho => ?_)
    have hF := sp_mkF hv ho
    have hsz : 0 < ms_sz (tv_U us2) (tv_N ko2) := by
      have := (sp_r0 (us := us2) hv).mpr
      omega
    refine Exists.intro 7 (sp_16 hv hS (R := n) (by rw [ho.1]; exact hn) (by rw [ho.1]; exact hf) hF (fun b iw L => ?_) 6 0 iw (by omega) (fun k hk => absurd hk (by omega)))
    exact hY b (sp_end hv hF hsz L) od iw
end
section
/-! middleMost -/
theorem md_le {Q : Nat → Prop} {p n : Nat} (hp : p ≤ n) (h : ∀ t, p ≤ t → t < n → ¬ Q t) : sm_n Q n ≤ p := by
  obtain ⟨d, rfl⟩ : ∃ d, n = p + d := ⟨n - p, by omega⟩
  have h2 : sm_n Q (p + d) = sm_n Q p := by
    clear hp
    induction d with
    | zero => rfl
    | succ d ih => rw [← Nat.add_assoc, sm_n_f (h (p + d) (by omega) (by omega)), ih (fun t h1 h2 => h t h1 (by omega))]
  rw [h2]
  exact sm_n_bd Q p
theorem md_ge {Q : Nat → Prop} {p n : Nat} (hp : p < n) (h : ∀ t, t ≤ p → Q t) : p + 1 ≤ sm_n Q n := by
  have h1 : sm_n Q (p + 1) = p + 1 := by
    rw [sm_n_c (Q := fun _ => True) (p + 1) (fun t ht => ⟨fun _ => trivial, fun _ => h t (by omega)⟩), sm_n_T]
  have h2 := sm_n_mono Q (a := p + 1) (b := n) (by omega)
  omega
theorem md_va {U : Nat → Prop} {K : Nat → Nat} {V : Nat → Int} {ρ : Nat → Nat} {p : Nat} {v : Int} (h : ms_va U K V ρ p v) : sm_n (fun j => tb_iu U K j ∧ V (ρ j) < v) 6 ≤ p ∧ p + 1 ≤ sm_n (fun j => tb_iu U K j ∧ V (ρ j) ≤ v) 6 := by
  obtain ⟨k, hk, uk, rk, e⟩ := h
  constructor
  · rw [← rk, e]
    exact sm_n_le 6 (fun j _ hj => ⟨hj.1, Or.inl hj.2⟩)
  · rw [← rk, e]
    refine sm_n_lt (P := fun j => ms_bef U K V ρ j k) (Q := fun j => tb_iu U K j ∧ V (ρ j) ≤ V (ρ k)) (x := k) (n := 6) (fun j _ hj => ⟨hj.1, ?_⟩) hk ⟨uk, Int.le_refl _⟩ (fun z => ms_irr z)
    obtain ⟨_, hj⟩ := hj
    omega
theorem md_most {U : Nat → Prop} {K : Nat → Nat} {V L : Nat → Int} (hsz : 0 < ms_sz U K) (hL : ∀ k, tb_iu U K k → (∃ i, tb_R U K k i ∧ V i = L k) ∧ ∀ i, tb_R U K k i → V i ≤ L k) {c : Int} (hc : c ≠ 1000000)
    (h1 : sm_n (fun j => tb_iu U K j ∧ L j < c) 6 ≤ (ms_sz U K - 1) / 2) (h2 : (ms_sz U K - 1) / 2 + 1 ≤ sm_n (fun j => tb_iu U K j ∧ L j ≤ c) 6) : tb_most U K (ms_mid U K V) c := by
  have hub : ∀ ρ v, tb_rep U K ρ → ms_va U K V ρ ((ms_sz U K - 1) / 2) v → v ≤ c := by
    intro ρ v hr hva
    rcases Int.lt_or_le c v with h | h
    · have h3 := (md_va hva).1
      have h4 : sm_n (fun j => tb_iu U K j ∧ L j ≤ c) 6 ≤ sm_n (fun j => tb_iu U K j ∧ V (ρ j) < v) 6 := by
        refine sm_n_le 6 (fun j hj hq => ⟨hq.1, ?_⟩)
        have := (hL j hq.1).2 (ρ j) (hr j hj hq.1)
        have := hq.2
        omega
      omega
    · exact h
  constructor
  · obtain ⟨ρ, hr, hP⟩ := tb_exP (U := U) (K := K) (P := fun k i => V i = L k) (fun k _ hu => (hL k hu).1)
    obtain ⟨k, a1, a2, a3⟩ := ms_surj (V := V) (ρ := ρ) (show (ms_sz U K - 1) / 2 < ms_sz U K by omega)
    have hva : ms_va U K V ρ ((ms_sz U K - 1) / 2) (V (ρ k)) := ⟨k, a1, a2, a3, rfl⟩
    refine ⟨ρ, hr, Or.inr ⟨hsz, ?_⟩⟩
    have h3 := hub ρ _ hr hva
    have h4 := (md_va hva).2
    have e : V (ρ k) = c := by
      rcases Int.lt_or_le (V (ρ k)) c with h | h
      · have h5 : sm_n (fun j => tb_iu U K j ∧ V (ρ j) ≤ V (ρ k)) 6 ≤ sm_n (fun j => tb_iu U K j ∧ L j < c) 6 := by
          refine sm_n_le 6 (fun j hj hq => ⟨hq.1, ?_⟩)
          have := hP j hj hq.1
          have := hq.2
          omega
        omega
      · omega
    rw [e] at hva
    exact hva
  · intro ρ v hr hM
    rcases hM with ⟨z, _⟩ | ⟨_, hva⟩
    · omega
    · exact Or.inr ⟨hc, hub ρ v hr hva⟩
def md_T (us ko go vo : Nat → Int32) (k g : Nat) (x : Int32) : Prop :=
  (x = 1000000 ∧ ∀ i, tb_R (tv_U us) (tv_N ko) k i → ¬ tv_N go i < g) ∨ (∃ i, tb_R (tv_U us) (tv_N ko) k i ∧ x = vo i ∧ ∀ i', tb_R (tv_U us) (tv_N ko) k i' → tv_N go i' < g → tv_V vo i' ≤ tv_V vo i)
def md_I (us ko : Nat → Int32) (L : Nat → Int) (j n : Nat) (so : Nat → Int32) : Prop :=
  n = sm_n (tb_iu (tv_U us) (tv_N ko)) j ∧ in_S so (fun x => x.toInt) n ∧ ∀ P : Int → Prop, sm_n (fun t => P (so t).toInt) n = sm_n (fun k => tb_iu (tv_U us) (tv_N ko) k ∧ P (L k)) j
section MD
variable {fr : Int32} {us ko go vo ro gs be ho re bb se li od iw so : Nat → Int32}
theorem md_26 (hv : tv_ok ko go vo) (hS : xs_S us ko go vo 14 ro gs be) {k n : Nat} (hk : k < 6) (hn : n < 6) (hs : in_S so (fun x => x.toInt) n) {post : Int32 → SX → Prop} {J : Int32 → Int32 → Int32 → (Nat → Int32) → (Nat → Int32) → (Nat → Int32) → (Nat → Int32) → (Nat → Int32) → (Nat → Int32) → (Nat → Int32) → (Nat → Int32) → (Nat → Int32) → (Nat → Int32) → (Nat → Int32) → (Nat → Int32) → (Nat → Int32) → (Nat → Int32) → (Nat → Int32) → Prop}
    (h0 : ¬ tb_iu (tv_U us) (tv_N ko) k → J (nI n) (nI (k + 1)) fr us ko go vo ro gs be ho re bb se li od iw so)
    (h1 : ∀ i, tb_R (tv_U us) (tv_N ko) k i → (∀ i', tb_R (tv_U us) (tv_N ko) k i' → tv_V vo i' ≤ tv_V vo i) → ∀ so', in_R so (fun x => x.toInt) (vo i) n so' → J (nI (n + 1)) (nI (k + 1)) fr us ko go vo ro gs be ho re bb se li od iw so') :
    ∀ (d g : Nat) (x : Int32), g + d = 8 → md_T us ko go vo k g x → wX_middleMost_26 post J (nI n) (nI k) fr us ko go vo ro gs be ho re bb se li od iw so (d + 1) x (nI g) := by
  have hN : ∀ i, i < 14 → ¬ vo i = 1000000 := by
    intro i hi z
    have h8 := (hv i hi).2.2
    rw [z, ra_N] at h8
    omega
  have hG8 : ∀ i, tb_R (tv_U us) (tv_N ko) k i → tv_N go i < 8 := by
    intro i hi
    obtain ⟨g, hg, _, e⟩ := tv_go hv hi.1
    omega
  intro d
  induction d with
  | zero =>
    intro g x hg hT
    have e : g = 8 := by omega
    subst e
    refine pk_le 8 8 (fun _ => ?_) (fun h => absurd h (by omega))
    rcases hT with ⟨e, hno⟩ | ⟨i, hi, e, hl⟩
    · exact br_t e (nm_r (nI_1 k) (h0 (fun ⟨i, hi⟩ => hno i hi (hG8 i hi))))
    · rw [e]
      refine br_f (hN i hi.1) ?_
      exact so_insert hn hs (fun so' R => nm_r (nI_1 n) (nm_r (nI_1 k) (h1 i hi (fun i' hi' => hl i' hi' (hG8 i' hi')) so' R)))
  | succ d ih =>
    intro g x hg hT
    have ex : nI k * 8 + nI g = nI (k * 8 + g) := by rw [ra_m8, nI_add]
    have cx : (nI (k * 8 + g)).toNatClampNeg = k * 8 + g := nI_clamp (by omega)
    refine pk_le 8 g (fun h => absurd h (by omega)) (fun _ => ?_)
    rw [ex, cx]
    refine And.intro (vp_in_nI (by omega) (by omega)) (nm_e ?_)
    rcases hS.2.2 k hk g (by omega) with ⟨e, hno⟩ | ⟨i0, hi0, hu0, hK0, hG0, e, hl0⟩
    · refine br_t e (nm_r (nI_1 g) (ih (g + 1) x (by omega) ?_))
      have hno' : ∀ i, tb_R (tv_U us) (tv_N ko) k i → tv_N go i < g + 1 → tv_N go i < g := by
        intro i hi hlt
        have := hno i hi.1 hi.2.1 hi.2.2
        omega
      rcases hT with ⟨e, hno2⟩ | ⟨i, hi, e, hl⟩
      · exact Or.inl ⟨e, fun i hi z => hno2 i hi (hno' i hi z)⟩
      · exact Or.inr ⟨i, hi, e, fun i' hi' z => hl i' hi' (hno' i' hi' z)⟩
    · rw [e]
      refine br_f (hN i0 hi0) ?_
      have hR0 : tb_R (tv_U us) (tv_N ko) k i0 := ⟨hi0, hu0, hK0⟩
      rcases hT with ⟨ex1, hno2⟩ | ⟨i, hi, ex1, hl⟩
      · refine br_t ex1 (nm_r (nI_1 g) (ih (g + 1) _ (by omega) (Or.inr ⟨i0, hR0, rfl, fun i' hi' z => ?_⟩)))
        by_cases q : tv_N go i' = g
        · exact hl0 i' hi'.1 hi'.2.1 hi'.2.2 q
        · exact absurd (show tv_N go i' < g by omega) (hno2 i' hi')
      · rw [ex1]
        refine br_f (hN i hi.1) ?_
        by_cases hle : vo i0 ≤ vo i
        · refine br_t hle (nm_r (nI_1 g) (ih (g + 1) _ (by omega) (Or.inr ⟨i, hi, rfl, fun i' hi' z => ?_⟩)))
          by_cases q : tv_N go i' = g
          · exact Int.le_trans (hl0 i' hi'.1 hi'.2.1 hi'.2.2 q) (ra_le.mp hle)
          · exact hl i' hi' (by omega)
        · have hlt : ¬ (vo i0).toInt ≤ (vo i).toInt := fun z => hle (ra_le.mpr z)
          refine br_f hle (nm_r (nI_1 g) (ih (g + 1) _ (by omega) (Or.inr ⟨i0, hR0, rfl, fun i' hi' z => ?_⟩)))
          by_cases q : tv_N go i' = g
          · exact hl0 i' hi'.1 hi'.2.1 hi'.2.2 q
          · have h5 := hl i' hi' (by omega)
            have h6 : tv_V vo i = (vo i).toInt := rfl
            have h7 : tv_V vo i0 = (vo i0).toInt := rfl
            omega
theorem md_14 (hv : tv_ok ko go vo) (hS : xs_S us ko go vo 14 ro gs be) {L : Nat → Int} (hL : ∀ k, tb_iu (tv_U us) (tv_N ko) k → (∃ i, tb_R (tv_U us) (tv_N ko) k i ∧ tv_V vo i = L k) ∧ ∀ i, tb_R (tv_U us) (tv_N ko) k i → tv_V vo i ≤ L k) {post : Int32 → SX → Prop}
    (hp : ∀ so, md_I us ko L 6 (ms_sz (tv_U us) (tv_N ko)) so → wX_middleMost_14 post 1 (nI (ms_sz (tv_U us) (tv_N ko))) (nI 6) fr us ko go vo ro gs be ho re bb se li od iw so) :
    ∀ (d k n : Nat) (so : Nat → Int32), k + d = 6 → md_I us ko L k n so → wX_middleMost_14 post (d + 1) (nI n) (nI k) fr us ko go vo ro gs be ho re bb se li od iw so := by
  intro d
  induction d with
  | zero =>
    intro k n so hk I
    have e : k = 6 := by omega
    subst e
    have e2 : n = ms_sz (tv_U us) (tv_N ko) := I.1
    subst e2
    exact hp so I
  | succ d ih =>
    intro k n so hk I
    have hn : n ≤ k := by rw [I.1]; exact sm_n_bd _ _
    refine pk_le 6 k (fun h => absurd h (by omega)) (fun _ => Exists.intro 9 ?_)
    refine md_26 hv hS (by omega) (by omega) I.2.1 (J := wX_middleMost_14 post (d + 1)) (fun hu => ?_) (fun i hi hl so' R => ?_) 8 0 1000000 (by omega) (Or.inl ⟨rfl, fun i _ z => absurd z (by omega)⟩)
    · refine ih (k + 1) n so (by omega) ⟨?_, I.2.1, fun P => ?_⟩
      · rw [sm_n_f hu]; exact I.1
      · rw [sm_n_f (P := fun k => tb_iu (tv_U us) (tv_N ko) k ∧ P (L k)) (fun z => hu z.1)]; exact I.2.2 P
    · have hu : tb_iu (tv_U us) (tv_N ko) k := ⟨i, hi⟩
      have eL : tv_V vo i = L k := by
        obtain ⟨⟨i0, h1, h2⟩, h3⟩ := hL k hu
        have := hl i0 h1
        have := h3 i hi
        omega
      refine ih (k + 1) (n + 1) so' (by omega) ⟨?_, R.1, fun P => ?_⟩
      · rw [sm_n_t hu, ← I.1]
      · have h5 := R.2 (fun x => P x.toInt)
        rw [h5, I.2.2 P, sm_n_s]
        refine congrArg _ (sm_c ⟨fun z => ⟨hu, ?_⟩, fun z => ?_⟩)
        · rw [← eL]; exact z
        · have := z.2
          rw [← eL] at this
          exact this
theorem md_x (hv : tv_ok ko go vo) (hS : xs_S us ko go vo 14 ro gs be) (hsz : 0 < ms_sz (tv_U us) (tv_N ko)) {post : Int32 → SX → Prop} (hp : ∀ (r : Int32) (so : Nat → Int32), tb_most (tv_U us) (tv_N ko) (ms_mid (tv_U us) (tv_N ko) (tv_V vo)) r.toInt → post r (fr, us, ko, go, vo, ro, gs, be, ho, re, bb, se, li, od, iw, so)) : ∃ n, wX_middleMost_14 post n 0 0 fr us ko go vo ro gs be ho re bb se li od iw so := by
  obtain ⟨L, hL⟩ := cs_opt (U := tv_U us) (K := tv_N ko) (tv_V vo) (fun a b => b ≤ a) (Or.inr (fun a b => Iff.rfl))
  have h6 : ms_sz (tv_U us) (tv_N ko) ≤ 6 := sm_n_bd _ _
  refine Exists.intro 7 (md_14 hv hS hL (fun so I => ?_) 6 0 0 so (by omega) ⟨rfl, fun i j _ hj => absurd hj (by omega), fun P => rfl⟩)
  have e : nI (ms_sz (tv_U us) (tv_N ko) - 1) / 2 = nI ((ms_sz (tv_U us) (tv_N ko) - 1) / 2) := pk_div (d := 2) (by omega) (by omega) (by omega)
  have ec : (nI ((ms_sz (tv_U us) (tv_N ko) - 1) / 2)).toNatClampNeg = (ms_sz (tv_U us) (tv_N ko) - 1) / 2 := nI_clamp (by omega)
  refine pk_le 6 6 (fun _ => And.intro (by decide) ?_) (fun h => absurd h (by omega))
  rw [ra_s (by omega), e, ec]
  refine And.intro (vp_in_nI (by omega) (by omega)) (hp _ _ ?_)
  have hlt : (ms_sz (tv_U us) (tv_N ko) - 1) / 2 < ms_sz (tv_U us) (tv_N ko) := by omega
  have hmono : ∀ a b, a ≤ b → b < ms_sz (tv_U us) (tv_N ko) → (so a).toInt ≤ (so b).toInt := by
    intro a b hab hb
    by_cases z : a = b
    · rw [z]; exact Int.le_refl _
    · exact I.2.1 a b (by omega) hb
  have hc1 := I.2.2 (fun x => x < (so ((ms_sz (tv_U us) (tv_N ko) - 1) / 2)).toInt)
  have hc2 := I.2.2 (fun x => x ≤ (so ((ms_sz (tv_U us) (tv_N ko) - 1) / 2)).toInt)
  refine md_most hsz hL ?_ ?_ ?_
  · have h1 := I.2.2 (fun x => x = (so ((ms_sz (tv_U us) (tv_N ko) - 1) / 2)).toInt)
    have h2 := sm_n_pos (P := fun t => (so t).toInt = (so ((ms_sz (tv_U us) (tv_N ko) - 1) / 2)).toInt) hlt rfl
    obtain ⟨k, hk, hu, ek⟩ := sm_n_ex (P := fun k => tb_iu (tv_U us) (tv_N ko) k ∧ L k = (so ((ms_sz (tv_U us) (tv_N ko) - 1) / 2)).toInt) (n := 6) (by rw [← h1]; exact h2)
    obtain ⟨⟨i, hi, ei⟩, _⟩ := hL k hu
    have := tv_vo hv i hi.1
    omega
  · rw [← hc1]
    refine md_le (by omega) (fun t h1 h2 z => ?_)
    have := hmono _ t h1 h2
    omega
  · rw [← hc2]
    exact md_ge hlt (fun t ht => hmono t _ ht hlt)
end MD
theorem i_vc_middleMost {k : Nat} {u : SX} {v : SY} (I : i_Rel k u v) (hk : k + 4 ≤ 2048) : wpX_middleMost (fun r u' => wpY_middleMost (fun r' v' => r' = r ∧ i_Rel (k + 4) u' v') v) u := by
  obtain ⟨fr, us, ko, go, vo, ro, gs, be, ho, re, bb, se, li, od, iw, so⟩ := u
  obtain ⟨us2, ko2, go2, vo2, pk⟩ := v
  obtain ⟨rfl, rfl, rfl, rfl, hv, hf, hS⟩ := I
  have hn := sm_n_bd (tv_U us2) 14
  unfold wpX_middleMost wpY_middleMost
  dsimp only
  have hY : ∀ r : Int32, tb_most (tv_U us2) (tv_N ko2) (ms_mid (tv_U us2) (tv_N ko2) (tv_V vo2)) r.toInt → ∀ (so : Nat → Int32), wpY_most (fun r_1 u => r_1 = r ∧ i_Rel (k + 4) (fr, us2, ko2, go2, vo2, ro, gs, be, ho, re, bb, se, li, od, iw, so) (u.1, u.2.1, u.2.2.1, u.2.2.2.1, u.2.2.2.2)) (us2, ko2, go2, vo2, pk) 4 0 := by
    intro r hr so
    exact yw_most hv (ms_mid_ok (tv_vo hv)) (fun ρ pk post h1 h2 h3 => yw_m4 hv h1 h2 h3) (fun r' pk' hr' => ⟨Int32.toInt_inj.mp (tb_most_u hr' hr), rfl, rfl, rfl, rfl, hv, hf, hS⟩) pk
  refine pk_eq (sm_n (tv_U us2) 14) 0 (fun h0 => ?_) (fun h0 => ?_) (hx := hf)
  · refine hY 1000000 ?_ so
    have hsz := (sp_r0 hv).mp h0
    rw [ra_N]
    obtain ⟨ρ, hr⟩ := tb_ex (U := tv_U us2) (K := tv_N ko2)
    refine ⟨⟨ρ, hr, Or.inl ⟨hsz, rfl⟩⟩, fun ρ v _ hM => ?_⟩
    rcases hM with ⟨_, e⟩ | ⟨h1, _⟩
    · exact Or.inl e
    · omega
  · have hsz : 0 < ms_sz (tv_U us2) (tv_N ko2) := by
      have := (sp_r0 (us := us2) hv).mpr
      omega
    exact md_x hv hS hsz (fun r so hr => hY r hr so)
end
section
/-! the search for the greatest gain: pure. d: reach as numbers, 1000000: not reached; B κ x: best of key κ and group x; Ad κ x: there is one -/
def bf_Q (B : Nat → Nat → Int) (Ad : Nat → Nat → Prop) (p : Nat → Int) (κ x : Nat) : Prop := Ad κ x ∧ ∀ h, h < 8 → Ad κ h → B κ h - p h ≤ B κ x - p x
/-- x stands before y in the order of (d - p falling, time rising) -/
def bf_lt (d p : Nat → Int) (t : Nat → Nat) (x y : Nat) : Prop := d y - p y < d x - p x ∨ (d y - p y = d x - p x ∧ t x < t y)
def bf_P (B : Nat → Nat → Int) (Ad : Nat → Nat → Prop) (key : Nat) (H bb : Nat → Int32) (p d : Nat → Int) (t : Nat → Nat) (x : Nat) : Prop :=
  (bb x = -1 ∧ Ad key x ∧ d x = B key x) ∨ ∃ g κ, g < 8 ∧ κ < 6 ∧ bb x = nI g ∧ d g ≠ 1000000 ∧ H g = nI κ ∧ Ad κ x ∧ d x ≤ d g - B κ g + B κ x ∧ bf_lt d p t g x
def bf_J (B : Nat → Nat → Int) (Ad : Nat → Nat → Prop) (key : Nat) (H : Nat → Int32) (p : Nat → Int) (c : Int) (d : Nat → Int) (bb : Nat → Int32) : Prop :=
  ∃ (t : Nat → Nat) (T : Nat), (∀ x, x < 8 → d x ≠ 1000000 → -c ≤ d x ∧ d x ≤ c) ∧ (∀ x, x < 8 → Ad key x → d x ≠ 1000000 ∧ B key x ≤ d x) ∧
    (∀ x, x < 8 → d x ≠ 1000000 → bf_P B Ad key H bb p d t x) ∧ ∀ x, x < 8 → t x < T
/-- one group's holder has been tried at all groups -/
def bf_X (B : Nat → Nat → Int) (Ad : Nat → Nat → Prop) (g κ : Nat) (d : Nat → Int) (bb : Nat → Int32) (d' : Nat → Int) (bb' : Nat → Int32) (h : Nat) : Prop :=
  (d' h = d h ∧ bb' h = bb h ∧ (h ≠ g → Ad κ h → d h ≠ 1000000 ∧ d g - B κ g + B κ h ≤ d h)) ∨
  (h ≠ g ∧ Ad κ h ∧ (d h = 1000000 ∨ d h < d g - B κ g + B κ h) ∧ d' h = d g - B κ g + B κ h ∧ bb' h = nI g)
/-- all ways out of x are used -/
def bf_rx (B : Nat → Nat → Int) (Ad : Nat → Nat → Prop) (H : Nat → Int32) (d : Nat → Int) (x : Nat) : Prop :=
  ∀ κ, κ < 6 → H x = nI κ → ∀ h, h < 8 → h ≠ x → Ad κ h → d h ≠ 1000000 ∧ d x - B κ x + B κ h ≤ d h
def bf_S (B : Nat → Nat → Int) (Ad : Nat → Nat → Prop) (H : Nat → Int32) (p d : Nat → Int) (F : Nat → Prop) : Prop :=
  ∀ x, x < 8 → F x → d x ≠ 1000000 ∧ bf_rx B Ad H d x ∧ ∀ y, y < 8 → ¬ F y → d y ≠ 1000000 → d y - p y ≤ d x - p x
def bf_Rd (B : Nat → Nat → Int) (Ad : Nat → Nat → Prop) (H : Nat → Int32) (p : Nat → Int) (r : Nat) (d : Nat → Int) : Prop :=
  ∃ F : Nat → Prop, bf_S B Ad H p d F ∧ (r ≤ sm_n F 8 ∨ ∀ y, y < 8 → ¬ F y → d y = 1000000)
def bf_Md (B : Nat → Nat → Int) (Ad : Nat → Nat → Prop) (H : Nat → Int32) (p : Nat → Int) (r g : Nat) (d : Nat → Int) : Prop :=
  (∃ F : Nat → Prop, bf_S B Ad H p d F ∧ ∀ y, y < 8 → ¬ F y → d y = 1000000) ∨
  (∃ (F : Nat → Prop) (s : Nat), bf_S B Ad H p d F ∧ (s < 8 ∧ ¬ F s ∧ d s ≠ 1000000 ∧ ∀ y, y < 8 → ¬ F y → d y ≠ 1000000 → d y - p y ≤ d s - p s) ∧ (s < g → bf_rx B Ad H d s) ∧ r ≤ sm_n F 8)
section BF
variable {B : Nat → Nat → Int} {Ad : Nat → Nat → Prop} {key : Nat} {H bb bb' : Nat → Int32} {p d d' : Nat → Int} {c : Int}
theorem bf_J0 (hB : ∀ x, x < 8 → Ad key x → -1000 ≤ B key x ∧ B key x ≤ 1000) (hd : ∀ x, x < 8 → (Ad key x ∧ d x = B key x) ∨ (¬ Ad key x ∧ d x = 1000000)) (hb : ∀ x, x < 8 → bb x = -1) : bf_J B Ad key H p 1000 d bb := by
  refine ⟨fun _ => 0, 1, fun x hx hr => ?_, fun x hx ha => ?_, fun x hx hr => ?_, fun x _ => Nat.one_pos⟩
  · rcases hd x hx with ⟨a, e⟩ | ⟨a, e⟩
    · have := hB x hx a; omega
    · exact absurd e hr
  · rcases hd x hx with ⟨a, e⟩ | ⟨a, e⟩
    · have := hB x hx a; omega
    · exact absurd ha a
  · rcases hd x hx with ⟨a, e⟩ | ⟨a, e⟩
    · exact Or.inl ⟨hb x hx, a, e⟩
    · exact absurd e hr
theorem bf_Jmono {c' : Int} (J : bf_J B Ad key H p c d bb) (h : c ≤ c') : bf_J B Ad key H p c' d bb := by
  obtain ⟨t, T, j1, j2, j3, j4⟩ := J
  exact ⟨t, T, fun x hx hr => by have := j1 x hx hr; omega, j2, j3, j4⟩
theorem bf_Js {g κ : Nat} (hg : g < 8) (hκ : κ < 6) (eH : H g = nI κ) (hQ : bf_Q B Ad p κ g) (hB : ∀ x, x < 8 → Ad κ x → -1000 ≤ B κ x ∧ B κ x ≤ 1000) (hr : d g ≠ 1000000) (hc : 0 ≤ c) (hc2 : c + 2000 < 1000000) (J : bf_J B Ad key H p c d bb) (X : ∀ h, h < 8 → bf_X B Ad g κ d bb d' bb' h) : bf_J B Ad key H p (c + 2000) d' bb' := by
  obtain ⟨t, T, j1, j2, j3, j4⟩ := J
  have hBg := hB g hg hQ.1
  have hdg := j1 g hg hr
  -- the group itself stays
  have eg : d' g = d g := by
    rcases X g hg with ⟨a, _⟩ | ⟨a, _⟩
    · exact a
    · exact absurd rfl a
  -- nothing falls
  have hup : ∀ y, y < 8 → d y ≠ 1000000 → d' y ≠ 1000000 ∧ d y ≤ d' y := by
    intro y hy hry
    rcases X y hy with ⟨a, _, _⟩ | ⟨a1, a2, a3, a4, a5⟩
    · rw [a]; exact ⟨hry, Int.le_refl _⟩
    · have := hB y hy a2
      exact ⟨by omega, by omega⟩
  obtain ⟨t', ht1, ht2⟩ : ∃ t' : Nat → Nat, (∀ y, d' y = d y → t' y = t y) ∧ (∀ y, ¬ d' y = d y → t' y = T) :=
    ⟨fun y => @ite _ (d' y = d y) (Classical.propDecidable _) (t y) T, fun y h => if_pos h, fun y h => if_neg h⟩
  refine ⟨t', T + 1, fun x hx hrx => ?_, fun x hx ha => ?_, fun x hx hrx => ?_, fun x hx => ?_⟩
  · rcases X x hx with ⟨a, _, _⟩ | ⟨a1, a2, a3, a4, a5⟩
    · rw [a] at hrx ⊢
      have := j1 x hx hrx
      omega
    · have := hB x hx a2
      omega
  · have h1 := j2 x hx ha
    have h2 := hup x hx h1.1
    exact ⟨h2.1, by omega⟩
  · rcases X x hx with ⟨a, ab, _⟩ | ⟨a1, a2, a3, a4, a5⟩
    · rw [a] at hrx
      rcases j3 x hx hrx with ⟨b1, b2, b3⟩ | ⟨y, κ', b1, b2, b3, b4, b5, b6, b7, b8⟩
      · exact Or.inl ⟨by rw [ab]; exact b1, b2, by rw [a]; exact b3⟩
      · have hy := hup y b1 b4
        refine Or.inr ⟨y, κ', b1, b2, by rw [ab]; exact b3, hy.1, b5, b6, by rw [a]; omega, ?_⟩
        unfold bf_lt at b8 ⊢
        by_cases ey : d' y = d y
        · rw [ey, a, ht1 x a, ht1 y ey]; exact b8
        · left
          rw [a]
          omega
    · have hBx := hB x hx a2
      have hq := hQ.2 x hx a2
      refine Or.inr ⟨g, κ, hg, hκ, a5, by rw [eg]; exact hr, eH, a2, by rw [eg]; omega, ?_⟩
      unfold bf_lt
      have hne : ¬ d' x = d x := by
        intro e
        rcases a3 with a3 | a3 <;> omega
      rw [eg, ht2 x hne, ht1 g eg]
      have := j4 g hg
      omega
  · by_cases e : d' x = d x
    · rw [ht1 x e]; have := j4 x hx; omega
    · rw [ht2 x e]; omega
/-- what a settled set does when a group's holder is tried -/
theorem bf_Ss {F : Nat → Prop} {g κ : Nat} (hg : g < 8) (hκ : κ < 6) (eH : H g = nI κ) (hQ : bf_Q B Ad p κ g) (hr : d g ≠ 1000000) (hlow : ∀ h, h < 8 → Ad κ h → d g - B κ g + B κ h ≠ 1000000) (S : bf_S B Ad H p d F) (X : ∀ h, h < 8 → bf_X B Ad g κ d bb d' bb' h) :
    (∀ y, y < 8 → d y ≠ 1000000 → d' y ≠ 1000000 ∧ d y ≤ d' y) ∧ (∀ x, x < 8 → F x → d' x = d x) ∧ (∀ y, y < 8 → d' y ≠ d y → ¬ F g ∧ d' y ≠ 1000000 ∧ d' y - p y ≤ d g - p g) ∧ bf_S B Ad H p d' F := by
  have hup : ∀ y, y < 8 → d y ≠ 1000000 → d' y ≠ 1000000 ∧ d y ≤ d' y := by
    intro y hy hry
    rcases X y hy with ⟨a, _, _⟩ | ⟨a1, a2, a3, a4, a5⟩
    · rw [a]; exact ⟨hry, Int.le_refl _⟩
    · exact ⟨by rw [a4]; exact hlow y hy a2, by omega⟩
  have hnew : ∀ y, y < 8 → d' y ≠ d y → ¬ F g ∧ d' y ≠ 1000000 ∧ d' y - p y ≤ d g - p g := by
    intro y hy hne
    rcases X y hy with ⟨a, _, _⟩ | ⟨a1, a2, a3, a4, a5⟩
    · exact absurd a hne
    · have hq := hQ.2 y hy a2
      refine ⟨fun hF => ?_, by rw [a4]; exact hlow y hy a2, by omega⟩
      have h1 := (S g hg hF).2.1 κ hκ eH y hy a1 a2
      rcases a3 with a3 | a3
      · exact h1.1 a3
      · omega
  have hF : ∀ x, x < 8 → F x → d' x = d x := by
    intro x hx hFx
    by_cases e : d' x = d x
    · exact e
    · obtain ⟨h1, h2, h3⟩ := hnew x hx e
      obtain ⟨s1, s2, s3⟩ := S x hx hFx
      have h4 := s3 g hg h1 hr
      have h5 := (hup x hx s1).2
      omega
  refine ⟨hup, hF, hnew, fun x hx hFx => ?_⟩
  obtain ⟨s1, s2, s3⟩ := S x hx hFx
  have ex := hF x hx hFx
  refine ⟨by rw [ex]; exact s1, fun κ' hκ' eH' h hh hhx ha => ?_, fun y hy hFy hry => ?_⟩
  · have h1 := s2 κ' hκ' eH' h hh hhx ha
    have h2 := hup h hh h1.1
    rw [ex]
    exact ⟨h2.1, by omega⟩
  · rw [ex]
    by_cases e : d' y = d y
    · rw [e] at hry ⊢; exact s3 y hy hFy hry
    · obtain ⟨h1, h2, h3⟩ := hnew y hy e
      have h4 := s3 g hg h1 hr
      omega
theorem bf_rxup {x : Nat} (hx : bf_rx B Ad H d x) (e : d' x = d x) (hup : ∀ y, y < 8 → d y ≠ 1000000 → d' y ≠ 1000000 ∧ d y ≤ d' y) : bf_rx B Ad H d' x := by
  intro κ hκ eH h hh hhx ha
  have h1 := hx κ hκ eH h hh hhx ha
  have h2 := hup h hh h1.1
  rw [e]
  exact ⟨h2.1, by omega⟩
theorem bf_Ms {r g κ : Nat} (hg : g < 8) (hκ : κ < 6) (eH : H g = nI κ) (hQ : bf_Q B Ad p κ g) (hr : d g ≠ 1000000) (hlow : ∀ h, h < 8 → Ad κ h → d g - B κ g + B κ h ≠ 1000000) (M : bf_Md B Ad H p r g d) (X : ∀ h, h < 8 → bf_X B Ad g κ d bb d' bb' h) : bf_Md B Ad H p r (g + 1) d' := by
  rcases M with ⟨F, S, hout⟩ | ⟨F, s, S, ⟨m1, m2, m3, m4⟩, hrx, hcnt⟩
  · obtain ⟨hup, hF, hnew, S'⟩ := bf_Ss hg hκ eH hQ hr hlow S X
    refine Or.inl ⟨F, S', fun y hy hFy => ?_⟩
    by_cases e : d' y = d y
    · rw [e]; exact hout y hy hFy
    · obtain ⟨h1, _, _⟩ := hnew y hy e
      exact absurd (hout g hg h1) hr
  · obtain ⟨hup, hF, hnew, S'⟩ := bf_Ss hg hκ eH hQ hr hlow S X
    have es : d' s = d s := by
      by_cases e : d' s = d s
      · exact e
      · obtain ⟨h1, h2, h3⟩ := hnew s m1 e
        have h4 := m4 g hg h1 hr
        have h5 := (hup s m1 m3).2
        omega
    refine Or.inr ⟨F, s, S', ⟨m1, m2, by rw [es]; exact m3, fun y hy hFy hry => ?_⟩, fun hs => ?_, hcnt⟩
    · rw [es]
      by_cases e : d' y = d y
      · rw [e] at hry ⊢; exact m4 y hy hFy hry
      · obtain ⟨h1, h2, h3⟩ := hnew y hy e
        have h4 := m4 g hg h1 hr
        omega
    · by_cases z : s = g
      · subst z
        intro κ' hκ' eH' h hh hhx ha
        have ek : κ' = κ := sh_nI hκ' hκ (eH'.symm.trans eH)
        subst ek
        rw [es]
        rcases X h hh with ⟨a, _, a2⟩ | ⟨a1, a2, a3, a4, a5⟩
        · rw [a]; exact a2 hhx ha
        · rw [a4]; exact ⟨hlow h hh a2, Int.le_refl _⟩
      · exact bf_rxup (hrx (by omega)) es hup
theorem bf_Mskip {r g : Nat} (h : d g = 1000000 ∨ ∀ κ, κ < 6 → ¬ H g = nI κ) (M : bf_Md B Ad H p r g d) : bf_Md B Ad H p r (g + 1) d := by
  rcases M with M | ⟨F, s, S, ⟨m1, m2, m3, m4⟩, hrx, hcnt⟩
  · exact Or.inl M
  · refine Or.inr ⟨F, s, S, ⟨m1, m2, m3, m4⟩, fun hs => ?_, hcnt⟩
    by_cases z : s = g
    · subst z
      rcases h with h | h
      · exact absurd h m3
      · intro κ hκ eH
        exact absurd eH (h κ hκ)
    · exact hrx (by omega)
theorem bf_M0 {r : Nat} (R : bf_Rd B Ad H p r d) : bf_Md B Ad H p r 0 d := by
  obtain ⟨F, S, h⟩ := R
  by_cases z : ∃ y, y < 8 ∧ ¬ F y ∧ d y ≠ 1000000
  · obtain ⟨s, hs, ⟨h1, h2⟩, h3⟩ := sm_max (fun y => d y - p y) 8 (fun y => ¬ F y ∧ d y ≠ 1000000) z
    rcases h with h | h
    · exact Or.inr ⟨F, s, S, ⟨hs, h1, h2, fun y hy a b => h3 y hy ⟨a, b⟩⟩, fun q => absurd q (by omega), h⟩
    · exact absurd (h s hs h1) h2
  · refine Or.inl ⟨F, S, fun y hy hF => ?_⟩
    by_cases q : d y = 1000000
    · exact q
    · exact absurd ⟨y, hy, hF, q⟩ z
theorem bf_R0 : bf_Rd B Ad H p 0 d := ⟨fun _ => False, fun _ _ h => h.elim, Or.inl (Nat.zero_le _)⟩
theorem bf_Mend {r : Nat} (M : bf_Md B Ad H p r 8 d) : bf_Rd B Ad H p (r + 1) d := by
  rcases M with ⟨F, S, h⟩ | ⟨F, s, S, ⟨m1, m2, m3, m4⟩, hrx, hcnt⟩
  · exact ⟨F, S, Or.inr h⟩
  · refine ⟨fun x => F x ∨ x = s, fun x hx hF => ?_, Or.inl ?_⟩
    · by_cases z : F x
      · obtain ⟨s1, s2, s3⟩ := S x hx z
        exact ⟨s1, s2, fun y hy hy' => s3 y hy (fun q => hy' (Or.inl q))⟩
      · rcases hF with hF | hF
        · exact absurd hF z
        · subst hF
          exact ⟨m3, hrx m1, fun y hy hy' => m4 y hy (fun q => hy' (Or.inl q))⟩
    · have := sm_n_up (P := F) (Q := fun x => F x ∨ x = s) (x := s) m2 (Or.inr rfl) 8 m1 (fun i _ hne => ⟨fun q => Or.inl q, fun q => q.elim id (fun e => absurd e hne)⟩)
      omega
theorem bf_done (R : bf_Rd B Ad H p 8 d) : ∀ x, x < 8 → d x ≠ 1000000 → bf_rx B Ad H d x := by
  obtain ⟨F, S, h⟩ := R
  intro x hx hr
  rcases h with h | h
  · exact (S x hx (sm_n_all h x hx)).2.1
  · by_cases z : F x
    · exact (S x hx z).2.1
    · exact absurd (h x hx z) hr
/-! ranks -/
theorem bf_ltt {t : Nat → Nat} {x y z : Nat} (h1 : bf_lt d p t x y) (h2 : bf_lt d p t y z) : bf_lt d p t x z := by
  unfold bf_lt at *
  omega
theorem bf_lti {t : Nat → Nat} {x : Nat} (h : bf_lt d p t x x) : False := by
  unfold bf_lt at h
  omega
theorem bf_rank (d p : Nat → Int) (t : Nat → Nat) : ∃ r : Nat → Nat, (∀ x, x < 8 → r x < 8) ∧ ∀ x y, x < 8 → y < 8 → bf_lt d p t x y → r x < r y := by
  refine ⟨fun x => sm_n (fun y => bf_lt d p t y x) 8, fun x hx => ?_, fun x y hx hy h => ?_⟩
  · have h1 : sm_n (fun y => bf_lt d p t y x) 8 < sm_n (fun _ => True) 8 := sm_n_lt (fun _ _ _ => trivial) hx trivial (fun z => bf_lti z)
    rw [sm_n_T] at h1
    exact h1
  · exact sm_n_lt (fun i _ hi => bf_ltt hi h) hx h (fun z => bf_lti z)
end BF
end
section
/-! mixedMost: potentials, the certificate; pure -/
def mx_I (B : Nat → Nat → Int) (Ad : Nat → Nat → Prop) (iu : Nat → Prop) (k : Nat) (T : Int) (H : Nat → Int32) : Prop :=
  ∃ p : Nat → Int, (∀ x, x < 8 → 0 ≤ p x) ∧ (∀ x, x < 8 → H x = -1 → p x = 0) ∧ sh_M H 8 (bf_Q B Ad p) (fun κ => κ < k ∧ iu κ) ∧ sh_w H 8 B = T ∧ ∀ κ, κ < k → κ < 6 → iu κ → ∃ x, x < 8 ∧ H x = nI κ
section MX
variable {B : Nat → Nat → Int} {Ad : Nat → Nat → Prop} {iu : Nat → Prop} {A : Nat → Prop} {key : Nat} {H bb : Nat → Int32} {p d : Nat → Int} {c : Int}
theorem mx_succ (hp0 : ∀ x, x < 8 → 0 ≤ p x) (hpf : ∀ x, x < 8 → H x = -1 → p x = 0) (hM : sh_M H 8 (bf_Q B Ad p) A) (J : bf_J B Ad key H p c d bb) (hdone : ∀ x, x < 8 → d x ≠ 1000000 → bf_rx B Ad H d x) {e : Nat} (he : e < 8) (eH : H e = -1) (hre : d e ≠ 1000000) (hmax : ∀ y, y < 8 → H y = -1 → d y ≠ 1000000 → d y ≤ d e) :
    ∃ (p' : Nat → Int) (N : Nat → Prop) (r : Nat → Nat), (∀ x, x < 8 → 0 ≤ p' x) ∧ (∀ x, x < 8 → H x = -1 → p' x = 0) ∧ sh_M H 8 (bf_Q B Ad p') A ∧ N e ∧ ∀ x, x < 8 → N x → sh_st H bb key (bf_Q B Ad p') B d N r x := by
  obtain ⟨t, T, j1, j2, j3, j4⟩ := J
  obtain ⟨r, r1, r2⟩ := bf_rank d p t
  obtain ⟨p', hp1, hp2⟩ : ∃ p' : Nat → Int, (∀ x, (d x ≠ 1000000 ∧ p x ≤ d x - d e) → p' x = d x - d e) ∧ (∀ x, ¬ (d x ≠ 1000000 ∧ p x ≤ d x - d e) → p' x = p x) :=
    ⟨fun x => @ite _ (d x ≠ 1000000 ∧ p x ≤ d x - d e) (Classical.propDecidable _) (d x - d e) (p x), fun x h => if_pos h, fun x h => if_neg h⟩
  have g1 : ∀ x, p x ≤ p' x := by
    intro x
    by_cases z : d x ≠ 1000000 ∧ p x ≤ d x - d e
    · rw [hp1 x z]; exact z.2
    · rw [hp2 x z]; exact Int.le_refl _
  have g2 : ∀ x, d x ≠ 1000000 → d x - d e ≤ p' x := by
    intro x hx
    by_cases z : d x ≠ 1000000 ∧ p x ≤ d x - d e
    · rw [hp1 x z]; exact Int.le_refl _
    · rw [hp2 x z]
      by_cases q : p x ≤ d x - d e
      · exact absurd ⟨hx, q⟩ z
      · omega
  have hold : ∀ x κ, x < 8 → κ < 6 → H x = nI κ → bf_Q B Ad p κ x → bf_Q B Ad p' κ x := by
    intro x κ hx hκ ex hQ
    refine ⟨hQ.1, fun h hh ha => ?_⟩
    have h1 := hQ.2 h hh ha
    have h2 := g1 h
    by_cases z : d x ≠ 1000000 ∧ p x ≤ d x - d e
    · rw [hp1 x z]
      by_cases q : h = x
      · subst q
        have := g2 h z.1
        omega
      · have h3 := hdone x hx z.1 κ hκ ex h hh q ha
        have h4 := g2 h h3.1
        omega
    · rw [hp2 x z]; omega
  refine ⟨p', fun x => d x ≠ 1000000 ∧ p x ≤ d x - d e, r, fun x hx => ?_, fun x hx ex => ?_, ⟨fun x hx hx8 => ?_, hM.2⟩, ⟨hre, ?_⟩, fun x hx hN => ⟨r1 x hx, ?_⟩⟩
  · have := g1 x
    have := hp0 x hx
    omega
  · have h1 := hpf x hx ex
    by_cases z : d x ≠ 1000000 ∧ p x ≤ d x - d e
    · have h2 := hmax x hx ex z.1
      rw [hp1 x z]
      have := z.2
      omega
    · rw [hp2 x z]; exact h1
  · rcases hM.1 x hx hx8 with a | ⟨κ, a1, a2, a3, a4⟩
    · exact Or.inl a
    · exact Or.inr ⟨κ, a1, a2, a3, hold x κ hx a1 a2 a4⟩
  · rw [hpf e he eH]; omega
  · have ep := hp1 x hN
    rcases j3 x hx hN.1 with ⟨b1, b2, b3⟩ | ⟨y, κ, b1, b2, b3, b4, b5, b6, b7, b8⟩
    · refine Or.inl ⟨b1, ⟨b2, fun h hh ha => ?_⟩, b3⟩
      have h1 := j2 h hh ha
      have h2 := g2 h h1.1
      omega
    · have hxy : x ≠ y := by
        intro z
        rw [z] at b8
        exact bf_lti b8
      have hQ := (sh_at hM b1 (by omega) b2 b5).2
      have h1 := hdone y b1 b4 κ b2 b5 x hx hxy b6
      have h2 := hQ.2 x hx b6
      have hNy : d y ≠ 1000000 ∧ p y ≤ d y - d e := ⟨b4, by have := hN.2; omega⟩
      have epy := hp1 y hNy
      have hQ' := hold y κ b1 b2 b5 hQ
      refine Or.inr ⟨y, κ, b1, b2, b3, hNy, r2 y x b1 hx b8, b5, ⟨b6, fun h hh ha => ?_⟩, by omega⟩
      have h3 := hQ'.2 h hh ha
      omega
theorem mx_next {N : Nat → Prop} {k e : Nat} {T : Int} {H' : Nat → Int32} {p' : Nat → Int} (hk : k < 6) (hu : iu k) (hp0 : ∀ x, x < 8 → 0 ≤ p' x) (hpf : ∀ x, x < 8 → H x = -1 → p' x = 0) (hpl : ∀ κ, κ < k → κ < 6 → iu κ → ∃ x, x < 8 ∧ H x = nI κ)
    (R : sh_E H (bf_Q B Ad p') (fun κ => κ < k ∧ iu κ) B N e k T H') : mx_I B Ad iu (k + 1) T H' := by
  obtain ⟨r1, r2, r3, r4, r5, r6⟩ := R
  refine ⟨p', hp0, fun x hx ex => hpf x hx (r6 x hx ex).1, ⟨fun x hx hx8 => ?_, r1.2⟩, r2, fun κ hκ hκ6 huκ => ?_⟩
  · rcases r1.1 x hx hx8 with a | ⟨κ, a1, a2, a3, a4⟩
    · exact Or.inl a
    · refine Or.inr ⟨κ, a1, a2, ?_, a4⟩
      rcases a3 with a3 | a3
      · exact ⟨by omega, a3.2⟩
      · subst a3; exact ⟨by omega, hu⟩
  · by_cases z : κ = k
    · subst z; exact r4
    · exact r3 κ hκ6 (hpl κ (by omega) hκ6 huκ)
theorem mx_none (hk : key < 6) (hu : iu key) {γ : Nat → Nat} (hγ : ∀ κ, κ < 6 → iu κ → γ κ < 8 ∧ Ad κ (γ κ)) (hinj : ∀ κ κ', κ < 6 → κ' < 6 → iu κ → iu κ' → γ κ = γ κ' → κ = κ')
    {Q : Nat → Nat → Prop} (hM : sh_M H 8 Q (fun κ => κ < key ∧ iu κ)) (j2 : ∀ x, x < 8 → Ad key x → d x ≠ 1000000 ∧ B key x ≤ d x) (hdone : ∀ x, x < 8 → d x ≠ 1000000 → bf_rx B Ad H d x) (hno : ∀ x, x < 8 → d x ≠ 1000000 → ¬ H x = -1) : False := by
  have h1 : sm_n (fun a => a = 8 ∨ d a ≠ 1000000) 9 ≤ sm_n (fun x => d x ≠ 1000000) 8 := by
    refine sm_inj (R := fun a x => ∃ κ, κ < 6 ∧ iu κ ∧ γ κ = x ∧ ((a < 8 ∧ κ < key ∧ H a = nI κ) ∨ (a = 8 ∧ κ = key))) (fun a b x ⟨κ, q1, q2, q3, q4⟩ ⟨κ', s1, s2, s3, s4⟩ => ?_) 9 _ _ 8 (fun a ha hP => ?_)
    · have ek : κ = κ' := hinj κ κ' q1 s1 q2 s2 (q3.trans s3.symm)
      subst ek
      rcases q4 with ⟨q4, q5, q6⟩ | ⟨q4, q5⟩
      · rcases s4 with ⟨s4, s5, s6⟩ | ⟨s4, s5⟩
        · exact hM.2 a b κ q4 s4 (by omega) (by omega) q1 q6 s6
        · omega
      · rcases s4 with ⟨s4, s5, s6⟩ | ⟨s4, s5⟩
        · omega
        · omega
    · by_cases z : a = 8
      · have h2 := hγ key hk hu
        exact ⟨γ key, h2.1, (j2 _ h2.1 h2.2).1, key, hk, hu, rfl, Or.inr ⟨z, rfl⟩⟩
      · have ha8 : a < 8 := by omega
        have hr : d a ≠ 1000000 := by
          rcases hP with hP | hP
          · exact absurd hP z
          · exact hP
        rcases hM.1 a ha8 (by omega) with q | ⟨κ, q1, q2, ⟨q3, q4⟩, q5⟩
        · exact absurd q (hno a ha8 hr)
        · have h2 := hγ κ q1 q4
          refine ⟨γ κ, h2.1, ?_, κ, q1, q4, rfl, Or.inl ⟨ha8, q3, q2⟩⟩
          by_cases e : γ κ = a
          · rw [e]; exact hr
          · exact (hdone a ha8 hr κ q1 q2 (γ κ) h2.1 e h2.2).1
  have h2 : sm_n (fun a => a = 8 ∨ d a ≠ 1000000) 9 = sm_n (fun x => d x ≠ 1000000) 8 + 1 := by
    rw [sm_n_t (P := fun a => a = 8 ∨ d a ≠ 1000000) (Or.inl rfl)]
    refine congrArg (· + 1) (sm_n_c 8 (fun x hx => ⟨fun q => q.elim (fun e => by omega) id, fun q => Or.inr q⟩))
  omega
end MX
section MX2
variable {U : Nat → Prop} {K G : Nat → Nat} {V : Nat → Int} {ρ : Nat → Nat}
theorem mx_dist (h : sm_n (ms_im U K G ρ) 8 = ms_sz U K) : ∀ κ κ', κ < 6 → κ' < 6 → tb_iu U K κ → tb_iu U K κ' → G (ρ κ) = G (ρ κ') → κ = κ' := by
  intro κ κ' hκ hκ' u1 u2 e
  by_cases z : κ = κ'
  · exact z
  · have h1 : sm_n (ms_im U K G ρ) 8 ≤ sm_n (fun k => tb_iu U K k ∧ k ≠ κ) 6 := by
      refine sm_inj (R := fun g k => G (ρ k) = g) (fun a b k ha hb => ha.symm.trans hb) 8 _ _ 6 (fun g hg ⟨k, hk, hu, eg⟩ => ?_)
      by_cases q : k = κ
      · exact ⟨κ', hκ', ⟨u2, fun q => z q.symm⟩, by rw [← eg, q]; exact e.symm⟩
      · exact ⟨k, hk, ⟨hu, q⟩, eg⟩
    have h2 : sm_n (fun k => tb_iu U K k ∧ k ≠ κ) 6 < sm_n (tb_iu U K) 6 := sm_n_lt (fun k _ q => q.1) hκ u1 (fun q => q.2 rfl)
    unfold ms_sz at h
    omega
theorem mx_dist2 (hG : ∀ k, k < 6 → tb_iu U K k → G (ρ k) < 8) (hinj : ∀ κ κ', κ < 6 → κ' < 6 → tb_iu U K κ → tb_iu U K κ' → G (ρ κ) = G (ρ κ') → κ = κ') : sm_n (ms_im U K G ρ) 8 = ms_sz U K := by
  have h1 : sm_n (ms_im U K G ρ) 8 ≤ sm_n (tb_iu U K) 6 :=
    sm_inj (R := fun g k => G (ρ k) = g) (fun a b k ha hb => ha.symm.trans hb) 8 _ _ 6 (fun g hg ⟨k, hk, hu, eg⟩ => ⟨k, hk, hu, eg⟩)
  have h2 : sm_n (tb_iu U K) 6 ≤ sm_n (ms_im U K G ρ) 8 :=
    sm_inj (R := fun k g => k < 6 ∧ tb_iu U K k ∧ G (ρ k) = g) (fun a b g ⟨a1, a2, a3⟩ ⟨b1, b2, b3⟩ => hinj a b a1 b1 a2 b2 (a3.trans b3.symm)) 6 _ _ 8 (fun k hk hu => ⟨G (ρ k), hG k hk hu, ⟨k, hk, hu, rfl⟩, hk, hu, rfl⟩)
  unfold ms_sz
  omega
/-- a sum over the held groups is a sum over the keys -/
theorem mx_swap {H : Nat → Int32} {Q : Nat → Nat → Prop} (hM : sh_M H 8 Q (fun κ => κ < 6 ∧ tb_iu U K κ)) {ξ : Nat → Nat} (hξ : ∀ κ, κ < 6 → tb_iu U K κ → ξ κ < 8 ∧ H (ξ κ) = nI κ) (f : Nat → Nat → Int) :
    sm_s (fun x => sm_i (x ≠ 8 ∧ ¬ H x = -1) (f (tv_N H x) x)) 8 = sm_s (fun κ => sm_i (tb_iu U K κ) (f κ (ξ κ))) 6 := by
  have h1 : sm_s (fun x => sm_i (x ≠ 8 ∧ ¬ H x = -1) (f (tv_N H x) x)) 8 = sm_s (fun x => sm_s (fun κ => sm_i (H x = nI κ) (f κ x)) 6) 8 := by
    refine sm_s_c 8 (fun x hx => ?_)
    rcases hM.1 x hx (by omega) with a | ⟨κ, a1, a2, a3, a4⟩
    · rw [sm_if (fun z => z.2 a)]
      refine (sm_s_z 6 (fun κ hκ => sm_if (fun z => ?_))).symm
      rw [a] at z
      exact ra_ne1 (by omega) z.symm
    · rw [sm_it ⟨by omega, by rw [a2]; exact ra_ne1 (by omega)⟩, sh_clN a1 a2]
      rw [sm_s_pt (x := κ) a1 (fun κ' hκ' hne => sm_if (fun z => hne (sh_nI hκ' a1 (z.symm.trans a2)))), sm_it a2]
  rw [h1, sm_s_swap (fun x κ => sm_i (H x = nI κ) (f κ x)) 6 8]
  refine sm_s_c 6 (fun κ hκ => ?_)
  by_cases hu : tb_iu U K κ
  · have h2 := hξ κ hκ hu
    rw [sm_it hu, sm_s_pt (x := ξ κ) h2.1 (fun x hx hne => sm_if (fun z => hne (hM.2 x (ξ κ) κ hx h2.1 (by omega) (by omega) hκ z h2.2))), sm_it h2.2]
  · rw [sm_if hu]
    exact sm_s_z 8 (fun x hx => sm_if (fun z => hu (sh_at hM hx (by omega) hκ z).1.2))
theorem mx_most {B : Nat → Nat → Int} {Ad : Nat → Nat → Prop} {T : Int} {H : Nat → Int32} (hsz : 0 < ms_sz U K) (hT : T ≠ 1000000) (hA1 : ∀ κ x, κ < 6 → x < 8 → Ad κ x → ∃ i, tb_R U K κ i ∧ G i = x ∧ V i = B κ x) (hA2 : ∀ κ i, κ < 6 → tb_R U K κ i → G i < 8 ∧ Ad κ (G i) ∧ V i ≤ B κ (G i))
    (I : mx_I B Ad (tb_iu U K) 6 T H) : tb_most U K (ms_mix U K G V) T := by
  obtain ⟨p, hp0, hpf, hM, hw, hpl⟩ := I
  have hx : ∀ κ : Nat, ∃ x : Nat, κ < 6 → tb_iu U K κ → x < 8 ∧ H x = nI κ := by
    intro κ
    by_cases z : κ < 6 ∧ tb_iu U K κ
    · obtain ⟨x, h1, h2⟩ := hpl κ z.1 z.1 z.2
      exact ⟨x, fun _ _ => ⟨h1, h2⟩⟩
    · exact ⟨0, fun a b => absurd ⟨a, b⟩ z⟩
  obtain ⟨ξ, hξ⟩ := Classical.axiomOfChoice hx
  have eT : sm_s (fun κ => sm_i (tb_iu U K κ) (B κ (ξ κ))) 6 = T := by
    rw [← hw]; exact (mx_swap hM hξ B).symm
  have eP : sm_s (fun κ => sm_i (tb_iu U K κ) (p (ξ κ))) 6 = sm_s p 8 := by
    rw [← mx_swap hM hξ (fun _ x => p x)]
    refine sm_s_c 8 (fun x hx => ?_)
    by_cases z : H x = -1
    · rw [sm_if (fun q => q.2 z), hpf x hx z]
    · rw [sm_it ⟨by omega, z⟩]
  constructor
  · obtain ⟨ρ, hr, hP⟩ := tb_exP (U := U) (K := K) (P := fun κ i => G i = ξ κ ∧ V i = B κ (ξ κ)) (fun κ hκ hu => by
      have h1 := hξ κ hκ hu
      obtain ⟨i, a1, a2, a3⟩ := hA1 κ (ξ κ) hκ h1.1 (sh_at hM h1.1 (by omega) hκ h1.2).2.1
      exact ⟨i, a1, a2, a3⟩)
    refine ⟨ρ, hr, Or.inr (Or.inl ⟨hsz, mx_dist2 (fun κ hκ hu => ?_) (fun κ κ' hκ hκ' u1 u2 e => ?_), ?_⟩)⟩
    · rw [(hP κ hκ hu).1]; exact (hξ κ hκ hu).1
    · rw [(hP κ hκ u1).1, (hP κ' hκ' u2).1] at e
      have h1 := (hξ κ hκ u1).2
      have h2 := (hξ κ' hκ' u2).2
      rw [e] at h1
      exact sh_nI hκ hκ' (h1.symm.trans h2)
    · rw [← eT]
      exact sm_s_c 6 (fun κ hκ => sm_ic Iff.rfl (fun hu => (hP κ hκ hu).2.symm))
  · intro ρ v hr hv
    rcases hv with ⟨z, _⟩ | ⟨_, hd, e⟩ | ⟨_, _, e⟩
    · omega
    · right
      refine ⟨hT, ?_⟩
      have hinj := mx_dist hd
      have h1 : sm_s (fun κ => sm_i (tb_iu U K κ) (p (G (ρ κ)))) 6 ≤ sm_s p 8 :=
        sm_si (φ := fun κ => G (ρ κ)) (P := tb_iu U K) 6 p hp0 (fun κ hκ hu => (hA2 κ _ hκ (hr κ hκ hu)).1) (fun a b ha hb ua ub hab => hinj a b ha hb ua ub hab)
      have h2 : sm_s (fun κ => sm_i (tb_iu U K κ) (V (ρ κ))) 6 ≤ sm_s (fun κ => (sm_i (tb_iu U K κ) (B κ (ξ κ)) - sm_i (tb_iu U K κ) (p (ξ κ))) + sm_i (tb_iu U K κ) (p (G (ρ κ)))) 6 := by
        refine sm_s_le 6 (fun κ hκ => ?_)
        by_cases hu : tb_iu U K κ
        · rw [sm_it hu, sm_it hu, sm_it hu, sm_it hu]
          have a1 := hA2 κ _ hκ (hr κ hκ hu)
          have a2 := hξ κ hκ hu
          have a3 := (sh_at hM a2.1 (by omega) hκ a2.2).2.2 _ a1.1 a1.2.1
          omega
        · rw [sm_if hu, sm_if hu, sm_if hu, sm_if hu]; omega
      rw [sm_s_add (fun κ => sm_i (tb_iu U K κ) (B κ (ξ κ)) - sm_i (tb_iu U K κ) (p (ξ κ))) (fun κ => sm_i (tb_iu U K κ) (p (G (ρ κ)))) 6, sm_s_sub (fun κ => sm_i (tb_iu U K κ) (B κ (ξ κ))) (fun κ => sm_i (tb_iu U K κ) (p (ξ κ))) 6, eT, eP] at h2
      omega
    · exact Or.inl e
end MX2
end
section
/-! mixedMost: the walks -/
abbrev mw_B (be : Nat → Int32) : Nat → Nat → Int := fun κ x => (be (κ * 8 + x)).toInt
abbrev mw_A (be : Nat → Int32) : Nat → Nat → Prop := fun κ x => ¬ be (κ * 8 + x) = 1000000
def mw_XI (be : Nat → Int32) (g κ : Nat) (re0 bb0 : Nat → Int32) (j : Nat) (re bb : Nat → Int32) : Prop :=
  re g = re0 g ∧ (∀ h, h < j → bf_X (mw_B be) (mw_A be) g κ (tv_V re0) bb0 (tv_V re) bb h) ∧ (∀ h, j ≤ h → re h = re0 h ∧ bb h = bb0 h)
theorem mw_XIs {be re0 bb0 re bb : Nat → Int32} {g κ j : Nat} (I : mw_XI be g κ re0 bb0 j re bb) (h : j ≠ g → mw_A be κ j → tv_V re0 j ≠ 1000000 ∧ tv_V re0 g - mw_B be κ g + mw_B be κ j ≤ tv_V re0 j) : mw_XI be g κ re0 bb0 (j + 1) re bb := by
  obtain ⟨i1, i2, i3⟩ := I
  refine ⟨i1, fun y hy => ?_, fun y hy => i3 y (by omega)⟩
  by_cases z : y = j
  · subst z
    have h1 := i3 y (Nat.le_refl y)
    refine Or.inl ⟨?_, h1.2, h⟩
    show (re y).toInt = (re0 y).toInt
    rw [h1.1]
  · exact i2 y (by omega)
theorem mw_XIu {be re0 bb0 re bb : Nat → Int32} {g κ j : Nat} {w : Int32} (I : mw_XI be g κ re0 bb0 j re bb) (hj : j ≠ g) (ha : mw_A be κ j) (hw : w.toInt = tv_V re0 g - mw_B be κ g + mw_B be κ j) (h : tv_V re0 j = 1000000 ∨ tv_V re0 j < tv_V re0 g - mw_B be κ g + mw_B be κ j) : mw_XI be g κ re0 bb0 (j + 1) (upd re j w) (upd bb j (nI g)) := by
  obtain ⟨i1, i2, i3⟩ := I
  refine ⟨by rw [pk_un (Ne.symm hj)]; exact i1, fun y hy => ?_, fun y hy => by rw [pk_un (by omega), pk_un (by omega)]; exact i3 y (by omega)⟩
  by_cases z : y = j
  · subst z
    refine Or.inr ⟨hj, ha, h, ?_, pk_us⟩
    show (upd re y w y).toInt = _
    rw [pk_us]; exact hw
  · have e1 : tv_V (upd re j w) y = tv_V re y := by
      show (upd re j w y).toInt = (re y).toInt
      rw [pk_un z]
    rcases i2 y (by omega) with ⟨a, b, c⟩ | ⟨a, b, c, d, e⟩
    · exact Or.inl ⟨by rw [e1]; exact a, by rw [pk_un z]; exact b, c⟩
    · exact Or.inr ⟨a, b, c, by rw [e1]; exact d, by rw [pk_un z]; exact e⟩
section MW
variable {fr : Int32} {us ko go vo ro gs be ho re bb se li od iw so : Nat → Int32}
theorem mw_33 {g κ : Nat} (hg : g < 8) (hκ : κ < 6) (hAg : mw_A be κ g) (hB : ∀ x, x < 8 → mw_A be κ x → -1000 ≤ mw_B be κ x ∧ mw_B be κ x ≤ 1000) {re0 bb0 : Nat → Int32} (hr : -500000 ≤ tv_V re0 g ∧ tv_V re0 g ≤ 500000) {post : SX → Prop}
    (hp : ∀ (re bb : Nat → Int32), (∀ h, h < 8 → bf_X (mw_B be) (mw_A be) g κ (tv_V re0) bb0 (tv_V re) bb h) → post (fr, us, ko, go, vo, ro, gs, be, ho, re, bb, se, li, od, iw, so)) :
    ∀ (d j : Nat) (re bb : Nat → Int32), j + d = 8 → mw_XI be g κ re0 bb0 j re bb → wX_extend_33 post (nI g) (nI (κ * 8)) fr (d + 1) (nI j) us ko go vo ro gs be ho re bb se li od iw so := by
  have eg : (nI g).toNatClampNeg = g := nI_clamp (by omega)
  have vg : vp_in (nI g) 8 := vp_in_nI hg (by omega)
  have exg : nI (κ * 8) + nI g = nI (κ * 8 + g) := nI_add _ _
  have cxg : (nI (κ * 8 + g)).toNatClampNeg = κ * 8 + g := nI_clamp (by omega)
  have vxg : vp_in (nI (κ * 8 + g)) 48 := vp_in_nI (by omega) (by omega)
  have hBg := hB g hg hAg
  intro d
  induction d with
  | zero =>
    intro j re bb hj I
    exact pk_le 8 j (fun _ => hp re bb (fun h hh => I.2.1 h (by omega))) (fun h => absurd h (by omega))
  | succ d ih =>
    intro j re bb hj I
    have ej : (nI j).toNatClampNeg = j := nI_clamp (by omega)
    have vj : vp_in (nI j) 8 := vp_in_nI (by omega) (by omega)
    have exj : nI (κ * 8) + nI j = nI (κ * 8 + j) := nI_add _ _
    have cxj : (nI (κ * 8 + j)).toNatClampNeg = κ * 8 + j := nI_clamp (by omega)
    have vxj : vp_in (nI (κ * 8 + j)) 48 := vp_in_nI (by omega) (by omega)
    refine pk_le 8 j (fun h => absurd h (by omega)) (fun _ => ?_)
    refine pk_eq j g (fun e => nm_r (nI_1 j) (ih (j + 1) re bb (by omega) (mw_XIs I (fun h => absurd e h)))) (fun hne => ?_)
    rw [exj, exg, cxj, cxg, eg, ej]
    refine And.intro vxj ?_
    by_cases ha : be (κ * 8 + j) = 1000000
    · exact br_t ha (nm_r (nI_1 j) (ih (j + 1) re bb (by omega) (mw_XIs I (fun _ h => absurd ha h))))
    · have hBj := hB j (by omega) ha
      have er := I.1
      have ej0 := (I.2.2 j (Nat.le_refl j)).1
      have hr' : -500000 ≤ (re0 g).toInt ∧ (re0 g).toInt ≤ 500000 := hr
      have hBg' : -1000 ≤ (be (κ * 8 + g)).toInt ∧ (be (κ * 8 + g)).toInt ≤ 1000 := hBg
      have hBj' : -1000 ≤ (be (κ * 8 + j)).toInt ∧ (be (κ * 8 + j)).toInt ≤ 1000 := hBj
      have hs : (re g - be (κ * 8 + g)).toInt = (re0 g).toInt - (be (κ * 8 + g)).toInt := by
        rw [er]; exact ra_sub (by omega) (by omega)
      have hw : ((re g - be (κ * 8 + g)) + be (κ * 8 + j)).toInt = tv_V re0 g - mw_B be κ g + mw_B be κ j := by
        rw [ra_add (by omega) (by omega), hs]
      have h105 : (tv_V re0 j = 1000000 ∨ tv_V re0 j < tv_V re0 g - mw_B be κ g + mw_B be κ j) → wX_extend_105 post (wX_extend_33 post (nI g) (nI (κ * 8)) fr (d + 1)) (nI g) (nI (κ * 8)) (nI j) ((re g - be (κ * 8 + g)) + be (κ * 8 + j)) fr us ko go vo ro gs be ho re bb se li od iw so := by
        intro h
        refine And.intro vj ?_
        rw [ej]
        exact nm_e (And.intro vj (nm_e (nm_r (nI_1 j) (ih (j + 1) _ _ (by omega) (mw_XIu I hne ha hw h)))))
      refine br_f ha (And.intro vg (And.intro vxg (And.intro vxj (nm_e (And.intro vj ?_)))))
      by_cases hN : re j = 1000000
      · refine br_t hN (h105 (Or.inl ?_))
        show (re0 j).toInt = 1000000
        rw [← ej0]; exact ra_eqN.mp hN
      · refine br_f hN (And.intro vj ?_)
        by_cases hle : (re g - be (κ * 8 + g)) + be (κ * 8 + j) ≤ re j
        · refine br_t hle (nm_r (nI_1 j) (ih (j + 1) re bb (by omega) (mw_XIs I (fun _ _ => ⟨fun z => ?_, ?_⟩))))
          · apply hN
            rw [ej0]
            exact ra_eqN.mpr z
          · rw [← hw]
            have := ra_le.mp hle
            rw [ej0] at this
            exact this
        · refine br_f hle (h105 (Or.inr ?_))
          rw [← hw]
          have h1 : ¬ ((re g - be (κ * 8 + g)) + be (κ * 8 + j)).toInt ≤ (re j).toInt := fun z => hle (ra_le.mpr z)
          rw [ej0] at h1
          show (re0 j).toInt < _
          omega
theorem mw_extend {g : Nat} (hg : g < 8) (hH : ho g = -1 ∨ ∃ κ, κ < 6 ∧ ho g = nI κ ∧ mw_A be κ g) (hB : ∀ κ x, κ < 6 → x < 8 → mw_A be κ x → -1000 ≤ mw_B be κ x ∧ mw_B be κ x ≤ 1000) (hc : tv_V re g ≠ 1000000 → -500000 ≤ tv_V re g ∧ tv_V re g ≤ 500000) {post : SX → Prop}
    (h0 : (tv_V re g = 1000000 ∨ ∀ κ, κ < 6 → ¬ ho g = nI κ) → post (fr, us, ko, go, vo, ro, gs, be, ho, re, bb, se, li, od, iw, so))
    (h1 : ∀ κ, κ < 6 → ho g = nI κ → tv_V re g ≠ 1000000 → ∀ (re' bb' : Nat → Int32), (∀ h, h < 8 → bf_X (mw_B be) (mw_A be) g κ (tv_V re) bb (tv_V re') bb' h) → post (fr, us, ko, go, vo, ro, gs, be, ho, re', bb', se, li, od, iw, so)) : wpX_extend post (fr, us, ko, go, vo, ro, gs, be, ho, re, bb, se, li, od, iw, so) (nI g) := by
  have eg : (nI g).toNatClampNeg = g := nI_clamp (by omega)
  have vg : vp_in (nI g) 8 := vp_in_nI hg (by omega)
  refine And.intro vg ?_
  rw [eg]
  by_cases hN : re g = 1000000
  · exact br_t hN (h0 (Or.inl (ra_eqN.mp hN)))
  · have hN' : tv_V re g ≠ 1000000 := fun z => hN (ra_eqN.mpr z)
    refine br_f hN (And.intro vg ?_)
    rcases hH with e | ⟨κ, hκ, e, ha⟩
    · rw [e]
      refine br_f ra_n1le (h0 (Or.inr (fun κ hκ z => ?_)))
      rw [e] at z
      exact ra_ne1 (by omega) z.symm
    · rw [e]
      refine br_t (nI_pos' (by omega)) (And.intro vg (nm_r (ra_m8 κ) (Exists.intro 9 ?_)))
      exact mw_33 hg hκ ha (fun x hx => hB κ x hκ hx) (hc hN') (fun re' bb' X => h1 κ hκ e hN' re' bb' X) 8 0 re bb (by omega) ⟨rfl, fun h hh => absurd hh (by omega), fun h _ => ⟨rfl, rfl⟩⟩
section MP
variable {k : Nat} {p : Nat → Int} {A : Nat → Prop}
theorem mw_48 (hM : sh_M ho 8 (bf_Q (mw_B be) (mw_A be) p) A) (hB : ∀ κ x, κ < 6 → x < 8 → mw_A be κ x → -1000 ≤ mw_B be κ x ∧ mw_B be κ x ≤ 1000) {r : Nat} (hr : r < 8) {post : Int32 → SX → Prop} {x1 : Int32} {J : Int32 → Int32 → (Nat → Int32) → (Nat → Int32) → (Nat → Int32) → (Nat → Int32) → (Nat → Int32) → (Nat → Int32) → (Nat → Int32) → (Nat → Int32) → (Nat → Int32) → (Nat → Int32) → (Nat → Int32) → (Nat → Int32) → (Nat → Int32) → (Nat → Int32) → (Nat → Int32) → Prop}
    (hJ : ∀ (re bb : Nat → Int32), bf_J (mw_B be) (mw_A be) k ho p (1000 + 2000 * (8 * r + 8)) (tv_V re) bb → bf_Rd (mw_B be) (mw_A be) ho p (r + 1) (tv_V re) → J (nI (r + 1)) fr us ko go vo ro gs be ho re bb se li od iw so) :
    ∀ (d g : Nat) (re bb : Nat → Int32), g + d = 8 → bf_J (mw_B be) (mw_A be) k ho p (1000 + 2000 * (8 * r + g)) (tv_V re) bb → bf_Md (mw_B be) (mw_A be) ho p r g (tv_V re) → wX_placeBest_48 post J x1 (nI r) (d + 1) (nI g) fr us ko go vo ro gs be ho re bb se li od iw so := by
  intro d
  induction d with
  | zero =>
    intro g re bb hg hJ1 hM1
    have e : g = 8 := by omega
    subst e
    exact pk_le 8 8 (fun _ => nm_r (nI_1 r) (hJ re bb hJ1 (bf_Mend hM1))) (fun h => absurd h (by omega))
  | succ d ih =>
    intro g re bb hg hJ1 hM1
    have hb : ∀ x, x < 8 → tv_V re x ≠ 1000000 → -500000 ≤ tv_V re x ∧ tv_V re x ≤ 500000 := by
      obtain ⟨t, T, j1, _⟩ := hJ1
      intro x hx hrx
      have := j1 x hx hrx
      omega
    have hH : ho g = -1 ∨ ∃ κ, κ < 6 ∧ ho g = nI κ ∧ mw_A be κ g := by
      rcases hM.1 g (by omega) (by omega) with a | ⟨κ, a1, a2, a3, a4⟩
      · exact Or.inl a
      · exact Or.inr ⟨κ, a1, a2, a4.1⟩
    refine pk_le 8 g (fun h => absurd h (by omega)) (fun _ => ?_)
    refine mw_extend (by omega) hH hB (hb g (by omega)) (fun hs => ?_) (fun κ hκ eH hrg re' bb' X => ?_)
    · exact nm_r (nI_1 g) (ih (g + 1) re bb (by omega) (bf_Jmono hJ1 (by omega)) (bf_Mskip hs hM1))
    · have hQ := (sh_at hM (x := g) (by omega) (by omega) hκ eH).2
      have hbg := hb g (by omega) hrg
      have hBg := hB κ g hκ (by omega) hQ.1
      refine nm_r (nI_1 g) (ih (g + 1) re' bb' (by omega) ?_ (bf_Ms (by omega) hκ eH hQ hrg (fun h hh ha => ?_) hM1 X))
      · have h2 := bf_Js (by omega) hκ eH hQ (fun x hx => hB κ x hκ hx) hrg (by omega) (by omega) hJ1 X
        exact bf_Jmono h2 (by omega)
      · have := hB κ h hκ hh ha
        omega
theorem mw_40 (hM : sh_M ho 8 (bf_Q (mw_B be) (mw_A be) p) A) (hB : ∀ κ x, κ < 6 → x < 8 → mw_A be κ x → -1000 ≤ mw_B be κ x ∧ mw_B be κ x ≤ 1000) {post : Int32 → SX → Prop} {x1 : Int32}
    (hE : ∀ (re bb : Nat → Int32), bf_J (mw_B be) (mw_A be) k ho p 200000 (tv_V re) bb → bf_Rd (mw_B be) (mw_A be) ho p 8 (tv_V re) → ∃ n75, wX_placeBest_75 post x1 fr us ko go vo ro gs be ho re bb se li od iw so n75 (-1) 0) :
    ∀ (d r : Nat) (re bb : Nat → Int32), r + d = 8 → bf_J (mw_B be) (mw_A be) k ho p (1000 + 2000 * (8 * r)) (tv_V re) bb → bf_Rd (mw_B be) (mw_A be) ho p r (tv_V re) → wX_placeBest_40 post x1 (d + 1) (nI r) fr us ko go vo ro gs be ho re bb se li od iw so := by
  intro d
  induction d with
  | zero =>
    intro r re bb hr hJ1 hR1
    have e : r = 8 := by omega
    subst e
    exact pk_le 8 8 (fun _ => hE re bb (bf_Jmono hJ1 (by omega)) hR1) (fun h => absurd h (by omega))
  | succ d ih =>
    intro r re bb hr hJ1 hR1
    refine pk_le 8 r (fun h => absurd h (by omega)) (fun _ => Exists.intro 9 ?_)
    exact mw_48 hM hB (by omega) (J := wX_placeBest_40 post x1 (d + 1)) (fun re' bb' hJ2 hR2 => ih (r + 1) re' bb' (by omega) (bf_Jmono hJ2 (by omega)) hR2) 8 0 re bb (by omega) (bf_Jmono hJ1 (by omega)) (bf_M0 hR1)
theorem mw_2 (hk : k < 6) {post : Int32 → SX → Prop} (hE : ∀ (re bb : Nat → Int32), (∀ x, x < 8 → re x = be (k * 8 + x) ∧ bb x = -1) → ∃ n40, wX_placeBest_40 post (nI k) n40 0 fr us ko go vo ro gs be ho re bb se li od iw so) :
    ∀ (d j : Nat) (re bb : Nat → Int32), j + d = 8 → (∀ x, x < j → re x = be (k * 8 + x) ∧ bb x = -1) → wX_placeBest_2 post (nI k) fr (d + 1) (nI j) us ko go vo ro gs be ho re bb se li od iw so := by
  intro d
  induction d with
  | zero =>
    intro j re bb hj h
    exact pk_le 8 j (fun _ => hE re bb (fun x hx => h x (by omega))) (fun h => absurd h (by omega))
  | succ d ih =>
    intro j re bb hj h
    have ej : (nI j).toNatClampNeg = j := nI_clamp (by omega)
    have vj : vp_in (nI j) 8 := vp_in_nI (by omega) (by omega)
    have ex : nI k * 8 + nI j = nI (k * 8 + j) := by rw [ra_m8, nI_add]
    have cx : (nI (k * 8 + j)).toNatClampNeg = k * 8 + j := nI_clamp (by omega)
    refine pk_le 8 j (fun h => absurd h (by omega)) (fun _ => ?_)
    rw [ex, cx, ej]
    refine And.intro (vp_in_nI (by omega) (by omega)) (And.intro vj (nm_e (And.intro vj (nm_e (nm_r (nI_1 j) (ih (j + 1) _ _ (by omega) (fun x hx => ?_)))))))
    by_cases z : x = j
    · rw [z, pk_us, pk_us]; exact ⟨rfl, rfl⟩
    · rw [pk_un z, pk_un z]; exact h x (by omega)
def mw_SE (ho re : Nat → Int32) (j : Nat) (x : Int32) : Prop :=
  (x = -1 ∧ ∀ y, y < j → ho y = -1 → tv_V re y = 1000000) ∨ (∃ e, e < 8 ∧ x = nI e ∧ ho e = -1 ∧ tv_V re e ≠ 1000000 ∧ ∀ y, y < j → ho y = -1 → tv_V re y ≠ 1000000 → tv_V re y ≤ tv_V re e)
theorem mw_75 (hH : ∀ x, x < 8 → ho x = -1 ∨ ∃ κ, κ < 6 ∧ ho x = nI κ) {x1 : Int32} {post : Int32 → SX → Prop} (hE : ∀ x, mw_SE ho re 8 x → wX_placeBest_75 post x1 fr us ko go vo ro gs be ho re bb se li od iw so 1 x (nI 8)) :
    ∀ (d j : Nat) (x : Int32), j + d = 8 → mw_SE ho re j x → wX_placeBest_75 post x1 fr us ko go vo ro gs be ho re bb se li od iw so (d + 1) x (nI j) := by
  intro d
  induction d with
  | zero =>
    intro j x hj h
    have e : j = 8 := by omega
    subst e
    exact hE x h
  | succ d ih =>
    intro j x hj h
    have ej : (nI j).toNatClampNeg = j := nI_clamp (by omega)
    have vj : vp_in (nI j) 8 := vp_in_nI (by omega) (by omega)
    refine pk_le 8 j (fun h => absurd h (by omega)) (fun _ => And.intro vj ?_)
    rw [ej]
    have hskip : (ho j = -1 → tv_V re j = 1000000) → mw_SE ho re (j + 1) x := by
      intro hs
      rcases h with ⟨a, b⟩ | ⟨e, a1, a2, a3, a4, a5⟩
      · refine Or.inl ⟨a, fun y hy ey => ?_⟩
        by_cases z : y = j
        · subst z; exact hs ey
        · exact b y (by omega) ey
      · refine Or.inr ⟨e, a1, a2, a3, a4, fun y hy ey hry => ?_⟩
        by_cases z : y = j
        · subst z; exact absurd (hs ey) hry
        · exact a5 y (by omega) ey hry
    rcases hH j (by omega) with eH | ⟨κ, hκ, eH⟩
    · rw [eH]
      refine br_f ra_n1le (And.intro vj ?_)
      by_cases hN : re j = 1000000
      · exact br_t hN (nm_r (nI_1 j) (ih (j + 1) x (by omega) (hskip (fun _ => ra_eqN.mp hN))))
      · have hN' : tv_V re j ≠ 1000000 := fun z => hN (ra_eqN.mpr z)
        refine br_f hN ?_
        rcases h with ⟨a, b⟩ | ⟨e, a1, a2, a3, a4, a5⟩
        · rw [a]
          refine br_t ra_n1lt (nm_r (nI_1 j) (ih (j + 1) _ (by omega) (Or.inr ⟨j, by omega, rfl, eH, hN', fun y hy ey hry => ?_⟩)))
          by_cases z : y = j
          · rw [z]; exact Int.le_refl _
          · exact absurd (b y (by omega) ey) hry
        · have ee : (nI e).toNatClampNeg = e := nI_clamp (by omega)
          rw [a2]
          refine br_f (nI_pos (by omega)) (And.intro vj (And.intro (vp_in_nI a1 (by omega)) ?_))
          rw [ee]
          by_cases hle : re j ≤ re e
          · refine br_t hle (nm_r (nI_1 j) (ih (j + 1) _ (by omega) (Or.inr ⟨e, a1, rfl, a3, a4, fun y hy ey hry => ?_⟩)))
            by_cases z : y = j
            · rw [z]; exact ra_le.mp hle
            · exact a5 y (by omega) ey hry
          · have hlt : ¬ (re j).toInt ≤ (re e).toInt := fun z => hle (ra_le.mpr z)
            refine br_f hle (nm_r (nI_1 j) (ih (j + 1) _ (by omega) (Or.inr ⟨j, by omega, rfl, eH, hN', fun y hy ey hry => ?_⟩)))
            by_cases z : y = j
            · rw [z]; exact Int.le_refl _
            · have h5 := a5 y (by omega) ey hry
              have h6 : tv_V re e = (re e).toInt := rfl
              have h7 : tv_V re j = (re j).toInt := rfl
              omega
    · rw [eH]
      refine br_t (nI_pos' (by omega)) (nm_r (nI_1 j) (ih (j + 1) x (by omega) (hskip (fun z => ?_))))
      rw [eH] at z
      exact absurd z (ra_ne1 (by omega))
end MP
theorem mw_place {iu : Nat → Prop} {k : Nat} {T : Int} (hk : k < 6) (hu : iu k) (hB : ∀ κ x, κ < 6 → x < 8 → mw_A be κ x → -1000 ≤ mw_B be κ x ∧ mw_B be κ x ≤ 1000) (I : mx_I (mw_B be) (mw_A be) iu k T ho) {post : Int32 → SX → Prop}
    (hp0 : ∀ (re bb : Nat → Int32), (∀ γ : Nat → Nat, (∀ κ, κ < 6 → iu κ → γ κ < 8 ∧ mw_A be κ (γ κ)) → (∀ κ κ', κ < 6 → κ' < 6 → iu κ → iu κ' → γ κ = γ κ' → κ = κ') → False) → post 1000000 (fr, us, ko, go, vo, ro, gs, be, ho, re, bb, se, li, od, iw, so))
    (hp1 : ∀ (x : Int32) (ho re bb : Nat → Int32), -200000 ≤ x.toInt → x.toInt ≤ 200000 → mx_I (mw_B be) (mw_A be) iu (k + 1) (T + x.toInt) ho → post x (fr, us, ko, go, vo, ro, gs, be, ho, re, bb, se, li, od, iw, so)) : wpX_placeBest post (fr, us, ko, go, vo, ro, gs, be, ho, re, bb, se, li, od, iw, so) (nI k) := by
  obtain ⟨p, hp0', hpf, hM, hw, hpl⟩ := I
  have hH : ∀ x, x < 8 → ho x = -1 ∨ ∃ κ, κ < 6 ∧ ho x = nI κ := by
    intro x hx
    rcases hM.1 x hx (by omega) with a | ⟨κ, a1, a2, _⟩
    · exact Or.inl a
    · exact Or.inr ⟨κ, a1, a2⟩
  refine Exists.intro 9 (mw_2 hk (fun re bb hinit => Exists.intro 9 ?_) 8 0 re bb (by omega) (fun x hx => absurd hx (by omega)))
  refine mw_40 (k := k) hM hB (fun re bb hJ hR => Exists.intro 9 ?_) 8 0 re bb (by omega) ?_ bf_R0
  · refine mw_75 hH (fun x hx => ?_) 8 0 (-1) (by omega) (Or.inl ⟨rfl, fun y hy => absurd hy (by omega)⟩)
    have hdone := bf_done hR
    refine pk_le 8 8 (fun _ => ?_) (fun h => absurd h (by omega))
    rcases hx with ⟨a, b⟩ | ⟨e, a1, a2, a3, a4, a5⟩
    · rw [a]
      refine br_f ra_n1le (hp0 re bb (fun γ h1 h2 => ?_))
      obtain ⟨t, T', j1, j2, j3, j4⟩ := hJ
      exact mx_none hk hu h1 h2 hM j2 hdone (fun x hx hr e => hr (b x hx e))
    · rw [a2]
      have ee : (nI e).toNatClampNeg = e := nI_clamp (by omega)
      obtain ⟨p', N, r, q1, q2, q3, q4, q5⟩ := mx_succ hp0' hpf hM hJ hdone a1 a3 a4 a5
      have hbe : -200000 ≤ (re e).toInt ∧ (re e).toInt ≤ 200000 := by
        obtain ⟨t, T', j1, _⟩ := hJ
        exact j1 e a1 a4
      refine br_t (nI_pos' (by omega)) ?_
      refine sh_shift hk (fun κ hκ => by have := hκ.1; omega) q5 q3 a1 q4 a3 (fun H' R => And.intro (vp_in_nI a1 (by omega)) ?_)
      rw [ee]
      refine hp1 (re e) H' re bb hbe.1 hbe.2 ?_
      rw [hw] at R
      exact mx_next hk hu q1 q2 hpl R
  · refine bf_Jmono (bf_J0 (fun x hx => hB k x hk hx) (fun x hx => ?_) (fun x hx => (hinit x hx).2)) (by omega)
    by_cases z : be (k * 8 + x) = 1000000
    · refine Or.inr ⟨fun q => q z, ?_⟩
      show (re x).toInt = 1000000
      rw [(hinit x hx).1]; exact ra_eqN.mp z
    · refine Or.inl ⟨z, ?_⟩
      show (re x).toInt = (be (k * 8 + x)).toInt
      rw [(hinit x hx).1]
end MW
end
section
/-! mixedMost -/
section MZ
variable {fr : Int32} {us ko go vo ro gs be ho re bb se li od iw so : Nat → Int32}
theorem mz_A1 (hS : xs_S us ko go vo 14 ro gs be) : ∀ κ x, κ < 6 → x < 8 → mw_A be κ x → ∃ i, tb_R (tv_U us) (tv_N ko) κ i ∧ tv_N go i = x ∧ tv_V vo i = mw_B be κ x := by
  intro κ x hκ hx ha
  rcases hS.2.2 κ hκ x hx with ⟨e, _⟩ | ⟨i, h1, h2, h3, h4, h5, h6⟩
  · exact absurd e ha
  · refine ⟨i, ⟨h1, h2, h3⟩, h4, ?_⟩
    show (vo i).toInt = (be (κ * 8 + x)).toInt
    rw [h5]
theorem mz_A2 (hv : tv_ok ko go vo) (hS : xs_S us ko go vo 14 ro gs be) : ∀ κ i, κ < 6 → tb_R (tv_U us) (tv_N ko) κ i → tv_N go i < 8 ∧ mw_A be κ (tv_N go i) ∧ tv_V vo i ≤ mw_B be κ (tv_N go i) := by
  intro κ i hκ hR
  obtain ⟨g, hg, _, e⟩ := tv_go hv hR.1
  have h8 : tv_N go i < 8 := by omega
  rcases hS.2.2 κ hκ (tv_N go i) h8 with ⟨_, h⟩ | ⟨i0, h1, h2, h3, h4, h5, h6⟩
  · exact absurd rfl (h i hR.1 hR.2.1 hR.2.2)
  · refine ⟨h8, fun z => ?_, ?_⟩
    · rw [h5] at z
      have h9 := (hv i0 h1).2.2
      rw [z, ra_N] at h9
      omega
    · have h7 := h6 i hR.1 hR.2.1 hR.2.2 rfl
      show tv_V vo i ≤ (be (κ * 8 + tv_N go i)).toInt
      rw [h5]
      exact h7
theorem mz_B (hv : tv_ok ko go vo) (hS : xs_S us ko go vo 14 ro gs be) : ∀ κ x, κ < 6 → x < 8 → mw_A be κ x → -1000 ≤ mw_B be κ x ∧ mw_B be κ x ≤ 1000 := by
  intro κ x hκ hx ha
  obtain ⟨i, hR, _, e⟩ := mz_A1 hS κ x hκ hx ha
  rw [← e]
  exact tv_vo hv i hR.1
theorem mz_T {iu : Nat → Prop} {k : Nat} {T : Int} (hB : ∀ κ x, κ < 6 → x < 8 → mw_A be κ x → -1000 ≤ mw_B be κ x ∧ mw_B be κ x ≤ 1000) (I : mx_I (mw_B be) (mw_A be) iu k T ho) : -8000 ≤ T ∧ T ≤ 8000 := by
  obtain ⟨p, _, _, hM, hw, _⟩ := I
  have h := sm_s_bd (f := sh_f ho 8 (mw_B be)) (a := -1000) (b := 1000) 8 (fun x hx => by
    unfold sh_f
    rcases hM.1 x hx (by omega) with a | ⟨κ, a1, a2, a3, a4⟩
    · rw [sm_if (fun z => z.2 a)]; omega
    · rw [sm_it ⟨by omega, by rw [a2]; exact ra_ne1 (by omega)⟩, sh_clN a1 a2]
      exact hB κ x a1 hx a4.1)
  unfold sh_w at hw
  omega
theorem mz_35 (hv : tv_ok ko go vo) (hS : xs_S us ko go vo 14 ro gs be) {post : Int32 → SX → Prop}
    (hp : ∀ (x : Int32) (ho re bb : Nat → Int32), mx_I (mw_B be) (mw_A be) (tb_iu (tv_U us) (tv_N ko)) 6 x.toInt ho → post x (fr, us, ko, go, vo, ro, gs, be, ho, re, bb, se, li, od, iw, so))
    (hp0 : ∀ (ho re bb : Nat → Int32), (∀ γ : Nat → Nat, (∀ κ, κ < 6 → tb_iu (tv_U us) (tv_N ko) κ → γ κ < 8 ∧ mw_A be κ (γ κ)) → (∀ κ κ', κ < 6 → κ' < 6 → tb_iu (tv_U us) (tv_N ko) κ → tb_iu (tv_U us) (tv_N ko) κ' → γ κ = γ κ' → κ = κ') → False) → post 1000000 (fr, us, ko, go, vo, ro, gs, be, ho, re, bb, se, li, od, iw, so)) :
    ∀ (d k : Nat) (x : Int32) (ho re bb : Nat → Int32), k + d = 6 → mx_I (mw_B be) (mw_A be) (tb_iu (tv_U us) (tv_N ko)) k x.toInt ho → wX_mixedMost_35 post (d + 1) x (nI k) fr us ko go vo ro gs be ho re bb se li od iw so := by
  have hB := mz_B hv hS
  intro d
  induction d with
  | zero =>
    intro k x ho re bb hk I
    have e : k = 6 := by omega
    subst e
    exact pk_le 6 6 (fun _ => hp x ho re bb I) (fun h => absurd h (by omega))
  | succ d ih =>
    intro k x ho re bb hk I
    have ek : (nI k).toNatClampNeg = k := nI_clamp (by omega)
    have hc := tb_cnt14 (U := tv_U us) (K := tv_N ko) k
    have er : ro k = nI (tb_cnt (tv_U us) (tv_N ko) k) := hS.1 k (by omega)
    have hT := mz_T hB I
    refine pk_le 6 k (fun h => absurd h (by omega)) (fun _ => And.intro (vp_in_nI (by omega) (by omega)) ?_)
    rw [ek, er]
    refine pk_le (tb_cnt (tv_U us) (tv_N ko) k) 0 (fun h => nm_r (nI_1 k) (ih (k + 1) x ho re bb (by omega) ?_)) (fun h => ?_)
    · obtain ⟨p, q1, q2, q3, q4, q5⟩ := I
      refine ⟨p, q1, q2, ⟨fun y hy hy8 => ?_, q3.2⟩, q4, fun κ hκ hκ6 hu => ?_⟩
      · rcases q3.1 y hy hy8 with a | ⟨κ, a1, a2, a3, a4⟩
        · exact Or.inl a
        · exact Or.inr ⟨κ, a1, a2, ⟨by have := a3.1; omega, a3.2⟩, a4⟩
      · by_cases z : κ = k
        · rw [z] at hu
          exact absurd (tb_cntp.mpr hu) (by omega)
        · exact q5 κ (by omega) hκ6 hu
    · have hu := tb_cntp.mp h
      refine mw_place (by omega) hu hB I (fun re bb hno => ?_) (fun y ho re bb hy1 hy2 I' => ?_)
      · exact br_t rfl (hp0 ho re bb hno)
      · have hyN : ¬ y = 1000000 := by
          intro z
          rw [z, ra_N] at hy2
          omega
        refine br_f hyN (nm_e (nm_r (nI_1 k) (ih (k + 1) _ ho re bb (by omega) ?_)))
        rw [ra_add (by omega) (by omega)]
        exact I'
theorem mz_12 (hv : tv_ok ko go vo) (hS : xs_S us ko go vo 14 ro gs be) {post : Int32 → SX → Prop}
    (hp : ∀ (x : Int32) (ho re bb : Nat → Int32), mx_I (mw_B be) (mw_A be) (tb_iu (tv_U us) (tv_N ko)) 6 x.toInt ho → post x (fr, us, ko, go, vo, ro, gs, be, ho, re, bb, se, li, od, iw, so))
    (hp0 : ∀ (ho re bb : Nat → Int32), (∀ γ : Nat → Nat, (∀ κ, κ < 6 → tb_iu (tv_U us) (tv_N ko) κ → γ κ < 8 ∧ mw_A be κ (γ κ)) → (∀ κ κ', κ < 6 → κ' < 6 → tb_iu (tv_U us) (tv_N ko) κ → tb_iu (tv_U us) (tv_N ko) κ' → γ κ = γ κ' → κ = κ') → False) → post 1000000 (fr, us, ko, go, vo, ro, gs, be, ho, re, bb, se, li, od, iw, so)) :
    ∀ (d j : Nat) (ho : Nat → Int32), j + d = 8 → (∀ x, x < j → ho x = -1) → wX_mixedMost_12 post fr (d + 1) (nI j) us ko go vo ro gs be ho re bb se li od iw so := by
  intro d
  induction d with
  | zero =>
    intro j ho hj h
    refine pk_le 8 j (fun _ => Exists.intro 7 (mz_35 hv hS hp hp0 6 0 0 ho re bb (by omega) ?_)) (fun h => absurd h (by omega))
    refine ⟨fun _ => 0, fun x _ => Int.le_refl 0, fun x _ _ => rfl, ⟨fun x hx _ => Or.inl (h x (by omega)), fun x y κ hx hy _ _ hκ ex => ?_⟩, ?_, fun κ hκ => absurd hκ (by omega)⟩
    · rw [h x (by omega)] at ex
      exact absurd ex.symm (ra_ne1 (by omega))
    · rw [ra_0]
      exact sm_s_z 8 (fun x hx => sm_if (fun z => z.2 (h x (by omega))))
  | succ d ih =>
    intro j ho hj h
    have ej : (nI j).toNatClampNeg = j := nI_clamp (by omega)
    refine pk_le 8 j (fun h => absurd h (by omega)) (fun _ => And.intro (vp_in_nI (by omega) (by omega)) ?_)
    rw [ej]
    refine nm_e (nm_r (nI_1 j) (ih (j + 1) _ (by omega) (fun x hx => ?_)))
    by_cases z : x = j
    · rw [z, pk_us]
    · rw [pk_un z]; exact h x (by omega)
end MZ
theorem i_vc_mixedMost {k : Nat} {u : SX} {v : SY} (I : i_Rel k u v) (hk : k + 4 ≤ 2048) : wpX_mixedMost (fun r u' => wpY_mixedMost (fun r' v' => r' = r ∧ i_Rel (k + 4) u' v') v) u := by
  obtain ⟨fr, us, ko, go, vo, ro, gs, be, ho, re, bb, se, li, od, iw, so⟩ := u
  obtain ⟨us2, ko2, go2, vo2, pk⟩ := v
  obtain ⟨rfl, rfl, rfl, rfl, hv, hf, hS⟩ := I
  have hn := sm_n_bd (tv_U us2) 14
  unfold wpX_mixedMost wpY_mixedMost
  dsimp only
  have hY : ∀ r : Int32, tb_most (tv_U us2) (tv_N ko2) (ms_mix (tv_U us2) (tv_N ko2) (tv_N go2) (tv_V vo2)) r.toInt → ∀ (ho re bb : Nat → Int32), wpY_most (fun r_1 u => r_1 = r ∧ i_Rel (k + 4) (fr, us2, ko2, go2, vo2, ro, gs, be, ho, re, bb, se, li, od, iw, so) (u.1, u.2.1, u.2.2.1, u.2.2.2.1, u.2.2.2.2)) (us2, ko2, go2, vo2, pk) 5 0 := by
    intro r hr ho re bb
    exact yw_most hv (ms_mix_ok (tv_vo hv)) (fun ρ pk post h1 h2 h3 => yw_m5 hv h1 h2 h3) (fun r' pk' hr' => ⟨Int32.toInt_inj.mp (tb_most_u hr' hr), rfl, rfl, rfl, rfl, hv, hf, hS⟩) pk
  refine pk_eq (sm_n (tv_U us2) 14) 0 (fun h0 => ?_) (fun h0 => ?_) (hx := hf)
  · refine hY 1000000 ?_ ho re bb
    have hsz := (sp_r0 hv).mp h0
    rw [ra_N]
    obtain ⟨ρ, hr⟩ := tb_ex (U := tv_U us2) (K := tv_N ko2)
    refine ⟨⟨ρ, hr, Or.inl ⟨hsz, rfl⟩⟩, fun ρ v _ hM => ?_⟩
    rcases hM with ⟨_, e⟩ | ⟨h1, _⟩ | ⟨h1, _⟩
    · exact Or.inl e
    · omega
    · omega
  · have hsz : 0 < ms_sz (tv_U us2) (tv_N ko2) := by
      have := (sp_r0 (us := us2) hv).mpr
      omega
    have hB := mz_B hv hS
    refine Exists.intro 9 (mz_12 hv hS (fun x ho re bb hI => ?_) (fun ho re bb hno => ?_) 8 0 ho (by omega) (fun x hx => absurd hx (by omega)))
    · have hT := mz_T hB hI
      exact hY x (mx_most hsz (by omega) (mz_A1 hS) (mz_A2 hv hS) hI) ho re bb
    · have hd : ∀ ρ, tb_rep (tv_U us2) (tv_N ko2) ρ → sm_n (ms_im (tv_U us2) (tv_N ko2) (tv_N go2) ρ) 8 ≠ ms_sz (tv_U us2) (tv_N ko2) := by
        intro ρ hr e
        refine hno (fun κ => tv_N go2 (ρ κ)) (fun κ hκ hu => ?_) (fun κ κ' hκ hκ' u1 u2 q => mx_dist e κ κ' hκ hκ' u1 u2 q)
        have h1 := mz_A2 hv hS κ _ hκ (hr κ hκ hu)
        exact ⟨h1.1, h1.2.1⟩
      refine hY 1000000 ?_ ho re bb
      rw [ra_N]
      obtain ⟨ρ, hr⟩ := tb_ex (U := tv_U us2) (K := tv_N ko2)
      refine ⟨⟨ρ, hr, Or.inr (Or.inr ⟨hsz, hd ρ hr, rfl⟩)⟩, fun ρ v hr hM => ?_⟩
      rcases hM with ⟨_, e⟩ | ⟨_, h1, _⟩ | ⟨_, _, e⟩
      · exact Or.inl e
      · exact absurd h1 (hd ρ hr)
      · exact Or.inl e
end
