section
/-! pure rows to paste: stores, nI and lN arithmetic, masks, shifts, narrowing, branches by naturals (pk_le, pk_lt, pk_eq), loops (lp1 .. lp16: the measure of the state; rp1 ..: recursion), negatives. Take what you need -/
theorem pk_us {f : Nat → Int32} {k : Nat} {x : Int32} : upd f k x k = x := if_pos rfl
theorem pk_un {f : Nat → Int32} {k j : Nat} {x : Int32} (h : j ≠ k) : upd f k x j = f j := if_neg h
theorem pk_uLs {f : Nat → Int64} {k : Nat} {x : Int64} : vp_updL f k x k = x := if_pos rfl
theorem pk_uLn {f : Nat → Int64} {k j : Nat} {x : Int64} (h : j ≠ k) : vp_updL f k x j = f j := if_neg h
theorem pk_sub {a b : Nat} (h : b ≤ a) : nI a - nI b = nI (a - b) := by
  obtain ⟨c, rfl⟩ : ∃ c, a = c + b := ⟨a - b, by omega⟩
  rw [← nI_add, Int32.add_sub_cancel, Nat.add_sub_cancel]
theorem pk_m1 (n : Nat) : nI (n + 1) + (-1) = nI n := by
  rw [← nI_1, Int32.add_assoc, show (1 : Int32) + (-1) = 0 from rfl, Int32.add_zero]
theorem pk_mul (a b : Nat) : nI a * nI b = nI (a * b) := (Int32.ofNat_mul a b).symm
theorem pk_div {a d : Nat} (ha : a < 2 ^ 31) (h0 : 0 < d) (hd : d < 2 ^ 31) : nI a / nI d = nI (a / d) := by
  apply Int32.toInt_inj.mp
  rw [lg_idiv_nonneg (by rw [nI_toInt ha]; omega) (by rw [nI_toInt hd]; omega), nI_toInt ha, nI_toInt hd, nI_toInt (Nat.lt_of_le_of_lt (Nat.div_le_self a d) ha)]
  first | rfl | exact (Int.natCast_ediv _ _).symm
theorem pk_rem {a d : Nat} (ha : a < 2 ^ 31) (h0 : 0 < d) (hd : d < 2 ^ 31) : nI a - nI a / nI d * nI d = nI (a % d) := by
  rw [pk_div ha h0 hd, pk_mul, pk_sub (Nat.div_mul_le_self a d)]
  exact congrArg nI (by have := Nat.div_add_mod' a d; omega)
theorem pk_sub_toInt {a b : Nat} (ha : a < 2 ^ 30) (hb : b < 2 ^ 30) : (nI a - nI b).toInt = (a : Int) - b := by
  rw [Int32.toInt_sub, nI_toInt (by omega), nI_toInt (by omega)]
  exact Int.bmod_eq_of_le (by omega) (by omega)
theorem pk_sneg {a b : Nat} (hb : b < 2 ^ 30) (h : a < b) : nI a - nI b < 0 := by
  rw [Int32.lt_iff_toInt_lt, pk_sub_toInt (by omega) hb, show (0 : Int32).toInt = 0 from by decide]
  omega
theorem pk_ix (x : Int32) {n : Nat} (hn : n < 2 ^ 31) : x < 0 ∨ nI n ≤ x ∨ ∃ j : Nat, j < n ∧ x = nI j := by
  by_cases h : x < 0
  · exact Or.inl h
  · obtain ⟨j, hj, rfl⟩ := nI_of h
    by_cases h2 : j < n
    · exact Or.inr (Or.inr ⟨j, h2, rfl⟩)
    · exact Or.inr (Or.inl (nI_le (by omega) hj))
theorem pk_le {x y : Int32} {A B : Prop} (a b : Nat) (f : a ≤ b → A) (g : b < a → B) (hx : x = nI a := by rfl) (hy : y = nI b := by rfl) (ha : a < 2 ^ 31 := by omega) (hb : b < 2 ^ 31 := by omega) : (x ≤ y → A) ∧ (¬ x ≤ y → B) := by
  subst hx hy
  rw [nI_leI ha hb]
  exact ⟨f, fun z => g (by omega)⟩
theorem pk_lt {x y : Int32} {A B : Prop} (a b : Nat) (f : a < b → A) (g : b ≤ a → B) (hx : x = nI a := by rfl) (hy : y = nI b := by rfl) (ha : a < 2 ^ 31 := by omega) (hb : b < 2 ^ 31 := by omega) : (x < y → A) ∧ (¬ x < y → B) := by
  subst hx hy
  rw [nI_ltI ha hb]
  exact ⟨f, fun z => g (by omega)⟩
theorem pk_eq {x y : Int32} {A B : Prop} (a b : Nat) (f : a = b → A) (g : a ≠ b → B) (hx : x = nI a := by rfl) (hy : y = nI b := by rfl) (ha : a < 2 ^ 31 := by omega) (hb : b < 2 ^ 31 := by omega) : (x = y → A) ∧ (¬ x = y → B) := by
  subst hx hy
  rw [nI_eq ha hb]
  exact ⟨f, g⟩
theorem pk_in {x : Int32} (n N : Nat) (h : n < N) (hx : x = nI n := by rfl) (hN : N < 2 ^ 31 := by omega) : vp_in x N := by
  subst hx
  exact vp_in_nI h hN
theorem pk_cl {x : Int32} (n : Nat) (hx : x = nI n := by rfl) (h : n < 2 ^ 31 := by omega) : x.toNatClampNeg = n := by
  subst hx
  exact nI_clamp h
theorem pk_tn {n : Nat} (h : n < 2 ^ 32) : (nI n).toBitVec.toNat = n := Nat.mod_eq_of_lt h
theorem pk_and (x : Int32) {m : Int32} (k : Nat) (hm : m.toBitVec.toNat = 2 ^ k - 1) : x &&& m = nI (x.toBitVec.toNat % 2 ^ k) := by
  apply Int32.toBitVec_inj.mp
  apply BitVec.eq_of_toNat_eq
  rw [Int32.toBitVec_and, BitVec.toNat_and, hm, Nat.and_two_pow_sub_one_eq_mod]
  show _ = (BitVec.ofNat 32 _).toNat
  rw [BitVec.toNat_ofNat]
  exact (Nat.mod_eq_of_lt (Nat.lt_of_le_of_lt (Nat.mod_le _ _) x.toBitVec.isLt)).symm
theorem pk_andN {n : Nat} (h : n < 2 ^ 32) {m : Int32} (k : Nat) (hm : m.toBitVec.toNat = 2 ^ k - 1) : nI n &&& m = nI (n % 2 ^ k) := by
  rw [pk_and _ k hm, pk_tn h]
theorem pk_andE (x : Int32) {m : Int32} (k : Nat) (hm : m.toBitVec.toNat = 2 ^ k - 1) : ∃ j : Nat, j < 2 ^ k ∧ x &&& m = nI j := ⟨_, Nat.mod_lt _ (Nat.two_pow_pos k), pk_and x k hm⟩
theorem pk_andIn (x : Int32) {m : Int32} (k : Nat) (hm : m.toBitVec.toNat = 2 ^ k - 1) (hk : k ≤ 30) : vp_in (x &&& m) (2 ^ k) := by
  obtain ⟨j, hj, e⟩ := pk_andE x k hm
  rw [e]
  exact vp_in_nI hj (Nat.lt_of_le_of_lt (Nat.pow_le_pow_right (by decide) hk) (by decide))
theorem pk_nb (z : Int32) : narrow .byte (.int z.toInt8.toInt32) = .int z.toInt8.toInt32 := congrArg Value.int (by simp)
theorem pk_ns (z : Int32) : narrow .short (.int z.toInt16.toInt32) = .int z.toInt16.toInt32 := congrArg Value.int (by simp)
theorem pk_fb (r : Int32) : fits .byte (.int r.toInt8.toInt32) = true := by
  have ⟨a, b⟩ := lg_i2b_range r
  have h1 : (-128 : Int32).toInt = -128 := by decide
  have h2 : (127 : Int32).toInt = 127 := by decide
  simp only [fits, Bool.and_eq_true, decide_eq_true_eq, Int32.le_iff_toInt_le, h1, h2]
  omega
theorem pk_fs (r : Int32) : fits .short (.int r.toInt16.toInt32) = true := by
  have ⟨a, b⟩ := lg_i2s_range r
  have h1 : (-32768 : Int32).toInt = -32768 := by decide
  have h2 : (32767 : Int32).toInt = 32767 := by decide
  simp only [fits, Bool.and_eq_true, decide_eq_true_eq, Int32.le_iff_toInt_le, h1, h2]
  omega
theorem pk_vb (z : Int32) : vp_nar .byte z.toInt8.toInt32 = z.toInt8.toInt32 := by rw [vp_nar_byte]; simp
theorem pk_vs (z : Int32) : vp_nar .short z.toInt16.toInt32 = z.toInt16.toInt32 := by rw [vp_nar_short]; simp
-- ===== own rows: codes and booleans =====
def ba_pI : Nat → Int32
  | 0 => -2
  | 1 => -1
  | n + 2 => nI n
def ba_bI (b : Bool) : Int32 := if b = true then 1 else 0
theorem ba_bI0 : ba_bI false = 0 := rfl
theorem ba_bI1 : ba_bI true = 1 := rfl
theorem ba_bI_eq (b : Bool) : ba_bI b = 0 ↔ b = false := by cases b <;> decide
theorem ba_vb0 : vp_nar .boolean 0 = 0 := by decide
theorem ba_vb1 : vp_nar .boolean 1 = 1 := by decide
theorem ba_vbI (b : Bool) : vp_nar .boolean (ba_bI b) = ba_bI b := by cases b <;> decide
theorem ba_nbI (b : Bool) : narrow .boolean (.int (ba_bI b)) = .int (ba_bI b) := by cases b <;> rfl
theorem ba_nb : ∀ n, n < 100 → vp_nar .byte (nI n) = nI n ∧ (nI n).toInt8.toInt32 = nI n := by
  intro n hn
  have h : ∀ n, n < 100 → (nI n).toInt8.toInt32 = nI n := by decide +kernel
  exact ⟨by rw [vp_nar_byte]; exact h n hn, h n hn⟩
theorem ba_vb {n : Nat} (h : n < 100) : vp_nar .byte (nI n) = nI n := (ba_nb n h).1
theorem ba_vbc {n : Nat} (h : n < 100) : vp_nar .byte (nI n).toInt8.toInt32 = nI n := by rw [(ba_nb n h).2]; exact (ba_nb n h).1
theorem ba_pb : ∀ c, c < 100 → vp_nar .byte (ba_pI c) = ba_pI c ∧ (ba_pI c).toInt8.toInt32 = ba_pI c := by
  intro n hn
  have h : ∀ n, n < 100 → (ba_pI n).toInt8.toInt32 = ba_pI n := by decide +kernel
  exact ⟨by rw [vp_nar_byte]; exact h n hn, h n hn⟩
theorem ba_pbc {c : Nat} (h : c < 100) : vp_nar .byte (ba_pI c).toInt8.toInt32 = ba_pI c := by rw [(ba_pb c h).2]; exact (ba_pb c h).1
theorem ba_pb1 {c : Nat} (h : c < 100) : vp_nar .byte (ba_pI c) = ba_pI c := (ba_pb c h).1
theorem ba_p2 (n : Nat) : ba_pI (n + 2) = nI n := rfl
theorem ba_plt {c : Nat} (h : c < 2) : ba_pI c < 0 := by
  rcases c with _ | _ | c
  · decide
  · decide
  · omega
theorem ba_pge {c : Nat} (h : c < 2) : ¬ 0 ≤ ba_pI c := by
  rcases c with _ | _ | c
  · decide
  · decide
  · omega
theorem ba_pnl {n : Nat} (h : n < 2 ^ 31) : ¬ ba_pI (n + 2) < 0 := nI_pos h
theorem ba_cl {n : Nat} (h : n < 1000) : (nI n).toNatClampNeg = n := nI_clamp (by omega)
theorem ba_eq {a b : Nat} (h : nI a = nI b) (ha : a < 1000) (hb : b < 1000) : a = b := (nI_eq (by omega) (by omega)).mp h
theorem ba_ne {a b : Nat} (h : a ≠ b) (ha : a < 1000) (hb : b < 1000) : ¬ nI a = nI b := fun e => h (ba_eq e ha hb)
theorem ba_20 (a : Nat) : 20 + nI a = nI (a + 20) := by rw [Nat.add_comm]; exact nI_add 20 a
theorem ba_2m (a : Nat) : 2 * nI a = nI (2 * a) := pk_mul 2 a
theorem ba_3m (a : Nat) : 3 * nI a = nI (3 * a) := pk_mul 3 a
theorem ba_4m (a : Nat) : 4 * nI a = nI (4 * a) := pk_mul 4 a
theorem ba_s1 {n : Nat} (h : 0 < n) : nI n - 1 = nI (n - 1) := pk_sub (b := 1) h
theorem ba_s2 {n : Nat} (h : 2 ≤ n) : nI n - 2 = nI (n - 2) := pk_sub (b := 2) h
theorem ba_a1 {n : Nat} (h : 0 < n) : nI n + (-1) = nI (n - 1) := by
  obtain ⟨k, rfl⟩ : ∃ k, n = k + 1 := ⟨n - 1, by omega⟩
  exact pk_m1 k
theorem ba_and3 {n : Nat} (h : n < 1000) : nI n &&& 3 = nI (n % 4) := pk_andN (by omega) 2 (by decide)
theorem ba_in {n N : Nat} (h : n < N) (hN : N < 1000) : vp_in (nI n) N := vp_in_nI h (by omega)
/-- a role's number: outside, or one of three -/
theorem ba_role (x : Int32) : (x < 0 ∨ (¬ x < 0 ∧ ¬ x < 3 ∧ ¬ x ≤ 2)) ∨ ∃ j : Nat, j < 3 ∧ x = nI j := by
  rcases pk_ix x (n := 3) (by decide) with h | h | h
  · exact Or.inl (Or.inl h)
  · refine Or.inl (Or.inr ?_)
    have h3 : (3 : Int32) ≤ x := h
    rw [Int32.le_iff_toInt_le, show (3 : Int32).toInt = 3 from by decide] at h3
    refine ⟨?_, ?_, ?_⟩
    · rw [Int32.lt_iff_toInt_lt, show (0 : Int32).toInt = 0 from by decide]; omega
    · rw [Int32.lt_iff_toInt_lt, show (3 : Int32).toInt = 3 from by decide]; omega
    · rw [Int32.le_iff_toInt_le, show (2 : Int32).toInt = 2 from by decide]; omega
  · exact Or.inr h
theorem ba_r3 {j : Nat} (h : j < 3) : ¬ nI j < 0 ∧ nI j < 3 ∧ nI j ≤ 2 := ⟨nI_pos (by omega), nI_lt (b := 3) h (by decide), nI_le (b := 2) (by omega) (by decide)⟩
theorem ba_3 {j : Nat} (h : j < 3) : j = 0 ∨ j = 1 ∨ j = 2 := by omega
end
section
-- ===== a counting lemma: what ends at all, ends within m - 1 steps =====
def pg_tm (s : Nat → Bool) (f : Nat → Nat) : Nat → Nat → Bool
  | 0, i => s i
  | k + 1, i => s i || pg_tm s f k (f i)
def pg_ct (b : Nat → Bool) : Nat → Nat
  | 0 => 0
  | n + 1 => pg_ct b n + (if b n = true then 1 else 0)
theorem pg_ct_s (b : Nat → Bool) (n : Nat) : pg_ct b (n + 1) = pg_ct b n + (if b n = true then 1 else 0) := rfl
theorem pg_ct_le (b : Nat → Bool) : ∀ n, pg_ct b n ≤ n := by
  intro n
  induction n with
  | zero => exact Nat.le_refl _
  | succ n ih => rw [pg_ct_s]; split <;> omega
theorem pg_ct_mono {b c : Nat → Bool} : ∀ n, (∀ i, i < n → b i = true → c i = true) → pg_ct b n ≤ pg_ct c n := by
  intro n
  induction n with
  | zero => intro _; exact Nat.le_refl _
  | succ n ih =>
    intro h
    have h1 := ih (fun i hi => h i (by omega))
    rw [pg_ct_s, pg_ct_s]
    by_cases hb : b n = true
    · rw [if_pos hb, if_pos (h n (by omega) hb)]; omega
    · rw [if_neg hb]; omega
theorem pg_ct_lt {b c : Nat → Bool} {a : Nat} (ha : b a = false) (hc : c a = true) : ∀ n, (∀ i, i < n → b i = true → c i = true) → a < n → pg_ct b n + 1 ≤ pg_ct c n := by
  intro n
  induction n with
  | zero => intro _ h; omega
  | succ n ih =>
    intro h hn
    rw [pg_ct_s, pg_ct_s]
    by_cases e : a = n
    · subst e
      have h1 := pg_ct_mono a (fun i hi => h i (by omega))
      rw [if_pos hc, ha]
      simp
      omega
    · have h1 := ih (fun i hi => h i (by omega)) (by omega)
      by_cases hb : b n = true
      · rw [if_pos hb, if_pos (h n (by omega) hb)]; omega
      · rw [if_neg hb]; omega
theorem pg_tm_0 (s : Nat → Bool) (f : Nat → Nat) (i : Nat) : pg_tm s f 0 i = s i := rfl
theorem pg_tm_s (s : Nat → Bool) (f : Nat → Nat) (k i : Nat) : pg_tm s f (k + 1) i = (s i || pg_tm s f k (f i)) := rfl
theorem pg_tm_st {s : Nat → Bool} {f : Nat → Nat} {i : Nat} (h : s i = true) : ∀ k, pg_tm s f k i = true := by
  intro k
  cases k with
  | zero => exact h
  | succ k => rw [pg_tm_s, h]; rfl
theorem pg_tm_up {s : Nat → Bool} {f : Nat → Nat} : ∀ k i, pg_tm s f k i = true → pg_tm s f (k + 1) i = true := by
  intro k
  induction k with
  | zero => intro i h; exact pg_tm_st h 1
  | succ k ih =>
    intro i h
    rw [pg_tm_s, Bool.or_eq_true] at h
    rw [pg_tm_s, Bool.or_eq_true]
    rcases h with h | h
    · exact Or.inl h
    · exact Or.inr (ih _ h)
theorem pg_tm_le {s : Nat → Bool} {f : Nat → Nat} {k i : Nat} (h : pg_tm s f k i = true) : ∀ k', k ≤ k' → pg_tm s f k' i = true := by
  intro k' hk
  obtain ⟨d, rfl⟩ : ∃ d, k' = k + d := ⟨k' - k, by omega⟩
  clear hk
  induction d with
  | zero => exact h
  | succ d ih => exact pg_tm_up _ _ ih
theorem pg_gr {s : Nat → Bool} {f : Nat → Nat} {m : Nat} (hf : ∀ i, i < m → s i = false → f i < m) : ∀ k i, i < m → pg_tm s f (k + 1) i = true → pg_tm s f k i = false → k + 2 ≤ pg_ct (pg_tm s f (k + 1)) m := by
  intro k
  induction k with
  | zero =>
    intro i hi h1 h0
    rw [pg_tm_0] at h0
    rw [pg_tm_s, h0, Bool.false_or, pg_tm_0] at h1
    have a := pg_ct_lt (b := fun _ => false) (c := pg_tm s f 0) (a := f i) rfl h1 m (fun _ _ z => absurd z (by decide)) (hf i hi h0)
    have b := pg_ct_lt (b := pg_tm s f 0) (c := pg_tm s f 1) (a := i) h0 (by rw [pg_tm_s, h0, Bool.false_or]; exact h1) m (fun j _ z => pg_tm_up 0 j z) hi
    show 0 + 2 ≤ pg_ct (pg_tm s f 1) m
    omega
  | succ k ih =>
    intro i hi h1 h0
    have h0' := h0
    rw [pg_tm_s, Bool.or_eq_false_iff] at h0
    have h1' := h1
    rw [pg_tm_s, h0.1, Bool.false_or] at h1
    have a := ih (f i) (hf i hi h0.1) h1 h0.2
    have b := pg_ct_lt (b := pg_tm s f (k + 1)) (c := pg_tm s f (k + 1 + 1)) (a := i) h0' h1' m (fun j _ z => pg_tm_up _ j z) hi
    omega
theorem pg_m {s : Nat → Bool} {f : Nat → Nat} {m : Nat} (hf : ∀ i, i < m → s i = false → f i < m) {i : Nat} (hi : i < m) : ∀ k, pg_tm s f k i = true → pg_tm s f (m - 1) i = true := by
  intro k
  induction k with
  | zero => intro h; exact pg_tm_le h _ (by omega)
  | succ k ih =>
    intro h
    by_cases h0 : pg_tm s f k i = true
    · exact ih h0
    · have a := pg_gr hf k i hi h (by simpa using h0)
      have b := pg_ct_le (pg_tm s f (k + 1)) m
      exact pg_tm_le h _ (by omega)
-- ===== a protocol: P 0 kind, P 1 one, P 2 other, P 3 label, P 4 partG, P 5 partH, P 6 target, P 7 the parent's number + 1 (0: none) =====
abbrev pa_T : Type := Nat → Nat → Nat
def pa_sp (P : pa_T) (i : Nat) : Nat := if P 0 i = 3 then P 4 i else P 6 i
def pa_st (P : pa_T) : Nat → Nat → Nat
  | 0, i => i
  | f + 1, i => if P 0 i < 3 then i else pa_st P f (pa_sp P i)
theorem pa_st_s (P : pa_T) (f i : Nat) : pa_st P (f + 1) i = if P 0 i < 3 then i else pa_st P f (pa_sp P i) := rfl
def pa_S (P : pa_T) (i : Nat) : Nat := pa_st P 40 i
def pa_b (P : pa_T) (i : Nat) : Bool := decide (P 0 i < 3)
def pa_W (m : Nat) (P : pa_T) : Prop :=
  1 ≤ m ∧ m ≤ 20 ∧ (∀ i, i < m → P 0 i ≤ 4) ∧
  (∀ i, i < m → P 0 i = 1 → P 4 i < m ∧ P 1 i < 3 ∧ P 2 i < 3 ∧ P 1 i ≠ P 2 i ∧ P 3 i < 4) ∧
  (∀ i, i < m → P 0 i = 2 → P 4 i < m ∧ P 5 i < m ∧ P 1 i < 3) ∧
  (∀ i, i < m → P 0 i = 3 → P 4 i < m) ∧ (∀ i, i < m → P 0 i = 4 → P 6 i < m) ∧
  (∃ R : Nat → Nat, (∀ i, i < m → P 0 i = 3 → R (P 4 i) < R i) ∧ (∀ i, i < m → P 0 i = 4 → R (P 6 i) < R i))
section PA
variable {m : Nat} {P : pa_T}
theorem pa_spm (W : pa_W m P) {i : Nat} (hi : i < m) (h : ¬ P 0 i < 3) : pa_sp P i < m ∧ ((P 0 i = 3 ∧ pa_sp P i = P 4 i) ∨ (P 0 i = 4 ∧ pa_sp P i = P 6 i)) := by
  obtain ⟨_, _, h4, _, _, h5, h6, _⟩ := W
  have := h4 i hi
  unfold pa_sp
  by_cases e : P 0 i = 3
  · rw [if_pos e]; exact ⟨h5 i hi e, Or.inl ⟨e, rfl⟩⟩
  · rw [if_neg e]; exact ⟨h6 i hi (by omega), Or.inr ⟨by omega, rfl⟩⟩
theorem pa_tm (W : pa_W m P) {i : Nat} (hi : i < m) : pg_tm (pa_b P) (pa_sp P) 19 i = true := by
  obtain ⟨R, h3, h4⟩ := W.2.2.2.2.2.2.2
  have key : ∀ N j, j < m → R j < N → pg_tm (pa_b P) (pa_sp P) N j = true := by
    intro N
    induction N with
    | zero => intro j _ h; omega
    | succ N ih =>
      intro j hj hR
      rw [pg_tm_s, Bool.or_eq_true]
      by_cases c : P 0 j < 3
      · exact Or.inl (decide_eq_true c)
      · obtain ⟨a, b⟩ := pa_spm W hj c
        refine Or.inr (ih _ a ?_)
        rcases b with ⟨b1, b2⟩ | ⟨b1, b2⟩
        · have := h3 j hj b1; rw [b2]; omega
        · have := h4 j hj b1; rw [b2]; omega
  have a := pg_m (s := pa_b P) (f := pa_sp P) (m := m) (fun j hj hs => (pa_spm W hj (by simpa [pa_b] using hs)).1) hi _ (key (R i + 1) i hi (by omega))
  exact pg_tm_le a 19 (by have := W.2.1; omega)
theorem pa_st_lt {i : Nat} (h : P 0 i < 3) : ∀ f, pa_st P f i = i := by
  intro f
  cases f with
  | zero => rfl
  | succ f => rw [pa_st_s, if_pos h]
theorem pa_st_e : ∀ k i, pg_tm (pa_b P) (pa_sp P) k i = true → ∀ f, k ≤ f → pa_st P f i = pa_st P k i ∧ P 0 (pa_st P k i) < 3 := by
  intro k
  induction k with
  | zero =>
    intro i h f _
    have h' : P 0 i < 3 := by simpa [pg_tm_0, pa_b] using h
    rw [pa_st_lt h', pa_st_lt h']
    exact ⟨rfl, h'⟩
  | succ k ih =>
    intro i h f hf
    by_cases c : P 0 i < 3
    · rw [pa_st_lt c, pa_st_lt c]; exact ⟨rfl, c⟩
    · have h' : pg_tm (pa_b P) (pa_sp P) k (pa_sp P i) = true := by
        rw [pg_tm_s, Bool.or_eq_true] at h
        rcases h with h | h
        · exact absurd (by simpa [pa_b] using h) c
        · exact h
      obtain ⟨g, rfl⟩ : ∃ g, f = g + 1 := ⟨f - 1, by omega⟩
      rw [pa_st_s, pa_st_s, if_neg c, if_neg c]
      exact ih _ h' g (by omega)
theorem pa_S_lt {i : Nat} (h : P 0 i < 3) : pa_S P i = i := pa_st_lt h 40
theorem pa_S_k (W : pa_W m P) {i : Nat} (hi : i < m) : P 0 (pa_S P i) < 3 := by
  have a := pa_st_e 19 i (pa_tm W hi) 40 (by omega)
  unfold pa_S
  rw [a.1]; exact a.2
theorem pa_S_s (W : pa_W m P) {i : Nat} (hi : i < m) (h : ¬ P 0 i < 3) : pa_S P i = pa_S P (pa_sp P i) := by
  have hs := (pa_spm W hi h).1
  have a := pa_st_e 19 _ (pa_tm W hs) 40 (by omega)
  have b := pa_st_e 19 _ (pa_tm W hs) 39 (by omega)
  unfold pa_S
  rw [a.1, ← b.1, pa_st_s, if_neg h]
theorem pa_st_m (W : pa_W m P) : ∀ f i, i < m → pa_st P f i < m := by
  intro f
  induction f with
  | zero => intro i h; exact h
  | succ f ih =>
    intro i h
    rw [pa_st_s]
    split
    · exact h
    · rename_i c; exact ih _ (pa_spm W h c).1
theorem pa_S_m (W : pa_W m P) {i : Nat} (hi : i < m) : pa_S P i < m := pa_st_m W 40 i hi
-- ===== a role's next term =====
def pa_cd (P : pa_T) (i : Nat) : Nat := if P 0 i = 2 then i + 2 else if P 0 i = 0 then 1 else 0
def pa_lf (P : pa_T) (r : Nat) : Nat → Nat → Nat
  | 0, i => pa_cd P i
  | f + 1, i => if P 0 i = 1 then (if P 1 i = r ∨ P 2 i = r then i + 2 else pa_lf P r f (pa_S P (P 4 i))) else pa_cd P i
theorem pa_lf_s (P : pa_T) (r f i : Nat) : pa_lf P r (f + 1) i = if P 0 i = 1 then (if P 1 i = r ∨ P 2 i = r then i + 2 else pa_lf P r f (pa_S P (P 4 i))) else pa_cd P i := rfl
def pa_L (P : pa_T) (r i : Nat) : Nat := pa_lf P r 21 i
/-- a message that the role has no part in -/
def pa_U (P : pa_T) (r i : Nat) : Prop := P 0 i = 1 ∧ P 1 i ≠ r ∧ P 2 i ≠ r
def pa_ub (P : pa_T) (r i : Nat) : Bool := !(decide (P 0 i = 1) && (!decide (P 1 i = r) && !decide (P 2 i = r)))
def pa_nx (P : pa_T) (i : Nat) : Nat := pa_S P (P 4 i)
theorem pa_ub_f {r i : Nat} : pa_ub P r i = false ↔ pa_U P r i := by
  unfold pa_ub pa_U
  simp
theorem pa_ub_t {r i : Nat} : pa_ub P r i = true ↔ ¬ pa_U P r i := by
  rw [← pa_ub_f]; simp
theorem pa_nx_m (W : pa_W m P) {r i : Nat} (hi : i < m) (h : pa_U P r i) : pa_nx P i < m := pa_S_m W (W.2.2.2.1 i hi h.1).1
theorem pa_lf_u {r i f : Nat} (h : pa_U P r i) : pa_lf P r (f + 1) i = pa_lf P r f (pa_nx P i) := by
  rw [pa_lf_s, if_pos h.1, if_neg (fun z => z.elim h.2.1 h.2.2)]; rfl
theorem pa_lf_n {r i f g : Nat} (h : ¬ pa_U P r i) : pa_lf P r (f + 1) i = pa_lf P r (g + 1) i := by
  rw [pa_lf_s, pa_lf_s]
  by_cases c : P 0 i = 1
  · rw [if_pos c, if_pos c]
    have d : P 1 i = r ∨ P 2 i = r := by
      by_cases x : P 1 i = r
      · exact Or.inl x
      · by_cases y : P 2 i = r
        · exact Or.inr y
        · exact absurd ⟨c, x, y⟩ h
    rw [if_pos d, if_pos d]
  · rw [if_neg c, if_neg c]
theorem pa_lf_t {r : Nat} : ∀ k i, pg_tm (pa_ub P r) (pa_nx P) k i = true → ∀ f g, k < f → k < g → pa_lf P r f i = pa_lf P r g i := by
  intro k
  induction k with
  | zero =>
    intro i h f g hf hg
    obtain ⟨f, rfl⟩ : ∃ e, f = e + 1 := ⟨f - 1, by omega⟩
    obtain ⟨g, rfl⟩ : ∃ e, g = e + 1 := ⟨g - 1, by omega⟩
    exact pa_lf_n (pa_ub_t.mp h)
  | succ k ih =>
    intro i h f g hf hg
    obtain ⟨f, rfl⟩ : ∃ e, f = e + 1 := ⟨f - 1, by omega⟩
    obtain ⟨g, rfl⟩ : ∃ e, g = e + 1 := ⟨g - 1, by omega⟩
    by_cases c : pa_U P r i
    · rw [pa_lf_u c, pa_lf_u c]
      rw [pg_tm_s, pa_ub_f.mpr c, Bool.false_or] at h
      exact ih _ h f g (by omega) (by omega)
    · exact pa_lf_n c
theorem pa_lf_z {r : Nat} : ∀ f i, (∀ k, pg_tm (pa_ub P r) (pa_nx P) k i = false) → pa_lf P r f i = 0 := by
  intro f
  induction f with
  | zero =>
    intro i h
    have u := pa_ub_f.mp (h 0)
    show pa_cd P i = 0
    unfold pa_cd
    rw [if_neg (by rw [u.1]; omega), if_neg (by rw [u.1]; omega)]
  | succ f ih =>
    intro i h
    have u := pa_ub_f.mp (h 0)
    rw [pa_lf_u u]
    refine ih _ (fun k => ?_)
    have a := h (k + 1)
    rw [pg_tm_s, Bool.or_eq_false_iff] at a
    exact a.2
/-- either it ends within 19 steps, or never -/
theorem pa_tU (W : pa_W m P) {r i : Nat} (hi : i < m) : pg_tm (pa_ub P r) (pa_nx P) 19 i = true ∨ ∀ k, pg_tm (pa_ub P r) (pa_nx P) k i = false := by
  by_cases c : ∃ k, pg_tm (pa_ub P r) (pa_nx P) k i = true
  · obtain ⟨k, hk⟩ := c
    have a := pg_m (s := pa_ub P r) (f := pa_nx P) (m := m) (fun j hj hs => pa_nx_m W hj (pa_ub_f.mp hs)) hi k hk
    exact Or.inl (pg_tm_le a 19 (by have := W.2.1; omega))
  · refine Or.inr (fun k => ?_)
    cases e : pg_tm (pa_ub P r) (pa_nx P) k i with
    | false => rfl
    | true => exact absurd ⟨k, e⟩ c
theorem pa_L_u (W : pa_W m P) {r i : Nat} (hi : i < m) (h : pa_U P r i) : pa_L P r i = pa_L P r (pa_nx P i) := by
  unfold pa_L
  rw [pa_lf_u h]
  rcases pa_tU W (r := r) (pa_nx_m W hi h) with a | a
  · exact pa_lf_t 19 _ a 20 21 (by omega) (by omega)
  · rw [pa_lf_z _ _ a, pa_lf_z _ _ a]
theorem pa_L_c {r i : Nat} (h : P 0 i = 1) (h2 : P 1 i = r ∨ P 2 i = r) : pa_L P r i = i + 2 := by
  unfold pa_L
  rw [pa_lf_s, if_pos h, if_pos h2]
theorem pa_L_2 {r i : Nat} (h : P 0 i = 2) : pa_L P r i = i + 2 := by
  unfold pa_L
  rw [pa_lf_s, if_neg (by omega)]
  unfold pa_cd
  rw [if_pos h]
theorem pa_L_0 {r i : Nat} (h : P 0 i = 0) : pa_L P r i = 1 := by
  unfold pa_L
  rw [pa_lf_s, if_neg (by omega)]
  unfold pa_cd
  rw [if_neg (by omega), if_pos h]
theorem pa_lf_m (W : pa_W m P) {r : Nat} : ∀ f i, i < m → pa_lf P r f i < m + 2 := by
  have h1 := W.1
  intro f
  induction f with
  | zero =>
    intro i hi
    show pa_cd P i < _
    unfold pa_cd
    split
    · omega
    · split <;> omega
  | succ f ih =>
    intro i hi
    by_cases c : pa_U P r i
    · rw [pa_lf_u c]; exact ih _ (pa_nx_m W hi c)
    · rw [pa_lf_s]
      split
      · split
        · omega
        · rename_i a b; exact ih _ (pa_S_m W (W.2.2.2.1 i hi a).1)
      · unfold pa_cd
        split
        · omega
        · split <;> omega
theorem pa_L_m (W : pa_W m P) {r i : Nat} (hi : i < m) : pa_L P r i < m + 2 := pa_lf_m W 21 i hi
/-- d steps over messages without the role -/
def pa_R (P : pa_T) (r : Nat) : Nat → Nat → Nat → Prop
  | 0, i, j => i = j
  | d + 1, i, j => pa_U P r i ∧ pa_R P r d (pa_nx P i) j
theorem pa_R_t {r : Nat} : ∀ d i j k, pa_R P r d i j → pg_tm (pa_ub P r) (pa_nx P) k i = true → ∃ e, k = d + e ∧ pg_tm (pa_ub P r) (pa_nx P) e j = true ∨ d ≤ k ∧ pg_tm (pa_ub P r) (pa_nx P) (k - d) j = true := by
  intro d
  induction d with
  | zero => intro i j k h ht; cases h; exact ⟨0, Or.inr ⟨Nat.zero_le _, ht⟩⟩
  | succ d ih =>
    intro i j k h ht
    obtain ⟨u, h⟩ := h
    cases k with
    | zero => exact absurd u (pa_ub_t.mp ht)
    | succ k =>
      rw [pg_tm_s, pa_ub_f.mpr u, Bool.false_or] at ht
      obtain ⟨e, a⟩ := ih _ _ _ h ht
      refine ⟨e, ?_⟩
      rcases a with ⟨a, b⟩ | ⟨a, b⟩
      · exact Or.inl ⟨by omega, b⟩
      · exact Or.inr ⟨by omega, by rw [show k + 1 - (d + 1) = k - d from by omega]; exact b⟩
theorem pa_R_le {r d i j k : Nat} (h : pa_R P r d i j) (ht : pg_tm (pa_ub P r) (pa_nx P) k i = true) : d ≤ k ∧ pg_tm (pa_ub P r) (pa_nx P) (k - d) j = true := by
  obtain ⟨e, a⟩ := pa_R_t d i j k h ht
  rcases a with ⟨a, b⟩ | a
  · exact ⟨by omega, by rw [show k - d = e from by omega]; exact b⟩
  · exact a
theorem pa_R_L (W : pa_W m P) {r : Nat} : ∀ d i j, i < m → pa_R P r d i j → j < m ∧ pa_L P r i = pa_L P r j := by
  intro d
  induction d with
  | zero => intro i j hi h; cases h; exact ⟨hi, rfl⟩
  | succ d ih =>
    intro i j hi h
    obtain ⟨u, h⟩ := h
    rw [pa_L_u W hi u]
    exact ih _ _ (pa_nx_m W hi u) h
theorem pa_R_app {r : Nat} : ∀ d i j, pa_R P r d i j → pa_U P r j → pa_R P r (d + 1) i (pa_nx P j) := by
  intro d
  induction d with
  | zero => intro i j h u; cases h; exact ⟨u, rfl⟩
  | succ d ih => intro i j h u; exact ⟨h.1, ih _ _ h.2 u⟩
/-- round and round: never ends -/
theorem pa_R_cyc {r d i : Nat} (hd : 0 < d) (h : pa_R P r d i i) : ∀ k, pg_tm (pa_ub P r) (pa_nx P) k i = false := by
  have key : ∀ N k, k < N → pg_tm (pa_ub P r) (pa_nx P) k i = false := by
    intro N
    induction N with
    | zero => intro k h; omega
    | succ N ih =>
      intro k hk
      cases e : pg_tm (pa_ub P r) (pa_nx P) k i with
      | false => rfl
      | true =>
        obtain ⟨a, b⟩ := pa_R_le h e
        rw [ih (k - d) (by omega)] at b
        exact absurd b (by decide)
  exact fun k => key (k + 1) k (by omega)
theorem pa_L_cyc {r d i : Nat} (hd : 0 < d) (h : pa_R P r d i i) : pa_L P r i = 0 := pa_lf_z _ _ (pa_R_cyc hd h)
/-- where it stops, it stops within 19 steps -/
theorem pa_R_19 (W : pa_W m P) {r d i j : Nat} (hi : i < m) (h : pa_R P r d i j) (hj : ¬ pa_U P r j) : d ≤ 19 := by
  rcases pa_tU W (r := r) hi with a | a
  · exact (pa_R_le h a).1
  · exfalso
    have key : ∀ d i, pa_R P r d i j → pg_tm (pa_ub P r) (pa_nx P) d i = true := by
      intro d
      induction d with
      | zero => intro i h; cases h; exact pa_ub_t.mpr hj
      | succ d ih => intro i h; rw [pg_tm_s, Bool.or_eq_true]; exact Or.inr (ih _ h.2)
    have z := key d i h
    rw [a d] at z
    exact absurd z (by decide)
-- ===== upwards over parents =====
def pa_up {α : Type} (ar : Nat → Nat) (F : Nat → α → α) (z : α) : Nat → Nat → α
  | 0, _ => z
  | _ + 1, 0 => z
  | f + 1, p + 1 => F p (pa_up ar F z f (ar p))
theorem pa_up_0 {α : Type} (ar : Nat → Nat) (F : Nat → α → α) (z : α) (f : Nat) : pa_up ar F z f 0 = z := by cases f <;> rfl
theorem pa_up_e {α : Type} {ar : Nat → Nat} (F : Nat → α → α) (z : α) (ha : ∀ p, p < m → ar p ≤ m ∧ (ar p = 0 ∨ p + 1 < ar p)) : ∀ f g c, c ≤ m → m < f + c → m < g + c → pa_up ar F z f c = pa_up ar F z g c := by
  intro f
  induction f with
  | zero => intro g c h1 h2 h3; omega
  | succ f ih =>
    intro g c h1 h2 h3
    cases c with
    | zero => rw [pa_up_0, pa_up_0]
    | succ p =>
      obtain ⟨g, rfl⟩ : ∃ e, g = e + 1 := ⟨g - 1, by omega⟩
      show F p _ = F p _
      obtain ⟨a, b⟩ := ha p (by omega)
      rcases b with b | b
      · rw [b, pa_up_0, pa_up_0]
      · rw [ih g (ar p) a (by omega) (by omega)]
def pa_V {α : Type} (ar : Nat → Nat) (F : Nat → α → α) (z : α) (c : Nat) : α := pa_up ar F z 21 c
theorem pa_V_0 {α : Type} {ar : Nat → Nat} (F : Nat → α → α) (z : α) : pa_V ar F z 0 = z := rfl
theorem pa_V_s {α : Type} {ar : Nat → Nat} (F : Nat → α → α) (z : α) (ha : ∀ p, p < m → ar p ≤ m ∧ (ar p = 0 ∨ p + 1 < ar p)) (hm : m ≤ 20) {p : Nat} (hp : p < m) : pa_V ar F z (p + 1) = F p (pa_V ar F z (ar p)) := by
  show F p (pa_up ar F z 20 (ar p)) = F p (pa_up ar F z 21 (ar p))
  obtain ⟨a, b⟩ := ha p hp
  rcases b with b | b
  · rw [b, pa_up_0, pa_up_0]
  · rw [pa_up_e F z ha 20 21 (ar p) a (by omega) (by omega)]
def pa_A (m : Nat) (P : pa_T) : Prop := ∀ p, p < m → P 7 p ≤ m ∧ (P 7 p = 0 ∨ p + 1 < P 7 p)
/-- the nearest loop around with a name (number + 1; 0: none), and whether something is between -/
def pa_lo (P : pa_T) (nm : Nat) (c : Nat) : Nat := pa_V (P 7) (fun p x => if P 0 p = 3 ∧ P 1 p = nm then p + 1 else x) 0 c
def pa_bt (P : pa_T) (nm : Nat) (c : Nat) : Bool := pa_V (P 7) (fun p x => if P 0 p = 3 ∧ P 1 p = nm then false else (decide (P 0 p < 3) || x)) false c
def pa_dp (P : pa_T) (c : Nat) : Nat := pa_V (P 7) (fun p x => (if P 0 p < 3 then 1 else 0) + x) 0 c
theorem pa_lo_s (A : pa_A m P) (hm : m ≤ 20) {nm p : Nat} (hp : p < m) : pa_lo P nm (p + 1) = if P 0 p = 3 ∧ P 1 p = nm then p + 1 else pa_lo P nm (P 7 p) := pa_V_s _ _ A hm hp
theorem pa_bt_s (A : pa_A m P) (hm : m ≤ 20) {nm p : Nat} (hp : p < m) : pa_bt P nm (p + 1) = if P 0 p = 3 ∧ P 1 p = nm then false else (decide (P 0 p < 3) || pa_bt P nm (P 7 p)) := pa_V_s _ _ A hm hp
theorem pa_dp_s (A : pa_A m P) (hm : m ≤ 20) {p : Nat} (hp : p < m) : pa_dp P (p + 1) = (if P 0 p < 3 then 1 else 0) + pa_dp P (P 7 p) := pa_V_s _ _ A hm hp
/-- a bounded induction upwards: from parents to children -/
theorem pa_upI (A : pa_A m P) {Z : Nat → Prop} (h0 : Z 0) (hs : ∀ p, p < m → Z (P 7 p) → Z (p + 1)) : ∀ c, c ≤ m → Z c := by
  have key : ∀ d c, c ≤ m → m < d + c → Z c := by
    intro d
    induction d with
    | zero => intro c h1 h2; omega
    | succ d ih =>
      intro c h1 h2
      cases c with
      | zero => exact h0
      | succ p =>
        obtain ⟨a, b⟩ := A p (by omega)
        refine hs p (by omega) ?_
        rcases b with b | b
        · rw [b]; exact h0
        · exact ih _ a (by omega)
  exact fun c hc => key (m + 1) c hc (by omega)
theorem pa_lo_b (A : pa_A m P) (hm : m ≤ 20) {nm : Nat} : ∀ c, c ≤ m → pa_lo P nm c ≤ m ∧ (pa_lo P nm c = 0 ∨ (c ≤ pa_lo P nm c ∧ ∃ t, pa_lo P nm c = t + 1 ∧ t < m ∧ P 0 t = 3 ∧ P 1 t = nm)) := by
  refine pa_upI A ⟨Nat.zero_le _, Or.inl rfl⟩ ?_
  intro p hp ih
  rw [pa_lo_s A hm hp]
  by_cases c : P 0 p = 3 ∧ P 1 p = nm
  · rw [if_pos c]; exact ⟨by omega, Or.inr ⟨Nat.le_refl _, p, rfl, hp, c⟩⟩
  · rw [if_neg c]
    refine ⟨ih.1, ?_⟩
    rcases ih.2 with h | ⟨h, t⟩
    · exact Or.inl h
    · refine Or.inr ⟨?_, t⟩
      obtain ⟨a, b⟩ := A p hp
      obtain ⟨t, ht, _⟩ := t
      rcases b with b | b
      · rw [b] at ht
        exact absurd ht (by show ¬ (0 : Nat) = t + 1; omega)
      · omega
theorem pa_dp_b (A : pa_A m P) (hm : m ≤ 20) {nm : Nat} : ∀ c, c ≤ m → ∀ t, pa_lo P nm c = t + 1 → pa_dp P (P 7 t) + (if pa_bt P nm c = true then 1 else 0) ≤ pa_dp P c := by
  refine pa_upI A ?_ ?_
  · intro t h
    exact absurd h (by show ¬ (0 : Nat) = t + 1; omega)
  · intro p hp ih t ht
    rw [pa_lo_s A hm hp] at ht
    rw [pa_bt_s A hm hp, pa_dp_s A hm hp]
    by_cases c : P 0 p = 3 ∧ P 1 p = nm
    · rw [if_pos c] at ht
      have e : t = p := by omega
      subst e
      rw [if_pos c]
      simp
      try omega
    · rw [if_neg c] at ht
      have a := ih t ht
      rw [if_neg c]
      by_cases k : P 0 p < 3
      · rw [if_pos k]
        simp [k]
        revert a
        split <;> intro a <;> omega
      · rw [if_neg k]
        simp only [k, decide_false, Bool.false_or]
        omega
end PA
end
section
-- ===== rows of the path: sender, receiver, label, number, sent, received, term =====
abbrev ro_T : Type := Nat × Nat × Nat × Int32 × Bool × Bool × Nat
def ro_s (x : ro_T) : Nat := x.1
def ro_r (x : ro_T) : Nat := x.2.1
def ro_l (x : ro_T) : Nat := x.2.2.1
def ro_v (x : ro_T) : Int32 := x.2.2.2.1
def ro_a (x : ro_T) : Bool := x.2.2.2.2.1
def ro_b (x : ro_T) : Bool := x.2.2.2.2.2.1
def ro_t (x : ro_T) : Nat := x.2.2.2.2.2.2
def ro_u (r : Nat) (x : ro_T) : Bool := (decide (ro_s x = r) && !ro_a x) || (decide (ro_r x = r) && !ro_b x)
def ro_c (r : Nat) (x : ro_T) : Bool := decide (ro_s x = r) || decide (ro_r x = r)
def ro_k (x : ro_T) : Bool := ro_a x && ro_b x
def ro_q (p q : Nat) (x : ro_T) : Bool := (decide (ro_s x = p) && decide (ro_r x = q)) && (ro_a x && !ro_b x)
def ro_d (P : pa_T) (r : Nat) (x : ro_T) : Bool := decide (P 0 (ro_t x) = 2) && (decide (ro_r x = r) && !ro_b x)
def ro_n (P : pa_T) (x : ro_T) : Nat := pa_S P (if P 0 (ro_t x) = 2 ∧ ro_l x = 1 then P 5 (ro_t x) else P 4 (ro_t x))
def ro_le (p : Nat) : Nat := if p = 0 then 1 else 0
def ro_gr (p : Nat) : Nat := if p = 2 then 1 else 2
def ro_W (m : Nat) (P : pa_T) (x : ro_T) : Prop := ro_t x < m ∧ ro_s x = P 1 (ro_t x) ∧ ro_s x < 3 ∧ ro_r x < 3 ∧ ro_s x ≠ ro_r x ∧ (ro_b x = true → ro_a x = true) ∧ ro_l x < 4 ∧
  ((P 0 (ro_t x) = 1 ∧ ro_r x = P 2 (ro_t x) ∧ ro_l x = P 3 (ro_t x)) ∨ (P 0 (ro_t x) = 2 ∧ ro_l x < 2 ∧ (ro_r x = ro_le (ro_s x) ∨ ro_r x = ro_gr (ro_s x)) ∧ (ro_a x = false → ro_r x = ro_gr (ro_s x))))
/-- the same row, sent with a number; the same row, received -/
def ro_sd (x : ro_T) (v : Int32) : ro_T := (x.1, x.2.1, x.2.2.1, v, true, x.2.2.2.2.2.1, x.2.2.2.2.2.2)
def ro_rc (x : ro_T) : ro_T := (x.1, x.2.1, x.2.2.1, x.2.2.2.1, x.2.2.2.2.1, true, x.2.2.2.2.2.2)
theorem ro_lg {p : Nat} (h : p < 3) : ro_le p < 3 ∧ ro_gr p < 3 ∧ ro_le p ≠ p ∧ ro_gr p ≠ p ∧ ro_le p ≠ ro_gr p := by
  rcases ba_3 h with rfl | rfl | rfl <;> decide
theorem ro_u_t {r : Nat} {x : ro_T} : ro_u r x = true ↔ (ro_s x = r ∧ ro_a x = false) ∨ (ro_r x = r ∧ ro_b x = false) := by
  unfold ro_u; simp
theorem ro_u_f {r : Nat} {x : ro_T} : ro_u r x = false ↔ (ro_s x = r → ro_a x = true) ∧ (ro_r x = r → ro_b x = true) := by
  unfold ro_u; simp
theorem ro_c_t {r : Nat} {x : ro_T} : ro_c r x = true ↔ ro_s x = r ∨ ro_r x = r := by
  unfold ro_c; simp
theorem ro_q_t {p q : Nat} {x : ro_T} : ro_q p q x = true ↔ (ro_s x = p ∧ ro_r x = q) ∧ (ro_a x = true ∧ ro_b x = false) := by
  unfold ro_q; simp
theorem ro_d_t {P : pa_T} {r : Nat} {x : ro_T} : ro_d P r x = true ↔ P 0 (ro_t x) = 2 ∧ ro_r x = r ∧ ro_b x = false := by
  unfold ro_d; simp
theorem ro_k_t {x : ro_T} : ro_k x = true ↔ ro_a x = true ∧ ro_b x = true := by
  unfold ro_k; simp
theorem ro_uc {r : Nat} {x : ro_T} (h : ro_u r x = true) : ro_c r x = true := by
  rw [ro_u_t] at h; rw [ro_c_t]
  rcases h with h | h
  · exact Or.inl h.1
  · exact Or.inr h.1
theorem ro_ku {r : Nat} {x : ro_T} (h : ro_k x = true) : ro_u r x = false := by
  rw [ro_k_t] at h; rw [ro_u_f]; exact ⟨fun _ => h.1, fun _ => h.2⟩
theorem ro_bf {a b : Bool} (h : a = true → b = true) : b = false → a = false := by cases a <;> cases b <;> simp_all
theorem ro_nt {b : Bool} (h : ¬ b = true) : b = false := by cases b <;> simp_all
theorem ro_tf {b : Bool} (h : b = true) : ¬ b = false := by cases b <;> simp_all
-- ===== the chain of what is left for a role =====
def pt_ch (P : pa_T) (r : Nat) : List ro_T → Nat → Nat → Bool → Nat → Prop
  | [], e, c, hb, _ => c = e ∧ hb = false
  | x :: l, e, c, hb, pk => if ro_u r x = true then (c = ro_t x + 2 ∧ hb = decide (ro_s x = r ∧ P 0 (ro_t x) = 2) ∧ (hb = true → pk = ro_l x) ∧ pt_ch P r l e (pa_L P r (ro_n P x)) false 0) else pt_ch P r l e c hb pk
section PT
variable {m : Nat} {P : pa_T} {r : Nat}
theorem pt_ch_t {x : ro_T} {l : List ro_T} {e c pk : Nat} {hb : Bool} (h : ro_u r x = true) : pt_ch P r (x :: l) e c hb pk ↔ (c = ro_t x + 2 ∧ hb = decide (ro_s x = r ∧ P 0 (ro_t x) = 2) ∧ (hb = true → pk = ro_l x) ∧ pt_ch P r l e (pa_L P r (ro_n P x)) false 0) := by
  show (if ro_u r x = true then _ else _) ↔ _
  rw [if_pos h]
theorem pt_ch_f {x : ro_T} {l : List ro_T} {e c pk : Nat} {hb : Bool} (h : ro_u r x = false) : pt_ch P r (x :: l) e c hb pk ↔ pt_ch P r l e c hb pk := by
  show (if ro_u r x = true then _ else _) ↔ _
  rw [if_neg (by rw [h]; decide)]
theorem pt_ch_pk : ∀ {l : List ro_T} {e c pk : Nat} (pk' : Nat), pt_ch P r l e c false pk → pt_ch P r l e c false pk' := by
  intro l
  induction l with
  | nil => intro e c pk pk' h; exact h
  | cons x l ih =>
    intro e c pk pk' h
    by_cases u : ro_u r x = true
    · rw [pt_ch_t u] at h ⊢
      exact ⟨h.1, h.2.1, fun z => absurd z (by decide), h.2.2.2⟩
    · rw [pt_ch_f (ro_nt u)] at h ⊢
      exact ih pk' h
theorem pt_ch_none : ∀ {l1 l2 : List ro_T} {e c pk : Nat} {hb : Bool}, (∀ y, y ∈ l1 → ro_u r y = false) → (pt_ch P r (l1 ++ l2) e c hb pk ↔ pt_ch P r l2 e c hb pk) := by
  intro l1
  induction l1 with
  | nil => intro l2 e c pk hb _; exact Iff.rfl
  | cons x l ih =>
    intro l2 e c pk hb h
    rw [List.cons_append, pt_ch_f (h x (List.mem_cons_self ..)), ih (fun y hy => h y (List.mem_cons_of_mem _ hy))]
theorem pt_ch_app : ∀ {l1 l2 : List ro_T} {e e' c pk : Nat} {hb : Bool}, pt_ch P r l1 e c hb pk → pt_ch P r l2 e' e false 0 → pt_ch P r (l1 ++ l2) e' c hb pk := by
  intro l1
  induction l1 with
  | nil =>
    intro l2 e e' c pk hb h h2
    obtain ⟨rfl, rfl⟩ := h
    exact pt_ch_pk pk h2
  | cons x l ih =>
    intro l2 e e' c pk hb h h2
    rw [List.cons_append]
    by_cases u : ro_u r x = true
    · rw [pt_ch_t u] at h ⊢
      exact ⟨h.1, h.2.1, h.2.2.1, ih h.2.2.2 h2⟩
    · rw [pt_ch_f (ro_nt u)] at h ⊢
      exact ih h h2
theorem pt_ch_rep {x y : ro_T} (hu : ro_u r y = ro_u r x) (hs : ro_s y = ro_s x) (hl : ro_l y = ro_l x) (ht : ro_t y = ro_t x) : ∀ {l1 l2 : List ro_T} {e c pk : Nat} {hb : Bool}, pt_ch P r (l1 ++ x :: l2) e c hb pk → pt_ch P r (l1 ++ y :: l2) e c hb pk := by
  have hn : ro_n P y = ro_n P x := by unfold ro_n; rw [hl, ht]
  intro l1
  induction l1 with
  | nil =>
    intro l2 e c pk hb h
    rw [List.nil_append] at h ⊢
    by_cases u : ro_u r x = true
    · rw [pt_ch_t u] at h
      rw [pt_ch_t (hu.trans u), hs, hl, ht, hn]
      exact h
    · rw [pt_ch_f (ro_nt u)] at h
      rw [pt_ch_f (hu.trans (ro_nt u))]
      exact h
  | cons z l ih =>
    intro l2 e c pk hb h
    rw [List.cons_append] at h ⊢
    by_cases u : ro_u r z = true
    · rw [pt_ch_t u] at h ⊢
      exact ⟨h.1, h.2.1, h.2.2.1, ih h.2.2.2⟩
    · rw [pt_ch_f (ro_nt u)] at h ⊢
      exact ih h
theorem pt_ch_fil : ∀ {l : List ro_T} {e c pk : Nat} {hb : Bool}, pt_ch P r l e c hb pk → pt_ch P r (l.filter (fun x => !ro_k x)) e c hb pk := by
  intro l
  induction l with
  | nil => intro e c pk hb h; exact h
  | cons x l ih =>
    intro e c pk hb h
    by_cases k : ro_k x = true
    · rw [List.filter_cons_of_neg (by rw [k]; decide)]
      rw [pt_ch_f (ro_ku k)] at h
      exact ih h
    · rw [List.filter_cons_of_pos (by rw [ro_nt k]; rfl)]
      by_cases u : ro_u r x = true
      · rw [pt_ch_t u] at h ⊢
        exact ⟨h.1, h.2.1, h.2.2.1, ih h.2.2.2⟩
      · rw [pt_ch_f (ro_nt u)] at h ⊢
        exact ih h
theorem pt_ch_c {b : Nat} : ∀ {l : List ro_T} {e c pk : Nat} {hb : Bool}, (∀ x, x ∈ l → ro_t x < b) → e < b + 2 → pt_ch P r l e c hb pk → c < b + 2 := by
  intro l
  induction l with
  | nil => intro e c pk hb _ he h; rw [h.1]; exact he
  | cons x l ih =>
    intro e c pk hb hx he h
    by_cases u : ro_u r x = true
    · rw [pt_ch_t u] at h
      have := hx x (List.mem_cons_self ..)
      rw [h.1]; omega
    · rw [pt_ch_f (ro_nt u)] at h
      exact ih (fun y hy => hx y (List.mem_cons_of_mem _ hy)) he h
/-- what is left first -/
theorem pt_left (r : Nat) : ∀ l : List ro_T, (∀ y, y ∈ l → ro_u r y = false) ∨ ∃ l1 x l2, l = l1 ++ x :: l2 ∧ (∀ y, y ∈ l1 → ro_u r y = false) ∧ ro_u r x = true := by
  intro l
  induction l with
  | nil => exact Or.inl (fun y h => nomatch h)
  | cons x l ih =>
    by_cases u : ro_u r x = true
    · exact Or.inr ⟨[], x, l, rfl, (fun y h => nomatch h), u⟩
    · rcases ih with h | ⟨l1, z, l2, e, h1, h2⟩
      · refine Or.inl (fun y hy => ?_)
        rcases List.mem_cons.mp hy with rfl | hy
        · exact ro_nt u
        · exact h y hy
      · refine Or.inr ⟨x :: l1, z, l2, by rw [e]; rfl, (fun y hy => ?_), h2⟩
        rcases List.mem_cons.mp hy with rfl | hy
        · exact ro_nt u
        · exact h1 y hy
-- ===== what is done, is done in order =====
def pt_mr (x y : ro_T) : Prop := ∀ r, ro_u r x = true → ro_c r y = true → ro_u r y = true
def pt_mo (l : List ro_T) : Prop := List.Pairwise pt_mr l
theorem pt_mo_app {l : List ro_T} {x : ro_T} (h : pt_mo l) (hx : ∀ r, ro_c r x = true → ro_u r x = true) : pt_mo (l ++ [x]) := by
  unfold pt_mo
  rw [List.pairwise_append]
  refine ⟨h, List.pairwise_singleton _ _, fun a _ b hb q _ hc => ?_⟩
  rw [List.mem_singleton] at hb
  subst hb
  exact hx q hc
theorem pt_mo_rep {l1 l2 : List ro_T} {x y : ro_T} (h : pt_mo (l1 ++ x :: l2)) (hu : ∀ q, ro_u q y = true → ro_u q x = true) (hc : ∀ q, ro_c q y = ro_c q x)
    (hb : ∀ z, z ∈ l1 → ∀ q, ro_u q z = true → ro_c q x = true → ro_u q y = true) : pt_mo (l1 ++ y :: l2) := by
  unfold pt_mo at h ⊢
  rw [List.pairwise_append, List.pairwise_cons] at h ⊢
  obtain ⟨h1, ⟨h2, h3⟩, h4⟩ := h
  refine ⟨h1, ⟨fun b hb q hq hcb => h2 b hb q (hu q hq) hcb, h3⟩, fun a ha b hbb q hq hcb => ?_⟩
  rcases List.mem_cons.mp hbb with rfl | hbb
  · exact hb a ha q hq (by rw [← hc]; exact hcb)
  · exact h4 a ha b (List.mem_cons_of_mem _ hbb) q hq hcb
/-- behind a row that isn't sent nothing is done altogether -/
theorem pt_inc {x y : ro_T} (hx : ro_W m P x) (hy : ro_W m P y) (ha : ro_a x = false) (h : pt_mr x y) : ro_b y = false := by
  obtain ⟨_, _, x1, x2, x3, x4, _⟩ := hx
  obtain ⟨_, _, y1, y2, y3, y4, _⟩ := hy
  have xb : ro_b x = false := ro_bf x4 ha
  have k : ∀ q, (ro_s x = q ∨ ro_r x = q) → (ro_s y = q ∨ ro_r y = q) → ro_b y = false := by
    intro q h1 h2
    have a : ro_u q x = true := by
      rw [ro_u_t]
      rcases h1 with h1 | h1
      · exact Or.inl ⟨h1, ha⟩
      · exact Or.inr ⟨h1, xb⟩
    have b := h q a (ro_c_t.mpr h2)
    rw [ro_u_t] at b
    rcases b with b | b
    · exact ro_bf y4 b.2
    · exact b.2
  by_cases c1 : ro_s x = ro_s y
  · exact k _ (Or.inl rfl) (Or.inl c1.symm)
  · by_cases c2 : ro_s x = ro_r y
    · exact k _ (Or.inl rfl) (Or.inr c2.symm)
    · by_cases c3 : ro_r x = ro_s y
      · exact k _ (Or.inr rfl) (Or.inl c3.symm)
      · exact k (ro_r x) (Or.inr rfl) (Or.inr (by omega))
-- ===== rows next to each other =====
def pt_ct (P : pa_T) : List ro_T → Nat → Bool → Nat → Prop
  | [], n, hb, a => n = a ∧ hb = false
  | x :: l, n, hb, a => ro_t x = n ∧ ((P 0 n = 1 ∧ hb = false ∧ pt_ct P l (ro_n P x) false a) ∨ (P 0 n = 2 ∧ hb = false ∧ ro_r x = ro_le (ro_s x) ∧ pt_ct P l n true a) ∨ (P 0 n = 2 ∧ hb = true ∧ ro_r x = ro_gr (ro_s x) ∧ pt_ct P l (ro_n P x) false a))
def pt_cx (P : pa_T) (a : Nat) : List ro_T → Prop
  | [] => True
  | x :: l => (∃ n hb, pt_ct P (x :: l) n hb a) ∨ (ro_a x = true ∧ pt_cx P a l)
theorem pt_ct_tl {x : ro_T} {l : List ro_T} {n a : Nat} {hb : Bool} (h : pt_ct P (x :: l) n hb a) : ∃ n' hb', pt_ct P l n' hb' a := by
  obtain ⟨_, h⟩ := h
  rcases h with ⟨_, _, h⟩ | ⟨_, _, _, h⟩ | ⟨_, _, _, h⟩
  · exact ⟨_, _, h⟩
  · exact ⟨_, _, h⟩
  · exact ⟨_, _, h⟩
theorem pt_cx_ct {l : List ro_T} {n a : Nat} {hb : Bool} (h : pt_ct P l n hb a) : pt_cx P a l := by
  cases l with
  | nil => trivial
  | cons x l => exact Or.inl ⟨n, hb, h⟩
theorem pt_cx_tl {x : ro_T} {l : List ro_T} {a : Nat} (h : pt_cx P a (x :: l)) : pt_cx P a l := by
  rcases h with ⟨n, hb, h⟩ | ⟨_, h⟩
  · obtain ⟨n', hb', h'⟩ := pt_ct_tl h
    exact pt_cx_ct h'
  · exact h
theorem pt_ct_app : ∀ {l1 l2 : List ro_T} {n a a' : Nat} {hb : Bool}, pt_ct P l1 n hb a → pt_ct P l2 a false a' → pt_ct P (l1 ++ l2) n hb a' := by
  intro l1
  induction l1 with
  | nil => intro l2 n a a' hb h h2; obtain ⟨rfl, rfl⟩ := h; exact h2
  | cons x l ih =>
    intro l2 n a a' hb h h2
    obtain ⟨e, h⟩ := h
    refine ⟨e, ?_⟩
    rcases h with ⟨p1, p2, h⟩ | ⟨p1, p2, p3, h⟩ | ⟨p1, p2, p3, h⟩
    · exact Or.inl ⟨p1, p2, ih h h2⟩
    · exact Or.inr (Or.inl ⟨p1, p2, p3, ih h h2⟩)
    · exact Or.inr (Or.inr ⟨p1, p2, p3, ih h h2⟩)
theorem pt_cx_app : ∀ {l1 l2 : List ro_T} {a a' : Nat}, pt_cx P a l1 → pt_ct P l2 a false a' → pt_cx P a' (l1 ++ l2) := by
  intro l1
  induction l1 with
  | nil => intro l2 a a' _ h2; exact pt_cx_ct h2
  | cons x l ih =>
    intro l2 a a' h h2
    rcases h with ⟨n, hb, h⟩ | ⟨h1, h⟩
    · exact Or.inl ⟨n, hb, pt_ct_app h h2⟩
    · exact Or.inr ⟨h1, ih h h2⟩
theorem pt_ct_rep {x y : ro_T} (hs : ro_s y = ro_s x) (hr : ro_r y = ro_r x) (hl : ro_l y = ro_l x) (ht : ro_t y = ro_t x) : ∀ {l1 l2 : List ro_T} {n a : Nat} {hb : Bool}, pt_ct P (l1 ++ x :: l2) n hb a → pt_ct P (l1 ++ y :: l2) n hb a := by
  have hn : ro_n P y = ro_n P x := by unfold ro_n; rw [hl, ht]
  intro l1
  induction l1 with
  | nil =>
    intro l2 n a hb h
    obtain ⟨e, h⟩ := h
    refine ⟨ht.trans e, ?_⟩
    rw [hn, hr, hs]
    exact h
  | cons z l ih =>
    intro l2 n a hb h
    obtain ⟨e, h⟩ := h
    refine ⟨e, ?_⟩
    rcases h with ⟨p1, p2, h⟩ | ⟨p1, p2, p3, h⟩ | ⟨p1, p2, p3, h⟩
    · exact Or.inl ⟨p1, p2, ih h⟩
    · exact Or.inr (Or.inl ⟨p1, p2, p3, ih h⟩)
    · exact Or.inr (Or.inr ⟨p1, p2, p3, ih h⟩)
theorem pt_cx_rep {x y : ro_T} (hs : ro_s y = ro_s x) (hr : ro_r y = ro_r x) (hl : ro_l y = ro_l x) (ht : ro_t y = ro_t x) (ha : ro_a x = true → ro_a y = true) : ∀ {l1 l2 : List ro_T} {a : Nat}, pt_cx P a (l1 ++ x :: l2) → pt_cx P a (l1 ++ y :: l2) := by
  intro l1
  induction l1 with
  | nil =>
    intro l2 a h
    rcases h with ⟨n, hb, h⟩ | ⟨h1, h⟩
    · exact Or.inl ⟨n, hb, pt_ct_rep (l1 := []) hs hr hl ht h⟩
    · exact Or.inr ⟨ha h1, h⟩
  | cons z l ih =>
    intro l2 a h
    rcases h with ⟨n, hb, h⟩ | ⟨h1, h⟩
    · exact Or.inl ⟨n, hb, pt_ct_rep (l1 := z :: l) hs hr hl ht h⟩
    · exact Or.inr ⟨h1, ih h⟩
theorem pt_spl {a : Nat} : ∀ {l : List ro_T}, pt_cx P a l → pt_mo l → (∀ x, x ∈ l → ro_W m P x) → ∃ A B, l = A ++ B ∧ (∀ x, x ∈ A → ro_a x = true) ∧ (∃ n hb, pt_ct P B n hb a) ∧ (∀ x, x ∈ B → ro_b x = false) := by
  intro l
  induction l with
  | nil => intro _ _ _; exact ⟨[], [], rfl, (fun x h => nomatch h), ⟨a, false, rfl, rfl⟩, (fun x h => nomatch h)⟩
  | cons x l ih =>
    intro h hm hw
    unfold pt_mo at hm
    rw [List.pairwise_cons] at hm
    by_cases ha : ro_a x = true
    · obtain ⟨A, B, e, h1, h2, h3⟩ := ih (pt_cx_tl h) hm.2 (fun y hy => hw y (List.mem_cons_of_mem _ hy))
      refine ⟨x :: A, B, by rw [e]; rfl, fun y hy => ?_, h2, h3⟩
      rcases List.mem_cons.mp hy with rfl | hy
      · exact ha
      · exact h1 y hy
    · rcases h with h | ⟨h1, _⟩
      · refine ⟨[], x :: l, rfl, (fun y hy => nomatch hy), h, fun y hy => ?_⟩
        have hx := hw x (List.mem_cons_self ..)
        rcases List.mem_cons.mp hy with rfl | hy
        · exact ro_bf hx.2.2.2.2.2.1 (ro_nt ha)
        · exact pt_inc hx (hw y (List.mem_cons_of_mem _ hy)) (ro_nt ha) (hm.1 y hy)
      · exact absurd h1 ha
theorem pt_cx_fil {a : Nat} : ∀ {l : List ro_T}, pt_cx P a l → pt_mo l → (∀ x, x ∈ l → ro_W m P x) → pt_cx P a (l.filter (fun x => !ro_k x)) := by
  intro l
  induction l with
  | nil => intro h _ _; exact h
  | cons x l ih =>
    intro h hm hw
    unfold pt_mo at hm
    rw [List.pairwise_cons] at hm
    by_cases ha : ro_a x = true
    · have h' := ih (pt_cx_tl h) hm.2 (fun y hy => hw y (List.mem_cons_of_mem _ hy))
      by_cases k : ro_k x = true
      · rw [List.filter_cons_of_neg (by rw [k]; decide)]; exact h'
      · rw [List.filter_cons_of_pos (by rw [ro_nt k]; rfl)]; exact Or.inr ⟨ha, h'⟩
    · rcases h with h | ⟨h1, _⟩
      · have hx := hw x (List.mem_cons_self ..)
        have e : (x :: l).filter (fun x => !ro_k x) = x :: l := by
          rw [List.filter_eq_self]
          intro y hy
          have hb : ro_b y = false := by
            rcases List.mem_cons.mp hy with rfl | hy
            · exact ro_bf hx.2.2.2.2.2.1 (ro_nt ha)
            · exact pt_inc hx (hw y (List.mem_cons_of_mem _ hy)) (ro_nt ha) (hm.1 y hy)
          unfold ro_k
          rw [hb]; simp
        rw [e]
        exact Or.inl h
      · exact absurd h1 ha
end PT
end
section
-- ===== how many rows there can be =====
section PB
variable {m : Nat} {P : pa_T}
def pt_co (m : Nat) (P : pa_T) (l : List ro_T) (a : Nat) : Prop := a < m ∧ P 0 a < 3 ∧ (∀ x, x ∈ l → ro_W m P x) ∧ pt_mo l ∧ l.countP ro_k ≤ 1 ∧ pt_cx P a l
def pt_la (l : List ro_T) : Prop := (∀ x, x ∈ l → ro_a x = true) ∨ ∃ R, R < 3 ∧ l.countP (ro_u R) ≤ 1 ∧ ∃ l0 z, l = l0 ++ [z] ∧ ro_c R z = true
def pt_na (x : ro_T) : Bool := !ro_a x
def pt_q9 (l : List ro_T) : Nat := (l.countP (ro_q 0 0) + l.countP (ro_q 0 1) + l.countP (ro_q 0 2)) + (l.countP (ro_q 1 0) + l.countP (ro_q 1 1) + l.countP (ro_q 1 2)) + (l.countP (ro_q 2 0) + l.countP (ro_q 2 1) + l.countP (ro_q 2 2))
theorem pt_q9_c (x : ro_T) (l : List ro_T) : pt_q9 l ≤ pt_q9 (x :: l) := by
  unfold pt_q9
  simp only [List.countP_cons]
  omega
theorem pt_q9_p {x : ro_T} (l : List ro_T) (hs : ro_s x < 3) (hr : ro_r x < 3) (ha : ro_a x = true) (hb : ro_b x = false) : pt_q9 l + 1 ≤ pt_q9 (x :: l) := by
  have h : ro_q (ro_s x) (ro_r x) x = true := ro_q_t.mpr ⟨⟨rfl, rfl⟩, ha, hb⟩
  unfold pt_q9
  simp only [List.countP_cons]
  rcases ba_3 hs with e | e | e <;> rcases ba_3 hr with f | f | f <;> rw [e, f] at h <;> rw [h] <;> simp only [if_true] <;> omega
theorem pt_ln1 : ∀ l : List ro_T, (∀ x, x ∈ l → ro_W m P x) → l.length ≤ l.countP ro_k + pt_q9 l + l.countP pt_na := by
  intro l
  induction l with
  | nil => intro _; exact Nat.zero_le _
  | cons x l ih =>
    intro h
    have hx := h x (List.mem_cons_self ..)
    have i := ih (fun y hy => h y (List.mem_cons_of_mem _ hy))
    have q := pt_q9_c x l
    rw [List.length_cons, List.countP_cons, List.countP_cons]
    by_cases ha : ro_a x = true
    · by_cases hb : ro_b x = true
      · rw [if_pos (c := ro_k x = true) (ro_k_t.mpr ⟨ha, hb⟩)]
        omega
      · have p := pt_q9_p l hx.2.2.1 hx.2.2.2.1 ha (ro_nt hb)
        omega
    · rw [if_pos (c := pt_na x = true) (by unfold pt_na; rw [ro_nt ha]; rfl)]
      omega
theorem pt_ln2 {R : Nat} : ∀ l : List ro_T, (∀ x, x ∈ l → ro_r x < 3) → (∀ x, x ∈ l → ro_b x = false) → l.countP (ro_c R) ≤ l.countP (ro_u R) + (l.countP (ro_q R 0) + l.countP (ro_q R 1) + l.countP (ro_q R 2)) := by
  intro l
  induction l with
  | nil => intro _ _; exact Nat.zero_le _
  | cons x l ih =>
    intro h hb
    have i := ih (fun y hy => h y (List.mem_cons_of_mem _ hy)) (fun y hy => hb y (List.mem_cons_of_mem _ hy))
    have hr := h x (List.mem_cons_self ..)
    have b := hb x (List.mem_cons_self ..)
    simp only [List.countP_cons]
    by_cases c : ro_c R x = true
    · rw [if_pos c]
      by_cases u : ro_u R x = true
      · rw [if_pos u]; omega
      · have u' := ro_u_f.mp (ro_nt u)
        rw [ro_c_t] at c
        have s : ro_s x = R := by
          rcases c with c | c
          · exact c
          · have := u'.2 c; rw [b] at this; exact absurd this (by decide)
        have q : ro_q R (ro_r x) x = true := ro_q_t.mpr ⟨⟨s, rfl⟩, u'.1 s, b⟩
        rcases ba_3 hr with f | f | f <;> rw [f] at q <;> rw [q] <;> simp only [if_true] <;> omega
    · rw [if_neg c]; omega
theorem pt_cpl {f : ro_T → Bool} : ∀ l : List ro_T, l.countP f ≤ l.length := by
  intro l; exact List.countP_le_length
/-- gaps between a role's rows are short -/
theorem pt_clen (W : pa_W m P) {R a : Nat} (hR : R < 3) : ∀ (B : List ro_T) (n : Nat) (hb : Bool), (∃ B0 z, B = B0 ++ [z] ∧ ro_c R z = true) → (∀ x, x ∈ B → ro_W m P x) → pt_ct P B n hb a →
    (hb = false → pg_tm (pa_ub P R) (pa_nx P) 19 n = true ∧ ∀ k, pg_tm (pa_ub P R) (pa_nx P) k n = true → B.length ≤ k + 22 * B.countP (ro_c R)) ∧ (hb = true → B.length ≤ 20 + 22 * B.tail.countP (ro_c R)) := by
  intro B
  induction B with
  | nil =>
    intro n hb h
    obtain ⟨B0, z, e, _⟩ := h
    exact absurd e (by simp)
  | cons x l ih =>
    intro n hb hl hw hc
    have hx := hw x (List.mem_cons_self ..)
    have hw' : ∀ y, y ∈ l → ro_W m P y := fun y hy => hw y (List.mem_cons_of_mem _ hy)
    have hl' : l = [] ∧ ro_c R x = true ∨ ∃ B0 z, l = B0 ++ [z] ∧ ro_c R z = true := by
      obtain ⟨B0, z, e, hz⟩ := hl
      cases B0 with
      | nil =>
        rw [List.nil_append, List.cons.injEq] at e
        exact Or.inl ⟨e.2, by rw [e.1]; exact hz⟩
      | cons w B0 =>
        rw [List.cons_append, List.cons.injEq] at e
        exact Or.inr ⟨B0, z, e.2, hz⟩
    obtain ⟨ht, hc⟩ := hc
    obtain ⟨htm, hs, hs3, hr3, hsr, _, _, hk⟩ := hx
    rw [ht] at htm hs hk
    rw [List.length_cons, List.countP_cons, List.tail_cons]
    rcases hc with ⟨k1, rfl, hc⟩ | ⟨k2, rfl, hr, hc⟩ | ⟨k2, rfl, hr, hc⟩
    · have hrn : ro_r x = P 2 n := by
        rcases hk with hk | hk
        · exact hk.2.1
        · omega
      have hn : ro_n P x = pa_nx P n := by
        unfold ro_n pa_nx
        rw [ht, if_neg (by omega)]
      rw [hn] at hc
      refine ⟨fun _ => ?_, fun z => absurd z (by decide)⟩
      by_cases U : pa_U P R n
      · have nc : ¬ ro_c R x = true := by
          rw [ro_c_t, hs, hrn]
          exact fun z => z.elim U.2.1 U.2.2
        rcases hl' with ⟨_, c⟩ | hl'
        · exact absurd c nc
        · obtain ⟨i1, i2⟩ := (ih _ _ hl' hw' hc).1 rfl
          rw [if_neg nc]
          constructor
          · rcases pa_tU W (r := R) htm with z | z
            · exact z
            · exfalso
              have z' := z 20
              rw [pg_tm_s, Bool.or_eq_false_iff] at z'
              rw [z'.2] at i1
              exact absurd i1 (by decide)
          · intro k hk
            cases k with
            | zero => exact absurd U (pa_ub_t.mp hk)
            | succ k =>
              rw [pg_tm_s, pa_ub_f.mpr U, Bool.false_or] at hk
              have := i2 k hk
              omega
      · have st : pa_ub P R n = true := pa_ub_t.mpr U
        have c : ro_c R x = true := by
          rw [ro_c_t, hs, hrn]
          by_cases x1 : P 1 n = R
          · exact Or.inl x1
          · by_cases x2 : P 2 n = R
            · exact Or.inr x2
            · exact absurd ⟨k1, x1, x2⟩ U
        rw [if_pos c]
        refine ⟨pg_tm_st st 19, fun k _ => ?_⟩
        rcases hl' with ⟨e, _⟩ | hl'
        · rw [e]; simp only [List.length_nil, List.countP_nil]; omega
        · obtain ⟨i1, i2⟩ := (ih _ _ hl' hw' hc).1 rfl
          have := i2 19 i1
          omega
    · have U : ¬ pa_U P R n := fun z => by have := z.1; omega
      have st : pa_ub P R n = true := pa_ub_t.mpr U
      refine ⟨fun _ => ⟨pg_tm_st st 19, fun k _ => ?_⟩, fun z => absurd z (by decide)⟩
      cases l with
      | nil => exact absurd hc.2 (by decide)
      | cons y l2 =>
        rcases hl' with ⟨e, _⟩ | hl'
        · exact absurd e (by simp)
        · have i := (ih _ _ hl' hw' hc).2 rfl
          rw [List.tail_cons, List.length_cons] at i
          rw [List.length_cons, List.countP_cons]
          by_cases c : ro_c R x = true
          · rw [if_pos c]; omega
          · have c2 : ro_c R y = true := by
              obtain ⟨ht2, hc⟩ := hc
              have hy := hw' y (List.mem_cons_self ..)
              have sy : ro_s y = ro_s x := by rw [hy.2.1, ht2, hs]
              rcases hc with ⟨_, z, _⟩ | ⟨_, z, _⟩ | ⟨_, _, hry, _⟩
              · exact absurd z (by decide)
              · exact absurd z (by decide)
              · rw [ro_c_t] at c ⊢
                rw [sy] at hry
                rw [sy, hry]
                rw [hr] at c
                clear hl hw hw' ih hl' i
                revert c
                rcases ba_3 hs3 with e | e | e <;> rcases ba_3 hR with f | f | f <;> rw [e, f] <;> decide
            rw [if_neg c, if_pos c2]; omega
    · refine ⟨fun z => absurd z (by decide), fun _ => ?_⟩
      rcases hl' with ⟨e, _⟩ | hl'
      · rw [e]; simp only [List.length_nil, List.countP_nil]; omega
      · obtain ⟨i1, i2⟩ := (ih _ _ hl' hw' hc).1 rfl
        have := i2 19 i1
        omega
theorem pt_na0 : ∀ {A : List ro_T}, (∀ x, x ∈ A → ro_a x = true) → A.countP pt_na = 0 := by
  intro A h
  rw [List.countP_eq_zero]
  intro x hx
  unfold pt_na
  rw [h x hx]; decide
theorem pt_len (W : pa_W m P) {l : List ro_T} {a : Nat} (h : pt_co m P l a) (hl : pt_la l) (hq : ∀ p q, p < 3 → q < 3 → l.countP (ro_q p q) ≤ 4) : l.length ≤ 400 := by
  obtain ⟨_, _, hw, hm, hk, hx⟩ := h
  have l1 := pt_ln1 l hw
  have q9 : pt_q9 l ≤ 36 := by
    unfold pt_q9
    have := hq 0 0 (by omega) (by omega); have := hq 0 1 (by omega) (by omega); have := hq 0 2 (by omega) (by omega)
    have := hq 1 0 (by omega) (by omega); have := hq 1 1 (by omega) (by omega); have := hq 1 2 (by omega) (by omega)
    have := hq 2 0 (by omega) (by omega); have := hq 2 1 (by omega) (by omega); have := hq 2 2 (by omega) (by omega)
    omega
  rcases hl with hl | ⟨R, hR, hu, l0, z, e, hz⟩
  · rw [pt_na0 hl] at l1; omega
  · obtain ⟨A, B, eAB, hA, ⟨n, hb, hc⟩, hB⟩ := pt_spl hx hm hw
    have n1 : l.countP pt_na ≤ B.length := by
      rw [eAB, List.countP_append, pt_na0 hA]
      have := pt_cpl (f := pt_na) B
      omega
    suffices hh : B.length ≤ 320 by omega
    cases hBe : B with
    | nil => exact Nat.zero_le _
    | cons y B' =>
      rw [← hBe]
      have hBl : ∃ B0 z, B = B0 ++ [z] ∧ ro_c R z = true := by
        have hne : B ≠ [] := by rw [hBe]; simp
        refine ⟨B.dropLast, B.getLast hne, (List.dropLast_concat_getLast hne).symm, ?_⟩
        have g1 : l.getLast? = some z := by rw [e]; simp
        have g2 : l.getLast? = some (B.getLast hne) := by
          rw [eAB, List.getLast?_append, List.getLast?_eq_some_getLast hne]; simp
        rw [g1] at g2
        rw [← Option.some.inj g2]; exact hz
      have hwB : ∀ x, x ∈ B → ro_W m P x := fun x hx => hw x (by rw [eAB]; exact List.mem_append_right _ hx)
      obtain ⟨c1, c2⟩ := pt_clen W hR B n hb hBl hwB hc
      have l2 := pt_ln2 (R := R) B (fun x hx => (hwB x hx).2.2.2.1) hB
      have ap : ∀ f : ro_T → Bool, B.countP f ≤ l.countP f := by
        intro f; rw [eAB, List.countP_append]; omega
      have u1 := ap (ro_u R)
      have q0 := ap (ro_q R 0); have q1 := ap (ro_q R 1); have q2 := ap (ro_q R 2)
      have := hq R 0 hR (by omega); have := hq R 1 hR (by omega); have := hq R 2 hR (by omega)
      have tl : B.tail.countP (ro_c R) ≤ B.countP (ro_c R) := by
        rw [hBe, List.tail_cons, List.countP_cons]; omega
      cases hb with
      | false =>
        obtain ⟨d1, d2⟩ := c1 rfl
        have := d2 19 d1
        omega
      | true =>
        have := c2 rfl
        omega
end PB
end
section
-- ===== what a call does to the path =====
section PO
variable {m : Nat} {P : pa_T}
def ru_pl (P : pa_T) (l : List ro_T) (a : Nat) (xpl xhT xpk : Nat → Int32) : Prop := ∀ r, r < 3 → ∃ c hb p, xpl r = ba_pI c ∧ xhT r = ba_bI hb ∧ xpk r = nI p ∧ p < 2 ∧ pt_ch P r l (pa_L P r a) c hb p
def ru_q (l : List ro_T) (xhd xln xqL xqV : Nat → Int32) : Prop := ∀ p q, p < 3 → q < 3 → ∃ h, h < 4 ∧ xhd (3 * p + q) = nI h ∧ xln (3 * p + q) = nI (l.filter (ro_q p q)).length ∧ (l.filter (ro_q p q)).length ≤ 4 ∧
  ∀ k x, (l.filter (ro_q p q))[k]? = some x → xqL (4 * (3 * p + q) + (h + k) % 4) = nI (ro_l x) ∧ xqV (4 * (3 * p + q) + (h + k) % 4) = ro_v x
def ru_p (k : Nat) (P : pa_T) (l : List ro_T) (xps : Nat → Int32) : Prop := ∃ tot, tot ≤ k ∧ (∀ r, r < 3 → ∃ p, xps r = nI p ∧ p + l.countP (ro_d P r) = tot) ∧ ∃ r, r < 3 ∧ l.countP (ro_d P r) = 0
def ru_m (P : pa_T) (a : Nat) (v : Int32) : ro_T := (P 1 a, P 2 a, P 3 a, v, false, false, a)
def ru_h (r q c a : Nat) (v : Int32) (b : Bool) : ro_T := (r, q, c, v, b, false, a)
theorem ru_qc {l : List ro_T} {xhd xln xqL xqV : Nat → Int32} (h : ru_q l xhd xln xqL xqV) : ∀ p q, p < 3 → q < 3 → l.countP (ro_q p q) ≤ 4 := by
  intro p q hp hq
  obtain ⟨_, _, _, _, h, _⟩ := h p q hp hq
  rw [List.countP_eq_length_filter]; exact h
-- --- one message more ---
theorem op_mW (W : pa_W m P) {a : Nat} (ha : a < m) (hk : P 0 a = 1) (v : Int32) : ro_W m P (ru_m P a v) := by
  obtain ⟨_, h1, h2, h3, h4⟩ := W.2.2.2.1 a ha hk
  exact ⟨ha, rfl, h1, h2, h3, fun z => absurd z Bool.false_ne_true, h4, Or.inl ⟨hk, rfl, rfl⟩⟩
theorem op_mn {a : Nat} (hk : P 0 a = 1) (v : Int32) : ro_n P (ru_m P a v) = pa_nx P a := by
  show pa_S P (if P 0 a = 2 ∧ P 3 a = 1 then P 5 a else P 4 a) = _
  rw [if_neg (by omega)]; rfl
theorem op_mco (W : pa_W m P) {l : List ro_T} {a : Nat} (h : pt_co m P l a) (hk : P 0 a = 1) (v : Int32) : pt_co m P (l ++ [ru_m P a v]) (pa_nx P a) := by
  obtain ⟨ha, _, hw, hm, hc, hx⟩ := h
  have hg := (W.2.2.2.1 a ha hk).1
  refine ⟨pa_S_m W hg, pa_S_k W hg, fun x hx => ?_, pt_mo_app hm (fun q hq => ?_), ?_, pt_cx_app hx ?_⟩
  · rcases List.mem_append.mp hx with hx | hx
    · exact hw x hx
    · rw [List.mem_singleton] at hx; subst hx; exact op_mW W ha hk v
  · rw [ro_c_t] at hq; rw [ro_u_t]
    rcases hq with hq | hq
    · exact Or.inl ⟨hq, rfl⟩
    · exact Or.inr ⟨hq, rfl⟩
  · rw [List.countP_append]
    have : [ru_m P a v].countP ro_k = 0 := rfl
    omega
  · exact ⟨rfl, Or.inl ⟨hk, rfl, op_mn hk v, rfl⟩⟩
theorem op_mpl (W : pa_W m P) {l : List ro_T} {a : Nat} {xpl xhT xpk : Nat → Int32} (ha : a < m) (h : ru_pl P l a xpl xhT xpk) (hk : P 0 a = 1) (v : Int32) : ru_pl P (l ++ [ru_m P a v]) (pa_nx P a) xpl xhT xpk := by
  intro r hr
  obtain ⟨c, hb, p, h1, h2, h3, h4, h5⟩ := h r hr
  refine ⟨c, hb, p, h1, h2, h3, h4, pt_ch_app h5 ?_⟩
  by_cases u : ro_u r (ru_m P a v) = true
  · rw [pt_ch_t u]
    have u' := ro_c_t.mp (ro_uc u)
    refine ⟨pa_L_c hk u', ?_, fun z => absurd z (by decide), ?_⟩
    · symm
      rw [decide_eq_false_iff_not]
      intro z
      have z2 : P 0 a = 2 := z.2
      omega
    · rw [op_mn hk]; exact ⟨rfl, rfl⟩
  · rw [pt_ch_f (ro_nt u)]
    have u' := ro_u_f.mp (ro_nt u)
    refine ⟨?_, rfl⟩
    refine pa_L_u W ha ⟨hk, fun z => ?_, fun z => ?_⟩
    · exact absurd (u'.1 z) Bool.false_ne_true
    · exact absurd (u'.2 z) Bool.false_ne_true
theorem op_mq {l : List ro_T} {a : Nat} {xhd xln xqL xqV : Nat → Int32} (h : ru_q l xhd xln xqL xqV) (v : Int32) : ru_q (l ++ [ru_m P a v]) xhd xln xqL xqV := by
  intro p q hp hq
  have e : (l ++ [ru_m P a v]).filter (ro_q p q) = l.filter (ro_q p q) := by
    rw [List.filter_append]
    have : [ru_m P a v].filter (ro_q p q) = [] := by
      rw [List.filter_eq_nil_iff]
      intro x hx
      rw [List.mem_singleton] at hx
      subst hx
      rw [ro_q_t]
      exact fun z => absurd z.2.1 Bool.false_ne_true
    rw [this, List.append_nil]
  rw [e]
  exact h p q hp hq
theorem op_mp {k : Nat} {l : List ro_T} {a : Nat} {xps : Nat → Int32} (h : ru_p k P l xps) (hk : P 0 a = 1) (v : Int32) : ru_p k P (l ++ [ru_m P a v]) xps := by
  have e : ∀ r, (l ++ [ru_m P a v]).countP (ro_d P r) = l.countP (ro_d P r) := by
    intro r
    rw [List.countP_append]
    have : [ru_m P a v].countP (ro_d P r) = 0 := by
      rw [List.countP_eq_zero]
      intro x hx
      rw [List.mem_singleton] at hx
      subst hx
      rw [ro_d_t]
      intro z
      have z2 : P 0 a = 2 := z.1
      omega
    omega
  obtain ⟨tot, h1, h2, r, h3, h4⟩ := h
  refine ⟨tot, h1, fun q hq => ?_, r, h3, by rw [e]; exact h4⟩
  rw [e]; exact h2 q hq
-- --- forgetting ---
theorem op_fco {l : List ro_T} {a : Nat} (h : pt_co m P l a) : pt_co m P (l.filter (fun x => !ro_k x)) a ∧ (l.filter (fun x => !ro_k x)).countP ro_k = 0 := by
  obtain ⟨ha, hk, hw, hm, _, hx⟩ := h
  have z : (l.filter (fun x => !ro_k x)).countP ro_k = 0 := by
    rw [List.countP_eq_zero]
    intro x hx
    have := (List.mem_filter.mp hx).2
    intro y
    rw [y] at this
    exact absurd this (by decide)
  refine ⟨⟨ha, hk, fun x hx => hw x (List.mem_filter.mp hx).1, List.Pairwise.filter _ hm, by omega, pt_cx_fil hx hm hw⟩, z⟩
theorem op_fla {l : List ro_T} {a : Nat} (h : pt_co m P l a) (hl : pt_la l) : pt_la (l.filter (fun x => !ro_k x)) := by
  obtain ⟨ha, hk, hw, hm, _, hx⟩ := h
  rcases hl with hl | ⟨R, hR, hu, l0, z, e, hz⟩
  · exact Or.inl (fun x hx => hl x (List.mem_filter.mp hx).1)
  · by_cases c : ∀ x, x ∈ l.filter (fun x => !ro_k x) → ro_a x = true
    · exact Or.inl c
    · refine Or.inr ⟨R, hR, ?_, ?_⟩
      · rw [List.countP_filter]
        refine Nat.le_trans (List.countP_mono_left ?_) hu
        intro x _ hx
        simp at hx
        exact hx.1
      · obtain ⟨x, hx', ha'⟩ : ∃ x, x ∈ l ∧ ro_a x = false := by
          apply Classical.byContradiction
          intro n
          apply c
          intro x hx
          cases hh : ro_a x with
          | true => rfl
          | false => exact absurd ⟨x, (List.mem_filter.mp hx).1, hh⟩ n
        have kz : ro_k z = false := by
          have zb : ro_b z = false := by
            rw [e] at hx' hm hw
            unfold pt_mo at hm
            rw [List.pairwise_append] at hm
            have wz := hw z (List.mem_append_right _ (List.mem_singleton.mpr rfl))
            rcases List.mem_append.mp hx' with h1 | h1
            · exact pt_inc (hw x hx') wz ha' (hm.2.2 x h1 z (List.mem_singleton.mpr rfl))
            · rw [List.mem_singleton] at h1
              subst h1
              exact ro_bf wz.2.2.2.2.2.1 ha'
          unfold ro_k; rw [zb]; simp
        refine ⟨l0.filter (fun x => !ro_k x), z, ?_, hz⟩
        rw [e, List.filter_append]
        congr 1
        rw [List.filter_cons_of_pos (by rw [kz]; rfl)]; rfl
theorem op_fpl {l : List ro_T} {a : Nat} {xpl xhT xpk : Nat → Int32} (h : ru_pl P l a xpl xhT xpk) : ru_pl P (l.filter (fun x => !ro_k x)) a xpl xhT xpk := by
  intro r hr
  obtain ⟨c, hb, p, h1, h2, h3, h4, h5⟩ := h r hr
  exact ⟨c, hb, p, h1, h2, h3, h4, pt_ch_fil h5⟩
theorem op_ff {f : ro_T → Bool} (hf : ∀ x, f x = true → ro_k x = false) (l : List ro_T) : (l.filter (fun x => !ro_k x)).filter f = l.filter f := by
  rw [List.filter_filter]
  congr 1
  funext x
  cases h : f x with
  | false => rfl
  | true => rw [hf x h]; rfl
theorem op_fq {l : List ro_T} {xhd xln xqL xqV : Nat → Int32} (h : ru_q l xhd xln xqL xqV) : ru_q (l.filter (fun x => !ro_k x)) xhd xln xqL xqV := by
  intro p q hp hq
  rw [op_ff (f := ro_q p q) (fun x hx => ?_)]
  · exact h p q hp hq
  · unfold ro_k; rw [(ro_q_t.mp hx).2.2]; simp
theorem op_fp {k : Nat} {l : List ro_T} {xps : Nat → Int32} (h : ru_p k P l xps) : ru_p k P (l.filter (fun x => !ro_k x)) xps := by
  have e : ∀ r, (l.filter (fun x => !ro_k x)).countP (ro_d P r) = l.countP (ro_d P r) := by
    intro r
    rw [List.countP_eq_length_filter, List.countP_eq_length_filter, op_ff (f := ro_d P r) (fun x hx => ?_)]
    unfold ro_k; rw [(ro_d_t.mp hx).2.2]; simp
  obtain ⟨tot, h1, h2, r, h3, h4⟩ := h
  refine ⟨tot, h1, fun q hq => ?_, r, h3, by rw [e]; exact h4⟩
  rw [e]; exact h2 q hq
end PO
end
section
-- ===== sending, receiving, picking: the path =====
section PQ
variable {m : Nat} {P : pa_T} {xpl xhT xpk xps xhd xln xqL xqV : Nat → Int32}
theorem op_last {l1 l2 l0 : List ro_T} {x y z : ro_T} {R : Nat} (hc : ro_c R y = ro_c R x) (e : l1 ++ x :: l2 = l0 ++ [z]) (hz : ro_c R z = true) : ∃ l0 z, l1 ++ y :: l2 = l0 ++ [z] ∧ ro_c R z = true := by
  rcases List.eq_nil_or_concat l2 with rfl | ⟨l3, w, rfl⟩
  · have := List.append_inj_right' e rfl
    rw [List.cons.injEq] at this
    exact ⟨l1, y, rfl, by rw [hc, this.1]; exact hz⟩
  · refine ⟨l1 ++ y :: l3, w, by simp, ?_⟩
    have e' : (l1 ++ x :: l3) ++ [w] = l0 ++ [z] := by rw [← e]; simp
    have := List.append_inj_right' e' rfl
    rw [List.cons.injEq] at this
    rw [this.1]; exact hz
theorem op_la {l1 l2 : List ro_T} {x y : ro_T} (ha : ro_a x = true → ro_a y = true) (hu : ∀ q, ro_u q y = true → ro_u q x = true) (hc : ∀ q, ro_c q y = ro_c q x) (h : pt_la (l1 ++ x :: l2)) : pt_la (l1 ++ y :: l2) := by
  rcases h with h | ⟨R, hR, h1, l0, z, e, hz⟩
  · refine Or.inl (fun w hw => ?_)
    rcases List.mem_append.mp hw with hw | hw
    · exact h w (List.mem_append_left _ hw)
    · rcases List.mem_cons.mp hw with rfl | hw
      · exact ha (h x (List.mem_append_right _ (List.mem_cons_self ..)))
      · exact h w (List.mem_append_right _ (List.mem_cons_of_mem _ hw))
  · refine Or.inr ⟨R, hR, ?_, op_last (hc R) e hz⟩
    rw [List.countP_append, List.countP_cons] at h1 ⊢
    by_cases c : ro_u R y = true
    · rw [if_pos (hu R c)] at h1; rw [if_pos c]; exact h1
    · rw [if_neg c]; omega
/-- where the role is: at its first row of those left -/
theorem op_pos {l1 l2 : List ro_T} {x : ro_T} {a r : Nat} (hr : r < 3) (h : ru_pl P (l1 ++ x :: l2) a xpl xhT xpk) (h1 : ∀ y, y ∈ l1 → ro_u r y = false) (hx : ro_u r x = true) :
    xpl r = nI (ro_t x) ∧ (∀ hb, hb = decide (ro_s x = r ∧ P 0 (ro_t x) = 2) → xhT r = ba_bI hb ∧ (hb = true → xpk r = nI (ro_l x))) ∧ pt_ch P r l2 (pa_L P r a) (pa_L P r (ro_n P x)) false 0 := by
  obtain ⟨c, hb, p, e1, e2, e3, e4, e5⟩ := h r hr
  rw [pt_ch_none h1, pt_ch_t hx] at e5
  obtain ⟨f1, f2, f3, f4⟩ := e5
  refine ⟨by rw [e1, f1]; rfl, fun hb' hh => ?_, f4⟩
  rw [← hh] at f2
  rw [← f2]
  exact ⟨e2, fun z => by rw [e3, f3 z]⟩
theorem op_pos0 {l : List ro_T} {a r : Nat} (hr : r < 3) (h : ru_pl P l a xpl xhT xpk) (h1 : ∀ y, y ∈ l → ro_u r y = false) : xpl r = ba_pI (pa_L P r a) ∧ xhT r = 0 := by
  obtain ⟨c, hb, p, e1, e2, e3, e4, e5⟩ := h r hr
  have e6 : pt_ch P r (l ++ []) (pa_L P r a) c hb p := by rw [List.append_nil]; exact e5
  rw [pt_ch_none h1] at e6
  obtain ⟨f1, f2⟩ := e6
  rw [e1, e2, f1, f2]
  exact ⟨rfl, rfl⟩
-- --- sending ---
theorem op_sco {l1 l2 : List ro_T} {x : ro_T} {a r : Nat} (h : pt_co m P (l1 ++ x :: l2) a) (h1 : ∀ y, y ∈ l1 → ro_u r y = false) (hs : ro_s x = r) (ha : ro_a x = false) (v : Int32) : pt_co m P (l1 ++ ro_sd x v :: l2) a := by
  obtain ⟨am, ak, hw, hm, hc, hx⟩ := h
  have wx := hw x (List.mem_append_right _ (List.mem_cons_self ..))
  obtain ⟨w1, w2, w3, w4, w5, w6, w7, w8⟩ := wx
  have hb : ro_b x = false := ro_bf w6 ha
  refine ⟨am, ak, fun y hy => ?_, pt_mo_rep hm (fun q hq => ?_) (fun q => rfl) (fun z hz q hq hcx => ?_), ?_, pt_cx_rep (x := x) (y := ro_sd x v) rfl rfl rfl rfl (fun _ => rfl) hx⟩
  · rcases List.mem_append.mp hy with hy | hy
    · exact hw y (List.mem_append_left _ hy)
    · rcases List.mem_cons.mp hy with rfl | hy
      · refine ⟨w1, w2, w3, w4, w5, fun _ => rfl, w7, ?_⟩
        rcases w8 with w8 | ⟨w8, w9, w10, _⟩
        · exact Or.inl w8
        · exact Or.inr ⟨w8, w9, w10, fun z => absurd z.symm Bool.false_ne_true⟩
      · exact hw y (List.mem_append_right _ (List.mem_cons_of_mem _ hy))
  · rw [ro_u_t] at hq ⊢
    rcases hq with ⟨_, hq⟩ | hq
    · exact absurd hq.symm Bool.false_ne_true
    · exact Or.inr hq
  · rw [ro_u_t]
    rcases ro_c_t.mp hcx with c | c
    · rw [hs] at c; subst c; rw [h1 z hz] at hq; exact absurd hq Bool.false_ne_true
    · exact Or.inr ⟨c, hb⟩
  · rw [List.countP_append, List.countP_cons] at hc ⊢
    have e1 : ro_k (ro_sd x v) = false := by
      show (true && ro_b x) = false
      rw [hb]; rfl
    rw [if_neg (by rw [e1]; decide)]
    omega
theorem op_sla {l1 l2 : List ro_T} {x : ro_T} (v : Int32) (h : pt_la (l1 ++ x :: l2)) : pt_la (l1 ++ ro_sd x v :: l2) := by
  refine op_la (x := x) (y := ro_sd x v) (fun _ => rfl) (fun q hq => ?_) (fun q => rfl) h
  rw [ro_u_t] at hq ⊢
  rcases hq with ⟨_, hq⟩ | hq
  · exact absurd hq.symm Bool.false_ne_true
  · exact Or.inr hq
theorem op_spl {l1 l2 : List ro_T} {x : ro_T} {a r : Nat} (hr : r < 3) (h : ru_pl P (l1 ++ x :: l2) a xpl xhT xpk) (h1 : ∀ y, y ∈ l1 → ro_u r y = false) (hs : ro_s x = r) (hsr : ro_s x ≠ ro_r x) (ha : ro_a x = false) (v : Int32)
    {xpl' xhT' : Nat → Int32} (e1 : xpl' r = ba_pI (pa_L P r (ro_n P x))) (e2 : xhT' r = 0) (e3 : ∀ q, q ≠ r → xpl' q = xpl q ∧ xhT' q = xhT q) : ru_pl P (l1 ++ ro_sd x v :: l2) a xpl' xhT' xpk := by
  have hx : ro_u r x = true := ro_u_t.mpr (Or.inl ⟨hs, ha⟩)
  intro q hq
  by_cases c : q = r
  · subst c
    obtain ⟨_, _, p, _, _, e4, e5, _⟩ := h q hq
    obtain ⟨_, _, e6⟩ := op_pos hq h h1 hx
    refine ⟨_, false, p, e1, e2, e4, e5, ?_⟩
    rw [pt_ch_none h1, pt_ch_f]
    · exact pt_ch_pk p e6
    · rw [ro_u_f]
      exact ⟨fun _ => rfl, fun z => absurd (hs.trans z.symm) hsr⟩
  · obtain ⟨c', hb, p, f1, f2, f3, f4, f5⟩ := h q hq
    obtain ⟨g1, g2⟩ := e3 q c
    refine ⟨c', hb, p, by rw [g1]; exact f1, by rw [g2]; exact f2, f3, f4, pt_ch_rep (x := x) (y := ro_sd x v) ?_ rfl rfl rfl f5⟩
    unfold ro_u
    have n1 : decide (ro_s x = q) = false := by rw [decide_eq_false_iff_not, hs]; exact fun z => c z.symm
    show ((decide (ro_s x = q) && _) || _) = _
    rw [n1, Bool.false_and, Bool.false_and]
    rfl
theorem ruq_put {l l' : List ro_T} {p0 q0 h : Nat} {x : ro_T} (hp0 : p0 < 3) (hq0 : q0 < 3) (H : ru_q l xhd xln xqL xqV) (hh : h < 4) (eh : xhd (3 * p0 + q0) = nI h) {n : Nat} (en : (l.filter (ro_q p0 q0)).length = n) (hlen : n < 4)
    (e0 : l'.filter (ro_q p0 q0) = l.filter (ro_q p0 q0) ++ [x]) (e1 : ∀ p q, p < 3 → q < 3 → ¬ (p = p0 ∧ q = q0) → l'.filter (ro_q p q) = l.filter (ro_q p q)) :
    ru_q l' xhd (upd xln (3 * p0 + q0) (nI (n + 1))) (upd xqL (4 * (3 * p0 + q0) + (h + n) % 4) (nI (ro_l x))) (upd xqV (4 * (3 * p0 + q0) + (h + n) % 4) (ro_v x)) := by
  intro p q hp hq
  by_cases c : p = p0 ∧ q = q0
  · obtain ⟨rfl, rfl⟩ := c
    obtain ⟨h', h1, h2, h3, h4, h5⟩ := H p q hp hq
    have eh' : h' = h := ba_eq (h2.symm.trans eh) (by omega) (by omega)
    subst eh'
    rw [e0]
    refine ⟨h', hh, eh, ?_, ?_, fun k y hk => ?_⟩
    · rw [pk_us, List.length_append, en]; rfl
    · rw [List.length_append, en]; show n + 1 ≤ 4; omega
    · by_cases ck : k < n
      · rw [List.getElem?_append_left (by omega)] at hk
        have h6 := h5 k y hk
        rw [pk_un (by omega), pk_un (by omega)]
        exact h6
      · rw [List.getElem?_append_right (by omega), en] at hk
        have hk0 : k - n = 0 := by
          rcases Nat.eq_zero_or_pos (k - n) with z | z
          · exact z
          · rw [List.getElem?_eq_none (by show 1 ≤ k - n; omega)] at hk
            exact absurd hk (by simp)
        rw [hk0] at hk
        have hy : x = y := Option.some.inj hk
        subst hy
        have hkn : k = n := by omega
        subst hkn
        rw [pk_us, pk_us]
        exact ⟨rfl, rfl⟩
  · obtain ⟨h', h1, h2, h3, h4, h5⟩ := H p q hp hq
    have ne : 3 * p + q ≠ 3 * p0 + q0 := fun z => c ⟨by omega, by omega⟩
    rw [e1 p q hp hq c]
    refine ⟨h', h1, h2, by rw [pk_un ne]; exact h3, h4, fun k y hk => ?_⟩
    have h6 := h5 k y hk
    rw [pk_un (by omega), pk_un (by omega)]
    exact h6
theorem ruq_take {l l' T : List ro_T} {p0 q0 h : Nat} {x : ro_T} (hp0 : p0 < 3) (hq0 : q0 < 3) (H : ru_q l xhd xln xqL xqV) (hh : h < 4) (eh : xhd (3 * p0 + q0) = nI h)
    (e : l.filter (ro_q p0 q0) = x :: T) (e0 : l'.filter (ro_q p0 q0) = T) (e1 : ∀ p q, p < 3 → q < 3 → ¬ (p = p0 ∧ q = q0) → l'.filter (ro_q p q) = l.filter (ro_q p q)) :
    ru_q l' (upd xhd (3 * p0 + q0) (nI ((h + 1) % 4))) (upd xln (3 * p0 + q0) (nI T.length)) xqL xqV := by
  intro p q hp hq
  by_cases c : p = p0 ∧ q = q0
  · obtain ⟨rfl, rfl⟩ := c
    obtain ⟨h', h1, h2, h3, h4, h5⟩ := H p q hp hq
    have eh' : h' = h := ba_eq (h2.symm.trans eh) (by omega) (by omega)
    subst eh'
    rw [e0]
    rw [e] at h4 h5
    refine ⟨(h' + 1) % 4, by omega, by rw [pk_us], by rw [pk_us], by rw [List.length_cons] at h4; omega, fun k y hk => ?_⟩
    have h6 := h5 (k + 1) y hk
    have e7 : ((h' + 1) % 4 + k) % 4 = (h' + (k + 1)) % 4 := by omega
    rw [e7]
    exact h6
  · obtain ⟨h', h1, h2, h3, h4, h5⟩ := H p q hp hq
    have ne : 3 * p + q ≠ 3 * p0 + q0 := fun z => c ⟨by omega, by omega⟩
    rw [e1 p q hp hq c]
    exact ⟨h', h1, by rw [pk_un ne]; exact h2, by rw [pk_un ne]; exact h3, h4, h5⟩
/-- behind what is left first, nothing of the same sender is sent -/
theorem op_l2 {l1 l2 : List ro_T} {x : ro_T} {a r : Nat} (h : pt_co m P (l1 ++ x :: l2) a) (hs : ro_u r x = true) (q : Nat) : l2.filter (ro_q r q) = [] := by
  obtain ⟨_, _, hw, hm, _, _⟩ := h
  rw [List.filter_eq_nil_iff]
  intro y hy z
  rw [ro_q_t] at z
  unfold pt_mo at hm
  rw [List.pairwise_append, List.pairwise_cons] at hm
  have u := hm.2.1.1 y hy r hs (ro_c_t.mpr (Or.inl z.1.1))
  have wy := hw y (List.mem_append_right _ (List.mem_cons_of_mem _ hy))
  rw [ro_u_t] at u
  rcases u with u | u
  · rw [z.2.1] at u; exact absurd u.2 (by decide)
  · exact wy.2.2.2.2.1 (z.1.1.trans u.1.symm)
theorem op_l1 {l1 : List ro_T} {r : Nat} (h1 : ∀ y, y ∈ l1 → ro_u r y = false) (p : Nat) : l1.filter (ro_q p r) = [] := by
  rw [List.filter_eq_nil_iff]
  intro y hy z
  rw [ro_q_t] at z
  have u := (ro_u_f.mp (h1 y hy)).2 z.1.2
  rw [z.2.2] at u
  exact absurd u (by decide)
theorem op_sq {l1 l2 : List ro_T} {x : ro_T} {a r h n : Nat} (hr : r < 3) (hco : pt_co m P (l1 ++ x :: l2) a) (H : ru_q (l1 ++ x :: l2) xhd xln xqL xqV) (hs : ro_s x = r) (ha : ro_a x = false) (v : Int32)
    (hh : h < 4) (eh : xhd (3 * r + ro_r x) = nI h) (en : ((l1 ++ x :: l2).filter (ro_q r (ro_r x))).length = n) (hlen : n < 4) :
    ru_q (l1 ++ ro_sd x v :: l2) xhd (upd xln (3 * r + ro_r x) (nI (n + 1))) (upd xqL (4 * (3 * r + ro_r x) + (h + n) % 4) (nI (ro_l x))) (upd xqV (4 * (3 * r + ro_r x) + (h + n) % 4) v) := by
  have wx := hco.2.2.1 x (List.mem_append_right _ (List.mem_cons_self ..))
  obtain ⟨w1, w2, w3, w4, w5, w6, w7, w8⟩ := wx
  have hb : ro_b x = false := ro_bf w6 ha
  have hx : ro_u r x = true := ro_u_t.mpr (Or.inl ⟨hs, ha⟩)
  have nx : ∀ p q, ro_q p q x = false := by
    intro p q
    cases e : ro_q p q x with
    | false => rfl
    | true => rw [ro_q_t, ha] at e; exact absurd e.2.1 (by decide)
  have base : ∀ p q, (l1 ++ x :: l2).filter (ro_q p q) = l1.filter (ro_q p q) ++ l2.filter (ro_q p q) := by
    intro p q
    rw [List.filter_append, List.filter_cons_of_neg (by rw [nx]; decide)]
  refine ruq_put (x := ro_sd x v) hr w4 H hh eh en hlen ?_ ?_
  · rw [base, op_l2 hco hx, List.append_nil, List.filter_append, List.filter_cons_of_pos, op_l2 hco hx]
    exact ro_q_t.mpr ⟨⟨hs, rfl⟩, rfl, hb⟩
  · intro p q hp hq c
    rw [base, List.filter_append, List.filter_cons_of_neg]
    intro z
    rw [ro_q_t] at z
    exact c ⟨z.1.1.symm.trans hs, z.1.2.symm⟩
theorem op_sp {k : Nat} {l1 l2 : List ro_T} {x : ro_T} (v : Int32) (h : ru_p k P (l1 ++ x :: l2) xps) : ru_p k P (l1 ++ ro_sd x v :: l2) xps := by
  have e : ∀ r, (l1 ++ ro_sd x v :: l2).countP (ro_d P r) = (l1 ++ x :: l2).countP (ro_d P r) := by
    intro r
    rw [List.countP_append, List.countP_cons, List.countP_append, List.countP_cons]
    rfl
  obtain ⟨tot, h1, h2, r, h3, h4⟩ := h
  refine ⟨tot, h1, fun q hq => ?_, r, h3, by rw [e]; exact h4⟩
  rw [e]; exact h2 q hq
-- --- receiving ---
theorem op_rco {l1 l2 : List ro_T} {x : ro_T} {a r : Nat} (h : pt_co m P (l1 ++ x :: l2) a) (h0 : (l1 ++ x :: l2).countP ro_k = 0) (h1 : ∀ y, y ∈ l1 → ro_u r y = false) (hs : ro_r x = r) (ha : ro_a x = true) : pt_co m P (l1 ++ ro_rc x :: l2) a := by
  obtain ⟨am, ak, hw, hm, hc, hx⟩ := h
  have wx := hw x (List.mem_append_right _ (List.mem_cons_self ..))
  obtain ⟨w1, w2, w3, w4, w5, w6, w7, w8⟩ := wx
  have nu : ∀ q, ro_u q (ro_rc x) = false := by
    intro q
    rw [ro_u_f]
    exact ⟨fun _ => ha, fun _ => rfl⟩
  refine ⟨am, ak, fun y hy => ?_, pt_mo_rep hm (fun q hq => ?_) (fun q => rfl) (fun z hz q hq hcx => ?_), ?_, pt_cx_rep (x := x) (y := ro_rc x) rfl rfl rfl rfl (fun z => z) hx⟩
  · rcases List.mem_append.mp hy with hy | hy
    · exact hw y (List.mem_append_left _ hy)
    · rcases List.mem_cons.mp hy with rfl | hy
      · exact ⟨w1, w2, w3, w4, w5, fun _ => ha, w7, w8⟩
      · exact hw y (List.mem_append_right _ (List.mem_cons_of_mem _ hy))
  · rw [nu q] at hq; exact absurd hq Bool.false_ne_true
  · exfalso
    rcases ro_c_t.mp hcx with c | c
    · unfold pt_mo at hm
      rw [List.pairwise_append] at hm
      have u := hm.2.2 z hz x (List.mem_cons_self ..) q hq hcx
      rw [ro_u_t] at u
      rcases u with u | u
      · rw [ha] at u; exact absurd u.2 (by decide)
      · exact w5 (c.trans u.1.symm)
    · rw [hs] at c; subst c; rw [h1 z hz] at hq; exact absurd hq Bool.false_ne_true
  · rw [List.countP_append, List.countP_cons] at h0 ⊢
    split <;> omega
theorem op_rla {l1 l2 : List ro_T} {x : ro_T} (h : pt_la (l1 ++ x :: l2)) : pt_la (l1 ++ ro_rc x :: l2) := by
  refine op_la (x := x) (y := ro_rc x) (fun z => z) (fun q hq => ?_) (fun q => rfl) h
  rw [ro_u_t] at hq ⊢
  rcases hq with hq | ⟨_, hq⟩
  · exact Or.inl hq
  · exact absurd hq.symm Bool.false_ne_true
theorem op_rpl {l1 l2 : List ro_T} {x : ro_T} {a r : Nat} (hr : r < 3) (h : ru_pl P (l1 ++ x :: l2) a xpl xhT xpk) (h1 : ∀ y, y ∈ l1 → ro_u r y = false) (hs : ro_r x = r) (hsr : ro_s x ≠ ro_r x) (ha : ro_a x = true) (hb : ro_b x = false)
    {xpl' : Nat → Int32} (e1 : xpl' r = ba_pI (pa_L P r (ro_n P x))) (e3 : ∀ q, q ≠ r → xpl' q = xpl q) : ru_pl P (l1 ++ ro_rc x :: l2) a xpl' xhT xpk := by
  have hx : ro_u r x = true := ro_u_t.mpr (Or.inr ⟨hs, hb⟩)
  have nu : ∀ q, ro_u q (ro_rc x) = false := by
    intro q
    rw [ro_u_f]
    exact ⟨fun _ => ha, fun _ => rfl⟩
  intro q hq
  by_cases c : q = r
  · subst c
    obtain ⟨_, _, p, _, _, e4, e5, _⟩ := h q hq
    obtain ⟨_, e7, e6⟩ := op_pos hq h h1 hx
    have e8 := e7 false (by symm; rw [decide_eq_false_iff_not]; exact fun z => hsr (z.1.trans hs.symm))
    refine ⟨_, false, p, e1, e8.1, e4, e5, ?_⟩
    rw [pt_ch_none h1, pt_ch_f (nu q)]
    exact pt_ch_pk p e6
  · obtain ⟨c', hb', p, f1, f2, f3, f4, f5⟩ := h q hq
    refine ⟨c', hb', p, by rw [e3 q c]; exact f1, f2, f3, f4, pt_ch_rep (x := x) (y := ro_rc x) ?_ rfl rfl rfl f5⟩
    rw [nu q]
    symm
    rw [ro_u_f]
    exact ⟨fun _ => ha, fun z => absurd (z.symm.trans hs) c⟩
theorem op_rq {l1 l2 : List ro_T} {x : ro_T} {r h : Nat} (hr : r < 3) (hs3 : ro_s x < 3) (H : ru_q (l1 ++ x :: l2) xhd xln xqL xqV) (h1 : ∀ y, y ∈ l1 → ro_u r y = false) (hs : ro_r x = r) (ha : ro_a x = true) (hb : ro_b x = false)
    (hh : h < 4) (eh : xhd (3 * ro_s x + r) = nI h) : (l1 ++ x :: l2).filter (ro_q (ro_s x) r) = x :: l2.filter (ro_q (ro_s x) r) ∧
    ru_q (l1 ++ ro_rc x :: l2) (upd xhd (3 * ro_s x + r) (nI ((h + 1) % 4))) (upd xln (3 * ro_s x + r) (nI (l2.filter (ro_q (ro_s x) r)).length)) xqL xqV := by
  have e : (l1 ++ x :: l2).filter (ro_q (ro_s x) r) = x :: l2.filter (ro_q (ro_s x) r) := by
    rw [List.filter_append, op_l1 h1, List.filter_cons_of_pos (ro_q_t.mpr ⟨⟨rfl, hs⟩, ha, hb⟩)]; rfl
  have nq : ∀ p q, ro_q p q (ro_rc x) = false := by
    intro p q
    cases e : ro_q p q (ro_rc x) with
    | false => rfl
    | true => rw [ro_q_t] at e; exact absurd e.2.2.symm Bool.false_ne_true
  refine ⟨e, ruq_take hs3 hr H hh eh e ?_ ?_⟩
  · rw [List.filter_append, op_l1 h1, List.filter_cons_of_neg (by rw [nq]; decide)]; rfl
  · intro p q hp hq c
    rw [List.filter_append, List.filter_append, List.filter_cons_of_neg (by rw [nq]; decide), List.filter_cons_of_neg]
    intro z
    rw [ro_q_t] at z
    exact c ⟨z.1.1.symm, z.1.2.symm.trans hs⟩
theorem op_rp {k : Nat} {l1 l2 : List ro_T} {x : ro_T} {r : Nat} (h : ru_p k P (l1 ++ x :: l2) xps) (hs : ro_r x = r) (hb : ro_b x = false) {xps' : Nat → Int32}
    (e1 : P 0 (ro_t x) = 2 → xps' r = xps r + 1) (e2 : P 0 (ro_t x) ≠ 2 → xps' r = xps r) (e3 : ∀ q, q ≠ r → xps' q = xps q) : ru_p k P (l1 ++ ro_rc x :: l2) xps' := by
  have n0 : ∀ q, ro_d P q (ro_rc x) = false := by
    intro q
    cases e : ro_d P q (ro_rc x) with
    | false => rfl
    | true => rw [ro_d_t] at e; exact absurd e.2.2.symm Bool.false_ne_true
  have le : ∀ q, (l1 ++ ro_rc x :: l2).countP (ro_d P q) + (if ro_d P q x = true then 1 else 0) = (l1 ++ x :: l2).countP (ro_d P q) := by
    intro q
    rw [List.countP_append, List.countP_cons, List.countP_append, List.countP_cons, n0 q]
    simp
    omega
  obtain ⟨tot, h1, h2, q0, h3, h4⟩ := h
  refine ⟨tot, h1, fun q hq => ?_, q0, h3, by have := le q0; omega⟩
  obtain ⟨p, g1, g2⟩ := h2 q hq
  have l := le q
  by_cases c : q = r
  · subst c
    by_cases k2 : P 0 (ro_t x) = 2
    · rw [if_pos (ro_d_t.mpr ⟨k2, hs, hb⟩)] at l
      exact ⟨p + 1, by rw [e1 k2, g1, nI_1], by omega⟩
    · rw [if_neg (fun z => k2 (ro_d_t.mp z).1)] at l
      exact ⟨p, by rw [e2 k2, g1], by omega⟩
  · rw [if_neg (fun z => c ((ro_d_t.mp z).2.1.symm.trans hs))] at l
    exact ⟨p, by rw [e3 q c, g1], by omega⟩
-- --- picking ---
def ru_2 (r c a : Nat) (v w : Int32) : List ro_T := [ru_h r (ro_le r) c a v true, ru_h r (ro_gr r) c a w false]
theorem op_kn {r q c a : Nat} {v : Int32} {b : Bool} (hk : P 0 a = 2) : ro_n P (ru_h r q c a v b) = pa_S P (if c = 1 then P 5 a else P 4 a) := by
  show pa_S P (if P 0 a = 2 ∧ c = 1 then P 5 a else P 4 a) = _
  by_cases h : c = 1
  · rw [if_pos ⟨hk, h⟩, if_pos h]
  · rw [if_neg (fun z => h z.2), if_neg h]
theorem op_kco (W : pa_W m P) {l : List ro_T} {a r c : Nat} (h : pt_co m P l a) (hk : P 0 a = 2) (hr : P 1 a = r) (hc : c < 2) (h1 : ∀ y, y ∈ l → ro_u r y = false) (v w : Int32) : pt_co m P (l ++ ru_2 r c a v w) (pa_S P (if c = 1 then P 5 a else P 4 a)) := by
  obtain ⟨am, ak, hw, hm, hc1, hx⟩ := h
  obtain ⟨k1, k2, k3⟩ := W.2.2.2.2.1 a am hk
  rw [hr] at k3
  have g := ro_lg k3
  have gm : (if c = 1 then P 5 a else P 4 a) < m := by split <;> assumption
  refine ⟨pa_S_m W gm, pa_S_k W gm, fun x hx => ?_, ?_, ?_, pt_cx_app hx ?_⟩
  · rcases List.mem_append.mp hx with hx | hx
    · exact hw x hx
    · rcases List.mem_cons.mp hx with rfl | hx
      · exact ⟨am, hr.symm, k3, g.1, fun z => g.2.2.1 z.symm, fun z => absurd z Bool.false_ne_true, by show c < 4; omega, Or.inr ⟨hk, hc, Or.inl rfl, fun z => absurd z.symm Bool.false_ne_true⟩⟩
      · rw [List.mem_singleton] at hx
        subst hx
        exact ⟨am, hr.symm, k3, g.2.1, fun z => g.2.2.2.1 z.symm, fun z => absurd z Bool.false_ne_true, by show c < 4; omega, Or.inr ⟨hk, hc, Or.inr rfl, fun _ => rfl⟩⟩
  · unfold pt_mo
    rw [List.pairwise_append]
    refine ⟨hm, ?_, fun y hy z hz q hq hcz => ?_⟩
    · unfold ru_2
      rw [List.pairwise_cons]
      refine ⟨fun z hz q hq hcz => ?_, List.pairwise_singleton _ _⟩
      rw [List.mem_singleton] at hz
      subst hz
      exfalso
      rw [ro_u_t] at hq
      rw [ro_c_t] at hcz
      rcases hq with ⟨_, hq⟩ | ⟨hq, _⟩
      · exact absurd hq.symm Bool.false_ne_true
      · have hq' : ro_le r = q := hq
        rcases hcz with hcz | hcz
        · have e : r = q := hcz
          exact g.2.2.1 (hq'.trans e.symm)
        · have e : ro_gr r = q := hcz
          exact g.2.2.2.2 (hq'.trans e.symm)
    · rw [ro_u_t]
      rw [ro_c_t] at hcz
      rcases List.mem_cons.mp hz with rfl | hz
      · rcases hcz with e | e
        · have e' : r = q := e
          subst e'
          rw [h1 y hy] at hq
          exact absurd hq Bool.false_ne_true
        · exact Or.inr ⟨e, rfl⟩
      · rw [List.mem_singleton] at hz
        subst hz
        rcases hcz with e | e
        · have e' : r = q := e
          subst e'
          rw [h1 y hy] at hq
          exact absurd hq Bool.false_ne_true
        · exact Or.inr ⟨e, rfl⟩
  · rw [List.countP_append]
    have : (ru_2 r c a v w).countP ro_k = 0 := rfl
    omega
  · exact ⟨rfl, Or.inr (Or.inl ⟨hk, rfl, rfl, rfl, Or.inr (Or.inr ⟨hk, rfl, rfl, op_kn hk, rfl⟩)⟩)⟩
theorem op_kla {l : List ro_T} {a r c : Nat} (hr : r < 3) (h1 : ∀ y, y ∈ l → ro_u r y = false) (v w : Int32) : pt_la (l ++ ru_2 r c a v w) := by
  refine Or.inr ⟨r, hr, ?_, l ++ [ru_h r (ro_le r) c a v true], ru_h r (ro_gr r) c a w false, by simp [ru_2], ro_c_t.mpr (Or.inl rfl)⟩
  have g := ro_lg hr
  have z : l.countP (ro_u r) = 0 := by
    rw [List.countP_eq_zero]
    intro x hx
    rw [h1 x hx]; decide
  have f : ro_u r (ru_h r (ro_le r) c a v true) = false := by
    rw [ro_u_f]
    exact ⟨fun _ => rfl, fun z => absurd z g.2.2.1⟩
  rw [List.countP_append, z]
  unfold ru_2
  rw [List.countP_cons, if_neg (by rw [f]; decide)]
  have := pt_cpl (f := ro_u r) [ru_h r (ro_gr r) c a w false]
  simp only [List.length_singleton] at this
  omega
theorem op_kpl {l : List ro_T} {a r c : Nat} (hr : r < 3) (hk : P 0 a = 2) (h : ru_pl P l a xpl xhT xpk) (hc : c < 2) (h1 : ∀ y, y ∈ l → ro_u r y = false) (v w : Int32) : ru_pl P (l ++ ru_2 r c a v w) (pa_S P (if c = 1 then P 5 a else P 4 a)) xpl (upd xhT r 1) (upd xpk r (nI c)) := by
  have g := ro_lg hr
  intro q hq
  by_cases e : q = r
  · subst e
    obtain ⟨p1, p2⟩ := op_pos0 hq h h1
    refine ⟨a + 2, true, c, by rw [p1, pa_L_2 hk], by rw [pk_us]; rfl, by rw [pk_us], hc, ?_⟩
    rw [pt_ch_none h1]
    unfold ru_2
    rw [pt_ch_f, pt_ch_t]
    · refine ⟨rfl, ?_, fun _ => rfl, ?_⟩
      · symm; rw [decide_eq_true_iff]; exact ⟨rfl, hk⟩
      · rw [op_kn hk]; exact ⟨rfl, rfl⟩
    · rw [ro_u_t]; exact Or.inl ⟨rfl, rfl⟩
    · rw [ro_u_f]; exact ⟨fun _ => rfl, fun z => absurd z g.2.2.1⟩
  · obtain ⟨c', hb, p, f1, f2, f3, f4, f5⟩ := h q hq
    refine ⟨c', hb, p, f1, by rw [pk_un e]; exact f2, by rw [pk_un e]; exact f3, f4, pt_ch_app f5 ?_⟩
    have nd : ∀ x, false = decide (ro_s (ru_h r x c a v true) = q ∧ P 0 a = 2) := by
      intro x; symm; rw [decide_eq_false_iff_not]; exact fun z => e z.1.symm
    unfold ru_2
    by_cases e2 : q = ro_le r
    · subst e2
      rw [pt_ch_t (r := ro_le r) (x := ru_h r (ro_le r) c a v true) (ro_u_t.mpr (Or.inr ⟨rfl, rfl⟩))]
      refine ⟨pa_L_2 hk, nd (ro_le r), fun z => absurd z (by decide), ?_⟩
      rw [pt_ch_f, op_kn hk]
      · exact ⟨rfl, rfl⟩
      · rw [ro_u_f]
        exact ⟨fun z => absurd z.symm g.2.2.1, fun z => absurd z.symm g.2.2.2.2⟩
    · have e3 : q = ro_gr r := by
        revert e e2
        rcases ba_3 hr with rfl | rfl | rfl <;> rcases ba_3 hq with rfl | rfl | rfl <;> decide
      subst e3
      rw [pt_ch_f, pt_ch_t (r := ro_gr r) (x := ru_h r (ro_gr r) c a w false) (ro_u_t.mpr (Or.inr ⟨rfl, rfl⟩))]
      · refine ⟨pa_L_2 hk, nd (ro_gr r), fun z => absurd z (by decide), ?_⟩
        rw [op_kn hk]; exact ⟨rfl, rfl⟩
      · rw [ro_u_f]
        exact ⟨fun z => absurd z.symm g.2.2.2.1, fun z => absurd z g.2.2.2.2⟩
theorem op_kq {l : List ro_T} {a r c h n : Nat} (hr : r < 3) (H : ru_q l xhd xln xqL xqV) (v w : Int32) (hh : h < 4) (eh : xhd (3 * r + ro_le r) = nI h) (en : (l.filter (ro_q r (ro_le r))).length = n) (hlen : n < 4) :
    ru_q (l ++ ru_2 r c a v w) xhd (upd xln (3 * r + ro_le r) (nI (n + 1))) (upd xqL (4 * (3 * r + ro_le r) + (h + n) % 4) (nI c)) (upd xqV (4 * (3 * r + ro_le r) + (h + n) % 4) v) := by
  have g := ro_lg hr
  have n2 : ∀ p q, ro_q p q (ru_h r (ro_gr r) c a w false) = false := by
    intro p q
    cases e : ro_q p q (ru_h r (ro_gr r) c a w false) with
    | false => rfl
    | true => rw [ro_q_t] at e; exact absurd e.2.1 Bool.false_ne_true
  refine ruq_put (x := ru_h r (ro_le r) c a v true) hr g.1 H hh eh en hlen ?_ ?_
  · rw [List.filter_append]
    unfold ru_2
    have q1 : ro_q r (ro_le r) (ru_h r (ro_le r) c a v true) = true := ro_q_t.mpr ⟨⟨rfl, rfl⟩, rfl, rfl⟩
    rw [List.filter_cons_of_pos q1, List.filter_cons_of_neg (by rw [n2]; decide)]; rfl
  · intro p q hp hq e
    rw [List.filter_append]
    unfold ru_2
    rw [List.filter_cons_of_neg, List.filter_cons_of_neg (by rw [n2]; decide)]
    · exact List.append_nil _
    · intro z
      rw [ro_q_t] at z
      exact e ⟨z.1.1.symm, z.1.2.symm⟩
theorem op_kp {k : Nat} {l : List ro_T} {a r c : Nat} (hr : r < 3) (hk : P 0 a = 2) (h : ru_p k P l xps) (h1 : ∀ y, y ∈ l → ro_u r y = false) (v w : Int32) : ru_p (k + 1) P (l ++ ru_2 r c a v w) (upd xps r (xps r + 1)) := by
  have g := ro_lg hr
  have z0 : l.countP (ro_d P r) = 0 := by
    rw [List.countP_eq_zero]
    intro x hx z
    rw [ro_d_t] at z
    have u := (ro_u_f.mp (h1 x hx)).2 z.2.1
    rw [z.2.2] at u
    exact absurd u (by decide)
  have cn : ∀ q, q < 3 → (ru_2 r c a v w).countP (ro_d P q) = if q = r then 0 else 1 := by
    intro q hq
    have d : ∀ s v b, ro_d P q (ru_h r s c a v b) = decide (s = q) := by
      intro s v b
      show (decide (P 0 a = 2) && (decide (s = q) && !false)) = decide (s = q)
      rw [decide_eq_true hk]; simp
    unfold ru_2
    rw [List.countP_cons, List.countP_cons, List.countP_nil, d, d]
    rcases ba_3 hr with rfl | rfl | rfl <;> rcases ba_3 hq with rfl | rfl | rfl <;> decide
  obtain ⟨tot, t1, t2, _⟩ := h
  refine ⟨tot + 1, by omega, fun q hq => ?_, r, hr, ?_⟩
  · obtain ⟨p, p1, p2⟩ := t2 q hq
    rw [List.countP_append, cn q hq]
    by_cases e : q = r
    · subst e
      exact ⟨p + 1, by rw [pk_us, p1, nI_1], by rw [if_pos rfl]; omega⟩
    · exact ⟨p, by rw [pk_un e]; exact p1, by rw [if_neg e]; omega⟩
  · rw [List.countP_append, cn r hr, if_pos rfl, z0]
end PQ
end
section
-- ===== the arrays hold the protocol; both walks reckon pa_S, pa_L =====
def pa_D (m : Nat) (P : pa_T) : Prop := ∀ i, i < m → P 0 i ≤ 4 ∧ P 1 i < 3 ∧ P 2 i < 3 ∧ P 3 i < 4 ∧ P 4 i < 20 ∧ P 5 i < 20
def ar_X (b m : Nat) (P : pa_T) (k o t l g h : Nat → Int32) : Prop := ∀ i, i < m → k (i + b) = nI (P 0 i) ∧ o (i + b) = nI (P 1 i) ∧ t (i + b) = nI (P 2 i) ∧ l (i + b) = nI (P 3 i) ∧ g (i + b) = nI (P 4 i) ∧ h (i + b) = nI (P 5 i)
def ar_T (m : Nat) (P : pa_T) (tg : Nat → Int32) : Prop := ∀ i, i < m → P 0 i = 4 → tg i = nI (P 6 i)
def ar_Y (b m : Nat) (P : pa_T) (so fr to lb fi sc ar : Nat → Int32) : Prop := ∀ i, i < m → so (i + b) = nI (P 0 i) ∧ fr (i + b) = nI (P 1 i) ∧ to (i + b) = nI (P 2 i) ∧ lb (i + b) = nI (P 3 i) ∧
  (1 ≤ P 0 i → P 0 i ≤ 3 → fi (i + b) = nI (P 4 i)) ∧ (P 0 i = 2 → sc (i + b) = nI (P 5 i)) ∧ ar (i + b) = ba_pI (P 7 i + 1)
def zX (m : Nat) (P : pa_T) (xkind xone xother xlabel xpG xpH xtgt : Nat → Int32) : Prop := pa_W m P ∧ pa_D m P ∧ ar_X 0 m P xkind xone xother xlabel xpG xpH ∧ ar_T m P xtgt
def zY (m : Nat) (P : pa_T) (ysort yfrom yto ylab yfst ysnd yar : Nat → Int32) : Prop := pa_W m P ∧ pa_D m P ∧ ∃ yar' : Nat → Int32, ar_Y 0 m P ysort yfrom yto ylab yfst ysnd yar' ∧ ((∀ i, i < m → P 0 i ≠ 4) ∨ (yar' = yar ∧ pa_A m P ∧ ∀ i, i < m → P 0 i = 4 → pa_lo P (P 1 i) (P 7 i) = P 6 i + 1))
section WX
variable {m : Nat} {P : pa_T} {xsize xmade xheight xsend : Int32} {xkind xone xother xlabel xpG xpH xtgt xstk xlA xgd xpl xhT xpk xps xlast xhd xln xqL xqV xseen : Nat → Int32}
theorem zX_at (h : zX m P xkind xone xother xlabel xpG xpH xtgt) {i : Nat} (hi : i < m) : i < 20 ∧ xkind (nI i).toNatClampNeg = nI (P 0 i) ∧ xone (nI i).toNatClampNeg = nI (P 1 i) ∧ xother (nI i).toNatClampNeg = nI (P 2 i) ∧ xlabel (nI i).toNatClampNeg = nI (P 3 i) ∧
    xpG (nI i).toNatClampNeg = nI (P 4 i) ∧ xpH (nI i).toNatClampNeg = nI (P 5 i) ∧ (P 0 i = 4 → xtgt (nI i).toNatClampNeg = nI (P 6 i)) ∧ P 0 i ≤ 4 ∧ P 1 i < 3 ∧ P 2 i < 3 ∧ P 3 i < 4 := by
  obtain ⟨W, D, X, T⟩ := h
  have h20 := W.2.1
  obtain ⟨d0, d1, d2, d3, _⟩ := D i hi
  rw [ba_cl (show i < 1000 by omega)]
  obtain ⟨x0, x1, x2, x3, x4, x5⟩ := X i hi
  exact ⟨by omega, x0, x1, x2, x3, x4, x5, T i hi, d0, d1, d2, d3⟩
theorem xw_4 {post : Int32 → Prop} (Z : zX m P xkind xone xother xlabel xpG xpH xtgt) : ∀ d i c n, pg_tm (pa_b P) (pa_sp P) d i = true → i < m → d + c ≤ 40 → d < n → post (nI (pa_S P i)) →
    wX_walk_4 post xsize xmade xheight xsend xkind xone xother xlabel xpG xpH xtgt xstk xlA xgd xpl xhT xpk xps xlast xhd xln xqL xqV xseen n (nI i) (nI c) := by
  intro d
  induction d with
  | zero =>
    intro i c n ht hi hc hn hp
    obtain ⟨n, rfl⟩ : ∃ e, n = e + 1 := ⟨n - 1, by omega⟩
    have hk : P 0 i < 3 := by simpa [pg_tm_0, pa_b] using ht
    rw [pa_S_lt hk] at hp
    obtain ⟨i20, e0, _⟩ := zX_at Z hi
    refine pk_le 40 c (fun _ => hp) (fun _ => ⟨ba_in (by omega) (by omega), ?_⟩)
    exact pk_lt (P 0 i) 3 (fun _ => hp) (fun z => absurd hk (by omega)) e0
  | succ d ih =>
    intro i c n ht hi hc hn hp
    obtain ⟨n, rfl⟩ : ∃ e, n = e + 1 := ⟨n - 1, by omega⟩
    obtain ⟨i20, e0, _, _, _, e4, _, e6, k4, _⟩ := zX_at Z hi
    have vi : vp_in (nI i) 40 := ba_in (by omega) (by omega)
    refine pk_le 40 c (fun z => absurd hc (by omega)) (fun _ => ⟨vi, ?_⟩)
    refine pk_lt (P 0 i) 3 (fun hk => ?_) (fun hk => ⟨vi, ?_⟩) e0
    · rw [pa_S_lt hk] at hp; exact hp
    · have hk' : ¬ P 0 i < 3 := by omega
      have ht' : pg_tm (pa_b P) (pa_sp P) d (pa_sp P i) = true := by
        rw [pg_tm_s, Bool.or_eq_true] at ht
        rcases ht with ht | ht
        · exact absurd (by simpa [pa_b] using ht) hk'
        · exact ht
      obtain ⟨sm, sc⟩ := pa_spm Z.1 hi hk'
      rw [pa_S_s Z.1 hi hk'] at hp
      refine pk_eq (P 0 i) 3 (fun k3 => ⟨vi, ?_⟩) (fun k3 => ⟨ba_in (by omega) (by omega), ?_⟩) e0
      · have es : pa_sp P i = P 4 i := by rcases sc with z | z; exact z.2; omega
        rw [es] at ht' sm hp
        refine nm_r e4 (nm_r (nI_1 c) ?_)
        exact ih _ _ _ ht' sm (by omega) (by omega) hp
      · have es : pa_sp P i = P 6 i := by rcases sc with z | z; omega; exact z.2
        rw [es] at ht' sm hp
        refine nm_r (e6 (by omega)) (nm_r (nI_1 c) ?_)
        exact ih _ _ _ ht' sm (by omega) (by omega) hp
theorem xw_walk {post : Int32 → Prop} (Z : zX m P xkind xone xother xlabel xpG xpH xtgt) {y : Int32} {i : Nat} (hy : y = nI i) (hi : i < m) (hp : post (nI (pa_S P i))) : wpX_walk post (xsize, xmade, xheight, xsend, xkind, xone, xother, xlabel, xpG, xpH, xtgt, xstk, xlA, xgd, xpl, xhT, xpk, xps, xlast, xhd, xln, xqL, xqV, xseen) y := by
  subst hy
  exact ⟨20, xw_4 Z 19 i 0 20 (pa_tm Z.1 hi) hi (by omega) (by omega) hp⟩
theorem xw_65 {post : Int32 → Prop} (Z : zX m P xkind xone xother xlabel xpG xpH xtgt) {i : Nat} (hi : i < m) (hp : post (ba_pI (pa_cd P i))) : wX_localFrom_65 post (nI i) xsize xmade xheight xsend xkind xone xother xlabel xpG xpH xtgt xstk xlA xgd xpl xhT xpk xps xlast xhd xln xqL xqV xseen := by
  obtain ⟨i20, e0, _, _, _, _, _, _, k4, _⟩ := zX_at Z hi
  have vi : vp_in (nI i) 40 := ba_in (by omega) (by omega)
  unfold pa_cd at hp
  refine ⟨vi, pk_eq (P 0 i) 2 (fun k2 => ?_) (fun k2 => ⟨vi, pk_eq (P 0 i) 0 (fun k0 => ?_) (fun k0 => ?_) e0⟩) e0⟩
  · rw [if_pos k2] at hp; exact hp
  · rw [if_neg k2, if_pos k0] at hp; exact hp
  · rw [if_neg k2, if_neg k0] at hp; exact hp
theorem xw_9 {post : Int32 → Prop} (Z : zX m P xkind xone xother xlabel xpG xpH xtgt) {r : Nat} (hr : r < 3) : ∀ f i c n, c + f = 21 → i < m → f < n → post (ba_pI (pa_lf P r f i)) →
    wX_localFrom_9 post (nI r) xsize xmade xheight xsend xkind xone xother xlabel xpG xpH xtgt xstk xlA xgd xpl xhT xpk xps xlast xhd xln xqL xqV xseen n (nI i) (nI c) := by
  intro f
  induction f with
  | zero =>
    intro i c n hc hi hn hp
    obtain ⟨n, rfl⟩ : ∃ e, n = e + 1 := ⟨n - 1, by omega⟩
    refine pk_lt 20 c (fun _ => ?_) (fun z => absurd z (by omega))
    exact xw_65 Z hi hp
  | succ f ih =>
    intro i c n hc hi hn hp
    obtain ⟨n, rfl⟩ : ∃ e, n = e + 1 := ⟨n - 1, by omega⟩
    obtain ⟨i20, e0, e1, e2, _, e4, _, _, k4, b1, b2, _⟩ := zX_at Z hi
    have vi : vp_in (nI i) 40 := ba_in (by omega) (by omega)
    rw [pa_lf_s] at hp
    refine pk_lt 20 c (fun z => absurd z (by omega)) (fun _ => ⟨vi, ?_⟩)
    refine pk_eq (P 0 i) 1 (fun k1 => ⟨vi, ?_⟩) (fun k1 => ?_) e0
    · rw [if_pos k1] at hp
      refine pk_eq (P 1 i) r (fun c1 => ?_) (fun c1 => ⟨vi, pk_eq (P 2 i) r (fun c2 => ?_) (fun c2 => ⟨vi, ?_⟩) e2⟩) e1
      · rw [if_pos (Or.inl c1)] at hp; exact hp
      · rw [if_pos (Or.inr c2)] at hp; exact hp
      · rw [if_neg (fun z => z.elim c1 c2)] at hp
        have gm := (Z.1.2.2.2.1 i hi k1).1
        refine xw_walk Z e4 gm (nm_r (nI_1 c) ?_)
        exact ih _ _ _ (by omega) (pa_S_m Z.1 gm) (by omega) hp
    · rw [if_neg k1] at hp
      exact xw_65 Z hi hp
theorem xw_lf {post : Int32 → Prop} (Z : zX m P xkind xone xother xlabel xpG xpH xtgt) {r : Nat} (hr : r < 3) {y : Int32} {i : Nat} (hy : y = nI i) (hi : i < m) (hp : post (ba_pI (pa_L P r (pa_S P i)))) : wpX_localFrom post (xsize, xmade, xheight, xsend, xkind, xone, xother, xlabel, xpG, xpH, xtgt, xstk, xlA, xgd, xpl, xhT, xpk, xps, xlast, xhd, xln, xqL, xqV, xseen) (nI r) y := by
  refine xw_walk Z hy hi ?_
  exact ⟨22, xw_9 Z hr 21 _ 0 22 (by omega) (pa_S_m Z.1 hi) (by omega) hp⟩
theorem xw_go {post : SX → Prop} (Z : zX m P xkind xone xother xlabel xpG xpH xtgt) {r : Nat} (hr : r < 3) {y : Int32} {i : Nat} (hy : y = nI i) (hi : i < m) (hp : post (xsize, xmade, xheight, xsend, xkind, xone, xother, xlabel, xpG, xpH, xtgt, xstk, xlA, xgd, upd xpl r (ba_pI (pa_L P r (pa_S P i))), xhT, xpk, xps, xlast, xhd, xln, xqL, xqV, xseen)) : wpX_goOn post (xsize, xmade, xheight, xsend, xkind, xone, xother, xlabel, xpG, xpH, xtgt, xstk, xlA, xgd, xpl, xhT, xpk, xps, xlast, xhd, xln, xqL, xqV, xseen) (nI r) y := by
  have hL := pa_L_m Z.1 (r := r) (pa_S_m Z.1 hi)
  have h20 := Z.1.2.1
  refine xw_lf Z hr hy hi ⟨ba_in hr (by omega), ?_⟩
  rw [ba_cl (show r < 1000 by omega), ba_pbc (by omega)]
  exact nm_e hp
/-- the three last numbers, set to 0 -/
def zr_l : Nat → (Nat → Int32) → Nat → Int32
  | 0, l => l
  | d + 1, l => zr_l d (upd l (2 - d) 0)
theorem xw_r56 {post : SX → Prop} : ∀ d j n (xhd xln : Nat → Int32), j + d = 9 → d < n → (∀ k, k < j → xhd k = 0 ∧ xln k = 0) → (∀ hd ln : Nat → Int32, (∀ k, k < 9 → hd k = 0 ∧ ln k = 0) → post (xsize, xmade, xheight, 0, xkind, xone, xother, xlabel, xpG, xpH, xtgt, xstk, xlA, xgd, xpl, xhT, xpk, xps, xlast, hd, ln, xqL, xqV, xseen)) →
    wX_restart_56 post xsize xmade xheight xsend n (nI j) xkind xone xother xlabel xpG xpH xtgt xstk xlA xgd xpl xhT xpk xps xlast xhd xln xqL xqV xseen := by
  intro d
  induction d with
  | zero =>
    intro j n xhd xln hj hn h hp
    obtain ⟨n, rfl⟩ : ∃ e, n = e + 1 := ⟨n - 1, by omega⟩
    refine pk_le 9 j (fun _ => ?_) (fun z => absurd z (by omega))
    exact hp _ _ (fun k hk => h k (by omega))
  | succ d ih =>
    intro j n xhd xln hj hn h hp
    obtain ⟨n, rfl⟩ : ∃ e, n = e + 1 := ⟨n - 1, by omega⟩
    have vi : vp_in (nI j) 9 := ba_in (by omega) (by omega)
    have e0 : vp_nar .byte 0 = 0 := ba_vb (n := 0) (by omega)
    refine pk_le 9 j (fun z => absurd z (by omega)) (fun _ => ⟨vi, ?_⟩)
    rw [ba_cl (show j < 1000 by omega), e0]
    refine nm_e ⟨vi, nm_e (nm_r (nI_1 j) ?_)⟩
    refine ih (j + 1) n _ _ (by omega) (by omega) (fun k hk => ?_) hp
    by_cases c : k = j
    · subst c; rw [pk_us, pk_us]; exact ⟨rfl, rfl⟩
    · rw [pk_un c, pk_un c]; exact h k (by omega)
theorem xw_r2 {post : SX → Prop} (Z : zX m P xkind xone xother xlabel xpG xpH xtgt) : ∀ d j n (xpl xhT xps xlast : Nat → Int32), j + d = 3 → d < n → (∀ r, r < j → xpl r = ba_pI (pa_L P r (pa_S P (m - 1))) ∧ xhT r = 0 ∧ xps r = 0) →
    (∀ pl hT ps hd ln : Nat → Int32, (∀ r, r < 3 → pl r = ba_pI (pa_L P r (pa_S P (m - 1))) ∧ hT r = 0 ∧ ps r = 0) → (∀ k, k < 9 → hd k = 0 ∧ ln k = 0) → post (nI m, xmade, xheight, 0, xkind, xone, xother, xlabel, xpG, xpH, xtgt, xstk, xlA, xgd, pl, hT, xpk, ps, zr_l d xlast, hd, ln, xqL, xqV, xseen)) →
    wX_restart_2 post (nI m) xmade xheight xsend n (nI j) xkind xone xother xlabel xpG xpH xtgt xstk xlA xgd xpl xhT xpk xps xlast xhd xln xqL xqV xseen := by
  intro d
  induction d with
  | zero =>
    intro j n xpl xhT xps xlast hj hn h hp
    obtain ⟨n, rfl⟩ : ∃ e, n = e + 1 := ⟨n - 1, by omega⟩
    refine pk_le 3 j (fun _ => ⟨10, ?_⟩) (fun z => absurd z (by omega))
    refine xw_r56 9 0 10 _ _ (by omega) (by omega) (fun k hk => absurd hk (by omega)) (fun hd ln hh => ?_)
    exact hp _ _ _ hd ln (fun r hr => h r (by omega)) hh
  | succ d ih =>
    intro j n xpl xhT xps xlast hj hn h hp
    obtain ⟨n, rfl⟩ : ∃ e, n = e + 1 := ⟨n - 1, by omega⟩
    have vi : vp_in (nI j) 3 := ba_in (by omega) (by omega)
    have m1 := Z.1.1
    have m20 := Z.1.2.1
    have hm1 : m - 1 < m := by omega
    have hL := pa_L_m Z.1 (r := j) (pa_S_m Z.1 hm1)
    refine pk_le 3 j (fun z => absurd z (by omega)) (fun _ => ?_)
    refine xw_lf Z (r := j) (by omega) (ba_s1 m1) hm1 ⟨vi, ?_⟩
    rw [ba_cl (show j < 1000 by omega), ba_pbc (by omega), ba_vb0]
    refine nm_e ⟨vi, nm_e ⟨vi, nm_e ⟨vi, nm_e (nm_r (nI_1 j) ?_)⟩⟩⟩
    refine ih (j + 1) n _ _ _ _ (by omega) (by omega) (fun k hk => ?_) ?_
    · by_cases c : k = j
      · subst c; rw [pk_us, pk_us, pk_us]; exact ⟨rfl, rfl, rfl⟩
      · rw [pk_un c, pk_un c, pk_un c]; exact h k (by omega)
    · have e : zr_l (d + 1) xlast = zr_l d (upd xlast j 0) := by
        show zr_l d (upd xlast (2 - d) 0) = _
        rw [show 2 - d = j from by omega]
      rw [e] at hp
      exact hp
theorem xw_restart {post : SX → Prop} (Z : zX m P xkind xone xother xlabel xpG xpH xtgt) (hs : xsize = nI m)
    (hp : ∀ pl hT ps hd ln : Nat → Int32, (∀ r, r < 3 → pl r = ba_pI (pa_L P r (pa_S P (m - 1))) ∧ hT r = 0 ∧ ps r = 0) → (∀ k, k < 9 → hd k = 0 ∧ ln k = 0) → post (nI m, xmade, xheight, 0, xkind, xone, xother, xlabel, xpG, xpH, xtgt, xstk, xlA, xgd, pl, hT, xpk, ps, zr_l 3 xlast, hd, ln, xqL, xqV, xseen)) : wpX_restart post (xsize, xmade, xheight, xsend, xkind, xone, xother, xlabel, xpG, xpH, xtgt, xstk, xlA, xgd, xpl, xhT, xpk, xps, xlast, xhd, xln, xqL, xqV, xseen) := by
  subst hs
  exact ⟨4, xw_r2 Z 3 0 4 _ _ _ _ (by omega) (by omega) (fun r hr => absurd hr (by omega)) hp⟩
end WX
section WY
variable {m : Nat} {P : pa_T} {ymade ydep ysize yrows yat ysend : Int32} {ysort yfrom yto ylab yfst ysnd yar ystk ysen yrec ytold yval yiS yiR ylast ymet : Nat → Int32}
theorem zY_at (h : zY m P ysort yfrom yto ylab yfst ysnd yar) {i : Nat} (hi : i < m) : i < 20 ∧ ysort (nI i).toNatClampNeg = nI (P 0 i) ∧ yfrom (nI i).toNatClampNeg = nI (P 1 i) ∧ yto (nI i).toNatClampNeg = nI (P 2 i) ∧ ylab (nI i).toNatClampNeg = nI (P 3 i) ∧
    (1 ≤ P 0 i → P 0 i ≤ 3 → yfst (nI i).toNatClampNeg = nI (P 4 i)) ∧ (P 0 i = 2 → ysnd (nI i).toNatClampNeg = nI (P 5 i)) ∧ P 0 i ≤ 4 ∧ P 1 i < 3 ∧ P 2 i < 3 ∧ P 3 i < 4 := by
  obtain ⟨W, D, yar', Y, _⟩ := h
  have h20 := W.2.1
  obtain ⟨d0, d1, d2, d3, _⟩ := D i hi
  rw [ba_cl (show i < 1000 by omega)]
  obtain ⟨x0, x1, x2, x3, x4, x5, x6⟩ := Y i hi
  exact ⟨by omega, x0, x1, x2, x3, x4, x5, d0, d1, d2, d3⟩
theorem yw_ix (b i : Nat) : nI b + nI i = nI (i + b) := by rw [nI_add, Nat.add_comm]
theorem yw_lo9 {post : Int32 → Prop} {b i : Nat} (hb : b ≤ 20) (A : pa_A m P) (hm : m ≤ 20) (D : pa_D m P) (hY : ar_Y b m P ysort yfrom yto ylab yfst ysnd yar) (hi : i < m) : ∀ d c n, c ≤ m → (m < d + c ∨ c = 0) → d < n →
    post (ba_pI (pa_lo P (P 1 i) c + 1)) → wY_loopOf_9 post (nI b) (nI i) ymade ydep ysize yrows yat ysend ysort yfrom yto ylab yfst ysnd yar ystk ysen yrec ytold yval yiS yiR ylast ymet n (ba_pI (c + 1)) := by
  intro d
  induction d with
  | zero =>
    intro c n hc hd hn hp
    obtain ⟨n, rfl⟩ : ∃ e, n = e + 1 := ⟨n - 1, by omega⟩
    have c0 : c = 0 := by omega
    subst c0
    exact br_t (by decide) hp
  | succ d ih =>
    intro c n hc hd hn hp
    obtain ⟨n, rfl⟩ : ∃ e, n = e + 1 := ⟨n - 1, by omega⟩
    cases c with
    | zero => exact br_t (by decide) hp
    | succ p =>
      have hpm : p < m := by omega
      show wY_loopOf_9 post (nI b) (nI i) ymade ydep ysize yrows yat ysend ysort yfrom yto ylab yfst ysnd yar ystk ysen yrec ytold yval yiS yiR ylast ymet (n + 1) (nI p)
      refine br_f (nI_pos (by omega)) ?_
      have v1 : vp_in (nI b + nI p) 40 := by rw [yw_ix]; exact ba_in (by omega) (by omega)
      have v2 : vp_in (nI b + nI i) 40 := by rw [yw_ix]; exact ba_in (by omega) (by omega)
      have c1 : (nI b + nI p).toNatClampNeg = p + b := by rw [yw_ix]; exact ba_cl (by omega)
      have c2 : (nI b + nI i).toNatClampNeg = i + b := by rw [yw_ix]; exact ba_cl (by omega)
      obtain ⟨y0, y1, _, _, _, _, y7⟩ := hY p hpm
      obtain ⟨_, z1, _⟩ := hY i hi
      obtain ⟨d0, d1, _⟩ := D p hpm
      obtain ⟨_, d2, _⟩ := D i hi
      rw [pa_lo_s A hm hpm] at hp
      have nxt : ¬ (P 0 p = 3 ∧ P 1 p = P 1 i) → wY_loopOf_44 post (wY_loopOf_9 post (nI b) (nI i) ymade ydep ysize yrows yat ysend ysort yfrom yto ylab yfst ysnd yar ystk ysen yrec ytold yval yiS yiR ylast ymet n) (nI b) (nI i) (nI p) ymade ydep ysize yrows yat ysend ysort yfrom yto ylab yfst ysnd yar ystk ysen yrec ytold yval yiS yiR ylast ymet := by
        intro c
        rw [if_neg c] at hp
        refine ⟨v1, ?_⟩
        rw [c1]
        refine nm_r y7 ?_
        obtain ⟨a1, a2⟩ := A p hpm
        exact ih _ _ a1 (by omega) (by omega) hp
      refine ⟨v1, ?_⟩
      rw [c1, c2]
      refine pk_eq (P 0 p) 3 (fun k3 => ⟨v1, v2, ?_⟩) (fun k3 => nxt (fun z => k3 z.1)) y0
      refine pk_eq (P 1 p) (P 1 i) (fun k1 => ?_) (fun k1 => nxt (fun z => k1 z.2)) y1 z1
      rw [if_pos ⟨k3, k1⟩] at hp
      exact hp
theorem yw_lo {post : Int32 → Prop} {b i : Nat} (hb : b ≤ 20) (A : pa_A m P) (hm : m ≤ 20) (D : pa_D m P) (hY : ar_Y b m P ysort yfrom yto ylab yfst ysnd yar) (hi : i < m) (hp : post (ba_pI (pa_lo P (P 1 i) (P 7 i) + 1))) : wpY_loopOf post (ymade, ydep, ysize, yrows, yat, ysend, ysort, yfrom, yto, ylab, yfst, ysnd, yar, ystk, ysen, yrec, ytold, yval, yiS, yiR, ylast, ymet) (nI b) (nI i) := by
  have v2 : vp_in (nI b + nI i) 40 := by rw [yw_ix]; exact ba_in (by omega) (by omega)
  have c2 : (nI b + nI i).toNatClampNeg = i + b := by rw [yw_ix]; exact ba_cl (by omega)
  refine ⟨v2, ?_⟩
  rw [c2]
  obtain ⟨a1, a2⟩ := A i hi
  exact nm_r (hY i hi).2.2.2.2.2.2 ⟨22, yw_lo9 hb A hm D hY hi 21 _ 22 a1 (by omega) (by omega) hp⟩
theorem yw_s2 {post : Int32 → Prop} (Z : zY m P ysort yfrom yto ylab yfst ysnd yar) : ∀ d i n, pg_tm (pa_b P) (pa_sp P) d i = true → i < m → d < n → post (nI (pa_S P i)) → wY_settled_2 post ymade ydep ysize yrows yat ysend ysort yfrom yto ylab yfst ysnd yar ystk ysen yrec ytold yval yiS yiR ylast ymet n (nI i) := by
  intro d
  induction d with
  | zero =>
    intro i n ht hi hn hp
    obtain ⟨n, rfl⟩ : ∃ e, n = e + 1 := ⟨n - 1, by omega⟩
    have hk : P 0 i < 3 := by simpa [pg_tm_0, pa_b] using ht
    rw [pa_S_lt hk] at hp
    obtain ⟨i20, e0, _⟩ := zY_at Z hi
    exact ⟨ba_in (by omega) (by omega), pk_le (P 0 i) 2 (fun _ => hp) (fun z => absurd hk (by omega)) e0⟩
  | succ d ih =>
    intro i n ht hi hn hp
    obtain ⟨n, rfl⟩ : ∃ e, n = e + 1 := ⟨n - 1, by omega⟩
    obtain ⟨i20, e0, _, _, _, e4, _, k4, _⟩ := zY_at Z hi
    have vi : vp_in (nI i) 40 := ba_in (by omega) (by omega)
    refine ⟨vi, pk_le (P 0 i) 2 (fun hk => ?_) (fun hk => ⟨vi, ?_⟩) e0⟩
    · rw [pa_S_lt (by omega)] at hp; exact hp
    · have hk' : ¬ P 0 i < 3 := by omega
      have ht' : pg_tm (pa_b P) (pa_sp P) d (pa_sp P i) = true := by
        rw [pg_tm_s, Bool.or_eq_true] at ht
        rcases ht with ht | ht
        · exact absurd (by simpa [pa_b] using ht) hk'
        · exact ht
      obtain ⟨sm, sc⟩ := pa_spm Z.1 hi hk'
      rw [pa_S_s Z.1 hi hk'] at hp
      refine pk_eq (P 0 i) 3 (fun k3 => ⟨vi, ?_⟩) (fun k3 => ?_) e0
      · have es : pa_sp P i = P 4 i := by rcases sc with z | z; exact z.2; omega
        rw [es] at ht' sm hp
        exact nm_r (e4 (by omega) (by omega)) (ih _ _ ht' sm (by omega) hp)
      · have es : pa_sp P i = P 6 i := by rcases sc with z | z; omega; exact z.2
        rw [es] at ht' sm hp
        obtain ⟨W, D, yar', Y, V⟩ := Z
        rcases V with V | ⟨e, A, V⟩
        · exact absurd (show P 0 i = 4 by omega) (V i hi)
        subst e
        refine yw_lo (b := 0) (by omega) A W.2.1 D Y hi ?_
        rw [V i hi (by omega)]
        exact ih _ _ ht' sm (by omega) hp
theorem yw_set {post : Int32 → Prop} (Z : zY m P ysort yfrom yto ylab yfst ysnd yar) {y : Int32} {i : Nat} (hy : y = nI i) (hi : i < m) (hp : post (nI (pa_S P i))) : wpY_settled post (ymade, ydep, ysize, yrows, yat, ysend, ysort, yfrom, yto, ylab, yfst, ysnd, yar, ystk, ysen, yrec, ytold, yval, yiS, yiR, ylast, ymet) y := by
  subst hy
  exact ⟨20, yw_s2 Z 19 i 20 (pa_tm Z.1 hi) hi (by omega) hp⟩
theorem yw_r26 {post : SY → Prop} : ∀ d j n (ylast : Nat → Int32), j + d = 3 → d < n → post (ymade, ydep, ysize, yrows, yat, ysend, ysort, yfrom, yto, ylab, yfst, ysnd, yar, ystk, ysen, yrec, ytold, yval, yiS, yiR, zr_l d ylast, ymet) → wY_restart_26 post ymade ydep ysize yrows yat ysend n (nI j) ysort yfrom yto ylab yfst ysnd yar ystk ysen yrec ytold yval yiS yiR ylast ymet := by
  intro d
  induction d with
  | zero =>
    intro j n ylast hj hn hp
    obtain ⟨n, rfl⟩ : ∃ e, n = e + 1 := ⟨n - 1, by omega⟩
    exact pk_le 3 j (fun _ => hp) (fun z => absurd z (by omega))
  | succ d ih =>
    intro j n ylast hj hn hp
    obtain ⟨n, rfl⟩ : ∃ e, n = e + 1 := ⟨n - 1, by omega⟩
    have vi : vp_in (nI j) 3 := ba_in (by omega) (by omega)
    refine pk_le 3 j (fun z => absurd z (by omega)) (fun _ => ⟨vi, ?_⟩)
    rw [ba_cl (show j < 1000 by omega)]
    refine nm_e (nm_r (nI_1 j) ?_)
    refine ih (j + 1) n _ (by omega) (by omega) ?_
    have e : zr_l (d + 1) ylast = zr_l d (upd ylast j 0) := by
      show zr_l d (upd ylast (2 - d) 0) = _
      rw [show 2 - d = j from by omega]
    rw [e] at hp
    exact hp
theorem yw_restart {post : SY → Prop} (Z : zY m P ysort yfrom yto ylab yfst ysnd yar) (hs : ysize = nI m) (hp : post (ymade, ydep, nI m, 0, nI (pa_S P (m - 1)), 0, ysort, yfrom, yto, ylab, yfst, ysnd, yar, ystk, ysen, yrec, ytold, yval, yiS, yiR, zr_l 3 ylast, ymet)) : wpY_restart post (ymade, ydep, ysize, yrows, yat, ysend, ysort, yfrom, yto, ylab, yfst, ysnd, yar, ystk, ysen, yrec, ytold, yval, yiS, yiR, ylast, ymet) := by
  subst hs
  have m1 := Z.1.1
  refine yw_set Z (ba_s1 m1) (by omega) ?_
  exact ⟨4, yw_r26 3 0 4 _ (by omega) (by omega) hp⟩
end WY
end
section
-- ===== the reference's path =====
theorem ba_br {x : Int32} {b : Bool} {A B : Prop} (hx : x = ba_bI b) (f : b = false → A) (g : b = true → B) : (x = 0 → A) ∧ (¬ x = 0 → B) := by
  subst hx
  cases b with
  | false => exact br_t rfl (f rfl)
  | true => exact br_f (by decide) (g rfl)
def al_c (sen rec told val iS iR : Nat → Int32) (i : Nat) (x : ro_T) : Prop := sen i = nI (ro_s x) ∧ rec i = nI (ro_r x) ∧ told i = nI (ro_l x) ∧ val i = ro_v x ∧ iS i = ba_bI (ro_a x) ∧ iR i = ba_bI (ro_b x)
def al (l : List ro_T) (sen rec told val iS iR : Nat → Int32) : Prop := ∀ j x, l[j]? = some x → al_c sen rec told val iS iR j x
section YP
variable {m k : Nat} {P : pa_T} {l l1 l2 : List ro_T} {x y : ro_T} {xsize xmade xheight xsend : Int32} {xkind xone xother xlabel xpG xpH xtgt xstk xlA xgd xpl xhT xpk xps xlast xhd xln xqL xqV xseen : Nat → Int32} {ymade ydep ysize yrows yat ysend : Int32} {ysort yfrom yto ylab yfst ysnd yar ystk ysen yrec ytold yval yiS yiR ylast ymet : Nat → Int32}
theorem al_at (h : al (l1 ++ x :: l2) ysen yrec ytold yval yiS yiR) : al_c ysen yrec ytold yval yiS yiR l1.length x := h _ _ (by simp)
theorem al_app (h : al l ysen yrec ytold yval yiS yiR) {sen rec told val iS iR : Nat → Int32} (hx : al_c sen rec told val iS iR l.length x)
    (hk : ∀ j, j ≠ l.length → sen j = ysen j ∧ rec j = yrec j ∧ told j = ytold j ∧ val j = yval j ∧ iS j = yiS j ∧ iR j = yiR j) : al (l ++ [x]) sen rec told val iS iR := by
  intro j y hj
  by_cases c : j < l.length
  · rw [List.getElem?_append_left c] at hj
    obtain ⟨k1, k2, k3, k4, k5, k6⟩ := hk j (by omega)
    unfold al_c
    rw [k1, k2, k3, k4, k5, k6]
    exact h j y hj
  · rw [List.getElem?_append_right (by omega)] at hj
    have e : j - l.length = 0 := by
      rcases Nat.eq_zero_or_pos (j - l.length) with z | z
      · exact z
      · rw [List.getElem?_eq_none (by show 1 ≤ _; omega)] at hj
        exact absurd hj (by simp)
    rw [e] at hj
    have e2 : x = y := Option.some.inj hj
    have e3 : j = l.length := by omega
    subst e2 e3
    exact hx
theorem al_rep (h : al (l1 ++ x :: l2) ysen yrec ytold yval yiS yiR) {sen rec told val iS iR : Nat → Int32} (hx : al_c sen rec told val iS iR l1.length y)
    (hk : ∀ j, j ≠ l1.length → sen j = ysen j ∧ rec j = yrec j ∧ told j = ytold j ∧ val j = yval j ∧ iS j = yiS j ∧ iR j = yiR j) : al (l1 ++ y :: l2) sen rec told val iS iR := by
  intro j z hj
  by_cases c : j = l1.length
  · subst c
    have e : y = z := by
      rw [List.getElem?_append_right (Nat.le_refl _), Nat.sub_self] at hj
      exact Option.some.inj hj
    subst e
    exact hx
  · obtain ⟨k1, k2, k3, k4, k5, k6⟩ := hk j c
    unfold al_c
    rw [k1, k2, k3, k4, k5, k6]
    refine h j z ?_
    by_cases c2 : j < l1.length
    · rw [List.getElem?_append_left c2] at hj ⊢; exact hj
    · rw [List.getElem?_append_right (by omega)] at hj ⊢
      obtain ⟨d, hd⟩ : ∃ d, j - l1.length = d + 1 := ⟨j - l1.length - 1, by omega⟩
      rw [hd] at hj ⊢
      exact hj
theorem al_u {f : Nat → Int32} {n : Nat} {v : Int32} : ∀ j, j ≠ n → upd f n v j = f j := fun j h => pk_un h
theorem yp_app {post : SY → Prop} {n : Nat} {p0 p1 p2 : Int32} (hn : n < 600) (hr : yrows = nI n) (hp : post (ymade, ydep, ysize, nI (n + 1), yat, ysend, ysort, yfrom, yto, ylab, yfst, ysnd, yar, ystk, upd ysen n p0, upd yrec n p1, upd ytold n p2, yval, upd yiS n 0, upd yiR n 0, ylast, ymet)) : wpY_append post (ymade, ydep, ysize, yrows, yat, ysend, ysort, yfrom, yto, ylab, yfst, ysnd, yar, ystk, ysen, yrec, ytold, yval, yiS, yiR, ylast, ymet) p0 p1 p2 := by
  subst hr
  have vi : vp_in (nI n) 600 := ba_in hn (by omega)
  refine ⟨vi, ?_⟩
  rw [ba_cl (show n < 1000 by omega), ba_vb0]
  exact nm_e ⟨vi, nm_e ⟨vi, nm_e ⟨vi, nm_e ⟨vi, nm_e (nm_r (nI_1 n) hp)⟩⟩⟩⟩
theorem yp_go {post : SY → Prop} (Z : zY m P ysort yfrom yto ylab yfst ysnd yar) {n a : Nat} (hn : n < 600) (hr : yrows = nI n) (ha : yat = nI a) (am : a < m) (k1 : P 0 a = 1)
    (hp : post (ymade, ydep, ysize, nI (n + 1), nI (pa_nx P a), ysend, ysort, yfrom, yto, ylab, yfst, ysnd, yar, ystk, upd ysen n (nI (P 1 a)), upd yrec n (nI (P 2 a)), upd ytold n (nI (P 3 a)), yval, upd yiS n 0, upd yiR n 0, ylast, ymet)) : wpY_goOn post (ymade, ydep, ysize, yrows, yat, ysend, ysort, yfrom, yto, ylab, yfst, ysnd, yar, ystk, ysen, yrec, ytold, yval, yiS, yiR, ylast, ymet) := by
  subst hr ha
  obtain ⟨i20, e0, e1, e2, e3, e4, _⟩ := zY_at Z am
  have vi : vp_in (nI a) 40 := ba_in (by omega) (by omega)
  refine ⟨vi, vi, vi, ?_⟩
  rw [e1, e2, e3]
  refine yp_app hn rfl ⟨vi, ?_⟩
  exact yw_set Z (e4 (by omega) (by omega)) (Z.1.2.2.2.1 a am k1).1 hp
/-- the first one left -/
theorem yp_l2 {post : Int32 → Prop} {r e : Nat} (hr : r < 3) (hw : ∀ x, x ∈ l → ro_s x < 3 ∧ ro_r x < 3) (hl : l.length ≤ 600) (hal : al l ysen yrec ytold yval yiS yiR) (he : e ≤ l.length)
    (h0 : ∀ i x, i < e → l[i]? = some x → ro_u r x = false) (h1 : e = l.length → post (-1)) (h2 : ∀ x, l[e]? = some x → ro_u r x = true ∧ post (nI e)) : ∀ d j n, j + d = e → d < n → wY_left_2 post (nI r) ymade ydep ysize (nI l.length) yat ysend ysort yfrom yto ylab yfst ysnd yar ystk ysen yrec ytold yval yiS yiR ylast ymet n (nI j) := by
  intro d
  induction d with
  | zero =>
    intro j n hj hn
    obtain ⟨n, rfl⟩ : ∃ e, n = e + 1 := ⟨n - 1, by omega⟩
    have e1 : j = e := by omega
    subst e1
    refine pk_le l.length j (fun z => h1 (by omega)) (fun z => ?_)
    have vi : vp_in (nI j) 600 := ba_in (by omega) (by omega)
    have hx : l[j]? = some l[j] := List.getElem?_eq_getElem z
    obtain ⟨w1, w2⟩ := hw _ (List.getElem_mem z)
    obtain ⟨u, hp⟩ := h2 _ hx
    obtain ⟨a1, a2, _, _, a5, a6⟩ := hal _ _ hx
    refine ⟨vi, ?_⟩
    have nxt : (ro_s l[j] = r → ro_a l[j] = true) → wY_left_29 post (wY_left_2 post (nI r) ymade ydep ysize (nI l.length) yat ysend ysort yfrom yto ylab yfst ysnd yar ystk ysen yrec ytold yval yiS yiR ylast ymet n) (nI r) (nI j) ymade ydep ysize (nI l.length) yat ysend ysort yfrom yto ylab yfst ysnd yar ystk ysen yrec ytold yval yiS yiR ylast ymet := by
      intro c
      rw [ro_u_t] at u
      have u2 : ro_r l[j] = r ∧ ro_b l[j] = false := by
        rcases u with u | u
        · rw [c u.1] at u; exact absurd u.2 (by decide)
        · exact u
      refine ⟨vi, ?_⟩
      rw [ba_cl (show j < 1000 by omega)]
      refine pk_eq (ro_r l[j]) r (fun _ => ⟨vi, ?_⟩) (fun z => absurd u2.1 z) a2
      exact ba_br a6 (fun _ => hp) (fun z => absurd u2.2 (ro_tf z))
    rw [ba_cl (show j < 1000 by omega)]
    refine pk_eq (ro_s l[j]) r (fun c => ⟨vi, ?_⟩) (fun c => nxt (fun z => absurd z c)) a1
    exact ba_br a5 (fun _ => hp) (fun z => nxt (fun _ => z))
  | succ d ih =>
    intro j n hj hn
    obtain ⟨n, rfl⟩ : ∃ e, n = e + 1 := ⟨n - 1, by omega⟩
    refine pk_le l.length j (fun z => absurd z (by omega)) (fun z => ?_)
    have vi : vp_in (nI j) 600 := ba_in (by omega) (by omega)
    have hx : l[j]? = some l[j] := List.getElem?_eq_getElem z
    obtain ⟨w1, w2⟩ := hw _ (List.getElem_mem z)
    have u := ro_u_f.mp (h0 j _ (by omega) hx)
    obtain ⟨a1, a2, _, _, a5, a6⟩ := hal _ _ hx
    have st : wY_left_2 post (nI r) ymade ydep ysize (nI l.length) yat ysend ysort yfrom yto ylab yfst ysnd yar ystk ysen yrec ytold yval yiS yiR ylast ymet n (nI (j + 1)) := ih (j + 1) n (by omega) (by omega)
    refine ⟨vi, ?_⟩
    have nxt : wY_left_29 post (wY_left_2 post (nI r) ymade ydep ysize (nI l.length) yat ysend ysort yfrom yto ylab yfst ysnd yar ystk ysen yrec ytold yval yiS yiR ylast ymet n) (nI r) (nI j) ymade ydep ysize (nI l.length) yat ysend ysort yfrom yto ylab yfst ysnd yar ystk ysen yrec ytold yval yiS yiR ylast ymet := by
      refine ⟨vi, ?_⟩
      rw [ba_cl (show j < 1000 by omega)]
      refine pk_eq (ro_r l[j]) r (fun c => ⟨vi, ?_⟩) (fun z => nm_r (nI_1 j) st) a2
      exact ba_br a6 (fun z => absurd (u.2 c) (by rw [z]; decide)) (fun _ => nm_r (nI_1 j) st)
    rw [ba_cl (show j < 1000 by omega)]
    refine pk_eq (ro_s l[j]) r (fun c => ⟨vi, ?_⟩) (fun c => nxt) a1
    exact ba_br a5 (fun z => absurd (u.1 c) (by rw [z]; decide)) (fun z => nxt)
theorem yp_left {post : Int32 → Prop} {r : Nat} (hr : r < 3) (hw : ∀ x, x ∈ l → ro_s x < 3 ∧ ro_r x < 3) (hl : l.length ≤ 600) (hal : al l ysen yrec ytold yval yiS yiR) (er : yrows = nI l.length)
    (h1 : (∀ y, y ∈ l → ro_u r y = false) → post (-1)) (h2 : ∀ l1 x l2, l = l1 ++ x :: l2 → (∀ y, y ∈ l1 → ro_u r y = false) → ro_u r x = true → post (nI l1.length)) : wpY_left post (ymade, ydep, ysize, yrows, yat, ysend, ysort, yfrom, yto, ylab, yfst, ysnd, yar, ystk, ysen, yrec, ytold, yval, yiS, yiR, ylast, ymet) (nI r) := by
  subst er
  rcases pt_left r l with c | ⟨l1, x, l2, e, c1, c2⟩
  · refine ⟨l.length + 1, yp_l2 (e := l.length) hr hw hl hal (Nat.le_refl _) (fun i x hi hx => c x (List.mem_of_getElem? hx)) (fun _ => h1 c) (fun x hx => ?_) l.length 0 _ (by omega) (by omega)⟩
    rw [List.getElem?_eq_none (Nat.le_refl _)] at hx
    exact absurd hx (by simp)
  · have le : l1.length < l.length := by rw [e]; simp
    refine ⟨l.length + 1, yp_l2 (e := l1.length) hr hw hl hal (by omega) (fun i y hi hy => ?_) (fun z => absurd z (by omega)) (fun y hy => ?_) l1.length 0 _ (by omega) (by omega)⟩
    · rw [e, List.getElem?_append_left hi] at hy
      exact c1 y (List.mem_of_getElem? hy)
    · rw [e, List.getElem?_append_right (Nat.le_refl _), Nat.sub_self] at hy
      have : x = y := Option.some.inj hy
      subst this
      exact ⟨c2, h2 l1 x l2 e c1 c2⟩
/-- how many are on the way -/
theorem yp_c5 {post : Int32 → Prop} {p q : Nat} (hp3 : p < 3) (hq3 : q < 3) (hw : ∀ x, x ∈ l → ro_s x < 3 ∧ ro_r x < 3) (hl : l.length ≤ 600) (hal : al l ysen yrec ytold yval yiS yiR) (hp : post (nI (l.countP (ro_q p q)))) :
    ∀ d j n, j + d = l.length → d < n → wY_counted_5 post (nI p) (nI q) ymade ydep ysize (nI l.length) yat ysend ysort yfrom yto ylab yfst ysnd yar ystk ysen yrec ytold yval yiS yiR ylast ymet n (nI ((l.take j).countP (ro_q p q))) (nI j) := by
  intro d
  induction d with
  | zero =>
    intro j n hj hn
    obtain ⟨n, rfl⟩ : ∃ e, n = e + 1 := ⟨n - 1, by omega⟩
    refine pk_le l.length j (fun z => ?_) (fun z => absurd z (by omega))
    rw [List.take_of_length_le z]; exact hp
  | succ d ih =>
    intro j n hj hn
    obtain ⟨n, rfl⟩ : ∃ e, n = e + 1 := ⟨n - 1, by omega⟩
    refine pk_le l.length j (fun z => absurd z (by omega)) (fun z => ?_)
    have vi : vp_in (nI j) 600 := ba_in (by omega) (by omega)
    have hx : l[j]? = some l[j] := List.getElem?_eq_getElem z
    obtain ⟨w1, w2⟩ := hw _ (List.getElem_mem z)
    obtain ⟨a1, a2, _, _, a5, a6⟩ := hal _ _ hx
    have st := ih (j + 1) n (by omega) (by omega)
    have tk : (l.take (j + 1)).countP (ro_q p q) = (l.take j).countP (ro_q p q) + (if ro_q p q l[j] = true then 1 else 0) := by
      rw [List.take_succ, hx, List.countP_append]
      simp
    have no : ¬ ro_q p q l[j] = true → wY_counted_5 post (nI p) (nI q) ymade ydep ysize (nI l.length) yat ysend ysort yfrom yto ylab yfst ysnd yar ystk ysen yrec ytold yval yiS yiR ylast ymet n (nI ((l.take j).countP (ro_q p q))) (nI (j + 1)) := by
      intro c
      rw [tk, if_neg c] at st
      exact st
    refine ⟨vi, ?_⟩
    rw [ba_cl (show j < 1000 by omega)]
    refine pk_eq (ro_s l[j]) p (fun c1 => ⟨vi, ?_⟩) (fun c1 => nm_r (nI_1 j) (no (fun z => c1 (ro_q_t.mp z).1.1))) a1
    refine pk_eq (ro_r l[j]) q (fun c2 => ⟨vi, ?_⟩) (fun c2 => nm_r (nI_1 j) (no (fun z => c2 (ro_q_t.mp z).1.2))) a2
    refine ba_br a5 (fun c3 => nm_r (nI_1 j) (no (fun z => ro_tf (ro_q_t.mp z).2.1 c3))) (fun c3 => ⟨vi, ?_⟩)
    refine ba_br a6 (fun c4 => nm_r (nI_1 _) (nm_r (nI_1 j) ?_)) (fun c4 => nm_r (nI_1 j) (no (fun z => ro_tf c4 (ro_q_t.mp z).2.2)))
    rw [tk, if_pos (ro_q_t.mpr ⟨⟨c1, c2⟩, c3, c4⟩)] at st
    exact st
theorem yp_cnt {post : Int32 → Prop} {p q : Nat} (hp3 : p < 3) (hq3 : q < 3) (hw : ∀ x, x ∈ l → ro_s x < 3 ∧ ro_r x < 3) (hl : l.length ≤ 600) (hal : al l ysen yrec ytold yval yiS yiR) (er : yrows = nI l.length) {y : Int32} (hy : y = nI q) (hp : post (nI (l.countP (ro_q p q)))) : wpY_counted post (ymade, ydep, ysize, yrows, yat, ysend, ysort, yfrom, yto, ylab, yfst, ysnd, yar, ystk, ysen, yrec, ytold, yval, yiS, yiR, ylast, ymet) (nI p) y := by
  subst er hy
  exact ⟨l.length + 1, yp_c5 hp3 hq3 hw hl hal hp l.length 0 _ (by omega) (by omega)⟩
/-- forgetting -/
theorem yp_f4 {post : SY → Prop} (hl : l.length ≤ 600) (hp : ∀ sen rec told val iS iR : Nat → Int32, al (l.filter (fun x => !ro_k x)) sen rec told val iS iR → post (ymade, ydep, ysize, nI (l.filter (fun x => !ro_k x)).length, yat, ysend, ysort, yfrom, yto, ylab, yfst, ysnd, yar, ystk, sen, rec, told, val, iS, iR, ylast, ymet)) :
    ∀ d j n (ysen yrec ytold yval yiS yiR : Nat → Int32), j + d = l.length → d < n → al ((l.take j).filter (fun x => !ro_k x)) ysen yrec ytold yval yiS yiR → (∀ i x, j ≤ i → l[i]? = some x → al_c ysen yrec ytold yval yiS yiR i x) →
    wY_forget_4 post ymade ydep ysize (nI l.length) yat ysend n (nI ((l.take j).filter (fun x => !ro_k x)).length) (nI j) ysort yfrom yto ylab yfst ysnd yar ystk ysen yrec ytold yval yiS yiR ylast ymet := by
  intro d
  induction d with
  | zero =>
    intro j n ysen yrec ytold yval yiS yiR hj hn ha hb
    obtain ⟨n, rfl⟩ : ∃ e, n = e + 1 := ⟨n - 1, by omega⟩
    refine pk_le l.length j (fun z => ?_) (fun z => absurd z (by omega))
    rw [List.take_of_length_le z] at ha ⊢
    exact hp _ _ _ _ _ _ ha
  | succ d ih =>
    intro j n ysen yrec ytold yval yiS yiR hj hn ha hb
    obtain ⟨n, rfl⟩ : ∃ e, n = e + 1 := ⟨n - 1, by omega⟩
    refine pk_le l.length j (fun z => absurd z (by omega)) (fun z => ?_)
    have vi : vp_in (nI j) 600 := ba_in (by omega) (by omega)
    have hx : l[j]? = some l[j] := List.getElem?_eq_getElem z
    obtain ⟨a1, a2, a3, a4, a5, a6⟩ := hb j _ (Nat.le_refl _) hx
    have cl : ((l.take j).filter (fun x => !ro_k x)).length ≤ j := by
      have := List.length_filter_le (fun x => !ro_k x) (l.take j)
      rw [List.length_take] at this
      omega
    have tk : (l.take (j + 1)).filter (fun x => !ro_k x) = (l.take j).filter (fun x => !ro_k x) ++ (if ro_k l[j] = true then [] else [l[j]]) := by
      rw [List.take_succ, hx, List.filter_append]
      congr 1
      cases h : ro_k l[j] <;> simp [h]
    have keep : ¬ ro_k l[j] = true → wY_forget_30 post (wY_forget_4 post ymade ydep ysize (nI l.length) yat ysend n) (nI ((l.take j).filter (fun x => !ro_k x)).length) (nI j) ymade ydep ysize (nI l.length) yat ysend ysort yfrom yto ylab yfst ysnd yar ystk ysen yrec ytold yval yiS yiR ylast ymet := by
      intro c
      rw [if_neg c] at tk
      have st := ih (j + 1) n
      rw [tk, List.length_append] at st
      generalize hF : (l.take j).filter (fun x => !ro_k x) = F at *
      have vc : vp_in (nI F.length) 600 := ba_in (by omega) (by omega)
      refine ⟨vi, vc, ?_⟩
      rw [ba_cl (show j < 1000 by omega), ba_cl (show F.length < 1000 by omega), a5, a6, ba_vbI, ba_vbI]
      refine nm_e ⟨vi, vc, nm_e ⟨vi, vc, nm_e ⟨vi, vc, nm_e ⟨vi, vc, nm_e ⟨vi, vc, nm_e (nm_r (nI_1 _) (nm_r (nI_1 j) ?_))⟩⟩⟩⟩⟩
      refine st _ _ _ _ _ _ (by omega) (by omega) (al_app ha ?_ ?_) ?_
      · unfold al_c
        rw [pk_us, pk_us, pk_us, pk_us, pk_us, pk_us]
        exact ⟨a1, a2, a3, a4, rfl, rfl⟩
      · intro i hi
        exact ⟨pk_un hi, pk_un hi, pk_un hi, pk_un hi, pk_un hi, pk_un hi⟩
      · intro i w hi hw
        unfold al_c
        have ne : i ≠ F.length := by omega
        rw [pk_un ne, pk_un ne, pk_un ne, pk_un ne, pk_un ne, pk_un ne]
        exact hb i w (by omega) hw
    refine ⟨vi, ?_⟩
    rw [ba_cl (show j < 1000 by omega)]
    refine ba_br a5 (fun c => keep (fun z => ro_tf (ro_k_t.mp z).1 c)) (fun c => ⟨vi, ?_⟩)
    refine ba_br a6 (fun c2 => keep (fun z => ro_tf (ro_k_t.mp z).2 c2)) (fun c2 => nm_r (nI_1 j) ?_)
    have st := ih (j + 1) n ysen yrec ytold yval yiS yiR (by omega) (by omega)
    rw [tk, if_pos (ro_k_t.mpr ⟨c, c2⟩), List.append_nil] at st
    exact st ha (fun i w hi hw => hb i w (by omega) hw)
theorem yp_forget {post : SY → Prop} (hl : l.length ≤ 600) (hal : al l ysen yrec ytold yval yiS yiR) (er : yrows = nI l.length) (hp : ∀ sen rec told val iS iR : Nat → Int32, al (l.filter (fun x => !ro_k x)) sen rec told val iS iR → post (ymade, ydep, ysize, nI (l.filter (fun x => !ro_k x)).length, yat, ysend, ysort, yfrom, yto, ylab, yfst, ysnd, yar, ystk, sen, rec, told, val, iS, iR, ylast, ymet)) : wpY_forget post (ymade, ydep, ysize, yrows, yat, ysend, ysort, yfrom, yto, ylab, yfst, ysnd, yar, ystk, ysen, yrec, ytold, yval, yiS, yiR, ylast, ymet) := by
  subst er
  exact ⟨l.length + 1, yp_f4 hl hp l.length 0 _ _ _ _ _ _ _ (by omega) (by omega) (fun j x hx => absurd hx (by simp)) (fun i x _ hx => hal i x hx)⟩
end YP
end
section
-- ===== what comes next for a role =====
def zZ (k m : Nat) (P : pa_T) (l : List ro_T) (a : Nat) (xpl xhT xpk xps xhd xln xqL xqV : Nat → Int32) : Prop := pt_co m P l a ∧ ru_pl P l a xpl xhT xpk ∧ ru_q l xhd xln xqL xqV ∧ ru_p k P l xps
section YN
variable {m k : Nat} {P : pa_T} {l : List ro_T} {a : Nat} {xsize xmade xheight xsend : Int32} {xkind xone xother xlabel xpG xpH xtgt xstk xlA xgd xpl xhT xpk xps xlast xhd xln xqL xqV xseen : Nat → Int32} {ymade ydep ysize yrows yat ysend : Int32} {ysort yfrom yto ylab yfst ysnd yar ystk ysen yrec ytold yval yiS yiR ylast ymet : Nat → Int32}
theorem zZ_m (W : pa_W m P) (h : zZ k m P l a xpl xhT xpk xps xhd xln xqL xqV) (hk : P 0 a = 1) (v : Int32) : zZ k m P (l ++ [ru_m P a v]) (pa_nx P a) xpl xhT xpk xps xhd xln xqL xqV :=
  ⟨op_mco W h.1 hk v, op_mpl W h.1.1 h.2.1 hk v, op_mq h.2.2.1 v, op_mp h.2.2.2 hk v⟩
theorem zZ_w (h : zZ k m P l a xpl xhT xpk xps xhd xln xqL xqV) : ∀ x, x ∈ l → ro_s x < 3 ∧ ro_r x < 3 := fun x hx => ⟨(h.1.2.2.1 x hx).2.2.1, (h.1.2.2.1 x hx).2.2.2.1⟩
theorem zZ_c (h : zZ k m P l a xpl xhT xpk xps xhd xln xqL xqV) : ∀ p q, p < 3 → q < 3 → l.countP (ro_q p q) ≤ 4 := ru_qc h.2.2.1
theorem al_m (h : al l ysen yrec ytold yval yiS yiR) : al (l ++ [ru_m P a (yval l.length)]) (upd ysen l.length (nI (P 1 a))) (upd yrec l.length (nI (P 2 a))) (upd ytold l.length (nI (P 3 a))) yval (upd yiS l.length 0) (upd yiR l.length 0) := by
  refine al_app h ?_ (fun j hj => ⟨pk_un hj, pk_un hj, pk_un hj, rfl, pk_un hj, pk_un hj⟩)
  unfold al_c
  rw [pk_us, pk_us, pk_us, pk_us, pk_us]
  exact ⟨rfl, rfl, rfl, rfl, rfl, rfl⟩
theorem op_mk (v : Int32) : (l ++ [ru_m P a v]).countP ro_k = l.countP ro_k := by
  rw [List.countP_append]
  have : [ru_m P a v].countP ro_k = 0 := rfl
  omega
theorem op_mu {r : Nat} (hu : pa_U P r a) (h : ∀ y, y ∈ l → ro_u r y = false) (v : Int32) : ∀ y, y ∈ l ++ [ru_m P a v] → ro_u r y = false := by
  intro y hy
  rcases List.mem_append.mp hy with hy | hy
  · exact h y hy
  · rw [List.mem_singleton] at hy
    subst hy
    rw [ro_u_f]
    exact ⟨fun z => absurd z hu.2.1, fun z => absurd z hu.2.2⟩
/-- going on as far as the term t, and over it -/
theorem yp_135 {post : Int32 → SY → Prop} (Z : zY m P ysort yfrom yto ylab yfst ysnd yar) {r t ck : Nat} (hr : r < 3) (k1 : P 0 t = 1) (hc : P 1 t = r ∨ P 2 t = r)
    (K1 : ∀ l1 x l2 a' (sen rec told iS iR met : Nat → Int32), zZ k m P (l1 ++ x :: l2) a' xpl xhT xpk xps xhd xln xqL xqV → pt_la (l1 ++ x :: l2) → (∀ y, y ∈ l1 → ro_u r y = false) → ro_u r x = true → al (l1 ++ x :: l2) sen rec told yval iS iR → (l1 ++ x :: l2).countP ro_k = ck →
      post (nI l1.length) (ymade, ydep, ysize, nI (l1 ++ x :: l2).length, nI a', ysend, ysort, yfrom, yto, ylab, yfst, ysnd, yar, ystk, sen, rec, told, yval, iS, iR, ylast, met)) :
    ∀ e (l : List ro_T) a n (ysen yrec ytold yiS yiR : Nat → Int32), pa_R P r e a t → e < n → l.length + e < 600 → zZ k m P l a xpl xhT xpk xps xhd xln xqL xqV → al l ysen yrec ytold yval yiS yiR → (∀ y, y ∈ l → ro_u r y = false) → l.countP ro_k = ck →
      wY_next_135 post (nI t) n ymade ydep ysize (nI l.length) (nI a) ysend ysort yfrom yto ylab yfst ysnd yar ystk ysen yrec ytold yval yiS yiR ylast ymet := by
  have m20 := Z.1.2.1
  intro e
  induction e with
  | zero =>
    intro l a n ysen yrec ytold yiS yiR hR hn hl hz ha hu hck
    obtain ⟨n, rfl⟩ : ∃ e, n = e + 1 := ⟨n - 1, by omega⟩
    have e1 : a = t := hR
    subst e1
    have am := hz.1.1
    refine br_t rfl ?_
    refine yp_go Z (by omega) rfl rfl am k1 ?_
    show post (nI (l.length + 1) - 1) _
    rw [nI_pred]
    have ux : ro_u r (ru_m P a (yval l.length)) = true := by
      rw [ro_u_t]
      rcases hc with hc | hc
      · exact Or.inl ⟨hc, rfl⟩
      · exact Or.inr ⟨hc, rfl⟩
    have fin := K1 l (ru_m P a (yval l.length)) [] (pa_nx P a) _ _ _ _ _ ymet (zZ_m Z.1 hz k1 _) ?_ hu ux (al_m ha) ((op_mk _).trans hck)
    · rw [List.length_append] at fin
      exact fin
    · refine Or.inr ⟨r, hr, ?_, l, _, rfl, ro_uc ux⟩
      have z : l.countP (ro_u r) = 0 := by
        rw [List.countP_eq_zero]
        intro x hx
        rw [hu x hx]; decide
      rw [List.countP_append, z]
      have := pt_cpl (f := ro_u r) [ru_m P a (yval l.length)]
      simp only [List.length_singleton] at this
      omega
  | succ e ih =>
    intro l a n ysen yrec ytold yiS yiR hR hn hl hz ha hu hck
    obtain ⟨n, rfl⟩ : ∃ e, n = e + 1 := ⟨n - 1, by omega⟩
    have am := hz.1.1
    obtain ⟨U, hR⟩ := hR
    have ne : a ≠ t := by
      intro z
      subst z
      exact hc.elim U.2.1 U.2.2
    have tm : t < m := by
      have := pa_R_L Z.1 (e + 1) a t am ⟨U, hR⟩
      exact this.1
    refine br_f (ba_ne ne (by omega) (by omega)) ?_
    refine yp_go Z (by omega) rfl rfl am U.1 ?_
    have st := ih (l ++ [ru_m P a (yval l.length)]) (pa_nx P a) n _ _ _ _ _ hR (by omega) (by rw [List.length_append]; show l.length + 1 + e < 600; omega) (zZ_m Z.1 hz U.1 _) (al_m ha) (op_mu U hu _) ((op_mk _).trans hck)
    rw [List.length_append] at st
    exact st
/-- the scan -/
theorem yp_87c {post : Int32 → SY → Prop} (Z : zY m P ysort yfrom yto ylab yfst ysnd yar) {r t : Nat} (hr : r < 3) (tm : t < m) (k2 : P 0 t = 2) (hp : post (if P 1 t = r then -1 else -2) (ymade, ydep, ysize, yrows, yat, ysend, ysort, yfrom, yto, ylab, yfst, ysnd, yar, ystk, ysen, yrec, ytold, yval, yiS, yiR, ylast, ymet)) : wY_next_87 post (nI r) (nI t) ymade ydep ysize yrows yat ysend ysort yfrom yto ylab yfst ysnd yar ystk ysen yrec ytold yval yiS yiR ylast ymet := by
  obtain ⟨i20, e0, e1, _, _, _, _, k4, b1, _⟩ := zY_at Z tm
  have vi : vp_in (nI t) 40 := ba_in (by omega) (by omega)
  refine ⟨vi, pk_eq (P 0 t) 2 (fun _ => ⟨vi, pk_eq (P 1 t) r (fun c => ?_) (fun c => ?_) e1⟩) (fun z => absurd k2 z) e0⟩
  · rw [if_pos c] at hp; exact hp
  · rw [if_neg c] at hp; exact hp
theorem yp_870 {post : Int32 → SY → Prop} (Z : zY m P ysort yfrom yto ylab yfst ysnd yar) {r t : Nat} (tm : t < m) (k0 : P 0 t = 0) (hp : post (-3) (ymade, ydep, ysize, yrows, yat, ysend, ysort, yfrom, yto, ylab, yfst, ysnd, yar, ystk, ysen, yrec, ytold, yval, yiS, yiR, ylast, ymet)) : wY_next_87 post (nI r) (nI t) ymade ydep ysize yrows yat ysend ysort yfrom yto ylab yfst ysnd yar ystk ysen yrec ytold yval yiS yiR ylast ymet := by
  obtain ⟨i20, e0, e1, _, _, _, _, k4, b1, _⟩ := zY_at Z tm
  have vi : vp_in (nI t) 40 := ba_in (by omega) (by omega)
  exact ⟨vi, pk_eq (P 0 t) 2 (fun z => absurd k0 (by omega)) (fun _ => ⟨vi, pk_eq (P 0 t) 0 (fun _ => hp) (fun z => absurd k0 z) e0⟩) e0⟩
theorem yp_871 {post : Int32 → SY → Prop} (Z : zY m P ysort yfrom yto ylab yfst ysnd yar) {r t : Nat} {b : Bool} (tm : t < m) (k1 : P 0 t = 1) (hb : ymet t = ba_bI b) (h0 : b = false → ∃ n135 : Nat, wY_next_135 post (nI t) n135 ymade ydep ysize yrows yat ysend ysort yfrom yto ylab yfst ysnd yar ystk ysen yrec ytold yval yiS yiR ylast ymet) (h1 : b = true → post (-3) (ymade, ydep, ysize, yrows, yat, ysend, ysort, yfrom, yto, ylab, yfst, ysnd, yar, ystk, ysen, yrec, ytold, yval, yiS, yiR, ylast, ymet)) : wY_next_87 post (nI r) (nI t) ymade ydep ysize yrows yat ysend ysort yfrom yto ylab yfst ysnd yar ystk ysen yrec ytold yval yiS yiR ylast ymet := by
  obtain ⟨i20, e0, e1, _, _, _, _, k4, b1, _⟩ := zY_at Z tm
  have vi : vp_in (nI t) 40 := ba_in (by omega) (by omega)
  refine ⟨vi, pk_eq (P 0 t) 2 (fun z => absurd k1 (by omega)) (fun _ => ⟨vi, pk_eq (P 0 t) 0 (fun z => absurd k1 (by omega)) (fun _ => ⟨ba_in (by omega) (by omega), ?_⟩) e0⟩) e0⟩
  rw [ba_cl (show t < 1000 by omega)]
  exact ba_br hb h0 h1
theorem yp_38 {post : Int32 → SY → Prop} (Z : zY m P ysort yfrom yto ylab yfst ysnd yar) {r : Nat} (hr : r < 3) (am : a < m) (ak : P 0 a < 3)
    (K0 : ∀ met : Nat → Int32, pa_L P r a < 2 → post (-3) (ymade, ydep, ysize, yrows, yat, ysend, ysort, yfrom, yto, ylab, yfst, ysnd, yar, ystk, ysen, yrec, ytold, yval, yiS, yiR, ylast, met))
    (K2 : ∀ (met : Nat → Int32) t e, pa_R P r e a t → t < m → P 0 t = 2 → post (if P 1 t = r then -1 else -2) (ymade, ydep, ysize, yrows, yat, ysend, ysort, yfrom, yto, ylab, yfst, ysnd, yar, ystk, ysen, yrec, ytold, yval, yiS, yiR, ylast, met))
    (K1 : ∀ (met : Nat → Int32) t e, pa_R P r e a t → t < m → P 0 t = 1 → (P 1 t = r ∨ P 2 t = r) → ∃ n135 : Nat, wY_next_135 post (nI t) n135 ymade ydep ysize yrows yat ysend ysort yfrom yto ylab yfst ysnd yar ystk ysen yrec ytold yval yiS yiR ylast met) :
    ∀ d (b : Nat → Bool) t n (ymet : Nat → Int32), 20 ≤ d + pg_ct b 20 → d < n → t < m → P 0 t < 3 → (∃ e, pa_R P r e a t) → (∀ i, i < 20 → ymet i = ba_bI (b i)) → (∀ i, b i = true → ∃ e, 0 < e ∧ pa_R P r e i t) →
      wY_next_38 post (nI r) ymade ydep ysize yrows yat ysend n (nI t) ysort yfrom yto ylab yfst ysnd yar ystk ysen yrec ytold yval yiS yiR ylast ymet := by
  have m20 := Z.1.2.1
  intro d
  induction d with
  | zero =>
    intro b t n ymet hd hn tm tk he hb hv
    obtain ⟨n, rfl⟩ : ∃ e, n = e + 1 := ⟨n - 1, by omega⟩
    have bt : b t = true := by
      cases hh : b t with
      | true => rfl
      | false =>
        have := pg_ct_lt (b := b) (c := fun _ => true) (a := t) hh rfl 20 (fun _ _ _ => rfl) (by omega)
        have := pg_ct_le (fun _ => true) 20
        omega
    obtain ⟨e, he⟩ := he
    obtain ⟨e', h0, hc⟩ := hv t bt
    obtain ⟨i20, e0, e1, _, _, _, _, k4, b1, _⟩ := zY_at Z tm
    have vi : vp_in (nI t) 40 := ba_in (by omega) (by omega)
    have hL : pa_L P r a = 0 := by rw [(pa_R_L Z.1 e a t am he).2]; exact pa_L_cyc h0 hc
    have kt : P 0 t = 1 := by
      cases e' with
      | zero => omega
      | succ e' => exact hc.1.1
    refine ⟨vi, pk_eq (P 0 t) 1 (fun _ => ⟨ba_in (by omega) (by omega), ?_⟩) (fun z => absurd kt z) e0⟩
    rw [ba_cl (show t < 1000 by omega)]
    refine ba_br (hb t (by omega)) (fun z => absurd bt (by rw [z]; decide)) (fun _ => ?_)
    exact yp_871 Z tm kt (hb t (by omega)) (fun z => absurd bt (by rw [z]; decide)) (fun _ => K0 _ (by omega))
  | succ d ih =>
    intro b t n ymet hd hn tm tk he hb hv
    obtain ⟨n, rfl⟩ : ∃ e, n = e + 1 := ⟨n - 1, by omega⟩
    obtain ⟨e, he⟩ := he
    obtain ⟨i20, e0, e1, e2, _, e4, _, k4, b1, b2, _⟩ := zY_at Z tm
    have vi : vp_in (nI t) 40 := ba_in (by omega) (by omega)
    have v20 : vp_in (nI t) 20 := ba_in (by omega) (by omega)
    have hL := (pa_R_L Z.1 e a t am he).2
    refine ⟨vi, pk_eq (P 0 t) 1 (fun kt => ⟨v20, ?_⟩) (fun kt => ?_) e0⟩
    · have ct : (nI t).toNatClampNeg = t := ba_cl (by omega)
      have mt : ymet (nI t).toNatClampNeg = ba_bI (b t) := by rw [ct]; exact hb t (by omega)
      refine ba_br mt (fun bf => ?_) (fun bt => ?_)
      · have con : (P 1 t = r ∨ P 2 t = r) → wY_next_87 post (nI r) (nI t) ymade ydep ysize yrows yat ysend ysort yfrom yto ylab yfst ysnd yar ystk ysen yrec ytold yval yiS yiR ylast ymet := fun c => yp_871 Z tm kt (hb t (by omega)) (fun _ => K1 _ t e he tm kt c) (fun z => absurd bf (by rw [z]; decide))
        refine ⟨vi, pk_eq (P 1 t) r (fun c => ?_) (fun c => ⟨vi, pk_eq (P 2 t) r (fun c2 => ?_) (fun c2 => ?_) e2⟩) e1⟩
        · exact br_f (by decide) (con (Or.inl c))
        · exact br_f (by decide) (con (Or.inr c2))
        · refine br_t rfl ⟨v20, ?_⟩
          rw [ct] at e4
          rw [ct, ba_vb1]
          have U : pa_U P r t := ⟨kt, c, c2⟩
          refine nm_e ⟨vi, ?_⟩
          refine yw_set Z (e4 (by omega) (by omega)) (Z.1.2.2.2.1 t tm kt).1 ?_
          refine ih (fun i => if i = t then true else b i) (pa_nx P t) n _ ?_ (by omega) (pa_nx_m Z.1 tm U) (pa_S_k Z.1 (Z.1.2.2.2.1 t tm kt).1) ⟨e + 1, pa_R_app e a t he U⟩ ?_ ?_
          · have := pg_ct_lt (b := b) (c := fun i => if i = t then true else b i) (a := t) bf (by simp) 20 (fun i _ hi => by
              show (if i = t then true else b i) = true
              by_cases z : i = t
              · rw [if_pos z]
              · rw [if_neg z]; exact hi) (by omega)
            omega
          · intro i hi
            show upd ymet t 1 i = ba_bI (if i = t then true else b i)
            by_cases z : i = t
            · subst z; rw [pk_us, if_pos rfl]; rfl
            · rw [pk_un z, if_neg z]; exact hb i hi
          · intro i hi
            have hi' : (if i = t then true else b i) = true := hi
            by_cases z : i = t
            · subst z; exact ⟨1, by omega, U, rfl⟩
            · rw [if_neg z] at hi'
              obtain ⟨e', h0, hR⟩ := hv i hi'
              exact ⟨e' + 1, by omega, pa_R_app e' i t hR U⟩
      · obtain ⟨e', h0, hc⟩ := hv t bt
        exact yp_871 Z tm kt (hb t (by omega)) (fun z => absurd bt (by rw [z]; decide)) (fun _ => K0 _ (by rw [hL, pa_L_cyc h0 hc]; omega))
    · by_cases k2 : P 0 t = 2
      · exact yp_87c Z hr tm k2 (K2 _ t e he tm k2)
      · have k0 : P 0 t = 0 := by omega
        exact yp_870 Z tm k0 (K0 _ (by rw [hL, pa_L_0 k0]; omega))
theorem yp_14 {post : Int32 → SY → Prop} {r : Int32} (K : ∀ met : Nat → Int32, (∀ i, i < 20 → met i = 0) → ∃ n38 : Nat, wY_next_38 post r ymade ydep ysize yrows yat ysend n38 yat ysort yfrom yto ylab yfst ysnd yar ystk ysen yrec ytold yval yiS yiR ylast met) :
    ∀ d j n (ymet : Nat → Int32), j + d = 20 → d < n → (∀ i, i < j → ymet i = 0) → wY_next_14 post r ymade ydep ysize yrows yat ysend n (nI j) ysort yfrom yto ylab yfst ysnd yar ystk ysen yrec ytold yval yiS yiR ylast ymet := by
  intro d
  induction d with
  | zero =>
    intro j n ymet hj hn h
    obtain ⟨n, rfl⟩ : ∃ e, n = e + 1 := ⟨n - 1, by omega⟩
    exact pk_le 20 j (fun _ => K _ (fun i hi => h i (by omega))) (fun z => absurd z (by omega))
  | succ d ih =>
    intro j n ymet hj hn h
    obtain ⟨n, rfl⟩ : ∃ e, n = e + 1 := ⟨n - 1, by omega⟩
    refine pk_le 20 j (fun z => absurd z (by omega)) (fun _ => ⟨ba_in (by omega) (by omega), ?_⟩)
    rw [ba_cl (show j < 1000 by omega), ba_vb0]
    refine nm_e (nm_r (nI_1 j) (ih (j + 1) n _ (by omega) (by omega) (fun i hi => ?_)))
    by_cases c : i = j
    · subst c; rw [pk_us]
    · rw [pk_un c]; exact h i (by omega)
theorem yp_next {post : Int32 → SY → Prop} (Z : zY m P ysort yfrom yto ylab yfst ysnd yar) {r : Nat} (hr : r < 3) (H : zZ k m P l a xpl xhT xpk xps xhd xln xqL xqV) (hla : pt_la l) (hal : al l ysen yrec ytold yval yiS yiR) (er : yrows = nI l.length) (ea : yat = nI a)
    (K0 : ∀ met : Nat → Int32, (∀ y, y ∈ l → ro_u r y = false) → pa_L P r a < 2 → post (-3) (ymade, ydep, ysize, nI l.length, nI a, ysend, ysort, yfrom, yto, ylab, yfst, ysnd, yar, ystk, ysen, yrec, ytold, yval, yiS, yiR, ylast, met))
    (K2 : ∀ (met : Nat → Int32) t e, (∀ y, y ∈ l → ro_u r y = false) → pa_R P r e a t → t < m → P 0 t = 2 → post (if P 1 t = r then -1 else -2) (ymade, ydep, ysize, nI l.length, nI a, ysend, ysort, yfrom, yto, ylab, yfst, ysnd, yar, ystk, ysen, yrec, ytold, yval, yiS, yiR, ylast, met))
    (K1 : ∀ l1 x l2 a' (sen rec told iS iR met : Nat → Int32), zZ k m P (l1 ++ x :: l2) a' xpl xhT xpk xps xhd xln xqL xqV → pt_la (l1 ++ x :: l2) → (∀ y, y ∈ l1 → ro_u r y = false) → ro_u r x = true → al (l1 ++ x :: l2) sen rec told yval iS iR → (l1 ++ x :: l2).countP ro_k = l.countP ro_k →
      post (nI l1.length) (ymade, ydep, ysize, nI (l1 ++ x :: l2).length, nI a', ysend, ysort, yfrom, yto, ylab, yfst, ysnd, yar, ystk, sen, rec, told, yval, iS, iR, ylast, met)) : wpY_next post (ymade, ydep, ysize, yrows, yat, ysend, ysort, yfrom, yto, ylab, yfst, ysnd, yar, ystk, ysen, yrec, ytold, yval, yiS, yiR, ylast, ymet) (nI r) := by
  subst er ea
  have len := pt_len Z.1 H.1 hla (zZ_c H)
  refine yp_left hr (zZ_w H) (by omega) hal rfl (fun none => ?_) (fun l1 x l2 e h1 hx => ?_)
  · refine br_t (by decide) ⟨21, ?_⟩
    refine yp_14 (fun met hm => ⟨21, ?_⟩) 20 0 21 _ (by omega) (by omega) (fun i hi => absurd hi (by omega))
    refine yp_38 Z hr H.1.1 H.1.2.1 (fun met h => K0 met none h) (fun met t e h1 h2 h3 => K2 met t e none h1 h2 h3) (fun met t e h1 h2 h3 h4 => ?_) 20 (fun _ => false) a 21 _ ?_ (by omega) H.1.1 H.1.2.1 ⟨0, rfl⟩ hm (fun i hi => absurd hi Bool.false_ne_true)
    · have e19 := pa_R_19 Z.1 H.1.1 h1 (fun z => h4.elim z.2.1 z.2.2)
      exact ⟨e + 1, yp_135 Z hr h3 h4 K1 e l a _ _ _ _ _ _ h1 (by omega) (by omega) H hal none rfl⟩
    · omega
  · refine br_f (nI_pos (by have : l1.length ≤ l.length := by rw [e]; simp
                            omega)) ?_
    subst e
    exact K1 l1 x l2 a _ _ _ _ _ _ H hla h1 hx hal rfl
/-- the picker -/
theorem yp_pk {post : Int32 → Prop} (Z : zY m P ysort yfrom yto ylab yfst ysnd yar) {r t : Nat} (k2 : P 0 t = 2) (hp : post (nI (P 1 t))) : ∀ e a n, a < m → pa_R P r e a t → e < n → wY_picker_5 post ymade ydep ysize yrows yat ysend ysort yfrom yto ylab yfst ysnd yar ystk ysen yrec ytold yval yiS yiR ylast ymet n (nI a) := by
  intro e
  induction e with
  | zero =>
    intro a n am hR hn
    obtain ⟨n, rfl⟩ : ∃ e, n = e + 1 := ⟨n - 1, by omega⟩
    have e1 : a = t := hR
    subst e1
    obtain ⟨i20, e0, e1, _⟩ := zY_at Z am
    have vi : vp_in (nI a) 40 := ba_in (by omega) (by omega)
    refine ⟨vi, pk_eq (P 0 a) 1 (fun z => absurd k2 (by omega)) (fun _ => ⟨vi, ?_⟩) e0⟩
    rw [e1]; exact hp
  | succ e ih =>
    intro a n am hR hn
    obtain ⟨n, rfl⟩ : ∃ e, n = e + 1 := ⟨n - 1, by omega⟩
    obtain ⟨U, hR⟩ := hR
    obtain ⟨i20, e0, _, _, _, e4, _, k4, _⟩ := zY_at Z am
    have vi : vp_in (nI a) 40 := ba_in (by omega) (by omega)
    refine ⟨vi, pk_eq (P 0 a) 1 (fun _ => ⟨vi, ?_⟩) (fun z => absurd U.1 z) e0⟩
    have k1 := U.1
    refine yw_set Z (e4 (by omega) (by omega)) (Z.1.2.2.2.1 a am U.1).1 ?_
    exact ih _ _ (pa_nx_m Z.1 am U) hR (by omega)
theorem yp_picker {post : Int32 → Prop} (Z : zY m P ysort yfrom yto ylab yfst ysnd yar) {r t e : Nat} (k2 : P 0 t = 2) (am : a < m) (hR : pa_R P r e a t) (ea : yat = nI a) (hp : post (nI (P 1 t))) : wpY_picker post (ymade, ydep, ysize, yrows, yat, ysend, ysort, yfrom, yto, ylab, yfst, ysnd, yar, ystk, ysen, yrec, ytold, yval, yiS, yiR, ylast, ymet) := by
  subst ea
  exact ⟨e + 1, yp_pk Z k2 hp e a _ am hR (by omega)⟩
theorem al_h {r q c : Nat} (h : al l ysen yrec ytold yval yiS yiR) : al (l ++ [ru_h r q c a (yval l.length) false]) (upd ysen l.length (nI r)) (upd yrec l.length (nI q)) (upd ytold l.length (nI c)) yval (upd yiS l.length 0) (upd yiR l.length 0) := by
  refine al_app h ?_ (fun j hj => ⟨pk_un hj, pk_un hj, pk_un hj, rfl, pk_un hj, pk_un hj⟩)
  unfold al_c
  rw [pk_us, pk_us, pk_us, pk_us, pk_us]
  exact ⟨rfl, rfl, rfl, rfl, rfl, rfl⟩
theorem yp_lesser {post : Int32 → Prop} {r : Nat} (hr : r < 3) (hp : post (nI (ro_le r))) : wpY_lesser post (ymade, ydep, ysize, yrows, yat, ysend, ysort, yfrom, yto, ylab, yfst, ysnd, yar, ystk, ysen, yrec, ytold, yval, yiS, yiR, ylast, ymet) (nI r) := by
  refine pk_eq r 0 (fun c => ?_) (fun c => ?_)
  · unfold ro_le at hp; rw [if_pos c] at hp; exact hp
  · unfold ro_le at hp; rw [if_neg c] at hp; exact hp
theorem yp_30 {post : Int32 → SY → Prop} (Z : zY m P ysort yfrom yto ylab yfst ysnd yar) {r c : Nat} {z0 : Int32} (hr : r < 3) (am : a < m) (k2 : P 0 a = 2) (hc : c < 2) (hz0 : z0 = nI (ro_gr r)) (hl : l.length + 2 < 600) (hal : al l ysen yrec ytold yval yiS yiR)
    (K : ∀ (v w : Int32) (sen rec told iS iR : Nat → Int32), al (l ++ [ru_h r (ro_le r) c a v false, ru_h r (ro_gr r) c a w false]) sen rec told yval iS iR →
      post (nI l.length) (ymade, ydep, ysize, nI (l.length + 2), nI (pa_S P (if c = 1 then P 5 a else P 4 a)), ysend, ysort, yfrom, yto, ylab, yfst, ysnd, yar, ystk, sen, rec, told, yval, iS, iR, ylast, ymet)) : wY_pick_30 post (nI r) (nI c) z0 ymade ydep ysize (nI l.length) (nI a) ysend ysort yfrom yto ylab yfst ysnd yar ystk ysen yrec ytold yval yiS yiR ylast ymet := by
  subst hz0
  obtain ⟨g1, g2, _⟩ := Z.1.2.2.2.2.1 a am k2
  obtain ⟨i20, e0, _, _, _, e4, e5, k4, _⟩ := zY_at Z am
  have vi : vp_in (nI a) 40 := ba_in (by omega) (by omega)
  refine yp_lesser hr ?_
  refine yp_app (n := l.length) (by omega) rfl ?_
  refine yp_app (n := l.length + 1) (by omega) rfl ?_
  have ha1 := al_h (a := a) (r := r) (q := ro_le r) (c := c) hal
  have ha2 := al_h (a := a) (r := r) (q := ro_gr r) (c := c) ha1
  rw [List.length_append, List.append_assoc] at ha2
  have fin := K _ _ _ _ _ _ _ ha2
  refine pk_eq c 0 (fun c0 => ⟨vi, ?_⟩) (fun c0 => ⟨vi, ?_⟩)
  · refine yw_set Z (e4 (by omega) (by omega)) g1 ?_
    show post (nI (l.length + 2) - 2) _
    rw [ba_s2 (by omega), show l.length + 2 - 2 = l.length from by omega]
    rw [if_neg (by omega)] at fin
    exact fin
  · refine yw_set Z (e5 k2) g2 ?_
    show post (nI (l.length + 2) - 2) _
    rw [ba_s2 (by omega), show l.length + 2 - 2 = l.length from by omega]
    rw [if_pos (by omega)] at fin
    exact fin
theorem yp_p0 {post : Int32 → SY → Prop} (Z : zY m P ysort yfrom yto ylab yfst ysnd yar) {r c t ck : Nat} (hr : r < 3) (k2 : P 0 t = 2) (hc : c < 2)
    (K : ∀ (l : List ro_T) (v w : Int32) (sen rec told iS iR : Nat → Int32), zZ k m P l t xpl xhT xpk xps xhd xln xqL xqV → (∀ y, y ∈ l → ro_u r y = false) → l.length < 590 → l.countP ro_k = ck → (∀ p q, p < 3 → q < 3 → l.countP (ro_q p q) ≤ 4) → al (l ++ [ru_h r (ro_le r) c t v false, ru_h r (ro_gr r) c t w false]) sen rec told yval iS iR →
      post (nI l.length) (ymade, ydep, ysize, nI (l.length + 2), nI (pa_S P (if c = 1 then P 5 t else P 4 t)), ysend, ysort, yfrom, yto, ylab, yfst, ysnd, yar, ystk, sen, rec, told, yval, iS, iR, ylast, ymet)) :
    ∀ e (l : List ro_T) a n (ysen yrec ytold yiS yiR : Nat → Int32), pa_R P r e a t → e < n → l.length + e < 590 → zZ k m P l a xpl xhT xpk xps xhd xln xqL xqV → al l ysen yrec ytold yval yiS yiR → (∀ y, y ∈ l → ro_u r y = false) → l.countP ro_k = ck →
      wY_pick_0 post (nI r) (nI c) n ymade ydep ysize (nI l.length) (nI a) ysend ysort yfrom yto ylab yfst ysnd yar ystk ysen yrec ytold yval yiS yiR ylast ymet := by
  intro e
  induction e with
  | zero =>
    intro l a n ysen yrec ytold yiS yiR hR hn hl hz ha hu hck
    obtain ⟨n, rfl⟩ : ∃ e, n = e + 1 := ⟨n - 1, by omega⟩
    have e1 : a = t := hR
    subst e1
    have am := hz.1.1
    obtain ⟨i20, e0, _⟩ := zY_at Z am
    refine ⟨ba_in (by omega) (by omega), pk_eq (P 0 a) 1 (fun z => absurd k2 (by omega)) (fun _ => ?_) e0⟩
    have fin : ∀ z0, z0 = nI (ro_gr r) → wY_pick_30 post (nI r) (nI c) z0 ymade ydep ysize (nI l.length) (nI a) ysend ysort yfrom yto ylab yfst ysnd yar ystk ysen yrec ytold yval yiS yiR ylast ymet := fun z0 hz0 => yp_30 Z hr am k2 hc hz0 (by omega) ha (fun v w sen rec told iS iR h => K l v w sen rec told iS iR hz hu (by omega) hck (zZ_c hz) h)
    refine pk_eq r 2 (fun c2 => fin 1 ?_) (fun c2 => fin 2 ?_)
    · unfold ro_gr; rw [if_pos c2]; rfl
    · unfold ro_gr; rw [if_neg c2]; rfl
  | succ e ih =>
    intro l a n ysen yrec ytold yiS yiR hR hn hl hz ha hu hck
    obtain ⟨n, rfl⟩ : ∃ e, n = e + 1 := ⟨n - 1, by omega⟩
    have am := hz.1.1
    obtain ⟨U, hR⟩ := hR
    obtain ⟨i20, e0, _⟩ := zY_at Z am
    refine ⟨ba_in (by omega) (by omega), pk_eq (P 0 a) 1 (fun _ => ?_) (fun z => absurd U.1 z) e0⟩
    refine yp_go Z (by omega) rfl rfl am U.1 ?_
    have st := ih (l ++ [ru_m P a (yval l.length)]) (pa_nx P a) n _ _ _ _ _ hR (by omega) (by rw [List.length_append]; show l.length + 1 + e < 590; omega) (zZ_m Z.1 hz U.1 _) (al_m ha) (op_mu U hu _) ((op_mk _).trans hck)
    rw [List.length_append] at st
    exact st
end YN
end
section
-- ===== the component's small methods =====
section XR
variable {m k : Nat} {P : pa_T} {xsize xmade xheight xsend : Int32} {xkind xone xother xlabel xpG xpH xtgt xstk xlA xgd xpl xhT xpk xps xlast xhd xln xqL xqV xseen : Nat → Int32} {ymade ydep ysize yrows yat ysend : Int32} {ysort yfrom yto ylab yfst ysnd yar ystk ysen yrec ytold yval yiS yiR ylast ymet : Nat → Int32}
theorem xr_bad {post : Int32 → Prop} {p0 : Int32} (h : p0 < 0 ∨ (¬ p0 < 0 ∧ ¬ p0 < 3 ∧ ¬ p0 ≤ 2)) (hp : post 1) : wpX_badRole post (xsize, xmade, xheight, xsend, xkind, xone, xother, xlabel, xpG, xpH, xtgt, xstk, xlA, xgd, xpl, xhT, xpk, xps, xlast, xhd, xln, xqL, xqV, xseen) p0 := by
  rcases h with h | ⟨h1, h2, h3⟩
  · exact br_t h hp
  · exact br_f h1 (br_f h2 hp)
theorem xr_ok {post : Int32 → Prop} {j : Nat} (h : j < 3) (hp : post 0) : wpX_badRole post (xsize, xmade, xheight, xsend, xkind, xone, xother, xlabel, xpG, xpH, xtgt, xstk, xlA, xgd, xpl, xhT, xpk, xps, xlast, xhd, xln, xqL, xqV, xseen) (nI j) := by
  obtain ⟨h1, h2, h3⟩ := ba_r3 h
  exact br_f h1 (br_t h2 hp)
theorem yr_bad {post : Int32 → Prop} {p0 : Int32} (h : p0 < 0 ∨ (¬ p0 < 0 ∧ ¬ p0 < 3 ∧ ¬ p0 ≤ 2)) (hp : post 1) : wpY_noRole post (ymade, ydep, ysize, yrows, yat, ysend, ysort, yfrom, yto, ylab, yfst, ysnd, yar, ystk, ysen, yrec, ytold, yval, yiS, yiR, ylast, ymet) p0 := by
  rcases h with h | ⟨h1, h2, h3⟩
  · exact br_t h hp
  · exact br_f h1 (br_f h3 hp)
theorem yr_ok {post : Int32 → Prop} {j : Nat} (h : j < 3) (hp : post 0) : wpY_noRole post (ymade, ydep, ysize, yrows, yat, ysend, ysort, yfrom, yto, ylab, yfst, ysnd, yar, ystk, ysen, yrec, ytold, yval, yiS, yiR, ylast, ymet) (nI j) := by
  obtain ⟨h1, h2, h3⟩ := ba_r3 h
  exact br_f h1 (br_t h3 hp)
/-- to whom, or from whom -/
def xs_q (P : pa_T) (t r : Nat) (hb : Bool) : Nat := if P 1 t = r then (if P 0 t = 1 then P 2 t else if hb = true then ro_gr r else ro_le r) else P 1 t
theorem xs_q3 (D : pa_D m P) {t r : Nat} {hb : Bool} (tm : t < m) (hr : r < 3) : xs_q P t r hb < 3 := by
  obtain ⟨_, d1, d2, _⟩ := D t tm
  have g := ro_lg hr
  unfold xs_q
  split
  · split
    · exact d2
    · split
      · exact g.2.1
      · exact g.1
  · exact d1
theorem xs_part {post : Int32 → Prop} (Z : zX m P xkind xone xother xlabel xpG xpH xtgt) {t r : Nat} {hb : Bool} (hr : r < 3) (tm : t < m) (ep : xpl r = nI t) (eh : xhT r = ba_bI hb) (hp : post (nI (xs_q P t r hb))) : wpX_partnerOf post (xsize, xmade, xheight, xsend, xkind, xone, xother, xlabel, xpG, xpH, xtgt, xstk, xlA, xgd, xpl, xhT, xpk, xps, xlast, xhd, xln, xqL, xqV, xseen) (nI r) := by
  obtain ⟨i20, e0, e1, e2, _, _, _, _, k4, b1, b2, _⟩ := zX_at Z tm
  have vr : vp_in (nI r) 3 := ba_in hr (by omega)
  have vt : vp_in (nI t) 40 := ba_in (by omega) (by omega)
  refine ⟨vr, ?_⟩
  rw [ba_cl (show r < 1000 by omega)]
  refine nm_r ep ⟨vt, ?_⟩
  unfold xs_q at hp
  refine pk_eq (P 1 t) r (fun c => ⟨vt, ?_⟩) (fun c => ⟨vt, ?_⟩) e1
  · rw [if_pos c] at hp
    refine pk_eq (P 0 t) 1 (fun k1 => ⟨vt, ?_⟩) (fun k1 => ⟨vr, ?_⟩) e0
    · rw [if_pos k1] at hp
      rw [e2]; exact hp
    · rw [if_neg k1] at hp
      refine ba_br eh (fun hf => ?_) (fun ht => ?_)
      · subst hf
        rw [if_neg (by decide)] at hp
        refine pk_eq r 0 (fun c => ?_) (fun c => ?_)
        · unfold ro_le at hp; rw [if_pos c] at hp; exact hp
        · unfold ro_le at hp; rw [if_neg c] at hp; exact hp
      · subst ht
        rw [if_pos rfl] at hp
        refine pk_eq r 2 (fun c => ?_) (fun c => ?_)
        · unfold ro_gr at hp; rw [if_pos c] at hp; exact hp
        · unfold ro_gr at hp; rw [if_neg c] at hp; exact hp
  · rw [if_neg c] at hp
    rw [e1]; exact hp
theorem xs_sends {post : Int32 → Prop} (Z : zX m P xkind xone xother xlabel xpG xpH xtgt) {t r : Nat} (hr : r < 3) (tm : t < m) (ep : xpl r = nI t) (h1 : P 1 t = r → post 1) (h0 : P 1 t ≠ r → post 0) : wpX_sends post (xsize, xmade, xheight, xsend, xkind, xone, xother, xlabel, xpG, xpH, xtgt, xstk, xlA, xgd, xpl, xhT, xpk, xps, xlast, xhd, xln, xqL, xqV, xseen) (nI r) := by
  obtain ⟨i20, e0, e1, _, _, _, _, _, k4, b1, _⟩ := zX_at Z tm
  refine ⟨ba_in hr (by omega), ?_⟩
  rw [ba_cl (show r < 1000 by omega)]
  refine nm_r ep (br_f (nI_pos (by omega)) ⟨ba_in (by omega) (by omega), ?_⟩)
  exact pk_eq (P 1 t) r h1 h0 e1
theorem xs_sends0 {post : Int32 → Prop} {c r : Nat} (hr : r < 3) (hc : c < 2) (ep : xpl r = ba_pI c) (h0 : post 0) : wpX_sends post (xsize, xmade, xheight, xsend, xkind, xone, xother, xlabel, xpG, xpH, xtgt, xstk, xlA, xgd, xpl, xhT, xpk, xps, xlast, xhd, xln, xqL, xqV, xseen) (nI r) := by
  refine ⟨ba_in hr (by omega), ?_⟩
  rw [ba_cl (show r < 1000 by omega)]
  exact nm_r ep (br_t (ba_plt hc) h0)
theorem xs_qi (p q : Nat) : 3 * nI p + nI q = nI (3 * p + q) := by rw [ba_3m, nI_add]
theorem xs_put {post : SX → Prop} {q n h lbl : Nat} {v y z : Int32} (ey : y = nI q) (ez : z = nI lbl) (hq : q < 9) (hh : h < 4) (hn : n < 4) (hl : lbl < 4) (eh : xhd q = nI h) (en : xln q = nI n)
    (hp : post (xsize, xmade, xheight, xsend + 1, xkind, xone, xother, xlabel, xpG, xpH, xtgt, xstk, xlA, xgd, xpl, xhT, xpk, xps, xlast, xhd, upd xln q (nI (n + 1)), upd xqL (4 * q + (h + n) % 4) (nI lbl), upd xqV (4 * q + (h + n) % 4) v, xseen)) : wpX_put post (xsize, xmade, xheight, xsend, xkind, xone, xother, xlabel, xpG, xpH, xtgt, xstk, xlA, xgd, xpl, xhT, xpk, xps, xlast, xhd, xln, xqL, xqV, xseen) y z v := by
  subst ey ez
  have vq : vp_in (nI q) 9 := ba_in hq (by omega)
  refine ⟨vq, vq, ?_⟩
  have ix : 4 * nI q + (nI h + nI n &&& 3) = nI (4 * q + (h + n) % 4) := by rw [nI_add, ba_and3 (by omega), ba_4m, nI_add]
  have vx : vp_in (nI (4 * q + (h + n) % 4)) 36 := ba_in (by omega) (by omega)
  rw [ba_cl (show q < 1000 by omega), eh, en, nI_1]
  refine nm_r ix ⟨vx, ?_⟩
  rw [ba_cl (show 4 * q + (h + n) % 4 < 1000 by omega), ba_vbc (by omega)]
  refine nm_e ⟨vx, nm_e ⟨vq, vq, ?_⟩⟩
  rw [ba_vbc (by omega)]
  exact nm_e (nm_e hp)
theorem xs_take {post : Int32 → SX → Prop} {q n h lbl r : Nat} {v y : Int32} (ey : y = nI q) (hq : q < 9) (hr : r < 3) (hh : h < 4) (h0 : 0 < n) (hn : n ≤ 4) (eh : xhd q = nI h) (en : xln q = nI n) (eL : xqL (4 * q + h) = nI lbl) (eV : xqV (4 * q + h) = v)
    (hp : post (nI lbl) (xsize, xmade, xheight, xsend, xkind, xone, xother, xlabel, xpG, xpH, xtgt, xstk, xlA, xgd, xpl, xhT, xpk, xps, upd xlast r v, upd xhd q (nI ((h + 1) % 4)), upd xln q (nI (n - 1)), xqL, xqV, xseen)) : wpX_take post (xsize, xmade, xheight, xsend, xkind, xone, xother, xlabel, xpG, xpH, xtgt, xstk, xlA, xgd, xpl, xhT, xpk, xps, xlast, xhd, xln, xqL, xqV, xseen) y (nI r) := by
  subst ey
  have vq : vp_in (nI q) 9 := ba_in hq (by omega)
  refine ⟨vq, ?_⟩
  have ix : 4 * nI q + nI h = nI (4 * q + h) := by rw [ba_4m, nI_add]
  have vx : vp_in (nI (4 * q + h)) 36 := ba_in (by omega) (by omega)
  rw [ba_cl (show q < 1000 by omega), eh, en, nI_1, ba_and3 (by omega), ba_s1 h0, ba_vbc (by omega), ba_vbc (by omega)]
  refine nm_r ix ⟨vq, vq, nm_e ⟨vq, vq, nm_e ⟨vx, ba_in hr (by omega), ?_⟩⟩⟩
  rw [ba_cl (show 4 * q + h < 1000 by omega), ba_cl (show r < 1000 by omega), eV, eL]
  exact nm_e ⟨vx, hp⟩
/-- where a role is -/
theorem xs_pl {l : List ro_T} {a r : Nat} (W : pa_W m P) (H : zZ k m P l a xpl xhT xpk xps xhd xln xqL xqV) (hr : r < 3) : (∃ c, c < 2 ∧ xpl r = ba_pI c) ∨ ∃ t hb, t < m ∧ xpl r = nI t ∧ xhT r = ba_bI hb := by
  obtain ⟨c, hb, p, e1, e2, e3, e4, e5⟩ := H.2.1 r hr
  by_cases h : c < 2
  · exact Or.inl ⟨c, h, e1⟩
  · have := pt_ch_c (b := m) (fun x hx => (H.1.2.2.1 x hx).1) (pa_L_m W H.1.1) e5
    refine Or.inr ⟨c - 2, hb, by omega, ?_, e2⟩
    rw [e1, show c = (c - 2) + 2 from by omega]
    rfl
theorem xs_no {c t : Nat} {x : Int32} (hc : c < 2) (ht : t < 1000) (h1 : x = ba_pI c) (h2 : x = nI t) : False := by
  have a := ba_plt hc
  rw [← h1, h2] at a
  exact nI_pos (by omega) a
theorem xs_none {l : List ro_T} {a r c : Nat} (W : pa_W m P) (H : zZ k m P l a xpl xhT xpk xps xhd xln xqL xqV) (hr : r < 3) (hc : c < 2) (ep : xpl r = ba_pI c) : (∀ y, y ∈ l → ro_u r y = false) ∧ pa_L P r a < 2 := by
  have m20 := W.2.1
  rcases pt_left r l with h | ⟨l1, x, l2, e, h1, hx⟩
  · refine ⟨h, ?_⟩
    obtain ⟨p1, _⟩ := op_pos0 hr H.2.1 h
    have b := pa_L_m W (r := r) H.1.1
    apply Classical.byContradiction
    intro z
    refine xs_no (t := pa_L P r a - 2) hc (by omega) ep ?_
    rw [p1, show pa_L P r a = (pa_L P r a - 2) + 2 from by omega]
    rfl
  · subst e
    obtain ⟨p1, _⟩ := op_pos hr H.2.1 h1 hx
    have := (H.1.2.2.1 x (List.mem_append_right _ (List.mem_cons_self ..))).1
    exact absurd (xs_no hc (by omega) ep p1) id
/-- at a row that is left -/
theorem xs_row {l1 l2 : List ro_T} {x : ro_T} {a r t : Nat} {hb : Bool} (W : pa_W m P) (H : zZ k m P (l1 ++ x :: l2) a xpl xhT xpk xps xhd xln xqL xqV) (hr : r < 3) (h1 : ∀ y, y ∈ l1 → ro_u r y = false) (hx : ro_u r x = true) (tm : t < m) (ep : xpl r = nI t) (eh : xhT r = ba_bI hb) :
    ro_t x = t ∧ ro_s x = P 1 t ∧ ro_s x < 3 ∧ ro_r x < 3 ∧ ro_s x ≠ ro_r x ∧ hb = decide (ro_s x = r ∧ P 0 t = 2) ∧ (hb = true → xpk r = nI (ro_l x)) ∧ xs_q P t r hb = (if ro_s x = r then ro_r x else ro_s x) ∧ (ro_s x = r → ro_a x = false) ∧ (ro_s x ≠ r → ro_r x = r ∧ ro_b x = false) ∧ ro_l x < 4 ∧ (P 0 t = 1 → ro_l x = P 3 t) ∧ (P 0 t = 1 ∨ (P 0 t = 2 ∧ ro_l x < 2)) := by
  have m20 := W.2.1
  obtain ⟨w1, w2, w3, w4, w5, w6, w7, w8⟩ := H.1.2.2.1 x (List.mem_append_right _ (List.mem_cons_self ..))
  obtain ⟨p1, p2, _⟩ := op_pos hr H.2.1 h1 hx
  have et : ro_t x = t := ba_eq (p1.symm.trans ep) (by omega) (by omega)
  obtain ⟨q1, q2⟩ := p2 _ rfl
  have eb : hb = decide (ro_s x = r ∧ P 0 (ro_t x) = 2) := by
    have z := eh.symm.trans q1
    generalize decide (ro_s x = r ∧ P 0 (ro_t x) = 2) = d at z
    cases hb <;> cases d <;> first | rfl | exact absurd z (by decide)
  rw [et] at w2 w8 eb q2
  rw [ro_u_t] at hx
  have ha : ro_s x = r → ro_a x = false := by
    intro z
    rcases hx with hx | hx
    · exact hx.2
    · exact absurd (z.trans hx.1.symm) w5
  have hb2 : ro_s x ≠ r → ro_r x = r ∧ ro_b x = false := by
    intro z
    rcases hx with hx | hx
    · exact absurd hx.1 z
    · exact hx
  refine ⟨et, w2, w3, w4, w5, eb, ?_, ?_, ha, hb2, w7, ?_, ?_⟩
  · rw [eb]; exact q2
  · unfold xs_q
    by_cases c : ro_s x = r
    · rw [if_pos (by rw [← w2]; exact c), if_pos c]
      rcases w8 with w8 | ⟨k2, _, _, g⟩
      · rw [if_pos w8.1]; exact w8.2.1.symm
      · rw [if_neg (by omega), eb, if_pos (by rw [decide_eq_true_iff]; exact ⟨c, k2⟩), g (ha c), c]
    · rw [if_neg (by rw [← w2]; exact c), if_neg c, w2]
  · intro k1
    rcases w8 with w8 | w8
    · exact w8.2.2
    · omega
  · rcases w8 with w8 | w8
    · exact Or.inl w8.1
    · exact Or.inr ⟨w8.1, w8.2.1⟩
end XR
end
section
-- ===== the relation =====
def bu_W (mk ht : Nat) (Q : pa_T) (S : Nat → Nat) : Prop :=
  mk ≤ 20 ∧ ht ≤ mk ∧ pa_D mk Q ∧ (∀ j, j < ht → S j < mk ∧ Q 7 (S j) = 0) ∧ (∀ i j, i < j → j < ht → S i < S j) ∧ (0 < mk → 0 < ht ∧ S (ht - 1) = mk - 1) ∧
  (∀ i, i < mk → (1 ≤ Q 0 i → Q 0 i ≤ 3 → Q 4 i < i ∧ Q 7 (Q 4 i) = i + 1) ∧ (Q 0 i = 2 → Q 5 i < i ∧ Q 7 (Q 5 i) = i + 1) ∧ (Q 0 i = 1 → Q 1 i ≠ Q 2 i) ∧ (3 ≤ Q 0 i → Q 1 i < 2)) ∧
  (∀ i, i < mk → (Q 7 i = 0 ∧ ∃ j, j < ht ∧ S j = i) ∨ (∃ p, Q 7 i = p + 1 ∧ i < p ∧ p < mk ∧ ((1 ≤ Q 0 p ∧ Q 0 p ≤ 3 ∧ Q 4 p = i) ∨ (Q 0 p = 2 ∧ Q 5 p = i))))
def zB (mk ht : Nat) (Q : pa_T) (S : Nat → Nat) (xmade xheight : Int32) (xkind xone xother xlabel xpG xpH xstk : Nat → Int32) (ymade ydep : Int32) (ysort yfrom yto ylab yfst ysnd yar ystk : Nat → Int32) : Prop :=
  bu_W mk ht Q S ∧ xmade = nI mk ∧ xheight = nI ht ∧ ymade = nI mk ∧ ydep = nI ht ∧ ar_X 20 mk Q xkind xone xother xlabel xpG xpH ∧ ar_Y 20 mk Q ysort yfrom yto ylab yfst ysnd yar ∧ (∀ j, j < ht → xstk j = nI (S j) ∧ ystk j = nI (S j))
/-- the terms being made (mk, ht, Q, S), the protocol (m, P), the path (l, a) -/
def i_Rel (k : Nat) (u : SX) (v : SY) : Prop := match u, v with
  | (xsize, xmade, xheight, xsend, xkind, xone, xother, xlabel, xpG, xpH, xtgt, xstk, xlA, xgd, xpl, xhT, xpk, xps, xlast, xhd, xln, xqL, xqV, xseen), (ymade, ydep, ysize, yrows, yat, ysend, ysort, yfrom, yto, ylab, yfst, ysnd, yar, ystk, ysen, yrec, ytold, yval, yiS, yiR, ylast, ymet) => ∃ mk ht Q S m P l a, zB mk ht Q S xmade xheight xkind xone xother xlabel xpG xpH xstk ymade ydep ysort yfrom yto ylab yfst ysnd yar ystk ∧
    zX m P xkind xone xother xlabel xpG xpH xtgt ∧ zY m P ysort yfrom yto ylab yfst ysnd yar ∧ xsize = nI m ∧ ysize = nI m ∧
    zZ k m P l a xpl xhT xpk xps xhd xln xqL xqV ∧ pt_la l ∧ al l ysen yrec ytold yval yiS yiR ∧ yrows = nI l.length ∧ yat = nI a ∧ xlast = ylast ∧ xsend = ysend
theorem zZ_k {k k' m : Nat} {P : pa_T} {l : List ro_T} {a : Nat} {xpl xhT xpk xps xhd xln xqL xqV : Nat → Int32} (h : k ≤ k') (H : zZ k m P l a xpl xhT xpk xps xhd xln xqL xqV) : zZ k' m P l a xpl xhT xpk xps xhd xln xqL xqV := by
  obtain ⟨h1, h2, h3, t, h4, h5⟩ := H
  exact ⟨h1, h2, h3, t, by omega, h5⟩
theorem i_up {k : Nat} {u : SX} {v : SY} (h : i_Rel k u v) : i_Rel (k + 4) u v := by
  obtain ⟨xsize, xmade, xheight, xsend, xkind, xone, xother, xlabel, xpG, xpH, xtgt, xstk, xlA, xgd, xpl, xhT, xpk, xps, xlast, xhd, xln, xqL, xqV, xseen⟩ := u
  obtain ⟨ymade, ydep, ysize, yrows, yat, ysend, ysort, yfrom, yto, ylab, yfst, ysnd, yar, ystk, ysen, yrec, ytold, yval, yiS, yiR, ylast, ymet⟩ := v
  obtain ⟨mk, ht, Q, S, m, P, l, a, B, ZX, ZY, es, es', H, la, hal, er, ea, el, en⟩ := h
  exact ⟨mk, ht, Q, S, m, P, l, a, B, ZX, ZY, es, es', zZ_k (by omega) H, la, hal, er, ea, el, en⟩
theorem i_vc_got {k : Nat} {u : SX} {v : SY} (I : i_Rel k u v) (hk : k + 4 ≤ 2048) (v1 : Int32) : wpX_got (fun r => wpY_got (fun r' => r' = r ∧ i_Rel (k + 4) u v) v v1) u v1 := by
  have I4 := i_up I
  obtain ⟨xsize, xmade, xheight, xsend, xkind, xone, xother, xlabel, xpG, xpH, xtgt, xstk, xlA, xgd, xpl, xhT, xpk, xps, xlast, xhd, xln, xqL, xqV, xseen⟩ := u
  obtain ⟨ymade, ydep, ysize, yrows, yat, ysend, ysort, yfrom, yto, ylab, yfst, ysnd, yar, ystk, ysen, yrec, ytold, yval, yiS, yiR, ylast, ymet⟩ := v
  obtain ⟨mk, ht, Q, S, m, P, l, a, B, ZX, ZY, es, es', H, la, hal, er, ea, el, en⟩ := I
  rcases ba_role v1 with hb | ⟨r, hr, rfl⟩
  · unfold wpX_got
    refine xr_bad hb ?_
    refine br_f (by decide) ?_
    unfold wpY_got
    refine yr_bad hb ?_
    exact br_f (by decide) ⟨rfl, I4⟩
  · unfold wpX_got
    refine xr_ok hr ?_
    refine br_t rfl ⟨ba_in hr (by omega), ?_⟩
    unfold wpY_got
    refine yr_ok hr ?_
    refine br_t rfl ⟨ba_in hr (by omega), ?_, I4⟩
    rw [el]
theorem i_vc_sent {k : Nat} {u : SX} {v : SY} (I : i_Rel k u v) (hk : k + 4 ≤ 2048) : wpX_sent (fun r => wpY_sent (fun r' => r' = r ∧ i_Rel (k + 4) u v) v) u := by
  have I4 := i_up I
  obtain ⟨xsize, xmade, xheight, xsend, xkind, xone, xother, xlabel, xpG, xpH, xtgt, xstk, xlA, xgd, xpl, xhT, xpk, xps, xlast, xhd, xln, xqL, xqV, xseen⟩ := u
  obtain ⟨ymade, ydep, ysize, yrows, yat, ysend, ysort, yfrom, yto, ylab, yfst, ysnd, yar, ystk, ysen, yrec, ytold, yval, yiS, yiR, ylast, ymet⟩ := v
  obtain ⟨mk, ht, Q, S, m, P, l, a, B, ZX, ZY, es, es', H, la, hal, er, ea, el, en⟩ := I
  exact ⟨en.symm, I4⟩
theorem i_vc_onWay {k : Nat} {u : SX} {v : SY} (I : i_Rel k u v) (hk : k + 4 ≤ 2048) (v1 : Int32) (v2 : Int32) : wpX_onWay (fun r => wpY_onWay (fun r' => r' = r ∧ i_Rel (k + 4) u v) v v1 v2) u v1 v2 := by
  have I4 := i_up I
  obtain ⟨xsize, xmade, xheight, xsend, xkind, xone, xother, xlabel, xpG, xpH, xtgt, xstk, xlA, xgd, xpl, xhT, xpk, xps, xlast, xhd, xln, xqL, xqV, xseen⟩ := u
  obtain ⟨ymade, ydep, ysize, yrows, yat, ysend, ysort, yfrom, yto, ylab, yfst, ysnd, yar, ystk, ysen, yrec, ytold, yval, yiS, yiR, ylast, ymet⟩ := v
  obtain ⟨mk, ht, Q, S, m, P, l, a, B, ZX, ZY, es, es', H, la, hal, er, ea, el, en⟩ := I
  rcases ba_role v1 with hb | ⟨r, hr, rfl⟩
  · unfold wpX_onWay
    refine xr_bad hb ?_
    refine br_f (by decide) ?_
    unfold wpY_onWay
    refine yr_bad hb ?_
    exact br_f (by decide) ⟨rfl, I4⟩
  · rcases ba_role v2 with hb | ⟨q, hq, rfl⟩
    · unfold wpX_onWay
      refine xr_ok hr ?_
      refine br_t rfl ?_
      refine xr_bad hb ?_
      refine br_f (by decide) ?_
      unfold wpY_onWay
      refine yr_ok hr ?_
      refine br_t rfl ?_
      refine yr_bad hb ?_
      exact br_f (by decide) ⟨rfl, I4⟩
    · unfold wpX_onWay
      refine xr_ok hr ?_
      refine br_t rfl ?_
      refine xr_ok hq ?_
      refine br_t rfl ?_
      rw [xs_qi]
      refine ⟨ba_in (by omega) (by omega), ?_⟩
      rw [ba_cl (show 3 * r + q < 1000 by omega)]
      have len := pt_len ZX.1 H.1 la (zZ_c H)
      unfold wpY_onWay
      refine yr_ok hr ?_
      refine br_t rfl ?_
      refine yr_ok hq ?_
      refine br_t rfl ?_
      refine yp_cnt hr hq (zZ_w H) (by omega) hal er rfl ⟨?_, I4⟩
      obtain ⟨h, _, _, e, _⟩ := H.2.2.1 r q hr hq
      rw [e, List.countP_eq_length_filter]
theorem ba_nm {n : Nat} (h : n < 1000) : ¬ nI n = -1 ∧ ¬ nI n = -2 ∧ ¬ nI n = -3 ∧ ¬ nI n < 0 := by
  have a := nI_toInt (n := n) (by omega)
  refine ⟨fun z => ?_, fun z => ?_, fun z => ?_, nI_pos (by omega)⟩
  · rw [z, show (-1 : Int32).toInt = -1 from by decide] at a; omega
  · rw [z, show (-2 : Int32).toInt = -2 from by decide] at a; omega
  · rw [z, show (-3 : Int32).toInt = -3 from by decide] at a; omega
section LK
variable {m k : Nat} {P : pa_T} {l : List ro_T} {a : Nat} {xsize xmade xheight xsend : Int32} {xkind xone xother xlabel xpG xpH xtgt xstk xlA xgd xpl xhT xpk xps xlast xhd xln xqL xqV xseen : Nat → Int32} {ymade ydep ysize yrows yat ysend : Int32} {ysort yfrom yto ylab yfst ysnd yar ystk ysen yrec ytold yval yiS yiR ylast ymet : Nat → Int32}
theorem xs_qof {post : Int32 → Prop} {p q : Nat} (hp : post (nI (3 * p + q))) : wpX_queueOf post (xsize, xmade, xheight, xsend, xkind, xone, xother, xlabel, xpG, xpH, xtgt, xstk, xlA, xgd, xpl, xhT, xpk, xps, xlast, xhd, xln, xqL, xqV, xseen) (nI p) (nI q) := by
  show post (3 * nI p + nI q)
  rw [xs_qi]; exact hp
def xs_ans (P : pa_T) (t r n1 n2 : Nat) : Int32 := if P 1 t = r then (if 4 ≤ n1 then 2 else 1) else (if n2 = 0 then 4 else 3)
theorem xs_state {post : Int32 → Prop} (Z : zX m P xkind xone xother xlabel xpG xpH xtgt) {t r n1 n2 : Nat} {hb : Bool} (hr : r < 3) (tm : t < m) (ep : xpl r = nI t) (eh : xhT r = ba_bI hb)
    (e1 : xln (3 * r + xs_q P t r hb) = nI n1) (e2 : xln (3 * xs_q P t r hb + r) = nI n2) (b1 : n1 ≤ 4) (b2 : n2 ≤ 4) (hp : post (xs_ans P t r n1 n2)) : wpX_state post (xsize, xmade, xheight, xsend, xkind, xone, xother, xlabel, xpG, xpH, xtgt, xstk, xlA, xgd, xpl, xhT, xpk, xps, xlast, xhd, xln, xqL, xqV, xseen) (nI r) := by
  have q3 := xs_q3 (r := r) (hb := hb) Z.2.1 tm hr
  have t20 := Z.1.2.1
  unfold xs_ans at hp
  unfold wpX_state
  refine xr_ok hr ?_
  refine br_t rfl ⟨ba_in hr (by omega), ?_⟩
  rw [ba_cl (show r < 1000 by omega), ep]
  refine br_t (nI_pos' (by omega)) ?_
  refine xs_part Z hr tm ep eh ?_
  refine xs_sends Z hr tm ep (fun c => ?_) (fun c => ?_)
  · rw [if_pos c] at hp
    refine br_f (by decide) (xs_qof ⟨ba_in (by omega) (by omega), ?_⟩)
    rw [ba_cl (by omega), e1]
    refine pk_le 4 n1 (fun z => ?_) (fun z => ?_)
    · rw [if_pos z] at hp; exact hp
    · rw [if_neg (by omega)] at hp; exact hp
  · rw [if_neg c] at hp
    refine br_t rfl (xs_qof ⟨ba_in (by omega) (by omega), ?_⟩)
    rw [ba_cl (by omega), e2]
    refine pk_le n2 0 (fun z => ?_) (fun z => ?_)
    · rw [if_pos (by omega)] at hp; exact hp
    · rw [if_neg (by omega)] at hp; exact hp
/-- from the picks' side: the role stands at t -/
theorem xs_pick {r t t' e : Nat} {hb : Bool} (W : pa_W m P) (H : zZ k m P l a xpl xhT xpk xps xhd xln xqL xqV) (hr : r < 3) (none : ∀ y, y ∈ l → ro_u r y = false) (hR : pa_R P r e a t') (k2 : P 0 t' = 2) (tm : t < m) (ep : xpl r = nI t) (eh : xhT r = ba_bI hb) : t' = t ∧ hb = false ∧ (P 1 t ≠ r → xs_q P t r hb = P 1 t) ∧ (P 1 t = r → xs_q P t r hb = ro_le r) := by
  have m20 := W.2.1
  obtain ⟨p1, p2⟩ := op_pos0 hr H.2.1 none
  obtain ⟨tm', hL⟩ := pa_R_L W e a t' H.1.1 hR
  rw [hL, pa_L_2 k2] at p1
  have et : t' = t := ba_eq (p1.symm.trans ep) (by omega) (by omega)
  subst et
  have hf : hb = false := by
    rw [p2] at eh
    cases hb with
    | false => rfl
    | true => exact absurd eh (by decide)
  subst hf
  refine ⟨rfl, rfl, fun c => ?_, fun c => ?_⟩
  · unfold xs_q; rw [if_neg c]
  · unfold xs_q; rw [if_pos c, if_neg (by omega), if_neg (by decide)]
theorem ys_n {p q n : Nat} (H : zZ k m P l a xpl xhT xpk xps xhd xln xqL xqV) (hp : p < 3) (hq : q < 3) (e : xln (3 * p + q) = nI n) (b : n ≤ 4) : (l.filter (ro_q p q)).length = n ∧ l.countP (ro_q p q) = n := by
  obtain ⟨h, _, _, e', b', _⟩ := H.2.2.1 p q hp hq
  have := ba_eq (e'.symm.trans e) (by omega) (by omega)
  exact ⟨this, by rw [List.countP_eq_length_filter]; exact this⟩
theorem ys_state {post : Int32 → SY → Prop} (Z : zY m P ysort yfrom yto ylab yfst ysnd yar) {t r n1 n2 : Nat} {hb : Bool} (H : zZ k m P l a xpl xhT xpk xps xhd xln xqL xqV) (hla : pt_la l) (hal : al l ysen yrec ytold yval yiS yiR) (er : yrows = nI l.length) (ea : yat = nI a) (hr : r < 3) (tm : t < m) (ep : xpl r = nI t) (eh : xhT r = ba_bI hb)
    (e1 : xln (3 * r + xs_q P t r hb) = nI n1) (e2 : xln (3 * xs_q P t r hb + r) = nI n2) (b1 : n1 ≤ 4) (b2 : n2 ≤ 4)
    (hp : ∀ (l : List ro_T) a (sen rec told iS iR met : Nat → Int32), zZ k m P l a xpl xhT xpk xps xhd xln xqL xqV → pt_la l → al l sen rec told yval iS iR → post (xs_ans P t r n1 n2) (ymade, ydep, ysize, nI l.length, nI a, ysend, ysort, yfrom, yto, ylab, yfst, ysnd, yar, ystk, sen, rec, told, yval, iS, iR, ylast, met)) : wpY_state post (ymade, ydep, ysize, yrows, yat, ysend, ysort, yfrom, yto, ylab, yfst, ysnd, yar, ystk, ysen, yrec, ytold, yval, yiS, yiR, ylast, ymet) (nI r) := by
  have m20 := Z.1.2.1
  have q3 := xs_q3 (r := r) (hb := hb) Z.2.1 tm hr
  have len := pt_len Z.1 H.1 hla (zZ_c H)
  unfold xs_ans at hp
  unfold wpY_state
  refine yr_ok hr ?_
  refine br_t rfl ?_
  refine yp_next Z hr H hla hal er ea (fun met none hL => ?_) (fun met t' e none hR tm' k2 => ?_) (fun l1 x l2 a' sen rec told iS iR met H' la' h1 hx hal' _ => ?_)
  · obtain ⟨p1, _⟩ := op_pos0 hr H.2.1 none
    exact absurd (xs_no hL (by omega) p1 ep) id
  · obtain ⟨et, hf, qa, qb⟩ := xs_pick Z.1 H hr none hR k2 tm ep eh
    subst et
    by_cases c : P 1 t' = r
    · rw [if_pos c] at hp ⊢
      rw [qb c] at e1
      have cn := (ys_n H hr (ro_lg hr).1 e1 b1).2
      refine br_f (by decide) (br_f (by decide) (br_t (by decide) (br_t rfl ?_)))
      refine yp_lesser hr ?_
      refine yp_cnt hr (ro_lg hr).1 (zZ_w H) (by omega) hal rfl rfl ?_
      rw [cn]
      have fin := hp l a _ _ _ _ _ met H hla hal
      refine pk_le 4 n1 (fun z => ?_) (fun z => ?_)
      · rw [if_pos z] at fin; exact fin
      · rw [if_neg (by omega)] at fin; exact fin
    · rw [if_neg c] at hp ⊢
      rw [qa c] at e2 q3
      have cn := (ys_n H q3 hr e2 b2).1
      rw [op_l1 none] at cn
      have fin := hp l a _ _ _ _ _ met H hla hal
      have z0 : n2 = 0 := cn.symm
      rw [if_pos z0] at fin
      exact br_f (by decide) (br_t rfl fin)
  · have len' := pt_len Z.1 H'.1 la' (zZ_c H')
    obtain ⟨et, es, s3, r3, nsr, eb, _, eq, sa, sb, _⟩ := xs_row Z.1 H' hr h1 hx tm ep eh
    have fin := hp _ a' _ _ _ _ _ met H' la' hal'
    have il : l1.length < 1000 := by
      rw [List.length_append] at len'; omega
    have i6 : l1.length < 600 := by
      rw [List.length_append] at len'; omega
    obtain ⟨n1', n2', n3', n4'⟩ := ba_nm il
    obtain ⟨c1, c2, _, _, c5, _⟩ := al_at hal'
    have vi : vp_in (nI l1.length) 600 := ba_in i6 (by omega)
    refine br_f n3' (br_f n2' (br_f n4' ⟨vi, ?_⟩))
    rw [ba_cl il]
    refine pk_eq (ro_r x) r (fun cr => ⟨vi, ?_⟩) (fun cr => ?_) c2
    · have ns : ro_s x ≠ r := fun z => nsr (z.trans cr.symm)
      rw [if_neg (by rw [← es]; exact ns)] at fin
      rw [if_neg ns] at eq
      rw [eq] at e2
      have cn := (ys_n H' s3 hr e2 b2).1
      refine ba_br c5 (fun af => ?_) (fun at' => ?_)
      · have z : n2 = 0 := by
          rw [List.filter_append, op_l1 h1, List.filter_cons_of_neg, op_l2 H'.1 (ro_u_t.mpr (Or.inl ⟨rfl, af⟩))] at cn
          · exact cn.symm
          · rw [ro_q_t, af]; exact fun z => absurd z.2.1 (by decide)
        rw [if_pos z] at fin
        exact fin
      · have z : n2 ≠ 0 := by
          rw [List.filter_append, op_l1 h1, List.filter_cons_of_pos (ro_q_t.mpr ⟨⟨rfl, cr⟩, at', (sb ns).2⟩)] at cn
          intro z
          rw [z] at cn
          exact absurd cn (by simp)
        rw [if_neg z] at fin
        exact fin
    · have hs : ro_s x = r := by
        apply Classical.byContradiction
        intro z
        exact cr (sb z).1
      rw [if_pos (by rw [← es]; exact hs)] at fin
      rw [if_pos hs] at eq
      rw [eq] at e1
      have cn := (ys_n H' hr r3 e1 b1).2
      refine br_f n1' ⟨vi, ?_⟩
      rw [ba_cl il]
      refine yp_cnt hr r3 (zZ_w H') (by omega) hal' rfl c2 ?_
      rw [cn]
      refine pk_le 4 n1 (fun z => ?_) (fun z => ?_)
      · rw [if_pos z] at fin; exact fin
      · rw [if_neg (by omega)] at fin; exact fin
theorem ys_partner {post : Int32 → SY → Prop} (Z : zY m P ysort yfrom yto ylab yfst ysnd yar) {t r : Nat} {hb : Bool} (H : zZ k m P l a xpl xhT xpk xps xhd xln xqL xqV) (hla : pt_la l) (hal : al l ysen yrec ytold yval yiS yiR) (er : yrows = nI l.length) (ea : yat = nI a) (hr : r < 3) (tm : t < m) (ep : xpl r = nI t) (eh : xhT r = ba_bI hb)
    (hp : ∀ (l : List ro_T) a (sen rec told iS iR met : Nat → Int32), zZ k m P l a xpl xhT xpk xps xhd xln xqL xqV → pt_la l → al l sen rec told yval iS iR → post (nI (xs_q P t r hb)) (ymade, ydep, ysize, nI l.length, nI a, ysend, ysort, yfrom, yto, ylab, yfst, ysnd, yar, ystk, sen, rec, told, yval, iS, iR, ylast, met)) : wpY_partner post (ymade, ydep, ysize, yrows, yat, ysend, ysort, yfrom, yto, ylab, yfst, ysnd, yar, ystk, ysen, yrec, ytold, yval, yiS, yiR, ylast, ymet) (nI r) := by
  have m20 := Z.1.2.1
  unfold wpY_partner
  refine yr_ok hr ?_
  refine br_t rfl ?_
  refine yp_next Z hr H hla hal er ea (fun met none hL => ?_) (fun met t' e none hR tm' k2 => ?_) (fun l1 x l2 a' sen rec told iS iR met H' la' h1 hx hal' _ => ?_)
  · obtain ⟨p1, _⟩ := op_pos0 hr H.2.1 none
    exact absurd (xs_no hL (by omega) p1 ep) id
  · obtain ⟨et, hf, qa, qb⟩ := xs_pick Z.1 H hr none hR k2 tm ep eh
    subst et
    have fin := hp l a _ _ _ _ _ met H hla hal
    by_cases c : P 1 t' = r
    · rw [if_pos c]
      rw [qb c] at fin
      exact br_f (by decide) (br_f (by decide) (br_t rfl (yp_lesser hr fin)))
    · rw [if_neg c]
      rw [qa c] at fin
      exact br_f (by decide) (br_t rfl (yp_picker Z k2 H.1.1 hR rfl fin))
  · have len' := pt_len Z.1 H'.1 la' (zZ_c H')
    obtain ⟨et, es, s3, r3, nsr, eb, _, eq, sa, sb, _⟩ := xs_row Z.1 H' hr h1 hx tm ep eh
    have fin := hp _ a' _ _ _ _ _ met H' la' hal'
    have il : l1.length < 1000 := by
      rw [List.length_append] at len'; omega
    have i6 : l1.length < 600 := by
      rw [List.length_append] at len'; omega
    obtain ⟨n1', n2', n3', n4'⟩ := ba_nm il
    obtain ⟨c1, c2, _⟩ := al_at hal'
    have vi : vp_in (nI l1.length) 600 := ba_in i6 (by omega)
    refine br_f n3' (br_f n2' (br_f n1' ⟨vi, ?_⟩))
    rw [ba_cl il]
    rw [eq] at fin
    refine pk_eq (ro_s x) r (fun cs => ⟨vi, ?_⟩) (fun cs => ⟨vi, ?_⟩) c1
    · rw [if_pos cs] at fin
      rw [c2]; exact fin
    · rw [if_neg cs] at fin
      rw [c1]; exact fin
theorem ys_none {post : Int32 → SY → Prop} (Z : zY m P ysort yfrom yto ylab yfst ysnd yar) {r c : Nat} (H : zZ k m P l a xpl xhT xpk xps xhd xln xqL xqV) (hla : pt_la l) (hal : al l ysen yrec ytold yval yiS yiR) (er : yrows = nI l.length) (ea : yat = nI a) (hr : r < 3) (hc : c < 2) (ep : xpl r = ba_pI c)
    (hp : ∀ met : Nat → Int32, post (-3) (ymade, ydep, ysize, nI l.length, nI a, ysend, ysort, yfrom, yto, ylab, yfst, ysnd, yar, ystk, ysen, yrec, ytold, yval, yiS, yiR, ylast, met)) : wpY_next post (ymade, ydep, ysize, yrows, yat, ysend, ysort, yfrom, yto, ylab, yfst, ysnd, yar, ystk, ysen, yrec, ytold, yval, yiS, yiR, ylast, ymet) (nI r) := by
  have m20 := Z.1.2.1
  obtain ⟨_, hL⟩ := xs_none Z.1 H hr hc ep
  refine yp_next Z hr H hla hal er ea (fun met _ _ => hp met) (fun met t e none hR tm k2 => ?_) (fun l1 x l2 a' sen rec told iS iR met H' la' h1 hx hal' _ => ?_)
  · have := (pa_R_L Z.1 e a t H.1.1 hR).2
    rw [pa_L_2 k2] at this
    omega
  · obtain ⟨p1, _⟩ := op_pos hr H'.2.1 h1 hx
    have := (H'.1.2.2.1 x (List.mem_append_right _ (List.mem_cons_self ..))).1
    exact absurd (xs_no hc (by omega) ep p1) id
end LK
theorem i_vc_state {k : Nat} {u : SX} {v : SY} (I : i_Rel k u v) (hk : k + 4 ≤ 2048) (v1 : Int32) : wpX_state (fun r => wpY_state (fun r' v' => r' = r ∧ i_Rel (k + 4) u v') v v1) u v1 := by
  have I4 := i_up I
  obtain ⟨xsize, xmade, xheight, xsend, xkind, xone, xother, xlabel, xpG, xpH, xtgt, xstk, xlA, xgd, xpl, xhT, xpk, xps, xlast, xhd, xln, xqL, xqV, xseen⟩ := u
  obtain ⟨ymade, ydep, ysize, yrows, yat, ysend, ysort, yfrom, yto, ylab, yfst, ysnd, yar, ystk, ysen, yrec, ytold, yval, yiS, yiR, ylast, ymet⟩ := v
  obtain ⟨mk, ht, Q, S, m, P, l, a, B, ZX, ZY, es, es', H, la, hal, er, ea, el, en⟩ := I
  have m20 := ZX.1.2.1
  rcases ba_role v1 with hb | ⟨r, hr, rfl⟩
  · unfold wpX_state
    refine xr_bad hb ?_
    refine br_f (by decide) ?_
    unfold wpY_state
    refine yr_bad hb ?_
    exact br_f (by decide) ⟨rfl, I4⟩
  · rcases xs_pl ZX.1 H hr with ⟨c, hc, ep⟩ | ⟨t, hb, tm, ep, eh⟩
    · unfold wpX_state
      refine xr_ok hr ?_
      refine br_t rfl ⟨ba_in hr (by omega), ?_⟩
      rw [ba_cl (show r < 1000 by omega), ep]
      refine br_f (ba_pge hc) ?_
      unfold wpY_state
      refine yr_ok hr ?_
      refine br_t rfl ?_
      refine ys_none ZY H la hal er ea hr hc ep (fun met => ?_)
      exact br_t rfl ⟨rfl, mk, ht, Q, S, m, P, l, a, B, ZX, ZY, es, es', zZ_k (by omega) H, la, hal, rfl, rfl, el, en⟩
    · have q3 := xs_q3 (r := r) (hb := hb) ZX.2.1 tm hr
      obtain ⟨_, _, _, e1, b1, _⟩ := H.2.2.1 r (xs_q P t r hb) hr q3
      obtain ⟨_, _, _, e2, b2, _⟩ := H.2.2.1 (xs_q P t r hb) r q3 hr
      refine xs_state ZX hr tm ep eh e1 e2 b1 b2 ?_
      refine ys_state ZY H la hal er ea hr tm ep eh e1 e2 b1 b2 (fun l' a' sen rec told iS iR met H' la' hal' => ⟨rfl, ?_⟩)
      exact ⟨mk, ht, Q, S, m, P, l', a', B, ZX, ZY, es, es', zZ_k (by omega) H', la', hal', rfl, rfl, el, en⟩
theorem i_vc_partner {k : Nat} {u : SX} {v : SY} (I : i_Rel k u v) (hk : k + 4 ≤ 2048) (v1 : Int32) : wpX_partner (fun r => wpY_partner (fun r' v' => r' = r ∧ i_Rel (k + 4) u v') v v1) u v1 := by
  have I4 := i_up I
  obtain ⟨xsize, xmade, xheight, xsend, xkind, xone, xother, xlabel, xpG, xpH, xtgt, xstk, xlA, xgd, xpl, xhT, xpk, xps, xlast, xhd, xln, xqL, xqV, xseen⟩ := u
  obtain ⟨ymade, ydep, ysize, yrows, yat, ysend, ysort, yfrom, yto, ylab, yfst, ysnd, yar, ystk, ysen, yrec, ytold, yval, yiS, yiR, ylast, ymet⟩ := v
  obtain ⟨mk, ht, Q, S, m, P, l, a, B, ZX, ZY, es, es', H, la, hal, er, ea, el, en⟩ := I
  have m20 := ZX.1.2.1
  rcases ba_role v1 with hb | ⟨r, hr, rfl⟩
  · unfold wpX_partner
    refine xr_bad hb ?_
    refine br_f (by decide) ?_
    unfold wpY_partner
    refine yr_bad hb ?_
    exact br_f (by decide) ⟨rfl, I4⟩
  · unfold wpX_partner
    refine xr_ok hr ?_
    refine br_t rfl ⟨ba_in hr (by omega), ?_⟩
    rw [ba_cl (show r < 1000 by omega)]
    rcases xs_pl ZX.1 H hr with ⟨c, hc, ep⟩ | ⟨t, hb, tm, ep, eh⟩
    · rw [ep]
      refine br_f (ba_pge hc) ?_
      unfold wpY_partner
      refine yr_ok hr ?_
      refine br_t rfl ?_
      refine ys_none ZY H la hal er ea hr hc ep (fun met => ?_)
      exact br_t rfl ⟨rfl, mk, ht, Q, S, m, P, l, a, B, ZX, ZY, es, es', zZ_k (by omega) H, la, hal, rfl, rfl, el, en⟩
    · rw [ep]
      refine br_t (nI_pos' (by omega)) ?_
      refine xs_part ZX hr tm ep eh ?_
      refine ys_partner ZY H la hal er ea hr tm ep eh (fun l' a' sen rec told iS iR met H' la' hal' => ⟨rfl, ?_⟩)
      exact ⟨mk, ht, Q, S, m, P, l', a', B, ZX, ZY, es, es', zZ_k (by omega) H', la', hal', rfl, rfl, el, en⟩
end
section
-- ===== sending, receiving, starting again =====
theorem ba_two (x : Int32) : ((x < 0 ∨ (¬ x < 0 ∧ ¬ x ≤ 1)) ∧ ¬ x = 0 ∧ ¬ x = 1) ∨ ∃ c : Nat, c < 2 ∧ x = nI c := by
  rcases pk_ix x (n := 2) (by decide) with h | h | h
  · refine Or.inl ⟨Or.inl h, fun z => ?_, fun z => ?_⟩
    · rw [z] at h; exact absurd h (by decide)
    · rw [z] at h; exact absurd h (by decide)
  · refine Or.inl ?_
    have h3 : (2 : Int32) ≤ x := h
    rw [Int32.le_iff_toInt_le, show (2 : Int32).toInt = 2 from by decide] at h3
    refine ⟨Or.inr ⟨?_, ?_⟩, fun z => ?_, fun z => ?_⟩
    · rw [Int32.lt_iff_toInt_lt, show (0 : Int32).toInt = 0 from by decide]; omega
    · rw [Int32.le_iff_toInt_le, show (1 : Int32).toInt = 1 from by decide]; omega
    · rw [z, show (0 : Int32).toInt = 0 from by decide] at h3; omega
    · rw [z, show (1 : Int32).toInt = 1 from by decide] at h3; omega
  · exact Or.inr h
section SD
variable {m k : Nat} {P : pa_T} {l : List ro_T} {a : Nat} {xsize xmade xheight xsend : Int32} {xkind xone xother xlabel xpG xpH xtgt xstk xlA xgd xpl xhT xpk xps xlast xhd xln xqL xqV xseen : Nat → Int32} {ymade ydep ysize yrows yat ysend : Int32} {ysort yfrom yto ylab yfst ysnd yar ystk ysen yrec ytold yval yiS yiR ylast ymet : Nat → Int32}
theorem xs_send {post : Int32 → SX → Prop} (Z : zX m P xkind xone xother xlabel xpG xpH xtgt) {t r n h p : Nat} {hb : Bool} {v2 v3 : Int32} (hr : r < 3) (tm : t < m) (ep : xpl r = nI t) (eh : xhT r = ba_bI hb) (epk : xpk r = nI p) (p2 : p < 2) (c1 : P 1 t = r) (kt : P 0 t = 1 ∨ P 0 t = 2)
    (en : xln (3 * r + xs_q P t r hb) = nI n) (bn : n ≤ 4) (ed : xhd (3 * r + xs_q P t r hb) = nI h) (bh : h < 4)
    (h4 : n = 4 → post (-4) (xsize, xmade, xheight, xsend, xkind, xone, xother, xlabel, xpG, xpH, xtgt, xstk, xlA, xgd, xpl, xhT, xpk, xps, xlast, xhd, xln, xqL, xqV, xseen))
    (hM : n < 4 → P 0 t = 1 → post (nI (P 3 t)) (xsize, xmade, xheight, xsend + 1, xkind, xone, xother, xlabel, xpG, xpH, xtgt, xstk, xlA, xgd, upd xpl r (ba_pI (pa_L P r (pa_S P (P 4 t)))), xhT, xpk, xps, xlast, xhd, upd xln (3 * r + xs_q P t r hb) (nI (n + 1)), upd xqL (4 * (3 * r + xs_q P t r hb) + (h + n) % 4) (nI (P 3 t)), upd xqV (4 * (3 * r + xs_q P t r hb) + (h + n) % 4) v3, xseen))
    (hB : n < 4 → P 0 t = 2 → hb = false → (v2 < 0 ∨ (¬ v2 < 0 ∧ ¬ v2 ≤ 1)) → ¬ v2 = 0 → ¬ v2 = 1 → post (-1) (xsize, xmade, xheight, xsend, xkind, xone, xother, xlabel, xpG, xpH, xtgt, xstk, xlA, xgd, xpl, xhT, xpk, xps, xlast, xhd, xln, xqL, xqV, xseen))
    (hP : n < 4 → P 0 t = 2 → hb = false → ∀ c, c < 2 → v2 = nI c → post (nI c) (xsize, xmade, xheight, xsend + 1, xkind, xone, xother, xlabel, xpG, xpH, xtgt, xstk, xlA, xgd, xpl, upd xhT r 1, upd xpk r (nI c), upd xps r (xps r + 1), xlast, xhd, upd xln (3 * r + xs_q P t r hb) (nI (n + 1)), upd xqL (4 * (3 * r + xs_q P t r hb) + (h + n) % 4) (nI c), upd xqV (4 * (3 * r + xs_q P t r hb) + (h + n) % 4) v3, xseen))
    (hH : n < 4 → P 0 t = 2 → hb = true → post (nI p) (xsize, xmade, xheight, xsend + 1, xkind, xone, xother, xlabel, xpG, xpH, xtgt, xstk, xlA, xgd, upd xpl r (ba_pI (pa_L P r (pa_S P (if p = 1 then P 5 t else P 4 t)))), upd xhT r 0, xpk, xps, xlast, xhd, upd xln (3 * r + xs_q P t r hb) (nI (n + 1)), upd xqL (4 * (3 * r + xs_q P t r hb) + (h + n) % 4) (nI p), upd xqV (4 * (3 * r + xs_q P t r hb) + (h + n) % 4) v3, xseen)) :
    wpX_send post (xsize, xmade, xheight, xsend, xkind, xone, xother, xlabel, xpG, xpH, xtgt, xstk, xlA, xgd, xpl, xhT, xpk, xps, xlast, xhd, xln, xqL, xqV, xseen) (nI r) v2 v3 := by
  have q3 := xs_q3 (r := r) (hb := hb) Z.2.1 tm hr
  obtain ⟨i20, e0, e1, e2, e3, e4, e5, _, k4, b1, b2, b3⟩ := zX_at Z tm
  have vr : vp_in (nI r) 3 := ba_in hr (by omega)
  have vt : vp_in (nI t) 40 := ba_in (by omega) (by omega)
  have cr : (nI r).toNatClampNeg = r := ba_cl (by omega)
  unfold wpX_send
  refine xr_ok hr ?_
  refine br_t rfl ?_
  refine xs_sends Z hr tm ep (fun _ => ?_) (fun z => absurd c1 z)
  refine br_f (by decide) ?_
  refine xs_part Z hr tm ep eh ?_
  refine xs_qof ⟨ba_in (by omega) (by omega), ?_⟩
  generalize xs_q P t r hb = q at *
  rw [ba_cl (show 3 * r + q < 1000 by omega), en, cr, ep]
  refine pk_eq n 4 (fun z => h4 z) (fun z => ⟨vr, vt, ?_⟩)
  have n4 : n < 4 := by omega
  refine pk_eq (P 0 t) 1 (fun k1 => ?_) (fun k1 => ?_) e0
  · unfold wpX_sendMessage
    refine ⟨vr, ?_⟩
    rw [cr]
    refine nm_r ep ⟨vt, nm_r e3 ?_⟩
    refine xs_put rfl rfl (by omega) bh n4 b3 ed en ?_
    refine ⟨vt, ?_⟩
    refine xw_go Z hr e4 (Z.1.2.2.2.1 t tm k1).1 ?_
    exact hM n4 k1
  · have k2 : P 0 t = 2 := by omega
    obtain ⟨g1, g2, _⟩ := Z.1.2.2.2.2.1 t tm k2
    unfold wpX_sendPick
    refine ⟨vr, ?_⟩
    rw [cr]
    refine nm_r ep ⟨vr, ?_⟩
    refine ba_br eh (fun hf => ?_) (fun ht => ?_)
    · rcases ba_two v2 with ⟨z, z0, z1⟩ | ⟨c, hc, rfl⟩
      · have fin := hB n4 k2 hf z z0 z1
        rcases z with z | ⟨z, z'⟩
        · exact br_t z fin
        · exact br_f z (br_f z' fin)
      · refine br_f (nI_pos (by omega)) (br_t (nI_le (b := 1) (by omega) (by decide)) ⟨vr, ?_⟩)
        rw [ba_vb1, ba_vbc (show c < 100 by omega)]
        refine nm_e ⟨vr, nm_e ⟨vr, vr, nm_e ?_⟩⟩
        refine xs_put rfl rfl (by omega) bh n4 (by omega) ed en ?_
        exact hP n4 k2 hf c hc rfl
    · have fin := hH n4 k2 ht
      refine ⟨vr, nm_r epk ?_⟩
      refine xs_put rfl rfl (by omega) bh n4 (by omega) ed en ?_
      refine ⟨vr, ?_⟩
      rw [ba_vb0]
      refine nm_e ?_
      refine pk_eq p 0 (fun z => ⟨vt, ?_⟩) (fun z => ⟨vt, ?_⟩)
      · refine xw_go Z hr e4 g1 ?_
        rw [if_neg (by omega)] at fin
        exact fin
      · refine xw_go Z hr e5 g2 ?_
        rw [if_pos (by omega)] at fin
        exact fin
theorem ys_128 {post : Int32 → SY → Prop} {l1 l2 : List ro_T} {x : ro_T} {v3 : Int32} (hi : l1.length < 600) (hal : al (l1 ++ x :: l2) ysen yrec ytold yval yiS yiR)
    (hp : al (l1 ++ ro_sd x v3 :: l2) ysen yrec ytold (upd yval l1.length v3) (upd yiS l1.length 1) yiR → post (nI (ro_l x)) (ymade, ydep, ysize, yrows, yat, ysend + 1, ysort, yfrom, yto, ylab, yfst, ysnd, yar, ystk, ysen, yrec, ytold, upd yval l1.length v3, upd yiS l1.length 1, yiR, ylast, ymet)) : wY_send_128 post v3 (nI l1.length) ymade ydep ysize yrows yat ysend ysort yfrom yto ylab yfst ysnd yar ystk ysen yrec ytold yval yiS yiR ylast ymet := by
  have vi : vp_in (nI l1.length) 600 := ba_in hi (by omega)
  obtain ⟨c1, c2, c3, c4, c5, c6⟩ := al_at hal
  refine ⟨vi, ?_⟩
  rw [ba_cl (show l1.length < 1000 by omega), ba_vb1]
  refine nm_e ⟨vi, nm_e (nm_e ⟨vi, ?_⟩)⟩
  rw [c3]
  refine hp (al_rep hal ?_ (fun j hj => ⟨rfl, rfl, rfl, pk_un hj, pk_un hj, rfl⟩))
  unfold al_c
  rw [pk_us, pk_us]
  exact ⟨c1, c2, c3, rfl, rfl, c6⟩
/-- behind the forgetting -/
theorem zZ_f (H : zZ k m P l a xpl xhT xpk xps xhd xln xqL xqV) : zZ k m P (l.filter (fun x => !ro_k x)) a xpl xhT xpk xps xhd xln xqL xqV := ⟨(op_fco H.1).1, op_fpl H.2.1, op_fq H.2.2.1, op_fp H.2.2.2⟩
theorem ys_send {post : Int32 → SY → Prop} (Z : zY m P ysort yfrom yto ylab yfst ysnd yar) {t r n : Nat} {hb : Bool} {v2 v3 : Int32} (H : zZ k m P l a xpl xhT xpk xps xhd xln xqL xqV) (hla : pt_la l) (hal : al l ysen yrec ytold yval yiS yiR) (er : yrows = nI l.length) (ea : yat = nI a) (hr : r < 3) (tm : t < m) (ep : xpl r = nI t) (eh : xhT r = ba_bI hb) (c1 : P 1 t = r)
    (en : xln (3 * r + xs_q P t r hb) = nI n) (bn : n ≤ 4)
    (h4 : n = 4 → ∀ (l : List ro_T) a (sen rec told val iS iR met : Nat → Int32), zZ k m P l a xpl xhT xpk xps xhd xln xqL xqV → pt_la l → al l sen rec told val iS iR → post (-4) (ymade, ydep, ysize, nI l.length, nI a, ysend, ysort, yfrom, yto, ylab, yfst, ysnd, yar, ystk, sen, rec, told, val, iS, iR, ylast, met))
    (hS : n < 4 → ∀ (l1 : List ro_T) x l2 a (sen rec told val iS iR met : Nat → Int32), zZ k m P (l1 ++ x :: l2) a xpl xhT xpk xps xhd xln xqL xqV → pt_la (l1 ++ x :: l2) → (∀ y, y ∈ l1 → ro_u r y = false) → ro_u r x = true → al (l1 ++ ro_sd x v3 :: l2) sen rec told val iS iR → post (nI (ro_l x)) (ymade, ydep, ysize, nI (l1 ++ x :: l2).length, nI a, ysend + 1, ysort, yfrom, yto, ylab, yfst, ysnd, yar, ystk, sen, rec, told, val, iS, iR, ylast, met))
    (hB : n < 4 → P 0 t = 2 → hb = false → ¬ v2 = 0 → ¬ v2 = 1 → ∀ (l : List ro_T) a (sen rec told val iS iR met : Nat → Int32), zZ k m P l a xpl xhT xpk xps xhd xln xqL xqV → pt_la l → al l sen rec told val iS iR → post (-1) (ymade, ydep, ysize, nI l.length, nI a, ysend, ysort, yfrom, yto, ylab, yfst, ysnd, yar, ystk, sen, rec, told, val, iS, iR, ylast, met))
    (hP : n < 4 → P 0 t = 2 → hb = false → ∀ c, c < 2 → v2 = nI c → ∀ (l : List ro_T) (w : Int32) (sen rec told val iS iR met : Nat → Int32), zZ k m P l t xpl xhT xpk xps xhd xln xqL xqV → (∀ y, y ∈ l → ro_u r y = false) → al (l ++ ru_2 r c t v3 w) sen rec told val iS iR → post (nI c) (ymade, ydep, ysize, nI (l.length + 2), nI (pa_S P (if c = 1 then P 5 t else P 4 t)), ysend + 1, ysort, yfrom, yto, ylab, yfst, ysnd, yar, ystk, sen, rec, told, val, iS, iR, ylast, met)) :
    wpY_send post (ymade, ydep, ysize, yrows, yat, ysend, ysort, yfrom, yto, ylab, yfst, ysnd, yar, ystk, ysen, yrec, ytold, yval, yiS, yiR, ylast, ymet) (nI r) v2 v3 := by
  have m20 := Z.1.2.1
  have q3 := xs_q3 (r := r) (hb := hb) Z.2.1 tm hr
  have len := pt_len Z.1 H.1 hla (zZ_c H)
  have H0 := zZ_f H
  have la0 := op_fla H.1 hla
  unfold wpY_send
  refine yr_ok hr ?_
  refine br_t rfl ?_
  refine yp_forget (l := l) (by omega) hal er (fun sen0 rec0 told0 val0 iS0 iR0 hal0 => ?_)
  have len0 := pt_len Z.1 H0.1 la0 (zZ_c H0)
  refine yp_next Z hr H0 la0 hal0 rfl ea (fun met none hL => ?_) (fun met t' e none hR tm' k2 => ?_) (fun l1 x l2 a' sen rec told iS iR met H' la' h1 hx hal' _ => ?_)
  · obtain ⟨p1, _⟩ := op_pos0 hr H0.2.1 none
    exact absurd (xs_no hL (by omega) p1 ep) id
  · obtain ⟨et, hf, qa, qb⟩ := xs_pick Z.1 H0 hr none hR k2 tm ep eh
    subst et
    rw [if_pos c1]
    rw [qb c1] at en
    have cn := (ys_n H0 hr (ro_lg hr).1 en bn).2
    refine br_f (by decide) (br_f (by decide) (br_t (by decide) (br_t rfl ?_)))
    refine yp_lesser hr ?_
    refine yp_cnt hr (ro_lg hr).1 (zZ_w H0) (by omega) hal0 rfl rfl ?_
    rw [cn]
    refine pk_lt n 4 (fun n4 => ?_) (fun n4 => h4 (by omega) _ a _ _ _ _ _ _ met H0 la0 hal0)
    refine br_t rfl ?_
    have e19 := pa_R_19 Z.1 H.1.1 hR (fun z => by have := z.1; omega)
    have pick : ∀ c, c < 2 → v2 = nI c → wY_send_111 post (nI r) v2 v3 (-1) ymade ydep ysize (nI (l.filter (fun x => !ro_k x)).length) (nI a) ysend ysort yfrom yto ylab yfst ysnd yar ystk sen0 rec0 told0 val0 iS0 iR0 ylast met := by
      intro c hc e2
      subst e2
      refine br_t rfl ?_
      refine ⟨e + 1, ?_⟩
      refine yp_p0 Z (ck := 0) hr k2 hc (fun l' v w sen rec told iS iR H' none' b' _ _ hal' => ?_) e _ a _ _ _ _ _ _ hR (by omega) (by omega) H0 hal0 none (op_fco H.1).2
      refine ys_128 (l1 := l') (l2 := [ru_h r (ro_gr r) c t' w false]) (x := ru_h r (ro_le r) c t' v false) (by omega) hal' (fun hal2 => ?_)
      exact hP n4 k2 hf c hc rfl l' w _ _ _ _ _ _ met H' none' hal2
    rcases ba_two v2 with ⟨_, z0, z1⟩ | ⟨c, hc, e2⟩
    · exact br_f z0 (br_f z1 (hB n4 k2 hf z0 z1 _ a _ _ _ _ _ _ met H0 la0 hal0))
    · rcases (show c = 0 ∨ c = 1 by omega) with rfl | rfl
      · exact br_t e2 (pick 0 hc e2)
      · exact br_f (by rw [e2]; decide) (br_t e2 (pick 1 hc e2))
  · have len' := pt_len Z.1 H'.1 la' (zZ_c H')
    obtain ⟨et, es, s3, r3, nsr, eb, _, eq, sa, sb, _⟩ := xs_row Z.1 H' hr h1 hx tm ep eh
    have il : l1.length < 1000 := by
      rw [List.length_append] at len'; omega
    have i6 : l1.length < 600 := by
      rw [List.length_append] at len'; omega
    obtain ⟨n1', n2', n3', n4'⟩ := ba_nm il
    obtain ⟨d1, d2, _, _, _, _⟩ := al_at hal'
    have vi : vp_in (nI l1.length) 600 := ba_in i6 (by omega)
    have hs : ro_s x = r := es.trans c1
    rw [if_pos hs] at eq
    rw [eq] at en
    have cn := (ys_n H' hr r3 en bn).2
    refine br_f n2' (br_f n3' (br_f n4' ⟨vi, ?_⟩))
    rw [ba_cl il]
    refine pk_eq (ro_s x) r (fun _ => ?_) (fun z => absurd hs z) d1
    refine br_f n1' ⟨vi, ?_⟩
    rw [ba_cl il]
    refine yp_cnt hr r3 (zZ_w H') (by omega) hal' rfl d2 ?_
    rw [cn]
    refine pk_lt n 4 (fun n4 => ?_) (fun n4 => h4 (by omega) _ a' _ _ _ _ _ _ met H' la' hal')
    refine br_f n1' (br_f n1' ?_)
    refine ys_128 i6 hal' (fun hal2 => ?_)
    exact hS n4 l1 x l2 a' _ _ _ _ _ _ met H' la' h1 hx hal2
/-- no sending: the role is over, or waits for another one -/
theorem ys_send0 {post : Int32 → SY → Prop} (Z : zY m P ysort yfrom yto ylab yfst ysnd yar) {r : Nat} {v2 v3 : Int32} (H : zZ k m P l a xpl xhT xpk xps xhd xln xqL xqV) (hla : pt_la l) (hal : al l ysen yrec ytold yval yiS yiR) (er : yrows = nI l.length) (ea : yat = nI a) (hr : r < 3)
    (hc : (∃ c, c < 2 ∧ xpl r = ba_pI c) ∨ ∃ t hb, t < m ∧ xpl r = nI t ∧ xhT r = ba_bI hb ∧ P 1 t ≠ r)
    (h4 : ∀ (l : List ro_T) a (sen rec told val iS iR met : Nat → Int32), zZ k m P l a xpl xhT xpk xps xhd xln xqL xqV → pt_la l → al l sen rec told val iS iR → post (-4) (ymade, ydep, ysize, nI l.length, nI a, ysend, ysort, yfrom, yto, ylab, yfst, ysnd, yar, ystk, sen, rec, told, val, iS, iR, ylast, met)) :
    wpY_send post (ymade, ydep, ysize, yrows, yat, ysend, ysort, yfrom, yto, ylab, yfst, ysnd, yar, ystk, ysen, yrec, ytold, yval, yiS, yiR, ylast, ymet) (nI r) v2 v3 := by
  have m20 := Z.1.2.1
  have len := pt_len Z.1 H.1 hla (zZ_c H)
  have H0 := zZ_f H
  have la0 := op_fla H.1 hla
  unfold wpY_send
  refine yr_ok hr ?_
  refine br_t rfl ?_
  refine yp_forget (l := l) (by omega) hal er (fun sen0 rec0 told0 val0 iS0 iR0 hal0 => ?_)
  rcases hc with ⟨c, hc, ep⟩ | ⟨t, hb, tm, ep, eh, c1⟩
  · refine ys_none Z H0 la0 hal0 rfl ea hr hc ep (fun met => ?_)
    exact br_f (by decide) (br_t rfl (h4 _ a _ _ _ _ _ _ met H0 la0 hal0))
  · refine yp_next Z hr H0 la0 hal0 rfl ea (fun met none hL => ?_) (fun met t' e none hR tm' k2 => ?_) (fun l1 x l2 a' sen rec told iS iR met H' la' h1 hx hal' _ => ?_)
    · exact br_f (by decide) (br_t rfl (h4 _ a _ _ _ _ _ _ met H0 la0 hal0))
    · obtain ⟨et, hf, qa, qb⟩ := xs_pick Z.1 H0 hr none hR k2 tm ep eh
      subst et
      rw [if_neg c1]
      exact br_t rfl (h4 _ a _ _ _ _ _ _ met H0 la0 hal0)
    · have len' := pt_len Z.1 H'.1 la' (zZ_c H')
      obtain ⟨et, es, s3, r3, nsr, eb, _, eq, sa, sb, _⟩ := xs_row Z.1 H' hr h1 hx tm ep eh
      have il : l1.length < 1000 := by
        rw [List.length_append] at len'; omega
      have i6 : l1.length < 600 := by
        rw [List.length_append] at len'; omega
      obtain ⟨n1', n2', n3', n4'⟩ := ba_nm il
      obtain ⟨d1, _⟩ := al_at hal'
      refine br_f n2' (br_f n3' (br_f n4' ⟨ba_in i6 (by omega), ?_⟩))
      rw [ba_cl il]
      exact pk_eq (ro_s x) r (fun z => absurd (es.symm.trans z) c1) (fun _ => h4 _ a' _ _ _ _ _ _ met H' la' hal') d1
end SD
end
section
-- ===== receiving; the joined theorems of sending and receiving =====
section RC
variable {m k : Nat} {P : pa_T} {l : List ro_T} {a : Nat} {xsize xmade xheight xsend : Int32} {xkind xone xother xlabel xpG xpH xtgt xstk xlA xgd xpl xhT xpk xps xlast xhd xln xqL xqV xseen : Nat → Int32} {ymade ydep ysize yrows yat ysend : Int32} {ysort yfrom yto ylab yfst ysnd yar ystk ysen yrec ytold yval yiS yiR ylast ymet : Nat → Int32}
theorem xs_recv {post : Int32 → SX → Prop} (Z : zX m P xkind xone xother xlabel xpG xpH xtgt) {t r n h lbl : Nat} {v : Int32} (hr : r < 3) (tm : t < m) (ep : xpl r = nI t) (c1 : P 1 t ≠ r) (kt : P 0 t = 1 ∨ P 0 t = 2)
    (en : xln (3 * P 1 t + r) = nI n) (bn : n ≤ 4) (ed : xhd (3 * P 1 t + r) = nI h) (bh : h < 4) (eq : 0 < n → xqL (4 * (3 * P 1 t + r) + h) = nI lbl ∧ xqV (4 * (3 * P 1 t + r) + h) = v ∧ lbl < 4)
    (h0 : n = 0 → post (-4) (xsize, xmade, xheight, xsend, xkind, xone, xother, xlabel, xpG, xpH, xtgt, xstk, xlA, xgd, xpl, xhT, xpk, xps, xlast, xhd, xln, xqL, xqV, xseen))
    (h1 : 0 < n → ∀ xps' : Nat → Int32, (P 0 t = 2 → xps' r = xps r + 1) → (P 0 t ≠ 2 → xps' r = xps r) → (∀ q, q ≠ r → xps' q = xps q) → post (nI lbl) (xsize, xmade, xheight, xsend, xkind, xone, xother, xlabel, xpG, xpH, xtgt, xstk, xlA, xgd, upd xpl r (ba_pI (pa_L P r (pa_S P (if P 0 t = 2 ∧ lbl = 1 then P 5 t else P 4 t)))), xhT, xpk, xps', upd xlast r v, upd xhd (3 * P 1 t + r) (nI ((h + 1) % 4)), upd xln (3 * P 1 t + r) (nI (n - 1)), xqL, xqV, xseen)) :
    wpX_receive post (xsize, xmade, xheight, xsend, xkind, xone, xother, xlabel, xpG, xpH, xtgt, xstk, xlA, xgd, xpl, xhT, xpk, xps, xlast, xhd, xln, xqL, xqV, xseen) (nI r) := by
  obtain ⟨i20, e0, e1, e2, e3, e4, e5, _, k4, b1, b2, b3⟩ := zX_at Z tm
  have vr : vp_in (nI r) 3 := ba_in hr (by omega)
  have vt : vp_in (nI t) 40 := ba_in (by omega) (by omega)
  have cr : (nI r).toNatClampNeg = r := ba_cl (by omega)
  unfold wpX_receive
  refine xr_ok hr ?_
  refine br_t rfl ⟨vr, ?_⟩
  rw [cr]
  refine nm_r ep (br_f (nI_pos (by omega)) ⟨vt, ?_⟩)
  rw [e1]
  refine br_f (ba_ne c1 (by omega) (by omega)) ⟨vt, ?_⟩
  refine xs_qof ⟨ba_in (by omega) (by omega), ?_⟩
  rw [ba_cl (show 3 * P 1 t + r < 1000 by omega), en]
  refine pk_eq n 0 (fun z => h0 z) (fun z => ?_)
  have n0 : 0 < n := by omega
  obtain ⟨q1, q2, q3⟩ := eq n0
  refine xs_take rfl (by omega) hr bh n0 bn ed en q1 q2 ?_
  refine ⟨vt, ?_⟩
  refine pk_eq (P 0 t) 2 (fun k2 => ⟨vr, vr, ?_⟩) (fun k2 => ?_) e0
  · have fin := h1 n0 (upd xps r (xps r + 1)) (fun _ => pk_us) (fun z => absurd k2 z) (fun q hq => pk_un hq)
    obtain ⟨g1, g2, _⟩ := Z.1.2.2.2.2.1 t tm k2
    refine nm_e ⟨vt, ?_⟩
    refine pk_eq (P 0 t) 2 (fun _ => ?_) (fun z => absurd k2 z) e0
    refine pk_eq lbl 1 (fun l1 => ⟨vt, ?_⟩) (fun l1 => ⟨vt, ?_⟩)
    · refine xw_go Z hr e5 g2 ?_
      rw [if_pos ⟨k2, l1⟩] at fin
      exact fin
    · refine xw_go Z hr e4 g1 ?_
      rw [if_neg (fun z => l1 z.2)] at fin
      exact fin
  · have fin := h1 n0 xps (fun z => absurd z k2) (fun _ => rfl) (fun q hq => rfl)
    refine ⟨vt, ?_⟩
    refine pk_eq (P 0 t) 2 (fun z => absurd z k2) (fun _ => ⟨vt, ?_⟩) e0
    refine xw_go Z hr e4 (Z.1.2.2.2.1 t tm (by omega)).1 ?_
    rw [if_neg (fun z => k2 z.1)] at fin
    exact fin
theorem ys_recv {post : Int32 → SY → Prop} (Z : zY m P ysort yfrom yto ylab yfst ysnd yar) {t r n : Nat} {hb : Bool} (H : zZ k m P l a xpl xhT xpk xps xhd xln xqL xqV) (hla : pt_la l) (hal : al l ysen yrec ytold yval yiS yiR) (er : yrows = nI l.length) (ea : yat = nI a) (hr : r < 3) (tm : t < m) (ep : xpl r = nI t) (eh : xhT r = ba_bI hb) (c1 : P 1 t ≠ r)
    (en : xln (3 * P 1 t + r) = nI n) (bn : n ≤ 4)
    (h0 : n = 0 → ∀ (l : List ro_T) a (sen rec told val iS iR met : Nat → Int32), zZ k m P l a xpl xhT xpk xps xhd xln xqL xqV → pt_la l → al l sen rec told val iS iR → post (-4) (ymade, ydep, ysize, nI l.length, nI a, ysend, ysort, yfrom, yto, ylab, yfst, ysnd, yar, ystk, sen, rec, told, val, iS, iR, ylast, met))
    (h1 : 0 < n → ∀ (l1 : List ro_T) x l2 a (sen rec told val iS iR met : Nat → Int32), zZ k m P (l1 ++ x :: l2) a xpl xhT xpk xps xhd xln xqL xqV → pt_la (l1 ++ x :: l2) → (l1 ++ x :: l2).countP ro_k = 0 → (∀ y, y ∈ l1 → ro_u r y = false) → ro_u r x = true → ro_a x = true → al (l1 ++ ro_rc x :: l2) sen rec told val iS iR →
      post (nI (ro_l x)) (ymade, ydep, ysize, nI (l1 ++ x :: l2).length, nI a, ysend, ysort, yfrom, yto, ylab, yfst, ysnd, yar, ystk, sen, rec, told, val, iS, iR, upd ylast r (ro_v x), met)) :
    wpY_receive post (ymade, ydep, ysize, yrows, yat, ysend, ysort, yfrom, yto, ylab, yfst, ysnd, yar, ystk, ysen, yrec, ytold, yval, yiS, yiR, ylast, ymet) (nI r) := by
  have m20 := Z.1.2.1
  have q3 := xs_q3 (r := r) (hb := hb) Z.2.1 tm hr
  have len := pt_len Z.1 H.1 hla (zZ_c H)
  have H0 := zZ_f H
  have la0 := op_fla H.1 hla
  have p13 := (Z.2.1 t tm).2.1
  unfold wpY_receive
  refine yr_ok hr ?_
  refine br_t rfl ?_
  refine yp_forget (l := l) (by omega) hal er (fun sen0 rec0 told0 val0 iS0 iR0 hal0 => ?_)
  have len0 := pt_len Z.1 H0.1 la0 (zZ_c H0)
  refine yp_next Z hr H0 la0 hal0 rfl ea (fun met none hL => ?_) (fun met t' e none hR tm' k2 => ?_) (fun l1 x l2 a' sen rec told iS iR met H' la' hn hx hal' ck => ?_)
  · obtain ⟨p1, _⟩ := op_pos0 hr H0.2.1 none
    exact absurd (xs_no hL (by omega) p1 ep) id
  · have cn := (ys_n H0 p13 hr en bn).1
    rw [op_l1 none] at cn
    have z0 : n = 0 := cn.symm
    have fin := h0 z0 _ a _ _ _ _ _ _ met H0 la0 hal0
    refine br_t ?_ fin
    split <;> decide
  · have len' := pt_len Z.1 H'.1 la' (zZ_c H')
    obtain ⟨et, es, s3, r3, nsr, eb, _, eq, sa, sb, _⟩ := xs_row Z.1 H' hr hn hx tm ep eh
    have il : l1.length < 1000 := by
      rw [List.length_append] at len'; omega
    have i6 : l1.length < 600 := by
      rw [List.length_append] at len'; omega
    obtain ⟨n1', n2', n3', n4'⟩ := ba_nm il
    obtain ⟨d1, d2, d3, d4, d5, d6⟩ := al_at hal'
    have vi : vp_in (nI l1.length) 600 := ba_in i6 (by omega)
    have ns : ro_s x ≠ r := by rw [es]; exact c1
    obtain ⟨hrr, hbf⟩ := sb ns
    rw [← es] at en
    have cn := (ys_n H' s3 hr en bn).1
    refine br_f n4' ⟨vi, ?_⟩
    rw [ba_cl il]
    refine pk_eq (ro_r x) r (fun _ => ⟨vi, ?_⟩) (fun z => absurd hrr z) d2
    refine ba_br d5 (fun af => ?_) (fun at' => ⟨vi, ?_⟩)
    · have z : n = 0 := by
        rw [List.filter_append, op_l1 hn, List.filter_cons_of_neg, op_l2 H'.1 (ro_u_t.mpr (Or.inl ⟨rfl, af⟩))] at cn
        · exact cn.symm
        · rw [ro_q_t, af]; exact fun z => absurd z.2.1 (by decide)
      exact h0 z _ a' _ _ _ _ _ _ met H' la' hal'
    · have z : 0 < n := by
        rw [List.filter_append, op_l1 hn, List.filter_cons_of_pos (ro_q_t.mpr ⟨⟨rfl, hrr⟩, at', hbf⟩)] at cn
        rw [← cn]; simp
      rw [ba_vb1, ba_cl (show r < 1000 by omega), d3, d4]
      refine nm_e ⟨vi, ba_in hr (by omega), nm_e ⟨vi, ?_⟩⟩
      refine h1 z l1 x l2 a' _ _ _ _ _ _ met H' la' (ck.trans (op_fco H.1).2) hn hx at' (al_rep hal' ?_ (fun j hj => ⟨rfl, rfl, rfl, rfl, rfl, pk_un hj⟩))
      unfold al_c
      rw [pk_us]
      exact ⟨d1, d2, d3, d4, d5, rfl⟩
theorem ys_recv0 {post : Int32 → SY → Prop} (Z : zY m P ysort yfrom yto ylab yfst ysnd yar) {r : Nat} (H : zZ k m P l a xpl xhT xpk xps xhd xln xqL xqV) (hla : pt_la l) (hal : al l ysen yrec ytold yval yiS yiR) (er : yrows = nI l.length) (ea : yat = nI a) (hr : r < 3)
    (hc : (∃ c, c < 2 ∧ xpl r = ba_pI c) ∨ ∃ t hb, t < m ∧ xpl r = nI t ∧ xhT r = ba_bI hb ∧ P 1 t = r)
    (h4 : ∀ (l : List ro_T) a (sen rec told val iS iR met : Nat → Int32), zZ k m P l a xpl xhT xpk xps xhd xln xqL xqV → pt_la l → al l sen rec told val iS iR → post (-4) (ymade, ydep, ysize, nI l.length, nI a, ysend, ysort, yfrom, yto, ylab, yfst, ysnd, yar, ystk, sen, rec, told, val, iS, iR, ylast, met)) :
    wpY_receive post (ymade, ydep, ysize, yrows, yat, ysend, ysort, yfrom, yto, ylab, yfst, ysnd, yar, ystk, ysen, yrec, ytold, yval, yiS, yiR, ylast, ymet) (nI r) := by
  have m20 := Z.1.2.1
  have len := pt_len Z.1 H.1 hla (zZ_c H)
  have H0 := zZ_f H
  have la0 := op_fla H.1 hla
  unfold wpY_receive
  refine yr_ok hr ?_
  refine br_t rfl ?_
  refine yp_forget (l := l) (by omega) hal er (fun sen0 rec0 told0 val0 iS0 iR0 hal0 => ?_)
  rcases hc with ⟨c, hc, ep⟩ | ⟨t, hb, tm, ep, eh, c1⟩
  · refine ys_none Z H0 la0 hal0 rfl ea hr hc ep (fun met => ?_)
    exact br_t (by decide) (h4 _ a _ _ _ _ _ _ met H0 la0 hal0)
  · refine yp_next Z hr H0 la0 hal0 rfl ea (fun met none hL => ?_) (fun met t' e none hR tm' k2 => ?_) (fun l1 x l2 a' sen rec told iS iR met H' la' h1 hx hal' _ => ?_)
    · exact br_t (by decide) (h4 _ a _ _ _ _ _ _ met H0 la0 hal0)
    · refine br_t ?_ (h4 _ a _ _ _ _ _ _ met H0 la0 hal0)
      split <;> decide
    · have len' := pt_len Z.1 H'.1 la' (zZ_c H')
      obtain ⟨et, es, s3, r3, nsr, eb, _, eq, sa, sb, _⟩ := xs_row Z.1 H' hr h1 hx tm ep eh
      have il : l1.length < 1000 := by
        rw [List.length_append] at len'; omega
      have i6 : l1.length < 600 := by
        rw [List.length_append] at len'; omega
      obtain ⟨n1', n2', n3', n4'⟩ := ba_nm il
      obtain ⟨d1, d2, _⟩ := al_at hal'
      refine br_f n4' ⟨ba_in i6 (by omega), ?_⟩
      rw [ba_cl il]
      exact pk_eq (ro_r x) r (fun z => absurd ((es.trans c1).trans z.symm) nsr) (fun _ => h4 _ a' _ _ _ _ _ _ met H' la' hal') d2
/-- at a place: a message of the role's or a choose -/
theorem xs_kt {r t : Nat} (W : pa_W m P) (H : zZ k m P l a xpl xhT xpk xps xhd xln xqL xqV) (hr : r < 3) (tm : t < m) (ep : xpl r = nI t) : P 0 t = 1 ∨ P 0 t = 2 := by
  have m20 := W.2.1
  rcases pt_left r l with h | ⟨l1, x, l2, e, h1, hx⟩
  · obtain ⟨p1, _⟩ := op_pos0 hr H.2.1 h
    have b := pa_L_m W (r := r) H.1.1
    have key : ∀ f i, i < m → P 0 i < 3 → pa_lf P r f i = t + 2 → P 0 t = 1 ∨ P 0 t = 2 := by
      intro f
      induction f with
      | zero =>
        intro i im ik h
        have h' : pa_cd P i = t + 2 := h
        unfold pa_cd at h'
        split at h'
        · rename_i z; rw [show t = i from by omega]; exact Or.inr z
        · split at h' <;> omega
      | succ f ih =>
        intro i im ik h
        rw [pa_lf_s] at h
        split at h
        · rename_i z
          split at h
          · rw [show t = i from by omega]; exact Or.inl z
          · have g := (W.2.2.2.1 i im z).1
            exact ih _ (pa_S_m W g) (pa_S_k W g) h
        · have h' : pa_cd P i = t + 2 := h
          unfold pa_cd at h'
          split at h'
          · rename_i z; rw [show t = i from by omega]; exact Or.inr z
          · split at h' <;> omega
    refine key 21 a H.1.1 H.1.2.1 ?_
    show pa_L P r a = t + 2
    rcases Nat.lt_or_ge (pa_L P r a) 2 with z | z
    · exact absurd (xs_no z (by omega) p1 ep) id
    · have e2 : ba_pI (pa_L P r a) = nI (pa_L P r a - 2) := by
        rw [show pa_L P r a = (pa_L P r a - 2) + 2 from by omega]; rfl
      rw [e2] at p1
      have := ba_eq (p1.symm.trans ep) (by omega) (by omega)
      omega
  · subst e
    obtain ⟨p1, _⟩ := op_pos hr H.2.1 h1 hx
    obtain ⟨w1, _, _, _, _, _, _, w8⟩ := H.1.2.2.1 x (List.mem_append_right _ (List.mem_cons_self ..))
    have et : ro_t x = t := ba_eq (p1.symm.trans ep) (by omega) (by omega)
    rw [et] at w8
    rcases w8 with w8 | w8
    · exact Or.inl w8.1
    · exact Or.inr w8.1
end RC
theorem i_vc_send {k : Nat} {u : SX} {v : SY} (I : i_Rel k u v) (hk : k + 4 ≤ 2048) (v1 : Int32) (v2 : Int32) (v3 : Int32) : wpX_send (fun r u' => wpY_send (fun r' v' => r' = r ∧ i_Rel (k + 4) u' v') v v1 v2 v3) u v1 v2 v3 := by
  have I4 := i_up I
  obtain ⟨xsize, xmade, xheight, xsend, xkind, xone, xother, xlabel, xpG, xpH, xtgt, xstk, xlA, xgd, xpl, xhT, xpk, xps, xlast, xhd, xln, xqL, xqV, xseen⟩ := u
  obtain ⟨ymade, ydep, ysize, yrows, yat, ysend, ysort, yfrom, yto, ylab, yfst, ysnd, yar, ystk, ysen, yrec, ytold, yval, yiS, yiR, ylast, ymet⟩ := v
  obtain ⟨mk, ht, Q, S, m, P, l, a, B, ZX, ZY, es, es', H, la, hal, er, ea, el, en⟩ := I
  have m20 := ZX.1.2.1
  rcases ba_role v1 with hb | ⟨r, hr, rfl⟩
  · unfold wpX_send
    refine xr_bad hb ?_
    refine br_f (by decide) ?_
    unfold wpY_send
    refine yr_bad hb ?_
    exact br_f (by decide) ⟨rfl, I4⟩
  · have rel : ∀ (l : List ro_T) a (sen rec told val iS iR met : Nat → Int32), zZ k m P l a xpl xhT xpk xps xhd xln xqL xqV → pt_la l → al l sen rec told val iS iR → i_Rel (k + 4) (xsize, xmade, xheight, xsend, xkind, xone, xother, xlabel, xpG, xpH, xtgt, xstk, xlA, xgd, xpl, xhT, xpk, xps, xlast, xhd, xln, xqL, xqV, xseen) (ymade, ydep, ysize, nI l.length, nI a, ysend, ysort, yfrom, yto, ylab, yfst, ysnd, yar, ystk, sen, rec, told, val, iS, iR, ylast, met) :=
      fun l' a' sen rec told val iS iR met H' la' hal' => ⟨mk, ht, Q, S, m, P, l', a', B, ZX, ZY, es, es', zZ_k (by omega) H', la', hal', rfl, rfl, el, en⟩
    rcases xs_pl ZX.1 H hr with ⟨c, hc, ep⟩ | ⟨t, hb, tm, ep, eh⟩
    · unfold wpX_send
      refine xr_ok hr ?_
      refine br_t rfl ?_
      refine xs_sends0 hr hc ep ?_
      refine br_t rfl ?_
      exact ys_send0 ZY H la hal er ea hr (Or.inl ⟨c, hc, ep⟩) (fun l' a' sen rec told val iS iR met H' la' hal' => ⟨rfl, rel l' a' sen rec told val iS iR met H' la' hal'⟩)
    · by_cases c1 : P 1 t = r
      · have q3 := xs_q3 (r := r) (hb := hb) ZX.2.1 tm hr
        obtain ⟨h, bh, ed, e1, b1, _⟩ := H.2.2.1 r (xs_q P t r hb) hr q3
        obtain ⟨_, _, p, _, _, epk, p2, _⟩ := H.2.1 r hr
        have kt := xs_kt ZX.1 H hr tm ep
        generalize hn : (l.filter (ro_q r (xs_q P t r hb))).length = n at *
        refine xs_send ZX hr tm ep eh epk p2 c1 kt e1 b1 ed bh (fun n4 => ?_) (fun n4 k1 => ?_) (fun n4 k2 hf z z0 z1 => ?_) (fun n4 k2 hf c hc ev => ?_) (fun n4 k2 hT => ?_)
        · exact ys_send ZY H la hal er ea hr tm ep eh c1 e1 b1 (fun _ l' a' sen rec told val iS iR met H' la' hal' => ⟨rfl, rel l' a' sen rec told val iS iR met H' la' hal'⟩) (fun z => absurd n4 (by omega)) (fun z => absurd n4 (by omega)) (fun z => absurd n4 (by omega))
        · refine ys_send ZY H la hal er ea hr tm ep eh c1 e1 b1 (fun z => absurd n4 (by omega)) (fun _ l1 x l2 a' sen rec told val iS iR met H' la' hn' hx hal' => ?_) (fun _ z => absurd k1 (by omega)) (fun _ z => absurd k1 (by omega))
          obtain ⟨xt, xs, s3, r3, nsr, xb, xp, xq, sa, sb, l4, lm, _⟩ := xs_row ZX.1 H' hr hn' hx tm ep eh
          have hs : ro_s x = r := xs.trans c1
          rw [if_pos hs] at xq
          have hf : hb = false := by rw [xb, decide_eq_false_iff_not]; omega
          have nn : ((l1 ++ x :: l2).filter (ro_q r (ro_r x))).length = n := by
            rw [xq] at e1; exact (ys_n H' hr r3 e1 b1).1
          have rn : ro_n P x = pa_S P (P 4 t) := by
            unfold ro_n; rw [xt, if_neg (by omega)]
          rw [xq] at ed ⊢
          refine ⟨congrArg nI (lm k1), mk, ht, Q, S, m, P, l1 ++ ro_sd x v3 :: l2, a', B, ZX, ZY, es, es', ⟨op_sco H'.1 hn' hs (sa hs) v3, ?_, ?_, ?_⟩, op_sla v3 la', hal', by simp, rfl, el, by rw [en]⟩
          · refine op_spl hr H'.2.1 hn' hs nsr (sa hs) v3 (by rw [pk_us, rn]) (by rw [eh, hf]; rfl) (fun q hq => ⟨pk_un hq, rfl⟩)
          · have fin := op_sq hr H'.1 H'.2.2.1 hs (sa hs) v3 bh ed nn n4
            rw [lm k1] at fin
            exact fin
          · exact (zZ_k (k' := k + 4) (by omega) ⟨op_sco H'.1 hn' hs (sa hs) v3, op_spl hr H'.2.1 hn' hs nsr (sa hs) v3 (xpl' := upd xpl r (ba_pI (pa_L P r (ro_n P x)))) (xhT' := xhT) pk_us (by rw [eh, hf]; rfl) (fun q hq => ⟨pk_un hq, rfl⟩), op_sq hr H'.1 H'.2.2.1 hs (sa hs) v3 bh ed nn n4, op_sp v3 H'.2.2.2⟩).2.2.2
        · exact ys_send ZY H la hal er ea hr tm ep eh c1 e1 b1 (fun z => absurd n4 (by omega)) (fun _ l1 x l2 a' sen rec told val iS iR met H' la' hn' hx hal' => by
            obtain ⟨xt, xs, s3, r3, nsr, xb, _⟩ := xs_row ZX.1 H' hr hn' hx tm ep eh
            rw [hf] at xb
            exact absurd (show ro_s x = r ∧ P 0 t = 2 from ⟨xs.trans c1, k2⟩) (of_decide_eq_false xb.symm)) (fun _ _ _ _ _ l' a' sen rec told val iS iR met H' la' hal' => ⟨rfl, rel l' a' sen rec told val iS iR met H' la' hal'⟩) (fun _ _ _ c hc ev => by
            subst ev
            rcases (show c = 0 ∨ c = 1 by omega) with rfl | rfl
            · exact absurd rfl z0
            · exact absurd rfl z1)
        · refine ys_send ZY H la hal er ea hr tm ep eh c1 e1 b1 (fun z => absurd n4 (by omega)) (fun _ l1 x l2 a' sen rec told val iS iR met H' la' hn' hx hal' => by
            obtain ⟨xt, xs, s3, r3, nsr, xb, _⟩ := xs_row ZX.1 H' hr hn' hx tm ep eh
            rw [hf] at xb
            exact absurd (show ro_s x = r ∧ P 0 t = 2 from ⟨xs.trans c1, k2⟩) (of_decide_eq_false xb.symm)) (fun _ _ _ z0 z1 => by
            subst ev
            rcases (show c = 0 ∨ c = 1 by omega) with rfl | rfl
            · exact absurd rfl z0
            · exact absurd rfl z1) (fun _ _ _ c' hc' ev' l' w sen rec told val iS iR met H' none' hal' => ?_)
          have ec : c' = c := ba_eq (ev'.symm.trans ev) (by omega) (by omega)
          subst ec
          have xq : xs_q P t r hb = ro_le r := by
            unfold xs_q; rw [if_pos c1, if_neg (by omega), hf, if_neg (by decide)]
          rw [xq] at ed e1 ⊢
          have nn := (ys_n H' hr (ro_lg hr).1 e1 b1).1
          refine ⟨rfl, mk, ht, Q, S, m, P, l' ++ ru_2 r c' t v3 w, _, B, ZX, ZY, es, es', ⟨op_kco ZX.1 H'.1 k2 c1 hc none' v3 w, op_kpl hr k2 H'.2.1 hc none' v3 w, op_kq hr H'.2.2.1 v3 w bh ed nn n4, ?_⟩, op_kla hr none' v3 w, hal', by simp [ru_2], rfl, el, by rw [en]⟩
          obtain ⟨tot, t1, t2⟩ := op_kp (c := c') hr k2 H'.2.2.2 none' v3 w
          exact ⟨tot, by omega, t2⟩
        · refine ys_send ZY H la hal er ea hr tm ep eh c1 e1 b1 (fun z => absurd n4 (by omega)) (fun _ l1 x l2 a' sen rec told val iS iR met H' la' hn' hx hal' => ?_) (fun _ _ z => absurd (hT.symm.trans z) (by decide)) (fun _ _ z => absurd (hT.symm.trans z) (by decide))
          obtain ⟨xt, xs, s3, r3, nsr, xb, xp, xq, sa, sb, l4, lm, l2'⟩ := xs_row ZX.1 H' hr hn' hx tm ep eh
          have hs : ro_s x = r := xs.trans c1
          rw [if_pos hs] at xq
          have lp : ro_l x = p := ba_eq ((xp hT).symm.trans epk) (by omega) (by omega)
          have nn : ((l1 ++ x :: l2).filter (ro_q r (ro_r x))).length = n := by
            rw [xq] at e1; exact (ys_n H' hr r3 e1 b1).1
          have rn : ro_n P x = pa_S P (if p = 1 then P 5 t else P 4 t) := by
            unfold ro_n; rw [xt, lp]
            by_cases z : p = 1
            · rw [if_pos ⟨k2, z⟩, if_pos z]
            · rw [if_neg (fun y => z y.2), if_neg z]
          rw [xq] at ed ⊢
          have f1 := op_sco H'.1 hn' hs (sa hs) v3
          have f3 := op_sq hr H'.1 H'.2.2.1 hs (sa hs) v3 bh ed nn n4
          have f4 := op_sp v3 H'.2.2.2
          rw [lp] at f3
          refine ⟨congrArg nI lp, mk, ht, Q, S, m, P, l1 ++ ro_sd x v3 :: l2, a', B, ZX, ZY, es, es', ⟨f1, ?_, f3, ?_⟩, op_sla v3 la', hal', by simp, rfl, el, by rw [en]⟩
          · exact op_spl hr H'.2.1 hn' hs nsr (sa hs) v3 (by rw [pk_us, rn]) pk_us (fun q hq => ⟨pk_un hq, pk_un hq⟩)
          · obtain ⟨tot, t1, t2⟩ := f4
            exact ⟨tot, by omega, t2⟩
      · unfold wpX_send
        refine xr_ok hr ?_
        refine br_t rfl ?_
        refine xs_sends ZX hr tm ep (fun z => absurd z c1) (fun _ => ?_)
        refine br_t rfl ?_
        exact ys_send0 ZY H la hal er ea hr (Or.inr ⟨t, hb, tm, ep, eh, c1⟩) (fun l' a' sen rec told val iS iR met H' la' hal' => ⟨rfl, rel l' a' sen rec told val iS iR met H' la' hal'⟩)
theorem i_vc_receive {k : Nat} {u : SX} {v : SY} (I : i_Rel k u v) (hk : k + 4 ≤ 2048) (v1 : Int32) : wpX_receive (fun r u' => wpY_receive (fun r' v' => r' = r ∧ i_Rel (k + 4) u' v') v v1) u v1 := by
  have I4 := i_up I
  obtain ⟨xsize, xmade, xheight, xsend, xkind, xone, xother, xlabel, xpG, xpH, xtgt, xstk, xlA, xgd, xpl, xhT, xpk, xps, xlast, xhd, xln, xqL, xqV, xseen⟩ := u
  obtain ⟨ymade, ydep, ysize, yrows, yat, ysend, ysort, yfrom, yto, ylab, yfst, ysnd, yar, ystk, ysen, yrec, ytold, yval, yiS, yiR, ylast, ymet⟩ := v
  obtain ⟨mk, ht, Q, S, m, P, l, a, B, ZX, ZY, es, es', H, la, hal, er, ea, el, en⟩ := I
  have m20 := ZX.1.2.1
  rcases ba_role v1 with hb | ⟨r, hr, rfl⟩
  · unfold wpX_receive
    refine xr_bad hb ?_
    refine br_f (by decide) ?_
    unfold wpY_receive
    refine yr_bad hb ?_
    exact br_f (by decide) ⟨rfl, I4⟩
  · have rel : ∀ (l : List ro_T) a (sen rec told val iS iR met : Nat → Int32), zZ k m P l a xpl xhT xpk xps xhd xln xqL xqV → pt_la l → al l sen rec told val iS iR → i_Rel (k + 4) (xsize, xmade, xheight, xsend, xkind, xone, xother, xlabel, xpG, xpH, xtgt, xstk, xlA, xgd, xpl, xhT, xpk, xps, xlast, xhd, xln, xqL, xqV, xseen) (ymade, ydep, ysize, nI l.length, nI a, ysend, ysort, yfrom, yto, ylab, yfst, ysnd, yar, ystk, sen, rec, told, val, iS, iR, ylast, met) :=
      fun l' a' sen rec told val iS iR met H' la' hal' => ⟨mk, ht, Q, S, m, P, l', a', B, ZX, ZY, es, es', zZ_k (by omega) H', la', hal', rfl, rfl, el, en⟩
    have cr : (nI r).toNatClampNeg = r := ba_cl (by omega)
    rcases xs_pl ZX.1 H hr with ⟨c, hc, ep⟩ | ⟨t, hb, tm, ep, eh⟩
    · unfold wpX_receive
      refine xr_ok hr ?_
      refine br_t rfl ⟨ba_in hr (by omega), ?_⟩
      rw [cr]
      refine nm_r ep (br_t (ba_plt hc) ?_)
      exact ys_recv0 ZY H la hal er ea hr (Or.inl ⟨c, hc, ep⟩) (fun l' a' sen rec told val iS iR met H' la' hal' => ⟨rfl, rel l' a' sen rec told val iS iR met H' la' hal'⟩)
    · have d13 := (ZX.2.1 t tm).2.1
      by_cases c1 : P 1 t = r
      · obtain ⟨i20, _, e1, _⟩ := zX_at ZX tm
        unfold wpX_receive
        refine xr_ok hr ?_
        refine br_t rfl ⟨ba_in hr (by omega), ?_⟩
        rw [cr]
        refine nm_r ep (br_f (nI_pos (by omega)) ⟨ba_in (by omega) (by omega), ?_⟩)
        rw [e1, c1]
        refine br_t rfl ?_
        exact ys_recv0 ZY H la hal er ea hr (Or.inr ⟨t, hb, tm, ep, eh, c1⟩) (fun l' a' sen rec told val iS iR met H' la' hal' => ⟨rfl, rel l' a' sen rec told val iS iR met H' la' hal'⟩)
      · obtain ⟨h, bh, ed, e1, b1, hq⟩ := H.2.2.1 (P 1 t) r d13 hr
        have kt := xs_kt ZX.1 H hr tm ep
        generalize hF : l.filter (ro_q (P 1 t) r) = F at *
        have hd : ∃ lbl v, 0 < F.length → xqL (4 * (3 * P 1 t + r) + h) = nI lbl ∧ xqV (4 * (3 * P 1 t + r) + h) = v ∧ lbl < 4 := by
          cases F with
          | nil => exact ⟨0, 0, fun z => absurd z (by simp)⟩
          | cons x0 F =>
            have g := hq 0 x0 rfl
            rw [show (h + 0) % 4 = h from by omega] at g
            have x0m : x0 ∈ l := (List.mem_filter.mp (by rw [hF]; exact List.mem_cons_self ..)).1
            exact ⟨ro_l x0, ro_v x0, fun _ => ⟨g.1, g.2, (H.1.2.2.1 x0 x0m).2.2.2.2.2.2.1⟩⟩
        obtain ⟨lbl, v, hd⟩ := hd
        refine xs_recv ZX hr tm ep c1 kt e1 b1 ed bh hd (fun n0 => ?_) (fun n0 xps' y1 y2 y3 => ?_)
        · exact ys_recv ZY H la hal er ea hr tm ep eh c1 e1 b1 (fun _ l' a' sen rec told val iS iR met H' la' hal' => ⟨rfl, rel l' a' sen rec told val iS iR met H' la' hal'⟩) (fun z => absurd n0 (by omega))
        · refine ys_recv ZY H la hal er ea hr tm ep eh c1 e1 b1 (fun z => absurd n0 (by omega)) (fun _ l1 x l2 a' sen rec told val iS iR met H' la' ck hn' hx hat hal' => ?_)
          obtain ⟨xt, xs, s3, r3, nsr, xb, xp, xq, sa, sb, l4, lm, l2'⟩ := xs_row ZX.1 H' hr hn' hx tm ep eh
          have ns : ro_s x ≠ r := by rw [xs]; exact c1
          obtain ⟨hrr, hbf⟩ := sb ns
          rw [← xs] at ed e1 hd ⊢
          obtain ⟨g1, g2⟩ := op_rq hr s3 H'.2.2.1 hn' hrr hat hbf bh ed
          obtain ⟨d1, d2, d3⟩ := hd n0
          obtain ⟨h', bh', ed', _, _, hq'⟩ := H'.2.2.1 (ro_s x) r s3 hr
          have eh' : h' = h := ba_eq (ed'.symm.trans ed) (by omega) (by omega)
          subst eh'
          rw [g1] at hq'
          have g := hq' 0 x rfl
          rw [show (h' + 0) % 4 = h' from by omega] at g
          have lx : ro_l x = lbl := ba_eq (g.1.symm.trans d1) (by omega) (by omega)
          have vx : ro_v x = v := g.2.symm.trans d2
          have nl : (l2.filter (ro_q (ro_s x) r)).length = F.length - 1 := by
            have z := (ys_n H' s3 hr e1 b1).1
            rw [g1, List.length_cons] at z
            omega
          rw [nl] at g2
          have rn : ro_n P x = pa_S P (if P 0 t = 2 ∧ lbl = 1 then P 5 t else P 4 t) := by
            unfold ro_n; rw [xt, lx]
          refine ⟨congrArg nI lx, mk, ht, Q, S, m, P, l1 ++ ro_rc x :: l2, a', B, ZX, ZY, es, es', ⟨op_rco H'.1 ck hn' hrr hat, ?_, g2, ?_⟩, op_rla la', hal', by simp, rfl, by rw [el, vx], en⟩
          · exact op_rpl hr H'.2.1 hn' hrr nsr hat hbf (by rw [pk_us, rn]) (fun q hq => pk_un hq)
          · have f4 := op_rp (xps' := xps') H'.2.2.2 hrr hbf (fun z => y1 (by rw [← xt]; exact z)) (fun z => y2 (by rw [← xt]; exact z)) y3
            obtain ⟨tot, t1, t2⟩ := f4
            exact ⟨tot, by omega, t2⟩
end
section
-- ===== starting =====
section ST
variable {m k : Nat} {P : pa_T} {xsize xmade xheight xsend : Int32} {xkind xone xother xlabel xpG xpH xtgt xstk xlA xgd xpl xhT xpk xps xlast xhd xln xqL xqV xseen : Nat → Int32} {ymade ydep ysize yrows yat ysend : Int32} {ysort yfrom yto ylab yfst ysnd yar ystk ysen yrec ytold yval yiS yiR ylast ymet : Nat → Int32}
theorem zZ_0 (W : pa_W m P) (hk : ∀ r, r < 3 → ∃ p, p < 2 ∧ xpk r = nI p) (h1 : ∀ r, r < 3 → xpl r = ba_pI (pa_L P r (pa_S P (m - 1))) ∧ xhT r = 0 ∧ xps r = 0) (h2 : ∀ j, j < 9 → xhd j = 0 ∧ xln j = 0) : zZ k m P [] (pa_S P (m - 1)) xpl xhT xpk xps xhd xln xqL xqV := by
  have m1 := W.1
  have hm : m - 1 < m := by omega
  refine ⟨⟨pa_S_m W hm, pa_S_k W hm, (fun x hx => nomatch hx), List.Pairwise.nil, Nat.zero_le _, trivial⟩, fun r hr => ?_, fun p q hp hq => ?_, 0, Nat.zero_le _, fun r hr => ?_, 0, by omega, rfl⟩
  · obtain ⟨p, hp, e⟩ := hk r hr
    obtain ⟨a1, a2, a3⟩ := h1 r hr
    exact ⟨_, false, p, a1, a2, e, hp, rfl, rfl⟩
  · obtain ⟨a1, a2⟩ := h2 (3 * p + q) (by omega)
    exact ⟨0, by omega, a1, a2, Nat.zero_le _, fun k x hx => absurd hx (by simp)⟩
  · obtain ⟨a1, a2, a3⟩ := h1 r hr
    exact ⟨0, a3, rfl⟩
theorem zZ_pk {l : List ro_T} {a : Nat} (H : zZ k m P l a xpl xhT xpk xps xhd xln xqL xqV) : ∀ r, r < 3 → ∃ p, p < 2 ∧ xpk r = nI p := by
  intro r hr
  obtain ⟨_, _, p, _, _, e, hp, _⟩ := H.2.1 r hr
  exact ⟨p, hp, e⟩
end ST
theorem i_vc_restart {k : Nat} {u : SX} {v : SY} (I : i_Rel k u v) (hk : k + 4 ≤ 2048) : wpX_restart (fun u' => wpY_restart (fun v' => i_Rel (k + 4) u' v') v) u := by
  obtain ⟨xsize, xmade, xheight, xsend, xkind, xone, xother, xlabel, xpG, xpH, xtgt, xstk, xlA, xgd, xpl, xhT, xpk, xps, xlast, xhd, xln, xqL, xqV, xseen⟩ := u
  obtain ⟨ymade, ydep, ysize, yrows, yat, ysend, ysort, yfrom, yto, ylab, yfst, ysnd, yar, ystk, ysen, yrec, ytold, yval, yiS, yiR, ylast, ymet⟩ := v
  obtain ⟨mk, ht, Q, S, m, P, l, a, B, ZX, ZY, es, es', H, la, hal, er, ea, el, en⟩ := I
  refine xw_restart ZX es (fun pl hT ps hd ln h1 h2 => ?_)
  refine yw_restart ZY es' ?_
  exact ⟨mk, ht, Q, S, m, P, [], _, B, ZX, ZY, rfl, rfl, zZ_0 ZX.1 (zZ_pk H) h1 h2, Or.inl (fun x hx => nomatch hx), (fun j x hx => absurd hx (by simp)), rfl, rfl, by rw [el], rfl⟩
def st_P : pa_T := fun _ _ => 0
theorem st_n {n i : Nat} (h : n ≠ 0) : ¬ st_P 0 i = n := fun z => h z.symm
theorem st_W : pa_W 1 st_P := ⟨by omega, by omega, fun i _ => Nat.zero_le _, fun i _ h => absurd h (st_n (by decide)), fun i _ h => absurd h (st_n (by decide)), fun i _ h => absurd h (st_n (by decide)), fun i _ h => absurd h (st_n (by decide)), fun _ => 0, fun i _ h => absurd h (st_n (by decide)), fun i _ h => absurd h (st_n (by decide))⟩
theorem st_D : pa_D 1 st_P := fun i _ => ⟨Nat.zero_le _, Nat.zero_lt_succ _, Nat.zero_lt_succ _, Nat.zero_lt_succ _, Nat.zero_lt_succ _, Nat.zero_lt_succ _⟩
theorem st_X : zX 1 st_P (fun _ => 0) (fun _ => 0) (fun _ => 0) (fun _ => 0) (fun _ => 0) (fun _ => 0) (fun _ => 0) := ⟨st_W, st_D, fun i _ => ⟨rfl, rfl, rfl, rfl, rfl, rfl⟩, fun i _ h => absurd h (st_n (by decide))⟩
theorem st_Y : zY 1 st_P (fun _ => 0) (fun _ => 0) (fun _ => 0) (fun _ => 0) (fun _ => 0) (fun _ => 0) (fun _ => 0) := ⟨st_W, st_D, (fun _ => -1), fun i _ => ⟨rfl, rfl, rfl, rfl, fun _ _ => rfl, fun _ => rfl, rfl⟩, Or.inl (fun i _ => st_n (by decide))⟩
theorem bu_0 (Q : pa_T) (S : Nat → Nat) : bu_W 0 0 Q S := ⟨by omega, by omega, fun i h => absurd h (by omega), fun j h => absurd h (by omega), fun i j _ h => absurd h (by omega), fun h => absurd h (by omega), fun i h => absurd h (by omega), fun i h => absurd h (by omega)⟩
theorem i_vc0 : wpX_init (fun u => wpY_init (fun v => i_Rel 0 u v)) := by
  unfold wpX_init
  refine xw_restart st_X rfl (fun pl hT ps hd ln h1 h2 => ?_)
  unfold wpY_init
  refine yw_restart st_Y rfl ?_
  refine ⟨0, 0, st_P, (fun _ => 0), 1, st_P, [], _, ⟨bu_0 _ _, rfl, rfl, rfl, rfl, fun i h => absurd h (by omega), fun i h => absurd h (by omega), fun i h => absurd h (by omega)⟩, st_X, st_Y, rfl, rfl, zZ_0 st_W (fun r _ => ⟨0, by omega, rfl⟩) h1 h2, Or.inl (fun x hx => nomatch hx), (fun j x hx => absurd hx (by simp)), rfl, rfl, rfl, rfl⟩
theorem i_vc_discard {k : Nat} {u : SX} {v : SY} (I : i_Rel k u v) (hk : k + 4 ≤ 2048) : wpX_discard (fun r u' => wpY_discard (fun r' v' => r' = r ∧ i_Rel (k + 4) u' v') v) u := by
  obtain ⟨xsize, xmade, xheight, xsend, xkind, xone, xother, xlabel, xpG, xpH, xtgt, xstk, xlA, xgd, xpl, xhT, xpk, xps, xlast, xhd, xln, xqL, xqV, xseen⟩ := u
  obtain ⟨ymade, ydep, ysize, yrows, yat, ysend, ysort, yfrom, yto, ylab, yfst, ysnd, yar, ystk, ysen, yrec, ytold, yval, yiS, yiR, ylast, ymet⟩ := v
  obtain ⟨mk, ht, Q, S, m, P, l, a, B, ZX, ZY, es, es', H, la, hal, er, ea, el, en⟩ := I
  obtain ⟨b1, b2, b3, b4, b5, b6, b7, b8⟩ := B
  refine ⟨b5.trans b3.symm, 0, 0, Q, S, m, P, l, a, ⟨bu_0 _ _, rfl, rfl, rfl, rfl, fun i h => absurd h (by omega), fun i h => absurd h (by omega), fun i h => absurd h (by omega)⟩, ZX, ZY, es, es', zZ_k (by omega) H, la, hal, er, ea, el, en⟩
end
section
-- ===== making terms =====
def bu_Q (Q : pa_T) (mk : Nat) (nw : Nat → Nat) (ch : Nat → Bool) : pa_T := fun k i => if i = mk then nw k else if k = 7 ∧ ch i = true then mk + 1 else Q k i
def bu_S (S : Nat → Nat) (h mk : Nat) : Nat → Nat := fun j => if j = h then mk else S j
section BU
variable {mk ht ts : Nat} {Q : pa_T} {S : Nat → Nat} {nw : Nat → Nat} {ch : Nat → Bool}
theorem bu_Qn (k : Nat) : bu_Q Q mk nw ch k mk = nw k := if_pos rfl
theorem bu_Qo {k i : Nat} (hi : i ≠ mk) (hk : k ≠ 7) : bu_Q Q mk nw ch k i = Q k i := by
  unfold bu_Q; rw [if_neg hi, if_neg (fun z => hk z.1)]
theorem bu_Qc {i : Nat} (hi : i ≠ mk) (hc : ch i = true) : bu_Q Q mk nw ch 7 i = mk + 1 := by
  unfold bu_Q; rw [if_neg hi, if_pos ⟨rfl, hc⟩]
theorem bu_Qf {i : Nat} (hi : i ≠ mk) (hc : ch i = false) : bu_Q Q mk nw ch 7 i = Q 7 i := by
  unfold bu_Q; rw [if_neg hi, if_neg (fun z => by rw [hc] at z; exact absurd z.2 (by decide))]
theorem bu_Ss : bu_S S ht mk ht = mk := if_pos rfl
theorem bu_So {h j : Nat} (hj : j ≠ h) : bu_S S h mk j = S j := if_neg hj
/-- what a new term asks -/
def bu_N (ht ts : Nat) (S : Nat → Nat) (nw : Nat → Nat) (ch : Nat → Bool) : Prop :=
  nw 0 ≤ 4 ∧ nw 1 < 3 ∧ nw 2 < 3 ∧ nw 3 < 4 ∧ nw 4 < 20 ∧ nw 5 < 20 ∧ nw 7 = 0 ∧ (nw 0 = 1 → nw 1 ≠ nw 2) ∧ (3 ≤ nw 0 → nw 1 < 2) ∧
  (1 ≤ nw 0 → nw 0 ≤ 3 → ∃ j, ht - ts ≤ j ∧ j < ht ∧ S j = nw 4) ∧ (nw 0 = 2 → ∃ j, ht - ts ≤ j ∧ j < ht ∧ S j = nw 5) ∧
  (∀ j, ht - ts ≤ j → j < ht → (1 ≤ nw 0 ∧ nw 0 ≤ 3 ∧ nw 4 = S j) ∨ (nw 0 = 2 ∧ nw 5 = S j)) ∧ (∀ i, ch i = true ↔ ∃ j, ht - ts ≤ j ∧ j < ht ∧ S j = i)
theorem bu_step (B : bu_W mk ht Q S) (hm : mk < 20) (ht' : ts ≤ ht) (N : bu_N ht ts S nw ch) : bu_W (mk + 1) (ht - ts + 1) (bu_Q Q mk nw ch) (bu_S S (ht - ts) mk) := by
  obtain ⟨b1, b2, b3, b4, b5, b6, b7, b8⟩ := B
  obtain ⟨n0, n1, n2, n3, n4, n5, n7, n8, n9, n10, n11, n12, n13⟩ := N
  have cf : ∀ i, Q 7 i ≠ 0 → ch i = false := by
    intro i hi
    cases h : ch i with
    | false => rfl
    | true =>
      obtain ⟨j, _, j2, j3⟩ := (n13 i).mp h
      have := (b4 j j2).2
      rw [j3] at this
      exact absurd this hi
  have cs : ∀ j, j < ht - ts → ch (S j) = false := by
    intro j hj
    cases h : ch (S j) with
    | false => rfl
    | true =>
      obtain ⟨j', j1, j2, j3⟩ := (n13 _).mp h
      have := b5 j j' (by omega) j2
      omega
  refine ⟨by omega, by omega, fun i hi => ?_, fun j hj => ?_, fun i j hij hj => ?_, fun _ => ⟨by omega, ?_⟩, fun i hi => ?_, fun i hi => ?_⟩
  · by_cases c : i = mk
    · subst c
      rw [bu_Qn, bu_Qn, bu_Qn, bu_Qn, bu_Qn, bu_Qn]
      exact ⟨n0, n1, n2, n3, n4, n5⟩
    · rw [bu_Qo c (by omega), bu_Qo c (by omega), bu_Qo c (by omega), bu_Qo c (by omega), bu_Qo c (by omega), bu_Qo c (by omega)]
      exact b3 i (by omega)
  · by_cases c : j = ht - ts
    · subst c
      rw [bu_Ss, bu_Qn]
      exact ⟨by omega, n7⟩
    · rw [bu_So c]
      obtain ⟨x1, x2⟩ := b4 j (by omega)
      rw [bu_Qf (by omega) (cs j (by omega))]
      exact ⟨by omega, x2⟩
  · by_cases c : j = ht - ts
    · subst c
      rw [bu_Ss, bu_So (by omega)]
      exact (b4 i (by omega)).1
    · rw [bu_So c, bu_So (by omega)]
      exact b5 i j hij (by omega)
  · rw [show ht - ts + 1 - 1 = ht - ts from by omega, bu_Ss]; omega
  · by_cases c : i = mk
    · subst c
      rw [bu_Qn, bu_Qn, bu_Qn, bu_Qn, bu_Qn]
      refine ⟨fun k1 k2 => ?_, fun k1 => ?_, n8, n9⟩
      · obtain ⟨j, j1, j2, j3⟩ := n10 k1 k2
        have x := (b4 j j2).1
        rw [← j3]
        exact ⟨x, bu_Qc (by omega) ((n13 _).mpr ⟨j, j1, j2, rfl⟩)⟩
      · obtain ⟨j, j1, j2, j3⟩ := n11 k1
        have x := (b4 j j2).1
        rw [← j3]
        exact ⟨x, bu_Qc (by omega) ((n13 _).mpr ⟨j, j1, j2, rfl⟩)⟩
    · rw [bu_Qo c (by omega), bu_Qo c (by omega), bu_Qo c (by omega), bu_Qo c (by omega), bu_Qo c (by omega)]
      obtain ⟨x1, x2, x3, x4⟩ := b7 i (by omega)
      refine ⟨fun k1 k2 => ?_, fun k1 => ?_, x3, x4⟩
      · obtain ⟨y1, y2⟩ := x1 k1 k2
        refine ⟨y1, ?_⟩
        rw [bu_Qf (by omega) (cf _ (by omega))]; exact y2
      · obtain ⟨y1, y2⟩ := x2 k1
        refine ⟨y1, ?_⟩
        rw [bu_Qf (by omega) (cf _ (by omega))]; exact y2
  · by_cases c : i = mk
    · subst c
      refine Or.inl ⟨?_, ht - ts, by omega, bu_Ss⟩
      rw [bu_Qn]; exact n7
    · rcases b8 i (by omega) with ⟨x1, j, x2, x3⟩ | ⟨p, x1, x2, x3, x4⟩
      · by_cases cj : j < ht - ts
        · refine Or.inl ⟨?_, j, by omega, ?_⟩
          · rw [← x3, bu_Qf (by have := (b4 j x2).1; omega) (cs j cj), x3]; exact x1
          · rw [bu_So (by omega)]; exact x3
        · refine Or.inr ⟨mk, ?_, by omega, by omega, ?_⟩
          · exact bu_Qc c ((n13 i).mpr ⟨j, by omega, x2, x3⟩)
          · rw [bu_Qn, bu_Qn, bu_Qn]
            rcases n12 j (by omega) x2 with ⟨y1, y2, y3⟩ | ⟨y1, y2⟩
            · exact Or.inl ⟨y1, y2, y3.trans x3⟩
            · exact Or.inr ⟨y1, y2.trans x3⟩
      · refine Or.inr ⟨p, ?_, x2, by omega, ?_⟩
        · rw [bu_Qf c (cf i (by omega))]; exact x1
        · rw [bu_Qo (by omega) (by omega), bu_Qo (by omega) (by omega), bu_Qo (by omega) (by omega)]; exact x4
end BU
section BM
variable {m mk ht ts : Nat} {P Q : pa_T} {S : Nat → Nat} {nw : Nat → Nat} {ch : Nat → Bool} {xsize xmade xheight xsend : Int32} {xkind xone xother xlabel xpG xpH xtgt xstk xlA xgd xpl xhT xpk xps xlast xhd xln xqL xqV xseen : Nat → Int32} {ymade ydep ysize yrows yat ysend : Int32} {ysort yfrom yto ylab yfst ysnd yar ystk ysen yrec ytold yval yiS yiR ylast ymet : Nat → Int32}
theorem bm_u {f : Nat → Int32} {v : Int32} : ∀ i, i < 20 → upd f (mk + 20) v i = f i := fun i h => pk_un (by omega)
theorem zX_sb (Z : zX m P xkind xone xother xlabel xpG xpH xtgt) {k o t l g h : Nat → Int32} (e0 : ∀ i, i < 20 → k i = xkind i) (e1 : ∀ i, i < 20 → o i = xone i) (e2 : ∀ i, i < 20 → t i = xother i) (e3 : ∀ i, i < 20 → l i = xlabel i) (e4 : ∀ i, i < 20 → g i = xpG i) (e5 : ∀ i, i < 20 → h i = xpH i) : zX m P k o t l g h xtgt := by
  obtain ⟨W, D, X, T⟩ := Z
  have m20 := W.2.1
  refine ⟨W, D, fun i hi => ?_, T⟩
  show k i = _ ∧ o i = _ ∧ t i = _ ∧ l i = _ ∧ g i = _ ∧ h i = _
  rw [e0 i (by omega), e1 i (by omega), e2 i (by omega), e3 i (by omega), e4 i (by omega), e5 i (by omega)]
  exact X i hi
theorem zY_sb (Z : zY m P ysort yfrom yto ylab yfst ysnd yar) {k o t l g h a : Nat → Int32} (e0 : ∀ i, i < 20 → k i = ysort i) (e1 : ∀ i, i < 20 → o i = yfrom i) (e2 : ∀ i, i < 20 → t i = yto i) (e3 : ∀ i, i < 20 → l i = ylab i) (e4 : ∀ i, i < 20 → g i = yfst i) (e5 : ∀ i, i < 20 → h i = ysnd i) (e6 : ∀ i, i < 20 → a i = yar i) : zY m P k o t l g h a := by
  obtain ⟨W, D, yar', Y, V⟩ := Z
  have m20 := W.2.1
  have key : ∀ ar : Nat → Int32, (∀ i, i < 20 → ar i = yar' i) → ar_Y 0 m P k o t l g h ar := by
    intro ar har i hi
    show k i = _ ∧ o i = _ ∧ t i = _ ∧ l i = _ ∧ (_ → _ → g i = _) ∧ (_ → h i = _) ∧ ar i = _
    rw [e0 i (by omega), e1 i (by omega), e2 i (by omega), e3 i (by omega), e4 i (by omega), e5 i (by omega), har i (by omega)]
    exact Y i hi
  refine ⟨W, D, ?_⟩
  rcases V with V | ⟨e, A, V⟩
  · exact ⟨yar', key yar' (fun _ _ => rfl), Or.inl V⟩
  · subst e
    exact ⟨a, key a e6, Or.inr ⟨rfl, A, V⟩⟩
theorem arX_step (X : ar_X 20 mk Q xkind xone xother xlabel xpG xpH) : ar_X 20 (mk + 1) (bu_Q Q mk nw ch) (upd xkind (mk + 20) (nI (nw 0))) (upd xone (mk + 20) (nI (nw 1))) (upd xother (mk + 20) (nI (nw 2))) (upd xlabel (mk + 20) (nI (nw 3))) (upd xpG (mk + 20) (nI (nw 4))) (upd xpH (mk + 20) (nI (nw 5))) := by
  intro i hi
  by_cases c : i = mk
  · subst c
    rw [bu_Qn, bu_Qn, bu_Qn, bu_Qn, bu_Qn, bu_Qn, pk_us, pk_us, pk_us, pk_us, pk_us, pk_us]
    exact ⟨rfl, rfl, rfl, rfl, rfl, rfl⟩
  · have ne : i + 20 ≠ mk + 20 := by omega
    rw [bu_Qo c (by omega), bu_Qo c (by omega), bu_Qo c (by omega), bu_Qo c (by omega), bu_Qo c (by omega), bu_Qo c (by omega), pk_un ne, pk_un ne, pk_un ne, pk_un ne, pk_un ne, pk_un ne]
    exact X i (by omega)
theorem arY_step (Y : ar_Y 20 mk Q ysort yfrom yto ylab yfst ysnd yar) {fi sc ar : Nat → Int32} (f0 : ∀ i, i < mk → fi (i + 20) = yfst (i + 20)) (f1 : 1 ≤ nw 0 → nw 0 ≤ 3 → fi (mk + 20) = nI (nw 4)) (s0 : ∀ i, i < mk → sc (i + 20) = ysnd (i + 20)) (s1 : nw 0 = 2 → sc (mk + 20) = nI (nw 5))
    (n7 : nw 7 = 0) (a0 : ar (mk + 20) = -1) (a1 : ∀ i, i < mk → ch i = true → ar (i + 20) = nI mk) (a2 : ∀ i, i < mk → ch i = false → ar (i + 20) = yar (i + 20)) :
    ar_Y 20 (mk + 1) (bu_Q Q mk nw ch) (upd ysort (mk + 20) (nI (nw 0))) (upd yfrom (mk + 20) (nI (nw 1))) (upd yto (mk + 20) (nI (nw 2))) (upd ylab (mk + 20) (nI (nw 3))) fi sc ar := by
  intro i hi
  by_cases c : i = mk
  · subst c
    rw [bu_Qn, bu_Qn, bu_Qn, bu_Qn, bu_Qn, bu_Qn, bu_Qn, pk_us, pk_us, pk_us, pk_us, n7]
    exact ⟨rfl, rfl, rfl, rfl, f1, s1, a0⟩
  · have ne : i + 20 ≠ mk + 20 := by omega
    have im : i < mk := by omega
    rw [bu_Qo c (by omega), bu_Qo c (by omega), bu_Qo c (by omega), bu_Qo c (by omega), bu_Qo c (by omega), bu_Qo c (by omega), pk_un ne, pk_un ne, pk_un ne, pk_un ne, f0 i im, s0 i im]
    obtain ⟨y0, y1, y2, y3, y4, y5, y6⟩ := Y i im
    refine ⟨y0, y1, y2, y3, y4, y5, ?_⟩
    cases h : ch i with
    | false => rw [bu_Qf c h, a2 i im h]; exact y6
    | true => rw [bu_Qc c h, a1 i im h]; rfl
theorem xm_make {post : Int32 → SX → Prop} {c0 c1 c2 c3 g h : Nat} (hm : mk < 20) (hh : ht ≤ mk) (h1 : ts ≤ ht) (h2 : ts ≤ 2) (b0 : c0 < 100) (b1 : c1 < 100) (b2 : c2 < 100) (b3 : c3 < 100) (bg : g < 100) (bh : h < 100) (em : xmade = nI mk) (eh : xheight = nI ht)
    (g0 : ts = 0 → g = 0) (g1 : 1 ≤ ts → xstk (ht - ts) = nI g) (g2 : ts ≤ 1 → h = 0) (g3 : 2 ≤ ts → xstk (ht - ts + 1) = nI h)
    (hp : post (nI (ht - ts + 1)) (xsize, nI (mk + 1), nI (ht - ts + 1), xsend, upd xkind (mk + 20) (nI c0), upd xone (mk + 20) (nI c1), upd xother (mk + 20) (nI c2), upd xlabel (mk + 20) (nI c3), upd xpG (mk + 20) (nI g), upd xpH (mk + 20) (nI h), xtgt, upd xstk (ht - ts) (nI mk), xlA, xgd, xpl, xhT, xpk, xps, xlast, xhd, xln, xqL, xqV, xseen)) :
    wpX_make post (xsize, xmade, xheight, xsend, xkind, xone, xother, xlabel, xpG, xpH, xtgt, xstk, xlA, xgd, xpl, xhT, xpk, xps, xlast, xhd, xln, xqL, xqV, xseen) (nI c0) (nI c1) (nI c2) (nI c3) (nI ts) := by
  subst em eh
  have vx : vp_in (nI (mk + 20)) 40 := ba_in (by omega) (by omega)
  have cx : (nI (mk + 20)).toNatClampNeg = mk + 20 := ba_cl (by omega)
  have fin : ∀ (xpG' : Nat → Int32) (z : Int32), z = nI h → xpG' = upd xpG (mk + 20) (nI g) → wX_make_109 post z (nI (mk + 20)) xsize (nI mk) (nI (ht - ts)) xsend (upd xkind (mk + 20) (nI c0)) (upd xone (mk + 20) (nI c1)) (upd xother (mk + 20) (nI c2)) (upd xlabel (mk + 20) (nI c3)) xpG' xpH xtgt xstk xlA xgd xpl xhT xpk xps xlast xhd xln xqL xqV xseen := by
    intro xpG' z hz hG
    subst hz hG
    refine ⟨vx, ?_⟩
    rw [cx, ba_vb bh]
    refine nm_e ⟨ba_in (by omega) (by omega), ?_⟩
    rw [ba_cl (by omega), ba_vbc (by omega)]
    exact nm_e (nm_r (nI_1 _) (nm_r (nI_1 _) hp))
  have mid : ∀ z : Int32, z = nI g → wX_make_81 post (nI ts) (nI (mk + 20)) z (nI (mk + 20)) xsize (nI mk) (nI (ht - ts)) xsend (upd xkind (mk + 20) (nI c0)) (upd xone (mk + 20) (nI c1)) (upd xother (mk + 20) (nI c2)) (upd xlabel (mk + 20) (nI c3)) xpG xpH xtgt xstk xlA xgd xpl xhT xpk xps xlast xhd xln xqL xqV xseen := by
    intro z hz
    subst hz
    refine ⟨vx, ?_⟩
    rw [cx, ba_vb bg]
    refine nm_e ?_
    refine pk_le ts 1 (fun k => fin _ _ (by rw [g2 k]; rfl) rfl) (fun k => ?_)
    rw [nI_1]
    refine ⟨ba_in (by omega) (by omega), fin _ _ ?_ rfl⟩
    rw [ba_cl (by omega)]; exact g3 k
  unfold wpX_make
  refine nm_r (ba_20 mk) (nm_r (pk_sub h1) ⟨vx, ?_⟩)
  rw [cx, ba_vbc b0, ba_vbc b1, ba_vbc b2, ba_vbc b3]
  refine nm_e ⟨vx, nm_e ⟨vx, nm_e ⟨vx, nm_e ?_⟩⟩⟩
  refine pk_le ts 0 (fun k => mid _ (by rw [g0 (by omega)]; rfl)) (fun k => ⟨ba_in (by omega) (by omega), mid _ ?_⟩)
  rw [ba_cl (by omega)]; exact g1 k
theorem ym_make {post : Int32 → SY → Prop} {d : Nat} {p0 p1 p2 p3 : Int32} (hm : mk < 20) (hd : d ≤ mk) (em : ymade = nI mk) (ed : ydep = nI d)
    (hp : post (nI (d + 1)) (nI (mk + 1), nI (d + 1), ysize, yrows, yat, ysend, upd ysort (mk + 20) p0, upd yfrom (mk + 20) p1, upd yto (mk + 20) p2, upd ylab (mk + 20) p3, yfst, ysnd, upd yar (mk + 20) (-1), upd ystk d (nI mk), ysen, yrec, ytold, yval, yiS, yiR, ylast, ymet)) : wpY_make post (ymade, ydep, ysize, yrows, yat, ysend, ysort, yfrom, yto, ylab, yfst, ysnd, yar, ystk, ysen, yrec, ytold, yval, yiS, yiR, ylast, ymet) p0 p1 p2 p3 := by
  subst em ed
  have vx : vp_in (nI (mk + 20)) 40 := ba_in (by omega) (by omega)
  unfold wpY_make
  refine nm_r (ba_20 mk) ⟨vx, ?_⟩
  rw [ba_cl (show mk + 20 < 1000 by omega)]
  refine nm_e ⟨vx, nm_e ⟨vx, nm_e ⟨vx, nm_e ⟨vx, nm_e ⟨ba_in (by omega) (by omega), ?_⟩⟩⟩⟩⟩
  rw [ba_cl (show d < 1000 by omega)]
  exact nm_e (nm_r (nI_1 _) (nm_r (nI_1 _) hp))
theorem ym_take {post : SY → Prop} {g h : Nat} {y z : Int32} (hm : mk < 20) (hg : g < 20) (hh : h < 20) (em : ymade = nI mk) (ey : y = nI g) (ez : z = nI h)
    (hp : post (nI mk, ydep, ysize, yrows, yat, ysend, ysort, yfrom, yto, ylab, upd yfst (mk + 20) (nI g), upd ysnd (mk + 20) (nI h), upd (upd yar (g + 20) (nI mk)) (h + 20) (nI mk), ystk, ysen, yrec, ytold, yval, yiS, yiR, ylast, ymet)) : wpY_take post (ymade, ydep, ysize, yrows, yat, ysend, ysort, yfrom, yto, ylab, yfst, ysnd, yar, ystk, ysen, yrec, ytold, yval, yiS, yiR, ylast, ymet) y z := by
  subst em ey ez
  have vx : vp_in (20 + nI mk) 40 := by rw [ba_20]; exact ba_in (by omega) (by omega)
  have cx : (20 + nI mk).toNatClampNeg = mk + 20 := by rw [ba_20]; exact ba_cl (by omega)
  have cg : (20 + nI g).toNatClampNeg = g + 20 := by rw [ba_20]; exact ba_cl (by omega)
  have chh : (20 + nI h).toNatClampNeg = h + 20 := by rw [ba_20]; exact ba_cl (by omega)
  unfold wpY_take
  refine ⟨vx, ?_⟩
  rw [cx, cg, chh]
  exact nm_e ⟨vx, nm_e ⟨by rw [ba_20]; exact ba_in (by omega) (by omega), nm_e ⟨by rw [ba_20]; exact ba_in (by omega) (by omega), nm_e hp⟩⟩⟩
theorem zB_stk {d : Nat} (h : ∀ j, j < ht → xstk j = nI (S j) ∧ ystk j = nI (S j)) (hd : d ≤ ht) : ∀ j, j < d + 1 → upd xstk d (nI mk) j = nI (bu_S S d mk j) ∧ upd ystk d (nI mk) j = nI (bu_S S d mk j) := by
  intro j hj
  by_cases c : j = d
  · subst c; rw [pk_us, pk_us, bu_Ss]; exact ⟨rfl, rfl⟩
  · rw [pk_un c, pk_un c, bu_So c]; exact h j (by omega)
def bm_n (c0 c1 c2 c3 g h : Nat) : Nat → Nat := fun k => if k = 0 then c0 else if k = 1 then c1 else if k = 2 then c2 else if k = 3 then c3 else if k = 4 then g else if k = 5 then h else 0
/-- nothing taken -/
theorem bm_0 {c0 c1 : Nat} (B : bu_W mk ht Q S) (k : c0 = 0 ∨ c0 = 4) (h1 : c1 < 2) : bu_N ht 0 S (bm_n c0 c1 0 0 0 0) (fun _ => false) := by
  refine ⟨?_, ?_, ?_, ?_, ?_, ?_, rfl, ?_, ?_, ?_, ?_, ?_, ?_⟩
  · show c0 ≤ 4; omega
  · show c1 < 3; omega
  · show 0 < 3; omega
  · show 0 < 4; omega
  · show 0 < 20; omega
  · show 0 < 20; omega
  · intro z; have z' : c0 = 1 := z; omega
  · intro _; exact h1
  · intro a b
    have a' : 1 ≤ c0 := a
    have b' : c0 ≤ 3 := b
    omega
  · intro z; have z' : c0 = 2 := z; omega
  · intro j h1 h2; omega
  · intro i
    refine ⟨fun z => absurd z Bool.false_ne_true, fun z => ?_⟩
    obtain ⟨j, h1, h2, _⟩ := z
    omega
/-- one taken -/
theorem bm_1 {c0 c1 c2 c3 : Nat} (B : bu_W mk ht Q S) (h0 : 1 ≤ ht) (k : (c0 = 1 ∧ c1 ≠ c2) ∨ (c0 = 3 ∧ c1 < 2)) (h1 : c1 < 3) (h2 : c2 < 3) (h3 : c3 < 4) : bu_N ht 1 S (bm_n c0 c1 c2 c3 (S (ht - 1)) 0) (fun i => decide (i = S (ht - 1))) := by
  have sm := (B.2.2.2.1 (ht - 1) (by omega)).1
  have m20 := B.1
  refine ⟨?_, h1, h2, h3, ?_, ?_, rfl, ?_, ?_, ?_, ?_, ?_, ?_⟩
  · show c0 ≤ 4; omega
  · show S (ht - 1) < 20; omega
  · show 0 < 20; omega
  · intro z
    have z' : c0 = 1 := z
    show c1 ≠ c2
    omega
  · intro z
    have z' : 3 ≤ c0 := z
    show c1 < 2
    omega
  · intro _ _; exact ⟨ht - 1, by omega, by omega, rfl⟩
  · intro z; have z' : c0 = 2 := z; omega
  · intro j j1 j2
    refine Or.inl ⟨?_, ?_, ?_⟩
    · show 1 ≤ c0; omega
    · show c0 ≤ 3; omega
    · show S (ht - 1) = S j
      rw [show j = ht - 1 from by omega]
  · intro i
    rw [decide_eq_true_iff]
    constructor
    · intro z; exact ⟨ht - 1, by omega, by omega, z.symm⟩
    · intro ⟨j, j1, j2, j3⟩
      rw [← j3, show j = ht - 1 from by omega]
/-- two taken -/
theorem bm_2 {c1 : Nat} (B : bu_W mk ht Q S) (h0 : 2 ≤ ht) (h1 : c1 < 3) : bu_N ht 2 S (bm_n 2 c1 0 0 (S (ht - 2)) (S (ht - 1))) (fun i => decide (i = S (ht - 2)) || decide (i = S (ht - 1))) := by
  have sm := (B.2.2.2.1 (ht - 1) (by omega)).1
  have sm2 := (B.2.2.2.1 (ht - 2) (by omega)).1
  have m20 := B.1
  refine ⟨?_, h1, ?_, ?_, ?_, ?_, rfl, ?_, ?_, ?_, ?_, ?_, ?_⟩
  · show 2 ≤ 4; omega
  · show 0 < 3; omega
  · show 0 < 4; omega
  · show S (ht - 2) < 20; omega
  · show S (ht - 1) < 20; omega
  · intro z; have z' : 2 = 1 := z; omega
  · intro z; have z' : 3 ≤ 2 := z; omega
  · intro _ _; exact ⟨ht - 2, by omega, by omega, rfl⟩
  · intro _; exact ⟨ht - 1, by omega, by omega, rfl⟩
  · intro j j1 j2
    by_cases c : j = ht - 2
    · refine Or.inl ⟨by show 1 ≤ 2; omega, by show 2 ≤ 3; omega, ?_⟩
      show S (ht - 2) = S j
      rw [c]
    · refine Or.inr ⟨rfl, ?_⟩
      show S (ht - 1) = S j
      rw [show j = ht - 1 from by omega]
  · intro i
    rw [Bool.or_eq_true, decide_eq_true_iff, decide_eq_true_iff]
    constructor
    · intro z
      rcases z with z | z
      · exact ⟨ht - 2, by omega, by omega, z.symm⟩
      · exact ⟨ht - 1, by omega, by omega, z.symm⟩
    · intro ⟨j, j1, j2, j3⟩
      by_cases c : j = ht - 2
      · exact Or.inl (by rw [← j3, c])
      · exact Or.inr (by rw [← j3, show j = ht - 1 from by omega])
end BM
end
section
-- ===== end, message, choose, loop, again =====
section MK
variable {k m mk ht ts : Nat} {P Q : pa_T} {S : Nat → Nat} {nw : Nat → Nat} {ch : Nat → Bool} {l : List ro_T} {a : Nat} {xsize xmade xheight xsend : Int32} {xkind xone xother xlabel xpG xpH xtgt xstk xlA xgd xpl xhT xpk xps xlast xhd xln xqL xqV xseen : Nat → Int32} {ymade ydep ysize yrows yat ysend : Int32} {ysort yfrom yto ylab yfst ysnd yar ystk ysen yrec ytold yval yiS yiR ylast ymet : Nat → Int32}
theorem bm_rel (B : zB mk ht Q S xmade xheight xkind xone xother xlabel xpG xpH xstk ymade ydep ysort yfrom yto ylab yfst ysnd yar ystk)
    (ZX : zX m P xkind xone xother xlabel xpG xpH xtgt) (ZY : zY m P ysort yfrom yto ylab yfst ysnd yar) (es : xsize = nI m) (es' : ysize = nI m)
    (H : zZ k m P l a xpl xhT xpk xps xhd xln xqL xqV) (la : pt_la l) (hal : al l ysen yrec ytold yval yiS yiR) (er : yrows = nI l.length) (ea : yat = nI a) (el : xlast = ylast) (en : xsend = ysend)
    (hm : mk < 20) (hts : ts ≤ ht) (N : bu_N ht ts S nw ch) {fi sc ar : Nat → Int32} (f0 : ∀ i, i ≠ mk + 20 → fi i = yfst i) (f1 : 1 ≤ nw 0 → nw 0 ≤ 3 → fi (mk + 20) = nI (nw 4)) (s0 : ∀ i, i ≠ mk + 20 → sc i = ysnd i) (s1 : nw 0 = 2 → sc (mk + 20) = nI (nw 5))
    (a0 : ar (mk + 20) = -1) (a1 : ∀ i, i < mk → ch i = true → ar (i + 20) = nI mk) (a2 : ∀ i, i < mk → ch i = false → ar (i + 20) = yar (i + 20)) (a3 : ∀ i, i < 20 → ar i = yar i) :
    i_Rel (k + 4) (xsize, nI (mk + 1), nI (ht - ts + 1), xsend, upd xkind (mk + 20) (nI (nw 0)), upd xone (mk + 20) (nI (nw 1)), upd xother (mk + 20) (nI (nw 2)), upd xlabel (mk + 20) (nI (nw 3)), upd xpG (mk + 20) (nI (nw 4)), upd xpH (mk + 20) (nI (nw 5)), xtgt, upd xstk (ht - ts) (nI mk), xlA, xgd, xpl, xhT, xpk, xps, xlast, xhd, xln, xqL, xqV, xseen)
      (nI (mk + 1), nI (ht - ts + 1), ysize, yrows, yat, ysend, upd ysort (mk + 20) (nI (nw 0)), upd yfrom (mk + 20) (nI (nw 1)), upd yto (mk + 20) (nI (nw 2)), upd ylab (mk + 20) (nI (nw 3)), fi, sc, ar, upd ystk (ht - ts) (nI mk), ysen, yrec, ytold, yval, yiS, yiR, ylast, ymet) := by
  obtain ⟨b1, b2, b3, b4, b5, b6, b7, b8⟩ := B
  refine ⟨mk + 1, ht - ts + 1, bu_Q Q mk nw ch, bu_S S (ht - ts) mk, m, P, l, a, ⟨bu_step b1 hm hts N, rfl, rfl, rfl, rfl, arX_step b6, arY_step b7 (fun i hi => f0 _ (by omega)) f1 (fun i hi => s0 _ (by omega)) s1 N.2.2.2.2.2.2.1 a0 a1 a2, zB_stk b8 (by omega)⟩,
    zX_sb ZX bm_u bm_u bm_u bm_u bm_u bm_u, zY_sb ZY bm_u bm_u bm_u bm_u (fun i hi => f0 _ (by omega)) (fun i hi => s0 _ (by omega)) a3, es, es', zZ_k (by omega) H, la, hal, er, ea, el, en⟩
end MK
theorem ba_four (x : Int32) : (x < 0 ∨ (¬ x < 0 ∧ ¬ x ≤ 3)) ∨ ∃ c : Nat, c < 4 ∧ x = nI c := by
  rcases pk_ix x (n := 4) (by decide) with h | h | h
  · exact Or.inl (Or.inl h)
  · refine Or.inl (Or.inr ?_)
    have h3 : (4 : Int32) ≤ x := h
    rw [Int32.le_iff_toInt_le, show (4 : Int32).toInt = 4 from by decide] at h3
    refine ⟨?_, ?_⟩
    · rw [Int32.lt_iff_toInt_lt, show (0 : Int32).toInt = 0 from by decide]; omega
    · rw [Int32.le_iff_toInt_le, show (3 : Int32).toInt = 3 from by decide]; omega
  · exact Or.inr h
theorem i_vc_end {k : Nat} {u : SX} {v : SY} (I : i_Rel k u v) (hk : k + 4 ≤ 2048) : wpX_end (fun r u' => wpY_end (fun r' v' => r' = r ∧ i_Rel (k + 4) u' v') v) u := by
  have I4 := i_up I
  obtain ⟨xsize, xmade, xheight, xsend, xkind, xone, xother, xlabel, xpG, xpH, xtgt, xstk, xlA, xgd, xpl, xhT, xpk, xps, xlast, xhd, xln, xqL, xqV, xseen⟩ := u
  obtain ⟨ymade, ydep, ysize, yrows, yat, ysend, ysort, yfrom, yto, ylab, yfst, ysnd, yar, ystk, ysen, yrec, ytold, yval, yiS, yiR, ylast, ymet⟩ := v
  obtain ⟨mk, ht, Q, S, m, P, l, a, B, ZX, ZY, es, es', H, la, hal, er, ea, el, en⟩ := I
  have B' := B
  obtain ⟨b1, b2, b3, b4, b5, b6, b7, b8⟩ := B'
  have m20 := b1.1
  have hm := b1.2.1
  unfold wpX_end
  refine pk_eq mk 20 (fun c => ?_) (fun c => ?_) b2
  · unfold wpY_end
    exact pk_eq mk 20 (fun _ => ⟨rfl, I4⟩) (fun z => absurd c z) b4
  · refine xm_make (ts := 0) (c0 := 0) (c1 := 0) (c2 := 0) (c3 := 0) (g := 0) (h := 0) (mk := mk) (ht := ht) (by omega) hm (by omega) (by omega) (by omega) (by omega) (by omega) (by omega) (by omega) (by omega) b2 b3 (fun _ => rfl) (fun z => absurd z (by omega)) (fun _ => rfl) (fun z => absurd z (by omega)) ?_
    unfold wpY_end
    refine pk_eq mk 20 (fun z => absurd z c) (fun _ => ?_) b4
    refine ym_make (mk := mk) (d := ht - 0) (by omega) hm b4 b5 ?_
    refine ⟨rfl, ?_⟩
    exact bm_rel (ts := 0) (nw := bm_n 0 0 0 0 0 0) (ch := fun _ => false) B ZX ZY es es' H la hal er ea el en (by omega) (by omega) (bm_0 b1 (Or.inl rfl) (by omega)) (fun _ _ => rfl) (fun z => absurd z (by decide)) (fun _ _ => rfl) (fun z => absurd z (by decide)) pk_us (fun i _ z => absurd z Bool.false_ne_true) (fun i hi _ => pk_un (by omega)) (fun i hi => pk_un (by omega))
theorem i_vc_again {k : Nat} {u : SX} {v : SY} (I : i_Rel k u v) (hk : k + 4 ≤ 2048) (v1 : Int32) : wpX_again (fun r u' => wpY_again (fun r' v' => r' = r ∧ i_Rel (k + 4) u' v') v v1) u v1 := by
  have I4 := i_up I
  obtain ⟨xsize, xmade, xheight, xsend, xkind, xone, xother, xlabel, xpG, xpH, xtgt, xstk, xlA, xgd, xpl, xhT, xpk, xps, xlast, xhd, xln, xqL, xqV, xseen⟩ := u
  obtain ⟨ymade, ydep, ysize, yrows, yat, ysend, ysort, yfrom, yto, ylab, yfst, ysnd, yar, ystk, ysen, yrec, ytold, yval, yiS, yiR, ylast, ymet⟩ := v
  obtain ⟨mk, ht, Q, S, m, P, l, a, B, ZX, ZY, es, es', H, la, hal, er, ea, el, en⟩ := I
  have B' := B
  obtain ⟨b1, b2, b3, b4, b5, b6, b7, b8⟩ := B'
  have m20 := b1.1
  have hm := b1.2.1
  unfold wpX_again
  rcases ba_two v1 with ⟨z | ⟨z, z'⟩, _⟩ | ⟨c1, hc, rfl⟩
  · refine br_t z ?_
    unfold wpY_again
    exact br_t z ⟨rfl, I4⟩
  · refine br_f z (br_f z' ?_)
    unfold wpY_again
    exact br_f z (br_f z' ⟨rfl, I4⟩)
  have p0 : ¬ nI c1 < 0 := nI_pos (by omega)
  have p1 : nI c1 ≤ 1 := nI_le (b := 1) (by omega) (by decide)
  refine br_f p0 (br_t p1 ?_)
  refine pk_eq mk 20 (fun c => ?_) (fun c => ?_) b2
  · unfold wpY_again
    exact br_f p0 (br_t p1 (pk_eq mk 20 (fun _ => ⟨rfl, I4⟩) (fun z => absurd c z) b4))
  · refine xm_make (ts := 0) (c0 := 4) (c1 := c1) (c2 := 0) (c3 := 0) (g := 0) (h := 0) (mk := mk) (ht := ht) (by omega) hm (by omega) (by omega) (by omega) (by omega) (by omega) (by omega) (by omega) (by omega) b2 b3 (fun _ => rfl) (fun z => absurd z (by omega)) (fun _ => rfl) (fun z => absurd z (by omega)) ?_
    unfold wpY_again
    refine br_f p0 (br_t p1 ?_)
    refine pk_eq mk 20 (fun z => absurd z c) (fun _ => ?_) b4
    refine ym_make (mk := mk) (d := ht - 0) (by omega) hm b4 b5 ?_
    refine ⟨rfl, ?_⟩
    exact bm_rel (ts := 0) (nw := bm_n 4 c1 0 0 0 0) (ch := fun _ => false) B ZX ZY es es' H la hal er ea el en (by omega) (by omega) (bm_0 b1 (Or.inr rfl) hc) (fun _ _ => rfl) (fun _ z => absurd (show 4 ≤ 3 from z) (by omega)) (fun _ _ => rfl) (fun z => absurd (show 4 = 2 from z) (by omega)) pk_us (fun i _ z => absurd z Bool.false_ne_true) (fun i hi _ => pk_un (by omega)) (fun i hi => pk_un (by omega))
section MT
variable {k m mk ht : Nat} {P Q : pa_T} {S : Nat → Nat} {l : List ro_T} {a : Nat} {xsize xmade xheight xsend : Int32} {xkind xone xother xlabel xpG xpH xtgt xstk xlA xgd xpl xhT xpk xps xlast xhd xln xqL xqV xseen : Nat → Int32} {ymade ydep ysize yrows yat ysend : Int32} {ysort yfrom yto ylab yfst ysnd yar ystk ysen yrec ytold yval yiS yiR ylast ymet : Nat → Int32}
/-- one taken: both sides -/
theorem bm_t1 {c0 c1 c2 c3 : Nat} (B : zB mk ht Q S xmade xheight xkind xone xother xlabel xpG xpH xstk ymade ydep ysort yfrom yto ylab yfst ysnd yar ystk)
    (ZX : zX m P xkind xone xother xlabel xpG xpH xtgt) (ZY : zY m P ysort yfrom yto ylab yfst ysnd yar) (es : xsize = nI m) (es' : ysize = nI m)
    (H : zZ k m P l a xpl xhT xpk xps xhd xln xqL xqV) (la : pt_la l) (hal : al l ysen yrec ytold yval yiS yiR) (er : yrows = nI l.length) (ea : yat = nI a) (el : xlast = ylast) (en : xsend = ysend)
    (hm : mk < 20) (h0 : 1 ≤ ht) (kk : (c0 = 1 ∧ c1 ≠ c2) ∨ (c0 = 3 ∧ c1 < 2)) (h1 : c1 < 3) (h2 : c2 < 3) (h3 : c3 < 4)
    {postX : Int32 → SX → Prop} {postY : Int32 → SY → Prop}
    (hX : (∀ r u, postX r u → postX r u) → postX (nI (ht - 1 + 1)) (xsize, nI (mk + 1), nI (ht - 1 + 1), xsend, upd xkind (mk + 20) (nI c0), upd xone (mk + 20) (nI c1), upd xother (mk + 20) (nI c2), upd xlabel (mk + 20) (nI c3), upd xpG (mk + 20) (nI (S (ht - 1))), upd xpH (mk + 20) (nI 0), xtgt, upd xstk (ht - 1) (nI mk), xlA, xgd, xpl, xhT, xpk, xps, xlast, xhd, xln, xqL, xqV, xseen)) :
    wpX_make postX (xsize, xmade, xheight, xsend, xkind, xone, xother, xlabel, xpG, xpH, xtgt, xstk, xlA, xgd, xpl, xhT, xpk, xps, xlast, xhd, xln, xqL, xqV, xseen) (nI c0) (nI c1) (nI c2) (nI c3) (nI 1) := by
  obtain ⟨b1, b2, b3, b4, b5, b6, b7, b8⟩ := B
  have m20 := b1.1
  have hm' := b1.2.1
  have sm := (b1.2.2.2.1 (ht - 1) (by omega)).1
  exact xm_make (ts := 1) (mk := mk) (ht := ht) (g := S (ht - 1)) (h := 0) hm hm' h0 (by omega) (by omega) (by omega) (by omega) (by omega) (by omega) (by omega) b2 b3 (fun z => absurd z (by omega)) (fun _ => (b8 (ht - 1) (by omega)).1) (fun _ => rfl) (fun z => absurd z (by omega)) (hX (fun _ _ h => h))
theorem bm_y1 {c0 c1 c2 c3 : Nat} (B : zB mk ht Q S xmade xheight xkind xone xother xlabel xpG xpH xstk ymade ydep ysort yfrom yto ylab yfst ysnd yar ystk) (hm : mk < 20) (h0 : 1 ≤ ht)
    {postY : Int32 → SY → Prop} {y0 : Int32} (ey : y0 = nI (ht - 1))
    (hY : postY (nI (ht - 1 + 1)) (nI (mk + 1), nI (ht - 1 + 1), ysize, yrows, yat, ysend, upd ysort (mk + 20) (nI c0), upd yfrom (mk + 20) (nI c1), upd yto (mk + 20) (nI c2), upd ylab (mk + 20) (nI c3), upd yfst (mk + 20) (nI (S (ht - 1))), upd ysnd (mk + 20) (nI (S (ht - 1))), upd (upd (upd yar (S (ht - 1) + 20) (nI mk)) (S (ht - 1) + 20) (nI mk)) (mk + 20) (-1), upd ystk (ht - 1) (nI mk), ysen, yrec, ytold, yval, yiS, yiR, ylast, ymet)) :
    vp_in y0 20 ∧ vp_in y0 20 ∧ wpY_take (fun u => wpY_make postY u (nI c0) (nI c1) (nI c2) (nI c3)) (ymade, y0, ysize, yrows, yat, ysend, ysort, yfrom, yto, ylab, yfst, ysnd, yar, ystk, ysen, yrec, ytold, yval, yiS, yiR, ylast, ymet) (ystk y0.toNatClampNeg) (ystk y0.toNatClampNeg) := by
  subst ey
  obtain ⟨b1, b2, b3, b4, b5, b6, b7, b8⟩ := B
  have m20 := b1.1
  have hm' := b1.2.1
  have sm := (b1.2.2.2.1 (ht - 1) (by omega)).1
  have v1 : vp_in (nI (ht - 1)) 20 := ba_in (by omega) (by omega)
  refine ⟨v1, v1, ?_⟩
  rw [ba_cl (show ht - 1 < 1000 by omega)]
  refine ym_take (mk := mk) hm (by omega) (by omega) b4 (b8 (ht - 1) (by omega)).2 (b8 (ht - 1) (by omega)).2 ?_
  exact ym_make (mk := mk) (d := ht - 1) hm (by omega) rfl rfl hY
theorem bm_r1 {c0 c1 c2 c3 : Nat} (B : zB mk ht Q S xmade xheight xkind xone xother xlabel xpG xpH xstk ymade ydep ysort yfrom yto ylab yfst ysnd yar ystk)
    (ZX : zX m P xkind xone xother xlabel xpG xpH xtgt) (ZY : zY m P ysort yfrom yto ylab yfst ysnd yar) (es : xsize = nI m) (es' : ysize = nI m)
    (H : zZ k m P l a xpl xhT xpk xps xhd xln xqL xqV) (la : pt_la l) (hal : al l ysen yrec ytold yval yiS yiR) (er : yrows = nI l.length) (ea : yat = nI a) (el : xlast = ylast) (en : xsend = ysend)
    (hm : mk < 20) (h0 : 1 ≤ ht) (kk : (c0 = 1 ∧ c1 ≠ c2) ∨ (c0 = 3 ∧ c1 < 2)) (h1 : c1 < 3) (h2 : c2 < 3) (h3 : c3 < 4) :
    i_Rel (k + 4) (xsize, nI (mk + 1), nI (ht - 1 + 1), xsend, upd xkind (mk + 20) (nI c0), upd xone (mk + 20) (nI c1), upd xother (mk + 20) (nI c2), upd xlabel (mk + 20) (nI c3), upd xpG (mk + 20) (nI (S (ht - 1))), upd xpH (mk + 20) (nI 0), xtgt, upd xstk (ht - 1) (nI mk), xlA, xgd, xpl, xhT, xpk, xps, xlast, xhd, xln, xqL, xqV, xseen)
      (nI (mk + 1), nI (ht - 1 + 1), ysize, yrows, yat, ysend, upd ysort (mk + 20) (nI c0), upd yfrom (mk + 20) (nI c1), upd yto (mk + 20) (nI c2), upd ylab (mk + 20) (nI c3), upd yfst (mk + 20) (nI (S (ht - 1))), upd ysnd (mk + 20) (nI (S (ht - 1))), upd (upd (upd yar (S (ht - 1) + 20) (nI mk)) (S (ht - 1) + 20) (nI mk)) (mk + 20) (-1), upd ystk (ht - 1) (nI mk), ysen, yrec, ytold, yval, yiS, yiR, ylast, ymet) := by
  have b1 := B.1
  have sm := (b1.2.2.2.1 (ht - 1) (by omega)).1
  refine bm_rel (ts := 1) (nw := bm_n c0 c1 c2 c3 (S (ht - 1)) 0) (ch := fun i => decide (i = S (ht - 1))) B ZX ZY es es' H la hal er ea el en hm h0 (bm_1 b1 h0 kk h1 h2 h3) (fun i hi => pk_un hi) (fun _ _ => pk_us) (fun i hi => pk_un hi) (fun z => ?_) pk_us (fun i hi z => ?_) (fun i hi z => ?_) (fun i hi => ?_)
  · have z' : c0 = 2 := z
    omega
  · have z' : i = S (ht - 1) := of_decide_eq_true z
    rw [pk_un (by omega), z', pk_us]
  · have z' : ¬ i = S (ht - 1) := of_decide_eq_false z
    rw [pk_un (by omega), pk_un (by omega), pk_un (by omega)]
  · rw [pk_un (by omega), pk_un (by omega), pk_un (by omega)]
theorem bm_y2 {c1 : Nat} (B : zB mk ht Q S xmade xheight xkind xone xother xlabel xpG xpH xstk ymade ydep ysort yfrom yto ylab yfst ysnd yar ystk) (hm : mk < 20) (h0 : 2 ≤ ht)
    {postY : Int32 → SY → Prop} {y0 : Int32} (ey : y0 = nI (ht - 2))
    (hY : postY (nI (ht - 2 + 1)) (nI (mk + 1), nI (ht - 2 + 1), ysize, yrows, yat, ysend, upd ysort (mk + 20) (nI 2), upd yfrom (mk + 20) (nI c1), upd yto (mk + 20) (nI 0), upd ylab (mk + 20) (nI 0), upd yfst (mk + 20) (nI (S (ht - 2))), upd ysnd (mk + 20) (nI (S (ht - 1))), upd (upd (upd yar (S (ht - 2) + 20) (nI mk)) (S (ht - 1) + 20) (nI mk)) (mk + 20) (-1), upd ystk (ht - 2) (nI mk), ysen, yrec, ytold, yval, yiS, yiR, ylast, ymet)) :
    vp_in y0 20 ∧ vp_in (y0 + 1) 20 ∧ wpY_take (fun u => wpY_make postY u (nI 2) (nI c1) (nI 0) (nI 0)) (ymade, y0, ysize, yrows, yat, ysend, ysort, yfrom, yto, ylab, yfst, ysnd, yar, ystk, ysen, yrec, ytold, yval, yiS, yiR, ylast, ymet) (ystk y0.toNatClampNeg) (ystk (y0 + 1).toNatClampNeg) := by
  subst ey
  obtain ⟨b1, b2, b3, b4, b5, b6, b7, b8⟩ := B
  have m20 := b1.1
  have hm' := b1.2.1
  have sm := (b1.2.2.2.1 (ht - 1) (by omega)).1
  have sm2 := (b1.2.2.2.1 (ht - 2) (by omega)).1
  rw [nI_1, show ht - 2 + 1 = ht - 1 from by omega]
  refine ⟨ba_in (by omega) (by omega), ba_in (by omega) (by omega), ?_⟩
  rw [ba_cl (show ht - 1 < 1000 by omega), ba_cl (show ht - 2 < 1000 by omega)]
  refine ym_take (mk := mk) hm (by omega) (by omega) b4 (b8 (ht - 2) (by omega)).2 (b8 (ht - 1) (by omega)).2 ?_
  exact ym_make (mk := mk) (d := ht - 2) hm (by omega) rfl rfl hY
end MT
theorem i_vc_message {k : Nat} {u : SX} {v : SY} (I : i_Rel k u v) (hk : k + 4 ≤ 2048) (v1 : Int32) (v2 : Int32) (v3 : Int32) : wpX_message (fun r u' => wpY_message (fun r' v' => r' = r ∧ i_Rel (k + 4) u' v') v v1 v2 v3) u v1 v2 v3 := by
  have I4 := i_up I
  obtain ⟨xsize, xmade, xheight, xsend, xkind, xone, xother, xlabel, xpG, xpH, xtgt, xstk, xlA, xgd, xpl, xhT, xpk, xps, xlast, xhd, xln, xqL, xqV, xseen⟩ := u
  obtain ⟨ymade, ydep, ysize, yrows, yat, ysend, ysort, yfrom, yto, ylab, yfst, ysnd, yar, ystk, ysen, yrec, ytold, yval, yiS, yiR, ylast, ymet⟩ := v
  obtain ⟨mk, ht, Q, S, m, P, l, a, B, ZX, ZY, es, es', H, la, hal, er, ea, el, en⟩ := I
  have B' := B
  obtain ⟨b1, b2, b3, b4, b5, b6, b7, b8⟩ := B'
  have m20 := b1.1
  have hm := b1.2.1
  unfold wpX_message
  rcases ba_role v1 with hb | ⟨p, hp, rfl⟩
  · refine xr_bad hb ?_
    refine br_f (by decide) ?_
    unfold wpY_message
    refine yr_bad hb ?_
    exact br_f (by decide) ⟨rfl, I4⟩
  refine xr_ok hp ?_
  refine br_t rfl ?_
  rcases ba_role v2 with hb | ⟨q, hq, rfl⟩
  · refine xr_bad hb ?_
    refine br_f (by decide) ?_
    unfold wpY_message
    refine yr_ok hp ?_
    refine br_t rfl ?_
    refine yr_bad hb ?_
    exact br_f (by decide) ⟨rfl, I4⟩
  refine xr_ok hq ?_
  refine br_t rfl ?_
  by_cases pq : p = q
  · refine pk_eq p q (fun _ => ?_) (fun z => absurd pq z)
    unfold wpY_message
    refine yr_ok hp ?_
    refine br_t rfl ?_
    refine yr_ok hq ?_
    refine br_t rfl ?_
    exact pk_eq p q (fun _ => ⟨rfl, I4⟩) (fun z => absurd pq z)
  refine pk_eq p q (fun z => absurd z pq) (fun _ => ?_)
  rcases ba_four v3 with hb | ⟨c, hc, rfl⟩
  · rcases hb with hb | ⟨hb, hb'⟩
    · refine br_t hb ?_
      unfold wpY_message
      refine yr_ok hp ?_
      refine br_t rfl ?_
      refine yr_ok hq ?_
      refine br_t rfl ?_
      exact pk_eq p q (fun z => absurd z pq) (fun _ => br_t hb ⟨rfl, I4⟩)
    · refine br_f hb (br_f hb' ?_)
      unfold wpY_message
      refine yr_ok hp ?_
      refine br_t rfl ?_
      refine yr_ok hq ?_
      refine br_t rfl ?_
      exact pk_eq p q (fun z => absurd z pq) (fun _ => br_f hb (br_f hb' ⟨rfl, I4⟩))
  have p0 : ¬ nI c < 0 := nI_pos (by omega)
  have p3 : nI c ≤ 3 := nI_le (b := 3) (by omega) (by decide)
  refine br_f p0 (br_t p3 ?_)
  refine pk_eq mk 20 (fun c20 => ?_) (fun c20 => ?_) b2
  · unfold wpY_message
    refine yr_ok hp ?_
    refine br_t rfl ?_
    refine yr_ok hq ?_
    refine br_t rfl ?_
    refine pk_eq p q (fun z => absurd z pq) (fun _ => br_f p0 (br_t p3 ?_))
    exact pk_eq mk 20 (fun _ => ⟨rfl, I4⟩) (fun z => absurd c20 z) b4
  refine pk_le 1 ht (fun h1 => ?_) (fun h1 => ?_) (by rfl) b3
  · refine bm_t1 (c0 := 1) (postY := fun _ _ => True) B ZX ZY es es' H la hal er ea el en (by omega) h1 (Or.inl ⟨rfl, pq⟩) hp hq hc (fun _ => ?_)
    unfold wpY_message
    refine yr_ok hp ?_
    refine br_t rfl ?_
    refine yr_ok hq ?_
    refine br_t rfl ?_
    refine pk_eq p q (fun z => absurd z pq) (fun _ => br_f p0 (br_t p3 ?_))
    refine pk_eq mk 20 (fun z => absurd z c20) (fun _ => ?_) b4
    refine pk_le 1 ht (fun _ => ?_) (fun z => absurd h1 (by omega)) (by rfl) b5
    refine nm_r (e' := nI (ht - 1)) (by rw [b5, ba_s1 h1]) ?_
    refine bm_y1 (c0 := 1) B (by omega) h1 rfl ⟨rfl, ?_⟩
    exact bm_r1 B ZX ZY es es' H la hal er ea el en (by omega) h1 (Or.inl ⟨rfl, pq⟩) hp hq hc
  · unfold wpY_message
    refine yr_ok hp ?_
    refine br_t rfl ?_
    refine yr_ok hq ?_
    refine br_t rfl ?_
    refine pk_eq p q (fun z => absurd z pq) (fun _ => br_f p0 (br_t p3 ?_))
    refine pk_eq mk 20 (fun z => absurd z c20) (fun _ => ?_) b4
    exact pk_le 1 ht (fun z => absurd h1 (by omega)) (fun _ => ⟨rfl, I4⟩) (by rfl) b5
theorem i_vc_loop {k : Nat} {u : SX} {v : SY} (I : i_Rel k u v) (hk : k + 4 ≤ 2048) (v1 : Int32) : wpX_loop (fun r u' => wpY_loop (fun r' v' => r' = r ∧ i_Rel (k + 4) u' v') v v1) u v1 := by
  have I4 := i_up I
  obtain ⟨xsize, xmade, xheight, xsend, xkind, xone, xother, xlabel, xpG, xpH, xtgt, xstk, xlA, xgd, xpl, xhT, xpk, xps, xlast, xhd, xln, xqL, xqV, xseen⟩ := u
  obtain ⟨ymade, ydep, ysize, yrows, yat, ysend, ysort, yfrom, yto, ylab, yfst, ysnd, yar, ystk, ysen, yrec, ytold, yval, yiS, yiR, ylast, ymet⟩ := v
  obtain ⟨mk, ht, Q, S, m, P, l, a, B, ZX, ZY, es, es', H, la, hal, er, ea, el, en⟩ := I
  have B' := B
  obtain ⟨b1, b2, b3, b4, b5, b6, b7, b8⟩ := B'
  have m20 := b1.1
  have hm := b1.2.1
  unfold wpX_loop
  rcases ba_two v1 with ⟨z | ⟨z, z'⟩, _⟩ | ⟨c1, hc, rfl⟩
  · refine br_t z ?_
    unfold wpY_loop
    exact br_t z ⟨rfl, I4⟩
  · refine br_f z (br_f z' ?_)
    unfold wpY_loop
    exact br_f z (br_f z' ⟨rfl, I4⟩)
  have p0 : ¬ nI c1 < 0 := nI_pos (by omega)
  have p1 : nI c1 ≤ 1 := nI_le (b := 1) (by omega) (by decide)
  refine br_f p0 (br_t p1 ?_)
  refine pk_eq mk 20 (fun c20 => ?_) (fun c20 => ?_) b2
  · unfold wpY_loop
    exact br_f p0 (br_t p1 (pk_eq mk 20 (fun _ => ⟨rfl, I4⟩) (fun z => absurd c20 z) b4))
  refine pk_le 1 ht (fun h1 => ?_) (fun h1 => ?_) (by rfl) b3
  · refine bm_t1 (c0 := 3) (c2 := 0) (c3 := 0) (postY := fun _ _ => True) B ZX ZY es es' H la hal er ea el en (by omega) h1 (Or.inr ⟨rfl, hc⟩) (by omega) (by omega) (by omega) (fun _ => ?_)
    unfold wpY_loop
    refine br_f p0 (br_t p1 ?_)
    refine pk_eq mk 20 (fun z => absurd z c20) (fun _ => ?_) b4
    refine pk_le 1 ht (fun _ => ?_) (fun z => absurd h1 (by omega)) (by rfl) b5
    refine nm_r (e' := nI (ht - 1)) (by rw [b5, ba_s1 h1]) ?_
    refine bm_y1 (c0 := 3) (c2 := 0) (c3 := 0) B (by omega) h1 rfl ⟨rfl, ?_⟩
    exact bm_r1 B ZX ZY es es' H la hal er ea el en (by omega) h1 (Or.inr ⟨rfl, hc⟩) (by omega) (by omega) (by omega)
  · unfold wpY_loop
    refine br_f p0 (br_t p1 ?_)
    refine pk_eq mk 20 (fun z => absurd z c20) (fun _ => ?_) b4
    exact pk_le 1 ht (fun z => absurd h1 (by omega)) (fun _ => ⟨rfl, I4⟩) (by rfl) b5
theorem i_vc_choose {k : Nat} {u : SX} {v : SY} (I : i_Rel k u v) (hk : k + 4 ≤ 2048) (v1 : Int32) : wpX_choose (fun r u' => wpY_choose (fun r' v' => r' = r ∧ i_Rel (k + 4) u' v') v v1) u v1 := by
  have I4 := i_up I
  obtain ⟨xsize, xmade, xheight, xsend, xkind, xone, xother, xlabel, xpG, xpH, xtgt, xstk, xlA, xgd, xpl, xhT, xpk, xps, xlast, xhd, xln, xqL, xqV, xseen⟩ := u
  obtain ⟨ymade, ydep, ysize, yrows, yat, ysend, ysort, yfrom, yto, ylab, yfst, ysnd, yar, ystk, ysen, yrec, ytold, yval, yiS, yiR, ylast, ymet⟩ := v
  obtain ⟨mk, ht, Q, S, m, P, l, a, B, ZX, ZY, es, es', H, la, hal, er, ea, el, en⟩ := I
  have B' := B
  obtain ⟨b1, b2, b3, b4, b5, b6, b7, b8⟩ := B'
  have m20 := b1.1
  have hm := b1.2.1
  unfold wpX_choose
  rcases ba_role v1 with hb | ⟨p, hp, rfl⟩
  · refine xr_bad hb ?_
    refine br_f (by decide) ?_
    unfold wpY_choose
    refine yr_bad hb ?_
    exact br_f (by decide) ⟨rfl, I4⟩
  refine xr_ok hp ?_
  refine br_t rfl ?_
  refine pk_eq mk 20 (fun c20 => ?_) (fun c20 => ?_) b2
  · unfold wpY_choose
    refine yr_ok hp ?_
    refine br_t rfl ?_
    exact pk_eq mk 20 (fun _ => ⟨rfl, I4⟩) (fun z => absurd c20 z) b4
  refine pk_le 2 ht (fun h1 => ?_) (fun h1 => ?_) (by rfl) b3
  · have sm := (b1.2.2.2.1 (ht - 1) (by omega)).1
    have sm2 := (b1.2.2.2.1 (ht - 2) (by omega)).1
    refine xm_make (ts := 2) (c0 := 2) (c1 := p) (c2 := 0) (c3 := 0) (mk := mk) (ht := ht) (g := S (ht - 2)) (h := S (ht - 1)) (by omega) hm h1 (by omega) (by omega) (by omega) (by omega) (by omega) (by omega) (by omega) b2 b3 (fun z => absurd z (by omega)) (fun _ => (b8 (ht - 2) (by omega)).1) (fun z => absurd z (by omega)) (fun _ => by rw [show ht - 2 + 1 = ht - 1 from by omega]; exact (b8 (ht - 1) (by omega)).1) ?_
    unfold wpY_choose
    refine yr_ok hp ?_
    refine br_t rfl ?_
    refine pk_eq mk 20 (fun z => absurd z c20) (fun _ => ?_) b4
    refine pk_le 2 ht (fun _ => ?_) (fun z => absurd h1 (by omega)) (by rfl) b5
    refine nm_r (e' := nI (ht - 2)) (by rw [b5, ba_s2 h1]) ?_
    refine bm_y2 B (by omega) h1 rfl ⟨rfl, ?_⟩
    refine bm_rel (ts := 2) (nw := bm_n 2 p 0 0 (S (ht - 2)) (S (ht - 1))) (ch := fun i => decide (i = S (ht - 2)) || decide (i = S (ht - 1))) B ZX ZY es es' H la hal er ea el en (by omega) h1 (bm_2 b1 h1 hp) (fun i hi => pk_un hi) (fun _ _ => pk_us) (fun i hi => pk_un hi) (fun _ => pk_us) pk_us (fun i hi z => ?_) (fun i hi z => ?_) (fun i hi => ?_)
    · rw [Bool.or_eq_true, decide_eq_true_iff, decide_eq_true_iff] at z
      rw [pk_un (by omega)]
      by_cases c : i = S (ht - 1)
      · rw [c, pk_us]
      · rw [pk_un (by omega)]
        rcases z with z | z
        · rw [z, pk_us]
        · exact absurd z c
    · rw [Bool.or_eq_false_iff, decide_eq_false_iff_not, decide_eq_false_iff_not] at z
      rw [pk_un (by omega), pk_un (by omega), pk_un (by omega)]
    · rw [pk_un (by omega), pk_un (by omega), pk_un (by omega)]
  · unfold wpY_choose
    refine yr_ok hp ?_
    refine br_t rfl ?_
    refine pk_eq mk 20 (fun z => absurd z c20) (fun _ => ?_) b4
    exact pk_le 2 ht (fun z => absurd h1 (by omega)) (fun _ => ⟨rfl, I4⟩) (by rfl) b5
end
section
-- ===== loops that fit: both sides =====
def lp_G (Q : pa_T) (c : Nat) (lA gd : Nat → Int32) (e : Nat) : Prop := ∀ nm, nm < 2 → lA (2 * c + nm) = ba_pI (pa_lo Q nm e + 1) ∧ gd (2 * c + nm) = ba_bI (pa_bt Q nm e)
def lp_b (Q : pa_T) (i : Nat) : Bool := decide (Q 0 i = 4) && (decide (pa_lo Q (Q 1 i) (Q 7 i) = 0) || !pa_bt Q (Q 1 i) (Q 7 i))
theorem lp_b_t {Q : pa_T} {i : Nat} : lp_b Q i = true ↔ Q 0 i = 4 ∧ (pa_lo Q (Q 1 i) (Q 7 i) = 0 ∨ pa_bt Q (Q 1 i) (Q 7 i) = false) := by
  unfold lp_b; simp
theorem lp_A {mk ht : Nat} {Q : pa_T} {S : Nat → Nat} (B : bu_W mk ht Q S) : pa_A mk Q := by
  intro p hp
  rcases B.2.2.2.2.2.2.2 p hp with ⟨h, _⟩ | ⟨q, h, h1, h2, _⟩
  · exact ⟨by omega, Or.inl h⟩
  · exact ⟨by omega, Or.inr (by omega)⟩
theorem ba_m1 (i : Nat) : nI i + (-1) = ba_pI (i + 1) := by
  cases i with
  | zero => decide
  | succ i => exact pk_m1 i
theorem ba_2i (c j : Nat) : 2 * nI c + nI j = nI (2 * c + j) := by rw [ba_2m, nI_add]
section LX
variable {mk : Nat} {Q : pa_T} {xsize xmade xheight xsend : Int32} {xkind xone xother xlabel xpG xpH xtgt xstk xlA xgd xpl xhT xpk xps xlast xhd xln xqL xqV xseen : Nat → Int32} {ymade ydep ysize yrows yat ysend : Int32} {ysort yfrom yto ylab yfst ysnd yar ystk ysen yrec ytold yval yiS yiR ylast ymet : Nat → Int32}
/-- what is around a part -/
theorem xb_25 {post : SX → Prop} {i c : Nat} {ac : Bool} (hX : ar_X 20 mk Q xkind xone xother xlabel xpG xpH) (m20 : mk ≤ 20) (A : pa_A mk Q) (D : pa_D mk Q) (hi : i < mk) (hc : c < mk) (ne : c ≠ i) (L : lp_G Q i xlA xgd (Q 7 i)) (h7 : Q 7 i ≤ mk) (h2 : 3 ≤ Q 0 i → Q 1 i < 2) (h3 : Q 0 i ≤ 3) (ha : ac = decide (Q 0 i ≠ 3))
    (hp : ∀ lA gd : Nat → Int32, (∀ j, j ≠ 2 * c → j ≠ 2 * c + 1 → lA j = xlA j ∧ gd j = xgd j) → lp_G Q c lA gd (i + 1) → post (xsize, xmade, xheight, xsend, xkind, xone, xother, xlabel, xpG, xpH, xtgt, xstk, lA, gd, xpl, xhT, xpk, xps, xlast, xhd, xln, xqL, xqV, xseen)) :
    ∀ d j n (lA gd : Nat → Int32), j + d = 2 → d < n → (∀ q, q ≠ 2 * c → q ≠ 2 * c + 1 → lA q = xlA q ∧ gd q = xgd q) → (∀ q, q < j → lA (2 * c + q) = ba_pI (pa_lo Q q (Q 7 i) + 1) ∧ gd (2 * c + q) = ba_bI (pa_bt Q q (Q 7 i) || ac)) →
      wX_surround_25 post (nI c) (nI i) (nI (i + 20)) (ba_bI ac) xsize xmade xheight xsend n (nI j) xkind xone xother xlabel xpG xpH xtgt xstk lA gd xpl xhT xpk xps xlast xhd xln xqL xqV xseen := by
  obtain ⟨x0, x1, _⟩ := hX i hi
  obtain ⟨d0, d1, _⟩ := D i hi
  have vx : vp_in (nI (i + 20)) 40 := ba_in (by omega) (by omega)
  have cx : (nI (i + 20)).toNatClampNeg = i + 20 := ba_cl (by omega)
  have k0 : xkind (nI (i + 20)).toNatClampNeg = nI (Q 0 i) := by rw [cx]; exact x0
  intro d
  induction d with
  | zero =>
    intro j n lA gd hj hn ho hq
    obtain ⟨n, rfl⟩ : ∃ e, n = e + 1 := ⟨n - 1, by omega⟩
    refine pk_le 2 j (fun _ => ⟨vx, ?_⟩) (fun z => absurd z (by omega))
    refine pk_eq (Q 0 i) 3 (fun k3 => ⟨vx, ?_⟩) (fun k3 => ?_) k0
    · have h2' := h2 (by omega)
      rw [cx, x1, ba_2i]
      have vi : vp_in (nI (2 * c + Q 1 i)) 40 := ba_in (by omega) (by omega)
      refine ⟨vi, ?_⟩
      rw [ba_cl (show 2 * c + Q 1 i < 1000 by omega), ba_vbc (by omega), ba_vb0]
      refine nm_e ⟨vx, vi, nm_e ?_⟩
      refine hp _ _ (fun q q1 q2 => ?_) (fun nm hnm => ?_)
      · have e : q ≠ 2 * c + Q 1 i := by omega
        rw [pk_un e, pk_un e]; exact ho q q1 q2
      · rw [pa_lo_s A m20 hi, pa_bt_s A m20 hi]
        by_cases e : Q 1 i = nm
        · rw [if_pos ⟨k3, e⟩, if_pos ⟨k3, e⟩, e, pk_us, pk_us]
          exact ⟨rfl, rfl⟩
        · rw [if_neg (fun z => e z.2), if_neg (fun z => e z.2), pk_un (by omega), pk_un (by omega)]
          obtain ⟨g1, g2⟩ := hq nm (by omega)
          refine ⟨g1, ?_⟩
          rw [g2, ha]
          rw [decide_eq_false (show ¬ Q 0 i ≠ 3 from fun z => z k3), decide_eq_false (show ¬ Q 0 i < 3 by omega), Bool.or_false, Bool.false_or]
    · refine hp _ _ ho (fun nm hnm => ?_)
      rw [pa_lo_s A m20 hi, pa_bt_s A m20 hi, if_neg (fun z => k3 z.1), if_neg (fun z => k3 z.1)]
      obtain ⟨g1, g2⟩ := hq nm (by omega)
      refine ⟨g1, ?_⟩
      rw [g2, ha, decide_eq_true (show Q 0 i ≠ 3 from k3), Bool.or_true, decide_eq_true (show Q 0 i < 3 by omega), Bool.true_or]
  | succ d ih =>
    intro j n lA gd hj hn ho hq
    obtain ⟨n, rfl⟩ : ∃ e, n = e + 1 := ⟨n - 1, by omega⟩
    have v1 : vp_in (2 * nI i + nI j) 40 := by rw [ba_2i]; exact ba_in (by omega) (by omega)
    have v2 : vp_in (2 * nI c + nI j) 40 := by rw [ba_2i]; exact ba_in (by omega) (by omega)
    have c1 : (2 * nI i + nI j).toNatClampNeg = 2 * i + j := by rw [ba_2i]; exact ba_cl (by omega)
    have c2 : (2 * nI c + nI j).toNatClampNeg = 2 * c + j := by rw [ba_2i]; exact ba_cl (by omega)
    obtain ⟨l1, l2⟩ := L j (by omega)
    obtain ⟨o1, o2⟩ := ho (2 * i + j) (by omega) (by omega)
    have lb := (pa_lo_b A m20 (nm := j) (Q 7 i) h7).1
    have st : ∀ b : Bool, b = (pa_bt Q j (Q 7 i) || ac) → wX_surround_25 post (nI c) (nI i) (nI (i + 20)) (ba_bI ac) xsize xmade xheight xsend n (nI (j + 1)) xkind xone xother xlabel xpG xpH xtgt xstk (upd lA (2 * c + j) (ba_pI (pa_lo Q j (Q 7 i) + 1))) (upd gd (2 * c + j) (ba_bI b)) xpl xhT xpk xps xlast xhd xln xqL xqV xseen := by
      intro b hb
      refine ih (j + 1) n _ _ (by omega) (by omega) (fun q q1 q2 => ?_) (fun q hq' => ?_)
      · have e : q ≠ 2 * c + j := by omega
        rw [pk_un e, pk_un e]; exact ho q q1 q2
      · by_cases e : q = j
        · subst e; rw [pk_us, pk_us, hb]; exact ⟨rfl, rfl⟩
        · rw [pk_un (by omega), pk_un (by omega)]; exact hq q (by omega)
    refine pk_le 2 j (fun z => absurd z (by omega)) (fun _ => ⟨v1, v2, ?_⟩)
    rw [c1, c2, o1, l1, ba_pb1 (by omega), ba_vb0, ba_vb1]
    refine nm_e ⟨v1, ?_⟩
    refine ba_br (o2.trans l2) (fun bf => ?_) (fun bt => ?_)
    · refine ba_br rfl (fun af => ?_) (fun at' => ?_)
      · exact ⟨v2, nm_e (nm_r (nI_1 j) (st false (by rw [bf, af]; rfl)))⟩
      · exact ⟨v2, nm_e (nm_r (nI_1 j) (st true (by rw [bf, at']; rfl)))⟩
    · exact ⟨v2, nm_e (nm_r (nI_1 j) (st true (by rw [bt]; rfl)))⟩
theorem xb_sur {post : SX → Prop} {i c : Nat} {y : Int32} (hX : ar_X 20 mk Q xkind xone xother xlabel xpG xpH) (m20 : mk ≤ 20) (A : pa_A mk Q) (D : pa_D mk Q) (hi : i < mk) (hc : c < mk) (ne : c ≠ i) (L : lp_G Q i xlA xgd (Q 7 i)) (h2 : 3 ≤ Q 0 i → Q 1 i < 2) (h3 : Q 0 i ≤ 3) (ey : y = nI c)
    (hp : ∀ lA gd : Nat → Int32, (∀ j, j ≠ 2 * c → j ≠ 2 * c + 1 → lA j = xlA j ∧ gd j = xgd j) → lp_G Q c lA gd (i + 1) → post (xsize, xmade, xheight, xsend, xkind, xone, xother, xlabel, xpG, xpH, xtgt, xstk, lA, gd, xpl, xhT, xpk, xps, xlast, xhd, xln, xqL, xqV, xseen)) : wpX_surround post (xsize, xmade, xheight, xsend, xkind, xone, xother, xlabel, xpG, xpH, xtgt, xstk, xlA, xgd, xpl, xhT, xpk, xps, xlast, xhd, xln, xqL, xqV, xseen) y (nI i) := by
  subst ey
  have x0 := (hX i hi).1
  have d0 := (D i hi).1
  have h7 := (A i hi).1
  unfold wpX_surround
  refine nm_r (ba_20 i) ⟨ba_in (by omega) (by omega), ?_⟩
  rw [ba_cl (show i + 20 < 1000 by omega)]
  refine pk_eq (Q 0 i) 3 (fun k3 => ⟨3, ?_⟩) (fun k3 => ⟨3, ?_⟩) x0
  · exact xb_25 (ac := false) hX m20 A D hi hc ne L h7 h2 h3 (by rw [k3]; rfl) hp 2 0 3 _ _ (by omega) (by omega) (fun _ _ _ => ⟨rfl, rfl⟩) (fun q hq => absurd hq (by omega))
  · exact xb_25 (ac := true) hX m20 A D hi hc ne L h7 h2 h3 (by rw [decide_eq_true k3]) hp 2 0 3 _ _ (by omega) (by omega) (fun _ _ _ => ⟨rfl, rfl⟩) (fun q hq => absurd hq (by omega))
/-- all those whose parent is d or beyond -/
def lp_I (mk d : Nat) (Q : pa_T) (lA gd : Nat → Int32) : Prop := ∀ c, c < mk → (Q 7 c = 0 ∨ d < Q 7 c) → lp_G Q c lA gd (Q 7 c)
theorem lp_I_s {d c : Nat} {lA gd lA' gd' : Nat → Int32} (h : ∀ c', c' < mk → (Q 7 c' = 0 ∨ d < Q 7 c') → c' ≠ c → lp_G Q c' lA gd (Q 7 c')) (ho : ∀ j, j ≠ 2 * c → j ≠ 2 * c + 1 → lA' j = lA j ∧ gd' j = gd j) (hc : lp_G Q c lA' gd' (Q 7 c)) : lp_I mk d Q lA' gd' := by
  intro c' h1 h2
  by_cases e : c' = c
  · subst e; exact hc
  · intro nm hn
    obtain ⟨o1, o2⟩ := ho (2 * c' + nm) (by omega) (by omega)
    rw [o1, o2]
    exact h c' h1 h2 e nm hn
theorem xb_54 {post : Int32 → SX → Prop} {ht : Nat} {S : Nat → Nat} (B : bu_W mk ht Q S) (hX : ar_X 20 mk Q xkind xone xother xlabel xpG xpH)
    (hp : ∀ (b : Bool) (lA gd : Nat → Int32), (b = true ↔ ∃ j, j < mk ∧ lp_b Q j = true) → lp_I mk 0 Q lA gd → post (ba_bI b) (xsize, xmade, xheight, xsend, xkind, xone, xother, xlabel, xpG, xpH, xtgt, xstk, lA, gd, xpl, xhT, xpk, xps, xlast, xhd, xln, xqL, xqV, xseen)) :
    ∀ d n (b : Bool) (lA gd : Nat → Int32), d ≤ mk → d < n → (b = true ↔ ∃ j, d ≤ j ∧ j < mk ∧ lp_b Q j = true) → lp_I mk d Q lA gd → wX_badLoops_54 post n (ba_bI b) (ba_pI (d + 1)) xsize xmade xheight xsend xkind xone xother xlabel xpG xpH xtgt xstk lA gd xpl xhT xpk xps xlast xhd xln xqL xqV xseen := by
  have m20 := B.1
  have A := lp_A B
  have D := B.2.2.1
  intro d
  induction d with
  | zero =>
    intro n b lA gd hd hn hb hI
    obtain ⟨n, rfl⟩ : ∃ e, n = e + 1 := ⟨n - 1, by omega⟩
    refine br_t (by decide) ⟨ba_nbI b, ?_⟩
    refine hp b lA gd (hb.trans ⟨fun ⟨j, _, h1, h2⟩ => ⟨j, h1, h2⟩, fun ⟨j, h1, h2⟩ => ⟨j, by omega, h1, h2⟩⟩) hI
  | succ i ih =>
    intro n b lA gd hd hn hb hI
    obtain ⟨n, rfl⟩ : ∃ e, n = e + 1 := ⟨n - 1, by omega⟩
    have hi : i < mk := by omega
    obtain ⟨x0, x1, _, _, x4, x5⟩ := hX i hi
    obtain ⟨d0, d1, _⟩ := D i hi
    obtain ⟨t1, t2, _, t4⟩ := B.2.2.2.2.2.2.1 i hi
    have Li : lp_G Q i lA gd (Q 7 i) := hI i hi (by rcases (A i hi).2 with z | z; exact Or.inl z; exact Or.inr z)
    have vx : vp_in (nI (i + 20)) 40 := ba_in (by omega) (by omega)
    have cx : (nI (i + 20)).toNatClampNeg = i + 20 := ba_cl (by omega)
    show wX_badLoops_54 post (n + 1) (ba_bI b) (nI i) xsize xmade xheight xsend xkind xone xother xlabel xpG xpH xtgt xstk lA gd xpl xhT xpk xps xlast xhd xln xqL xqV xseen
    -- the rows behind the parts
    have last : ∀ lA gd : Nat → Int32, lp_I mk i Q lA gd → wX_badLoops_117 post (wX_badLoops_54 post n) (ba_bI b) (nI i) (nI (i + 20)) (nI (Q 0 i)) xsize xmade xheight xsend xkind xone xother xlabel xpG xpH xtgt xstk lA gd xpl xhT xpk xps xlast xhd xln xqL xqV xseen := by
      intro lA gd hI'
      have go : ∀ b' : Bool, (b' = true ↔ b = true ∨ lp_b Q i = true) → wX_badLoops_54 post n (ba_bI b') (ba_pI (i + 1)) xsize xmade xheight xsend xkind xone xother xlabel xpG xpH xtgt xstk lA gd xpl xhT xpk xps xlast xhd xln xqL xqV xseen := by
        intro b' hb'
        refine ih n b' lA gd (by omega) (by omega) ?_ hI'
        rw [hb', hb]
        constructor
        · intro z
          rcases z with ⟨j, j1, j2, j3⟩ | z
          · exact ⟨j, by omega, j2, j3⟩
          · exact ⟨i, Nat.le_refl _, hi, z⟩
        · intro ⟨j, j1, j2, j3⟩
          by_cases e : j = i
          · subst e; exact Or.inr j3
          · exact Or.inl ⟨j, by omega, j2, j3⟩
      refine pk_eq (Q 0 i) 4 (fun k4 => ⟨vx, ?_⟩) (fun k4 => ?_)
      · have t4' := t4 (by omega)
        rw [cx, x1]
        refine nm_r (ba_2i i (Q 1 i)) ?_
        obtain ⟨l1, l2⟩ := hI' i hi (by rcases (A i hi).2 with z | z; exact Or.inl z; exact Or.inr (by omega)) (Q 1 i) t4'
        have lb := (pa_lo_b A m20 (nm := Q 1 i) (Q 7 i) (A i hi).1).1
        have vi : vp_in (nI (2 * i + Q 1 i)) 40 := ba_in (by omega) (by omega)
        have ci : (nI (2 * i + Q 1 i)).toNatClampNeg = 2 * i + Q 1 i := ba_cl (by omega)
        refine ba_br rfl (fun bf => ⟨vi, ?_⟩) (fun bt => ?_)
        · rw [ci, l1]
          by_cases z0 : pa_lo Q (Q 1 i) (Q 7 i) = 0
          · refine br_t (by rw [z0]; decide) (nm_r (ba_m1 i) ?_)
            exact go true ⟨fun _ => Or.inr (lp_b_t.mpr ⟨k4, Or.inl z0⟩), fun _ => rfl⟩
          · obtain ⟨e, he⟩ : ∃ e, pa_lo Q (Q 1 i) (Q 7 i) = e + 1 := ⟨pa_lo Q (Q 1 i) (Q 7 i) - 1, by omega⟩
            refine br_f (by rw [he]; exact ba_pnl (by omega)) ⟨vi, ?_⟩
            refine ba_br l2 (fun gf => nm_r (ba_m1 i) ?_) (fun gt => nm_r (ba_m1 i) ?_)
            · exact go true ⟨fun _ => Or.inr (lp_b_t.mpr ⟨k4, Or.inr gf⟩), fun _ => rfl⟩
            · refine go false ⟨fun z => absurd z (by decide), fun z => ?_⟩
              rcases z with z | z
              · rw [bf] at z; exact z
              · rcases (lp_b_t.mp z).2 with y | y
                · exact absurd y z0
                · rw [gt] at y; exact absurd y (by decide)
        · refine nm_r (ba_m1 i) ?_
          exact go true ⟨fun _ => Or.inl bt, fun _ => rfl⟩
      · refine nm_r (ba_m1 i) ?_
        refine go b ⟨fun z => Or.inl z, fun z => ?_⟩
        rcases z with z | z
        · exact z
        · exact absurd (lp_b_t.mp z).1 k4
    have mid : ∀ lA gd : Nat → Int32, lp_G Q i lA gd (Q 7 i) → (∀ c', c' < mk → (Q 7 c' = 0 ∨ i < Q 7 c') → (Q 0 i = 2 → c' ≠ Q 5 i) → lp_G Q c' lA gd (Q 7 c')) → wX_badLoops_100 post (wX_badLoops_54 post n) (ba_bI b) (nI i) (nI (i + 20)) (nI (Q 0 i)) xsize xmade xheight xsend xkind xone xother xlabel xpG xpH xtgt xstk lA gd xpl xhT xpk xps xlast xhd xln xqL xqV xseen := by
      intro lA gd Li' hI'
      refine pk_eq (Q 0 i) 2 (fun k2 => ⟨vx, ?_⟩) (fun k2 => ?_)
      · obtain ⟨p1, p2⟩ := t2 k2
        rw [cx]
        refine xb_sur hX m20 A D hi (by omega) (by omega) Li' t4 (by omega) x5 (fun lA' gd' ho hG => ?_)
        refine last lA' gd' (lp_I_s (fun c' h1 h2 h3 => hI' c' h1 h2 (fun _ => h3)) ho ?_)
        rw [p2]; exact hG
      · exact last lA gd (fun c' h1 h2 => hI' c' h1 h2 (fun z => absurd z k2))
    have first : 1 ≤ Q 0 i → Q 0 i ≤ 3 → wX_badLoops_89 post (wX_badLoops_54 post n) (ba_bI b) (nI i) (nI (i + 20)) (nI (Q 0 i)) xsize xmade xheight xsend xkind xone xother xlabel xpG xpH xtgt xstk lA gd xpl xhT xpk xps xlast xhd xln xqL xqV xseen := by
      intro k1 k3
      obtain ⟨p1, p2⟩ := t1 k1 k3
      refine ⟨vx, ?_⟩
      rw [cx]
      refine xb_sur hX m20 A D hi (by omega) (by omega) Li t4 k3 x4 (fun lA' gd' ho hG => ?_)
      have old : ∀ c', c' ≠ Q 4 i → lp_G Q c' lA gd (Q 7 c') → lp_G Q c' lA' gd' (Q 7 c') := by
        intro c' e h nm hn
        obtain ⟨o1, o2⟩ := ho (2 * c' + nm) (by omega) (by omega)
        rw [o1, o2]; exact h nm hn
      refine mid lA' gd' (old i (by omega) Li) (fun c' h1 h2 h3 => ?_)
      by_cases e : c' = Q 4 i
      · subst e; rw [p2]; exact hG
      · refine old c' e (hI c' h1 ?_)
        rcases h2 with h2 | h2
        · exact Or.inl h2
        · by_cases z : Q 7 c' = i + 1
          · exfalso
            rcases B.2.2.2.2.2.2.2 c' h1 with ⟨y, _⟩ | ⟨p, y1, _, _, y4⟩
            · omega
            · have ep : p = i := by omega
              subst ep
              rcases y4 with ⟨_, _, y⟩ | ⟨y, y'⟩
              · exact e y.symm
              · exact h3 y y'.symm
          · exact Or.inr (by omega)
    refine br_f (nI_pos (by omega)) ?_
    refine nm_r (ba_20 i) ⟨vx, ?_⟩
    rw [cx, x0]
    refine nm_e ?_
    refine pk_eq (Q 0 i) 1 (fun k => first (by omega) (by omega)) (fun k => ?_)
    refine pk_eq (Q 0 i) 2 (fun k => first (by omega) (by omega)) (fun k => ?_)
    refine pk_eq (Q 0 i) 3 (fun k => first (by omega) (by omega)) (fun k => ?_)
    refine mid lA gd Li (fun c' h1 h2 h3 => hI c' h1 ?_)
    rcases h2 with h2 | h2
    · exact Or.inl h2
    · by_cases z : Q 7 c' = i + 1
      · exfalso
        rcases B.2.2.2.2.2.2.2 c' h1 with ⟨y, _⟩ | ⟨p, y1, _, _, y4⟩
        · omega
        · have ep : p = i := by omega
          subst ep
          rcases y4 with ⟨y1, y2, _⟩ | ⟨y, _⟩
          · omega
          · omega
      · exact Or.inr (by omega)
theorem xb_4 {post : Int32 → SX → Prop} {S : Nat → Nat} (B : bu_W mk 1 Q S) (hX : ar_X 20 mk Q xkind xone xother xlabel xpG xpH) (em : xmade = nI mk)
    (hp : ∀ (b : Bool) (lA gd : Nat → Int32), (b = true ↔ ∃ j, j < mk ∧ lp_b Q j = true) → lp_I mk 0 Q lA gd → post (ba_bI b) (xsize, xmade, xheight, xsend, xkind, xone, xother, xlabel, xpG, xpH, xtgt, xstk, lA, gd, xpl, xhT, xpk, xps, xlast, xhd, xln, xqL, xqV, xseen)) :
    ∀ d j n (lA gd : Nat → Int32), j + d = 2 → d < n → (∀ nm, nm < j → lA (2 * (mk - 1) + nm) = -1 ∧ gd (2 * (mk - 1) + nm) = 0) → wX_badLoops_4 post 0 xsize xmade xheight xsend n (nI j) xkind xone xother xlabel xpG xpH xtgt xstk lA gd xpl xhT xpk xps xlast xhd xln xqL xqV xseen := by
  have m20 := B.1
  have m1 := B.2.1
  subst em
  intro d
  induction d with
  | zero =>
    intro j n lA gd hj hn h
    obtain ⟨n, rfl⟩ : ∃ e, n = e + 1 := ⟨n - 1, by omega⟩
    refine pk_le 2 j (fun _ => ?_) (fun z => absurd z (by omega))
    refine nm_r (e' := ba_pI (mk + 1)) ?_ ⟨mk + 1, ?_⟩
    · rw [ba_s1 m1, show mk + 1 = (mk - 1) + 2 from by omega]; rfl
    refine xb_54 B hX hp mk (mk + 1) false lA gd (Nat.le_refl _) (by omega) ⟨fun z => absurd z (by decide), fun ⟨j, h1, h2, _⟩ => by omega⟩ (fun c hc h7 => ?_)
    have z7 : Q 7 c = 0 := by
      have := (lp_A B c hc).1
      omega
    have ec : c = mk - 1 := by
      rcases B.2.2.2.2.2.2.2 c hc with ⟨_, j', h1, h2⟩ | ⟨p, h1, _⟩
      · have := (B.2.2.2.2.2.1 (by omega)).2
        rw [show (1 : Nat) - 1 = 0 from rfl] at this
        rw [← h2, show j' = 0 from by omega]; exact this
      · omega
    intro nm hnm
    rw [z7, ec]
    obtain ⟨g1, g2⟩ := h nm (by omega)
    rw [g1, g2]
    exact ⟨rfl, rfl⟩
  | succ d ih =>
    intro j n lA gd hj hn h
    obtain ⟨n, rfl⟩ : ∃ e, n = e + 1 := ⟨n - 1, by omega⟩
    have ix : 2 * (nI mk - 1) + nI j = nI (2 * (mk - 1) + j) := by rw [ba_s1 m1, ba_2i]
    refine pk_le 2 j (fun z => absurd z (by omega)) (fun _ => ?_)
    have e1 : vp_nar .byte (-1) = -1 := ba_pb1 (c := 1) (by omega)
    rw [ix, ba_cl (show 2 * (mk - 1) + j < 1000 by omega), e1, ba_vb0]
    have vi : vp_in (nI (2 * (mk - 1) + j)) 40 := ba_in (by omega) (by omega)
    refine ⟨vi, nm_e ⟨vi, nm_e (nm_r (nI_1 j) ?_)⟩⟩
    refine ih (j + 1) n _ _ (by omega) (by omega) (fun nm hnm => ?_)
    by_cases e : nm = j
    · subst e; rw [pk_us, pk_us]; exact ⟨rfl, rfl⟩
    · rw [pk_un (by omega), pk_un (by omega)]; exact h nm (by omega)
theorem xb_bad {post : Int32 → SX → Prop} {S : Nat → Nat} (B : bu_W mk 1 Q S) (hX : ar_X 20 mk Q xkind xone xother xlabel xpG xpH) (em : xmade = nI mk)
    (hp : ∀ (b : Bool) (lA gd : Nat → Int32), (b = true ↔ ∃ j, j < mk ∧ lp_b Q j = true) → lp_I mk 0 Q lA gd → post (ba_bI b) (xsize, xmade, xheight, xsend, xkind, xone, xother, xlabel, xpG, xpH, xtgt, xstk, lA, gd, xpl, xhT, xpk, xps, xlast, xhd, xln, xqL, xqV, xseen)) : wpX_badLoops post (xsize, xmade, xheight, xsend, xkind, xone, xother, xlabel, xpG, xpH, xtgt, xstk, xlA, xgd, xpl, xhT, xpk, xps, xlast, xhd, xln, xqL, xqV, xseen) :=
  ⟨3, xb_4 B hX em hp 2 0 3 _ _ (by omega) (by omega) (fun nm h => absurd h (by omega))⟩
-- --- the reference ---
theorem yb_44 {post : Int32 → Prop} {J2 : Int32 → Prop} {i T : Nat} {nm : Nat} (A : pa_A mk Q) (m20 : mk ≤ 20) (D : pa_D mk Q) (hY : ar_Y 20 mk Q ysort yfrom yto ylab yfst ysnd yar) (hT : T = 0 ∨ ∃ t, T = t + 1 ∧ t < mk ∧ Q 0 t = 3 ∧ Q 1 t = nm) :
    ∀ d c (b : Bool) n, c ≤ mk → (mk < d + c ∨ c = 0) → d < n → pa_lo Q nm c = T → (T = 0 → post 0) → (T ≠ 0 → (b || pa_bt Q nm c) = false → post 0) → (T ≠ 0 → (b || pa_bt Q nm c) = true → J2 (nI (i + 1))) →
      wY_loopsFit_44 post J2 (nI i) (ba_pI (T + 1)) ymade ydep ysize yrows yat ysend ysort yfrom yto ylab yfst ysnd yar ystk ysen yrec ytold yval yiS yiR ylast ymet n (ba_bI b) (ba_pI (c + 1)) := by
  have fin : ∀ b : Bool, (T = 0 → post 0) → (T ≠ 0 → b = false → post 0) → (T ≠ 0 → b = true → J2 (nI (i + 1))) → wY_loopsFit_94 post J2 (nI i) (ba_pI (T + 1)) (ba_bI b) ymade ydep ysize yrows yat ysend ysort yfrom yto ylab yfst ysnd yar ystk ysen yrec ytold yval yiS yiR ylast ymet := by
    intro b h0 h1 h2
    by_cases z : T = 0
    · exact br_t (by rw [z]; decide) (h0 z)
    · obtain ⟨t, ht⟩ : ∃ t, T = t + 1 := ⟨T - 1, by omega⟩
      have tm : t < mk := by
        rcases hT with hT | ⟨t', h, h', _⟩
        · exact absurd hT z
        · omega
      refine br_f (by rw [ht]; exact ba_pnl (by omega)) ?_
      exact ba_br rfl (fun bf => h1 z bf) (fun bt => nm_r (nI_1 i) (h2 z bt))
  intro d
  induction d with
  | zero =>
    intro c b n hc hd hn hl h0 h1 h2
    obtain ⟨n, rfl⟩ : ∃ e, n = e + 1 := ⟨n - 1, by omega⟩
    have c0 : c = 0 := by omega
    subst c0
    have z : T = 0 := hl.symm
    exact br_t (by decide) (fin b h0 (fun y => absurd z y) (fun y => absurd z y))
  | succ d ih =>
    intro c b n hc hd hn hl h0 h1 h2
    obtain ⟨n, rfl⟩ : ∃ e, n = e + 1 := ⟨n - 1, by omega⟩
    cases c with
    | zero =>
      have z : T = 0 := hl.symm
      exact br_t (by decide) (fin b h0 (fun y => absurd z y) (fun y => absurd z y))
    | succ p =>
      have hpm : p < mk := by omega
      show wY_loopsFit_44 post J2 (nI i) (ba_pI (T + 1)) ymade ydep ysize yrows yat ysend ysort yfrom yto ylab yfst ysnd yar ystk ysen yrec ytold yval yiS yiR ylast ymet (n + 1) (ba_bI b) (nI p)
      refine br_f (nI_pos (by omega)) ?_
      rw [pa_lo_s A m20 hpm] at hl
      rw [pa_bt_s A m20 hpm] at h1 h2
      obtain ⟨y0, y1, _, _, _, _, y7⟩ := hY p hpm
      have d0 := (D p hpm).1
      by_cases e : Q 0 p = 3 ∧ Q 1 p = nm
      · rw [if_pos e] at hl h1 h2
        rw [Bool.or_false] at h1 h2
        subst hl
        exact br_t rfl (fin b h0 h1 h2)
      · rw [if_neg e] at hl h1 h2
        have ne : ¬ nI p = ba_pI (T + 1) := by
          rcases hT with hT | ⟨t, h, h', h''⟩
          · rw [hT]; exact (ba_nm (by omega)).1
          · rw [h]
            refine ba_ne ?_ (by omega) (by omega)
            intro z; subst z; exact e h''
        refine br_f ne ?_
        have v1 : vp_in (20 + nI p) 40 := by rw [ba_20]; exact ba_in (by omega) (by omega)
        have c1 : (20 + nI p).toNatClampNeg = p + 20 := by rw [ba_20]; exact ba_cl (by omega)
        obtain ⟨a1, a2⟩ := A p hpm
        have go : ∀ b' : Bool, b' = (b || decide (Q 0 p < 3)) → wY_loopsFit_78 post J2 (wY_loopsFit_44 post J2 (nI i) (ba_pI (T + 1)) ymade ydep ysize yrows yat ysend ysort yfrom yto ylab yfst ysnd yar ystk ysen yrec ytold yval yiS yiR ylast ymet n) (nI i) (ba_pI (T + 1)) (nI p) (ba_bI b') ymade ydep ysize yrows yat ysend ysort yfrom yto ylab yfst ysnd yar ystk ysen yrec ytold yval yiS yiR ylast ymet := by
          intro b' hb'
          refine ⟨v1, ?_⟩
          rw [c1]
          refine nm_r y7 ?_
          refine ih (Q 7 p) b' n a1 (by omega) (by omega) hl h0 (fun z y => h1 z ?_) (fun z y => h2 z ?_)
          · rw [← Bool.or_assoc, ← hb']; exact y
          · rw [← Bool.or_assoc, ← hb']; exact y
        refine ba_br rfl (fun bf => ⟨v1, ?_⟩) (fun bt => ?_)
        · rw [c1]
          refine pk_le 3 (Q 0 p) (fun k => go false ?_) (fun k => go true ?_) rfl y0
          · rw [bf, decide_eq_false (by omega)]; rfl
          · rw [decide_eq_true k, Bool.or_true]
        · exact go true (by rw [bt]; rfl)
theorem yb_2 {post : Int32 → Prop} (A : pa_A mk Q) (m20 : mk ≤ 20) (D : pa_D mk Q) (hY : ar_Y 20 mk Q ysort yfrom yto ylab yfst ysnd yar) (em : ymade = nI mk) (h0 : (∃ j, j < mk ∧ lp_b Q j = true) → post 0) (h1 : (∀ j, j < mk → lp_b Q j = false) → post 1) :
    ∀ d i n, i + d = mk → d < n → (∀ j, j < i → lp_b Q j = false) → wY_loopsFit_2 post ymade ydep ysize yrows yat ysend ysort yfrom yto ylab yfst ysnd yar ystk ysen yrec ytold yval yiS yiR ylast ymet n (nI i) := by
  subst em
  intro d
  induction d with
  | zero =>
    intro i n hi hn h
    obtain ⟨n, rfl⟩ : ∃ e, n = e + 1 := ⟨n - 1, by omega⟩
    exact pk_le mk i (fun _ => h1 (fun j hj => h j (by omega))) (fun z => absurd z (by omega))
  | succ d ih =>
    intro i n hi hn h
    obtain ⟨n, rfl⟩ : ∃ e, n = e + 1 := ⟨n - 1, by omega⟩
    have him : i < mk := by omega
    obtain ⟨y0, _, _, _, _, _, y7⟩ := hY i him
    have d0 := (D i him).1
    have v1 : vp_in (20 + nI i) 40 := by rw [ba_20]; exact ba_in (by omega) (by omega)
    have c1 : (20 + nI i).toNatClampNeg = i + 20 := by rw [ba_20]; exact ba_cl (by omega)
    have go : lp_b Q i = false → wY_loopsFit_2 post (nI mk) ydep ysize yrows yat ysend ysort yfrom yto ylab yfst ysnd yar ystk ysen yrec ytold yval yiS yiR ylast ymet n (nI (i + 1)) := by
      intro hb
      refine ih (i + 1) n (by omega) (by omega) (fun j hj => ?_)
      by_cases e : j = i
      · subst e; exact hb
      · exact h j (by omega)
    refine pk_le mk i (fun z => absurd z (by omega)) (fun _ => ⟨v1, ?_⟩)
    rw [c1]
    refine pk_eq (Q 0 i) 4 (fun k4 => ?_) (fun k4 => nm_r (nI_1 i) (go ?_)) y0
    · refine yw_lo (b := 20) (by omega) A m20 D hY him ⟨v1, ?_⟩
      refine nm_r y7 ⟨22, ?_⟩
      obtain ⟨a1, a2⟩ := A i him
      have lb := (pa_lo_b A m20 (nm := Q 1 i) (Q 7 i) a1).2
      refine yb_44 (nm := Q 1 i) A m20 D hY ?_ 21 (Q 7 i) false 22 a1 (by omega) (by omega) rfl (fun z => ?_) (fun z y => ?_) (fun z y => ?_)
      · rcases lb with lb | ⟨_, t, e, r⟩
        · exact Or.inl lb
        · exact Or.inr ⟨t, e, r⟩
      · exact h0 ⟨i, him, lp_b_t.mpr ⟨k4, Or.inl z⟩⟩
      · exact h0 ⟨i, him, lp_b_t.mpr ⟨k4, Or.inr y⟩⟩
      · refine go ?_
        cases hb : lp_b Q i with
        | false => rfl
        | true =>
          rcases (lp_b_t.mp hb).2 with w | w
          · exact absurd w z
          · rw [Bool.false_or, w] at y; exact absurd y (by decide)
    · cases hb : lp_b Q i with
      | false => rfl
      | true => exact absurd (lp_b_t.mp hb).1 k4
theorem yb_fit {post : Int32 → Prop} (A : pa_A mk Q) (m20 : mk ≤ 20) (D : pa_D mk Q) (hY : ar_Y 20 mk Q ysort yfrom yto ylab yfst ysnd yar) (em : ymade = nI mk) (h0 : (∃ j, j < mk ∧ lp_b Q j = true) → post 0) (h1 : (∀ j, j < mk → lp_b Q j = false) → post 1) : wpY_loopsFit post (ymade, ydep, ysize, yrows, yat, ysend, ysort, yfrom, yto, ylab, yfst, ysnd, yar, ystk, ysen, yrec, ytold, yval, yiS, yiR, ylast, ymet) :=
  ⟨mk + 1, yb_2 A m20 D hY em h0 h1 mk 0 (mk + 1) (by omega) (by omega) (fun j h => absurd h (by omega))⟩
end LX
end
section
-- ===== the protocol taken over =====
def pp_P (Q : pa_T) : pa_T := fun k i => if k = 6 then pa_lo Q (Q 1 i) (Q 7 i) - 1 else Q k i
section PP
variable {mk : Nat} {Q : pa_T} {xsize xmade xheight xsend : Int32} {xkind xone xother xlabel xpG xpH xtgt xstk xlA xgd xpl xhT xpk xps xlast xhd xln xqL xqV xseen : Nat → Int32} {ymade ydep ysize yrows yat ysend : Int32} {ysort yfrom yto ylab yfst ysnd yar ystk ysen yrec ytold yval yiS yiR ylast ymet : Nat → Int32}
theorem pp_W {S : Nat → Nat} (B : bu_W mk 1 Q S) (h : ∀ j, j < mk → lp_b Q j = false) : pa_W mk (pp_P Q) ∧ pa_D mk (pp_P Q) ∧ pa_A mk (pp_P Q) ∧ (∀ i, i < mk → pp_P Q 0 i = 4 → pa_lo (pp_P Q) (pp_P Q 1 i) (pp_P Q 7 i) = pp_P Q 6 i + 1) ∧ (∀ i, i < mk → Q 0 i = 4 → ∃ t, pa_lo Q (Q 1 i) (Q 7 i) = t + 1 ∧ t < mk) := by
  have m20 := B.1
  have m1 := B.2.1
  have A := lp_A B
  have D := B.2.2.1
  have g : ∀ i, i < mk → Q 0 i = 4 → ∃ t, pa_lo Q (Q 1 i) (Q 7 i) = t + 1 ∧ t < mk ∧ pa_bt Q (Q 1 i) (Q 7 i) = true := by
    intro i hi k4
    have hb := h i hi
    have l0 : pa_lo Q (Q 1 i) (Q 7 i) ≠ 0 := by
      intro z
      rw [lp_b_t.mpr ⟨k4, Or.inl z⟩] at hb; exact absurd hb (by decide)
    rcases (pa_lo_b A m20 (nm := Q 1 i) (Q 7 i) (A i hi).1).2 with z | ⟨_, t, e, tm, _⟩
    · exact absurd z l0
    · refine ⟨t, e, tm, ?_⟩
      cases hh : pa_bt Q (Q 1 i) (Q 7 i) with
      | true => rfl
      | false => rw [lp_b_t.mpr ⟨k4, Or.inr hh⟩] at hb; exact absurd hb (by decide)
  have p6 : ∀ i, pp_P Q 6 i = pa_lo Q (Q 1 i) (Q 7 i) - 1 := fun i => rfl
  refine ⟨⟨m1, m20, fun i hi => (D i hi).1, fun i hi k => ?_, fun i hi k => ?_, fun i hi k => ?_, fun i hi k => ?_, fun i => pa_dp Q (Q 7 i) * 21 + i, fun i hi k => ?_, fun i hi k => ?_⟩, fun i hi => D i hi, A, fun i hi k => ?_, fun i hi k => ?_⟩
  · have k' : Q 0 i = 1 := k
    obtain ⟨t1, _, t3, _⟩ := B.2.2.2.2.2.2.1 i hi
    obtain ⟨_, d1, d2, d3, _⟩ := D i hi
    have := (t1 (by omega) (by omega)).1
    exact ⟨show Q 4 i < mk by omega, d1, d2, t3 k', d3⟩
  · have k' : Q 0 i = 2 := k
    obtain ⟨t1, t2, _, _⟩ := B.2.2.2.2.2.2.1 i hi
    obtain ⟨_, d1, _⟩ := D i hi
    have := (t1 (by omega) (by omega)).1
    have := (t2 k').1
    exact ⟨show Q 4 i < mk by omega, show Q 5 i < mk by omega, d1⟩
  · have k' : Q 0 i = 3 := k
    obtain ⟨t1, _⟩ := B.2.2.2.2.2.2.1 i hi
    have := (t1 (by omega) (by omega)).1
    show Q 4 i < mk
    omega
  · obtain ⟨t, e, tm, _⟩ := g i hi k
    rw [p6, e]
    show t + 1 - 1 < mk
    omega
  · have k' : Q 0 i = 3 := k
    obtain ⟨t1, _⟩ := B.2.2.2.2.2.2.1 i hi
    obtain ⟨q1, q2⟩ := t1 (by omega) (by omega)
    show pa_dp Q (Q 7 (Q 4 i)) * 21 + Q 4 i < pa_dp Q (Q 7 i) * 21 + i
    rw [q2, pa_dp_s A m20 hi, if_neg (by omega), Nat.zero_add]
    omega
  · obtain ⟨t, e, tm, bt⟩ := g i hi k
    show pa_dp Q (Q 7 (pp_P Q 6 i)) * 21 + pp_P Q 6 i < pa_dp Q (Q 7 i) * 21 + i
    rw [p6, e, show t + 1 - 1 = t from by omega]
    have := pa_dp_b A m20 (nm := Q 1 i) (Q 7 i) (A i hi).1 t e
    rw [if_pos bt] at this
    omega
  · obtain ⟨t, e, tm, bt⟩ := g i hi k
    rw [p6]
    show pa_lo Q (Q 1 i) (Q 7 i) = _
    omega
  · obtain ⟨t, e, tm, bt⟩ := g i hi k
    exact ⟨t, e, tm⟩
/-- a row of writes -/
theorem pp_c0 {f : Nat → Int32} {j : Nat} {v : Int32} : ∀ i, i ≠ j → upd f j v i = f i := fun i h => pk_un h
theorem xp_25 {post : Int32 → SX → Prop} {S : Nat → Nat} {p0 : Nat → Int32} (B : bu_W mk 1 Q S) (h : ∀ j, j < mk → lp_b Q j = false) (hG : lp_I mk 0 Q xlA xgd) (em : xmade = nI mk)
    (hp : ∀ (kind one other label pG pH tgt pl hT ps hd ln : Nat → Int32), zX mk (pp_P Q) kind one other label pG pH tgt → (∀ r, r < 3 → pl r = ba_pI (pa_L (pp_P Q) r (pa_S (pp_P Q) (mk - 1))) ∧ hT r = 0 ∧ ps r = 0) → (∀ k, k < 9 → hd k = 0 ∧ ln k = 0) →
      post (nI mk) (nI mk, 0, 0, 0, kind, one, other, label, pG, pH, tgt, xstk, xlA, xgd, pl, hT, xpk, ps, zr_l 3 xlast, hd, ln, xqL, xqV, xseen)) :
    ∀ d j n (xkind xone xother xlabel xpG xpH xtgt : Nat → Int32), j + d = mk → d < n → ar_X 20 mk Q xkind xone xother xlabel xpG xpH → ar_X 0 j Q xkind xone xother xlabel xpG xpH → ar_T j (pp_P Q) xtgt →
      wX_protocol_25 post xsize xmade xheight xsend n (nI j) xkind xone xother xlabel xpG xpH xtgt xstk xlA xgd xpl xhT xpk xps xlast xhd xln xqL xqV xseen := by
  have m20 := B.1
  have D := B.2.2.1
  have A := lp_A B
  obtain ⟨W, D', A', V, G⟩ := pp_W B h
  subst em
  intro d
  induction d with
  | zero =>
    intro j n xkind xone xother xlabel xpG xpH xtgt hj hn h20 h0 hT
    obtain ⟨n, rfl⟩ : ∃ e, n = e + 1 := ⟨n - 1, by omega⟩
    have ej : j = mk := by omega
    subst ej
    refine pk_le j j (fun _ => ?_) (fun z => absurd z (by omega))
    have Z : zX j (pp_P Q) xkind xone xother xlabel xpG xpH xtgt := ⟨W, D', h0, hT⟩
    unfold wpX_discard
    dsimp only
    exact xw_restart Z rfl (fun pl hT ps hd ln h1 h2 => hp _ _ _ _ _ _ _ pl hT ps hd ln Z h1 h2)
  | succ d ih =>
    intro j n xkind xone xother xlabel xpG xpH xtgt hj hn h20 h0 hT
    obtain ⟨n, rfl⟩ : ∃ e, n = e + 1 := ⟨n - 1, by omega⟩
    have jm : j < mk := by omega
    obtain ⟨x0, x1, x2, x3, x4, x5⟩ := h20 j jm
    obtain ⟨d0, d1, d2, d3, d4, d5⟩ := D j jm
    have vx : vp_in (nI (j + 20)) 40 := ba_in (by omega) (by omega)
    have vj : vp_in (nI j) 40 := ba_in (by omega) (by omega)
    have v20 : vp_in (nI j) 20 := ba_in (by omega) (by omega)
    have cx : (nI (j + 20)).toNatClampNeg = j + 20 := ba_cl (by omega)
    have cj : (nI j).toNatClampNeg = j := ba_cl (by omega)
    refine pk_le mk j (fun z => absurd z (by omega)) (fun _ => nm_r (ba_20 j) ⟨vx, vj, ?_⟩)
    rw [cx, cj, x0, x1, x2, x3, x4, x5, ba_vb (show Q 0 j < 100 by omega), ba_vb (show Q 1 j < 100 by omega), ba_vb (show Q 2 j < 100 by omega), ba_vb (show Q 3 j < 100 by omega), ba_vb (show Q 4 j < 100 by omega), ba_vb (show Q 5 j < 100 by omega)]
    refine nm_e ⟨vx, vj, nm_e ⟨vx, vj, nm_e ⟨vx, vj, nm_e ⟨vx, vj, nm_e ⟨vx, vj, nm_e ⟨vx, ?_⟩⟩⟩⟩⟩⟩
    have st : ∀ v : Int32, (Q 0 j = 4 → v = nI (pp_P Q 6 j)) → wX_protocol_25 post xsize (nI mk) xheight xsend n (nI (j + 1)) (upd xkind j (nI (Q 0 j))) (upd xone j (nI (Q 1 j))) (upd xother j (nI (Q 2 j))) (upd xlabel j (nI (Q 3 j))) (upd xpG j (nI (Q 4 j))) (upd xpH j (nI (Q 5 j))) (upd xtgt j v) xstk xlA xgd xpl xhT xpk xps xlast xhd xln xqL xqV xseen := by
      intro v hv
      refine ih (j + 1) n _ _ _ _ _ _ _ (by omega) (by omega) (fun i hi => ?_) (fun i hi => ?_) (fun i hi k => ?_)
      · have e : i + 20 ≠ j := by omega
        rw [pk_un e, pk_un e, pk_un e, pk_un e, pk_un e, pk_un e]
        exact h20 i hi
      · show upd xkind j _ i = _ ∧ upd xone j _ i = _ ∧ upd xother j _ i = _ ∧ upd xlabel j _ i = _ ∧ upd xpG j _ i = _ ∧ upd xpH j _ i = _
        by_cases e : i = j
        · subst e; rw [pk_us, pk_us, pk_us, pk_us, pk_us, pk_us]; exact ⟨rfl, rfl, rfl, rfl, rfl, rfl⟩
        · rw [pk_un e, pk_un e, pk_un e, pk_un e, pk_un e, pk_un e]; exact h0 i (by omega)
      · by_cases e : i = j
        · subst e; rw [pk_us]; exact hv k
        · rw [pk_un e]; exact hT i (by omega) k
    have k20 : upd xkind j (nI (Q 0 j)) (j + 20) = nI (Q 0 j) := by rw [pk_un (by omega)]; exact x0
    have o20 : upd xone j (nI (Q 1 j)) (j + 20) = nI (Q 1 j) := by rw [pk_un (by omega)]; exact x1
    rw [k20, o20]
    refine pk_eq (Q 0 j) 4 (fun k4 => ⟨vx, ?_⟩) (fun k4 => ⟨v20, ?_⟩)
    · have t4 := (B.2.2.2.2.2.2.1 j jm).2.2.2 (by omega)
      rw [ba_2i]
      refine ⟨ba_in (by omega) (by omega), v20, ?_⟩
      rw [ba_cl (show 2 * j + Q 1 j < 1000 by omega)]
      obtain ⟨t, et, tm⟩ := G j jm k4
      have l1 := (hG j jm (by rcases (A j jm).2 with z | z; exact Or.inl z; exact Or.inr (by omega)) (Q 1 j) t4).1
      have ev : xlA (2 * j + Q 1 j) = nI t := by rw [l1, et]; rfl
      rw [ev, ba_vb (show t < 100 by omega)]
      refine nm_e (nm_r (nI_1 j) (st _ (fun _ => ?_)))
      show nI t = nI (pa_lo Q (Q 1 j) (Q 7 j) - 1)
      rw [et, show t + 1 - 1 = t from by omega]
    · exact nm_e (nm_r (nI_1 j) (st _ (fun z => absurd z k4)))
theorem yp_23 {post : Int32 → SY → Prop} {S : Nat → Nat} (B : bu_W mk 1 Q S) (h : ∀ j, j < mk → lp_b Q j = false) (em : ymade = nI mk)
    (hp : ∀ (sort frm to lab fst snd ar : Nat → Int32), zY mk (pp_P Q) sort frm to lab fst snd ar →
      post (nI mk) (0, 0, nI mk, 0, nI (pa_S (pp_P Q) (mk - 1)), 0, sort, frm, to, lab, fst, snd, ar, ystk, ysen, yrec, ytold, yval, yiS, yiR, zr_l 3 ylast, ymet)) :
    ∀ d j n (ysort yfrom yto ylab yfst ysnd yar : Nat → Int32), j + d = mk → d < n → ar_Y 20 mk Q ysort yfrom yto ylab yfst ysnd yar → ar_Y 0 j Q ysort yfrom yto ylab yfst ysnd yar →
      wY_protocol_23 post ymade ydep ysize yrows yat ysend n (nI j) ysort yfrom yto ylab yfst ysnd yar ystk ysen yrec ytold yval yiS yiR ylast ymet := by
  have m20 := B.1
  obtain ⟨W, D', A', V, G⟩ := pp_W B h
  subst em
  intro d
  induction d with
  | zero =>
    intro j n ysort yfrom yto ylab yfst ysnd yar hj hn h20 h0
    obtain ⟨n, rfl⟩ : ∃ e, n = e + 1 := ⟨n - 1, by omega⟩
    have ej : j = mk := by omega
    subst ej
    refine pk_le j j (fun _ => ?_) (fun z => absurd z (by omega))
    have Z : zY j (pp_P Q) ysort yfrom yto ylab yfst ysnd yar := ⟨W, D', yar, h0, Or.inr ⟨rfl, A', V⟩⟩
    exact yw_restart Z rfl (hp _ _ _ _ _ _ _ Z)
  | succ d ih =>
    intro j n ysort yfrom yto ylab yfst ysnd yar hj hn h20 h0
    obtain ⟨n, rfl⟩ : ∃ e, n = e + 1 := ⟨n - 1, by omega⟩
    have jm : j < mk := by omega
    have vx : vp_in (20 + nI j) 40 := by rw [ba_20]; exact ba_in (by omega) (by omega)
    have vj : vp_in (nI j) 40 := ba_in (by omega) (by omega)
    have cx : (20 + nI j).toNatClampNeg = j + 20 := by rw [ba_20]; exact ba_cl (by omega)
    have cj : (nI j).toNatClampNeg = j := ba_cl (by omega)
    refine pk_le mk j (fun z => absurd z (by omega)) (fun _ => ⟨vx, vj, ?_⟩)
    rw [cx, cj]
    refine nm_e ⟨vx, vj, nm_e ⟨vx, vj, nm_e ⟨vx, vj, nm_e ⟨vx, vj, nm_e ⟨vx, vj, nm_e ⟨vx, vj, nm_e (nm_r (nI_1 j) ?_)⟩⟩⟩⟩⟩⟩
    refine ih (j + 1) n _ _ _ _ _ _ _ (by omega) (by omega) (fun i hi => ?_) (fun i hi => ?_)
    · have e : i + 20 ≠ j := by omega
      rw [pk_un e, pk_un e, pk_un e, pk_un e, pk_un e, pk_un e, pk_un e]
      exact h20 i hi
    · show upd ysort j _ i = _ ∧ upd yfrom j _ i = _ ∧ upd yto j _ i = _ ∧ upd ylab j _ i = _ ∧ (_ → _ → upd yfst j _ i = _) ∧ (_ → upd ysnd j _ i = _) ∧ upd yar j _ i = _
      by_cases e : i = j
      · subst e; rw [pk_us, pk_us, pk_us, pk_us, pk_us, pk_us, pk_us]; exact h20 i jm
      · rw [pk_un e, pk_un e, pk_un e, pk_un e, pk_un e, pk_un e, pk_un e]; exact h0 i (by omega)
end PP
theorem i_vc_protocol {k : Nat} {u : SX} {v : SY} (I : i_Rel k u v) (hk : k + 4 ≤ 2048) : wpX_protocol (fun r u' => wpY_protocol (fun r' v' => r' = r ∧ i_Rel (k + 4) u' v') v) u := by
  have I4 := i_up I
  obtain ⟨xsize, xmade, xheight, xsend, xkind, xone, xother, xlabel, xpG, xpH, xtgt, xstk, xlA, xgd, xpl, xhT, xpk, xps, xlast, xhd, xln, xqL, xqV, xseen⟩ := u
  obtain ⟨ymade, ydep, ysize, yrows, yat, ysend, ysort, yfrom, yto, ylab, yfst, ysnd, yar, ystk, ysen, yrec, ytold, yval, yiS, yiR, ylast, ymet⟩ := v
  obtain ⟨mk, ht, Q, S, m, P, l, a, B, ZX, ZY, es, es', H, la, hal, er, ea, el, en⟩ := I
  have B' := B
  obtain ⟨b1, b2, b3, b4, b5, b6, b7, b8⟩ := B'
  have m20 := b1.1
  have hm := b1.2.1
  unfold wpX_protocol
  refine pk_eq ht 1 (fun h1 => ?_) (fun h1 => ?_) b3
  · subst h1
    have A := lp_A b1
    have D := b1.2.2.1
    refine xb_bad b1 b6 b2 (fun b lA gd hb hI => ?_)
    refine ba_br rfl (fun bf => ⟨mk + 1, ?_⟩) (fun bt => ?_)
    · have no : ∀ j, j < mk → lp_b Q j = false := by
        intro j hj
        cases hh : lp_b Q j with
        | false => rfl
        | true => exact absurd (hb.mpr ⟨j, hj, hh⟩) (by rw [bf]; decide)
      refine xp_25 (p0 := lA) b1 no hI b2 (fun kind one other label pG pH tgt pl hT ps hd ln Z1 h1 h2 => ?_) mk 0 (mk + 1) _ _ _ _ _ _ _ (by omega) (by omega) b6 (fun i hi => absurd hi (by omega)) (fun i hi => absurd hi (by omega))
      unfold wpY_protocol
      refine pk_eq 1 1 (fun _ => ?_) (fun z => absurd rfl z) b5
      refine yb_fit A m20 D b7 b4 (fun ⟨j, j1, j2⟩ => absurd (no j j1) (by rw [j2]; decide)) (fun _ => ?_)
      refine br_f (by decide) ⟨mk + 1, ?_⟩
      refine yp_23 b1 no b4 (fun sort frm to lab fst snd ar Z2 => ?_) mk 0 (mk + 1) _ _ _ _ _ _ _ (by omega) (by omega) b7 (fun i hi => absurd hi (by omega))
      refine ⟨rfl, 0, 0, Q, S, mk, pp_P Q, [], _, ⟨bu_0 _ _, rfl, rfl, rfl, rfl, fun i h => absurd h (by omega), fun i h => absurd h (by omega), fun i h => absurd h (by omega)⟩, Z1, Z2, rfl, rfl, zZ_0 Z1.1 (zZ_pk H) h1 h2, Or.inl (fun x hx => nomatch hx), (fun j x hx => absurd hx (by simp)), rfl, rfl, by rw [el], rfl⟩
    · obtain ⟨j, j1, j2⟩ := hb.mp bt
      unfold wpY_protocol
      refine pk_eq 1 1 (fun _ => ?_) (fun z => absurd rfl z) b5
      refine yb_fit A m20 D b7 b4 (fun _ => ?_) (fun z => absurd (z j j1) (by rw [j2]; decide))
      refine br_t rfl ⟨rfl, ?_⟩
      exact ⟨mk, 1, Q, S, m, P, l, a, B, ZX, ZY, es, es', zZ_k (by omega) H, la, hal, er, ea, el, en⟩
  · unfold wpY_protocol
    exact pk_eq ht 1 (fun z => absurd z h1) (fun _ => ⟨rfl, I4⟩) b5
end
section
-- ===== whether the end can come: plain law =====
def fi (P : pa_T) : Nat → Nat → Prop
  | 0, n => P 0 n = 0
  | k + 1, n => P 0 n = 0 ∨ (P 0 n = 4 ∧ fi P k (P 6 n)) ∨ (1 ≤ P 0 n ∧ P 0 n ≤ 3 ∧ fi P k (P 4 n)) ∨ (P 0 n = 2 ∧ fi P k (P 5 n))
def fi_F (P : pa_T) (n : Nat) : Prop := ∃ k, fi P k n
def fi_c (P : pa_T) : Nat → Prop
  | 0 => False
  | 1 => True
  | n + 2 => fi_F P n
section FI
variable {m : Nat} {P : pa_T}
theorem fi_up : ∀ k n, fi P k n → fi P (k + 1) n := by
  intro k
  induction k with
  | zero => intro n h; exact Or.inl h
  | succ k ih =>
    intro n h
    rcases h with h | ⟨h1, h⟩ | ⟨h1, h2, h⟩ | ⟨h1, h⟩
    · exact Or.inl h
    · exact Or.inr (Or.inl ⟨h1, ih _ h⟩)
    · exact Or.inr (Or.inr (Or.inl ⟨h1, h2, ih _ h⟩))
    · exact Or.inr (Or.inr (Or.inr ⟨h1, ih _ h⟩))
theorem fi_sp (W : pa_W m P) {i k : Nat} (hi : i < m) (h3 : ¬ P 0 i < 3) (h : fi P k i) : fi P k (pa_sp P i) := by
  obtain ⟨_, c⟩ := pa_spm W hi h3
  cases k with
  | zero => have h' : P 0 i = 0 := h; omega
  | succ k =>
    apply fi_up
    rcases h with h | ⟨h1, h⟩ | ⟨h1, h2, h⟩ | ⟨h1, h⟩
    · omega
    · rcases c with ⟨c1, c2⟩ | ⟨c1, c2⟩
      · omega
      · rw [c2]; exact h
    · rcases c with ⟨c1, c2⟩ | ⟨c1, c2⟩
      · rw [c2]; exact h
      · omega
    · omega
theorem fi_st (W : pa_W m P) {k : Nat} : ∀ f i, i < m → fi P k i → fi P k (pa_st P f i) := by
  intro f
  induction f with
  | zero => intro i _ h; exact h
  | succ f ih =>
    intro i hi h
    rw [pa_st_s]
    split
    · exact h
    · rename_i c
      exact ih _ (pa_spm W hi c).1 (fi_sp W hi c h)
theorem fi_S (W : pa_W m P) {i k : Nat} (hi : i < m) (h : fi P k i) : fi P k (pa_S P i) := fi_st W 40 i hi h
theorem fi_Fst (W : pa_W m P) : ∀ f i, i < m → fi_F P (pa_st P f i) → fi_F P i := by
  intro f
  induction f with
  | zero => intro i _ h; exact h
  | succ f ih =>
    intro i hi h
    rw [pa_st_s] at h
    split at h
    · exact h
    · rename_i c
      obtain ⟨s1, s2⟩ := pa_spm W hi c
      obtain ⟨k, hk⟩ := ih _ s1 h
      refine ⟨k + 1, ?_⟩
      rcases s2 with ⟨c1, c2⟩ | ⟨c1, c2⟩
      · rw [c2] at hk; exact Or.inr (Or.inr (Or.inl ⟨by omega, by omega, hk⟩))
      · rw [c2] at hk; exact Or.inr (Or.inl ⟨c1, hk⟩)
theorem fi_FS (W : pa_W m P) {i : Nat} (hi : i < m) : fi_F P (pa_S P i) ↔ fi_F P i := ⟨fi_Fst W 40 i hi, fun ⟨k, h⟩ => ⟨k, fi_S W hi h⟩⟩
theorem fi_F1 {i : Nat} (h : P 0 i = 1) : fi_F P i ↔ fi_F P (P 4 i) := by
  constructor
  · intro ⟨k, hk⟩
    cases k with
    | zero => have h' : P 0 i = 0 := hk; omega
    | succ k =>
      rcases hk with z | ⟨z, _⟩ | ⟨_, _, z⟩ | ⟨z, _⟩
      · omega
      · omega
      · exact ⟨k, z⟩
      · omega
  · intro ⟨k, hk⟩
    exact ⟨k + 1, Or.inr (Or.inr (Or.inl ⟨by omega, by omega, hk⟩))⟩
theorem fi_Fn (W : pa_W m P) {i : Nat} (hi : i < m) (h : P 0 i = 1) : fi_F P i ↔ fi_F P (pa_nx P i) := by
  rw [fi_F1 h]
  exact (fi_FS W (W.2.2.2.1 i hi h).1).symm
theorem fi_L (W : pa_W m P) {r i : Nat} (hi : i < m) (hk : P 0 i < 3) : fi_c P (pa_L P r i) ↔ fi_F P i := by
  rcases pa_tU W (r := r) hi with t | t
  · have key : ∀ k j, j < m → P 0 j < 3 → pg_tm (pa_ub P r) (pa_nx P) k j = true → (fi_c P (pa_L P r j) ↔ fi_F P j) := by
      intro k
      have stop : ∀ j, P 0 j < 3 → ¬ pa_U P r j → (fi_c P (pa_L P r j) ↔ fi_F P j) := by
        intro j hj hu
        by_cases k1 : P 0 j = 1
        · have c : P 1 j = r ∨ P 2 j = r := by
            by_cases x : P 1 j = r
            · exact Or.inl x
            · by_cases y : P 2 j = r
              · exact Or.inr y
              · exact absurd ⟨k1, x, y⟩ hu
          rw [pa_L_c k1 c]; exact Iff.rfl
        · by_cases k2 : P 0 j = 2
          · rw [pa_L_2 k2]; exact Iff.rfl
          · have k0 : P 0 j = 0 := by omega
            rw [pa_L_0 k0]
            exact ⟨fun _ => ⟨0, k0⟩, fun _ => trivial⟩
      induction k with
      | zero => intro j hj hk ht; exact stop j hk (pa_ub_t.mp ht)
      | succ k ih =>
        intro j hj hk ht
        by_cases u : pa_U P r j
        · rw [pg_tm_s, pa_ub_f.mpr u, Bool.false_or] at ht
          rw [pa_L_u W hj u, fi_Fn W hj u.1]
          exact ih _ (pa_nx_m W hj u) (pa_S_k W (W.2.2.2.1 j hj u.1).1) ht
        · exact stop j hk u
    exact key 19 i hi hk t
  · have z : pa_L P r i = 0 := pa_lf_z _ _ t
    rw [z]
    refine ⟨fun h => h.elim, fun ⟨k, h⟩ => ?_⟩
    have key : ∀ k j, j < m → (∀ k, pg_tm (pa_ub P r) (pa_nx P) k j = false) → ¬ fi P k j := by
      intro k
      induction k with
      | zero =>
        intro j _ hn h
        have u := pa_ub_f.mp (hn 0)
        have h' : P 0 j = 0 := h
        have := u.1
        omega
      | succ k ih =>
        intro j hj hn h
        have u := pa_ub_f.mp (hn 0)
        have k1 := u.1
        have g := (W.2.2.2.1 j hj u.1).1
        rcases h with z | ⟨z, _⟩ | ⟨_, _, z⟩ | ⟨z, _⟩
        · omega
        · omega
        · refine ih (pa_nx P j) (pa_nx_m W hj u) (fun k => ?_) (fi_S W g z)
          have a := hn (k + 1)
          rw [pg_tm_s, Bool.or_eq_false_iff] at a
          exact a.2
        · omega
    exact key k i hi t h
theorem fi_ch (W : pa_W m P) {r e : Nat} : ∀ (l : List ro_T) c hb pk, (∀ x, x ∈ l → ro_W m P x ∧ ro_d P r x = false) → pt_ch P r l e c hb pk →
    (hb = false → (fi_c P c ↔ fi_c P e)) ∧ (hb = true → ∃ t, c = t + 2 ∧ t < m ∧ P 0 t = 2 ∧ (fi_F P (if pk = 1 then P 5 t else P 4 t) ↔ fi_c P e)) := by
  intro l
  induction l with
  | nil =>
    intro c hb pk _ h
    obtain ⟨rfl, rfl⟩ := h
    exact ⟨fun _ => Iff.rfl, fun z => absurd z (by decide)⟩
  | cons x l ih =>
    intro c hb pk hw h
    obtain ⟨wx, dx⟩ := hw x (List.mem_cons_self ..)
    have hw' : ∀ y, y ∈ l → ro_W m P y ∧ ro_d P r y = false := fun y hy => hw y (List.mem_cons_of_mem _ hy)
    by_cases u : ro_u r x = true
    · rw [pt_ch_t u] at h
      obtain ⟨h1, h2, h3, h4⟩ := h
      have i := (ih _ _ _ hw' h4).1 rfl
      obtain ⟨w1, w2, w3, w4, w5, w6, w7, w8⟩ := wx
      rcases w8 with ⟨k1, _, _⟩ | ⟨k2, l2, _, _⟩
      · have g := (W.2.2.2.1 _ w1 k1).1
        have en : ro_n P x = pa_nx P (ro_t x) := by
          unfold ro_n pa_nx; rw [if_neg (by omega)]
        have hf : hb = false := by rw [h2, decide_eq_false_iff_not]; omega
        refine ⟨fun _ => ?_, fun z => absurd (hf.symm.trans z) (by decide)⟩
        rw [← i, h1, en]
        exact (fi_Fn W w1 k1).trans (fi_L W (i := pa_nx P (ro_t x)) (pa_S_m W g) (pa_S_k W g)).symm
      · obtain ⟨g1, g2, _⟩ := W.2.2.2.2.1 _ w1 k2
        by_cases s : ro_s x = r
        · have ht : hb = true := by rw [h2, decide_eq_true_iff]; exact ⟨s, k2⟩
          refine ⟨fun z => absurd (ht.symm.trans z) (by decide), fun _ => ⟨ro_t x, h1, w1, k2, ?_⟩⟩
          have gm : (if pk = 1 then P 5 (ro_t x) else P 4 (ro_t x)) < m := by split <;> assumption
          have en : ro_n P x = pa_S P (if pk = 1 then P 5 (ro_t x) else P 4 (ro_t x)) := by
            unfold ro_n
            rw [← h3 ht]
            by_cases z : pk = 1
            · rw [if_pos ⟨k2, z⟩, if_pos z]
            · rw [if_neg (fun y => z y.2), if_neg z]
          rw [← i, en, fi_L W (pa_S_m W gm) (pa_S_k W gm)]
          exact (fi_FS W gm).symm
        · exfalso
          have ub : ro_r x = r ∧ ro_b x = false := by
            rw [ro_u_t] at u
            rcases u with u | u
            · exact absurd u.1 s
            · exact u
          rw [ro_d_t.mpr ⟨k2, ub.1, ub.2⟩] at dx
          exact absurd dx (by decide)
    · rw [pt_ch_f (ro_nt u)] at h
      exact ih c hb pk hw' h
-- ===== the component's marks: closed after twenty passes =====
def fi_s (P : pa_T) (n j : Nat) : Bool := (decide (P 0 n = 4) && decide (j = P 6 n)) || ((decide (1 ≤ P 0 n) && decide (P 0 n ≤ 3)) && decide (j = P 4 n)) || (decide (P 0 n = 2) && decide (j = P 5 n))
theorem fi_s_t {n j : Nat} : fi_s P n j = true ↔ (P 0 n = 4 ∧ j = P 6 n) ∨ ((1 ≤ P 0 n ∧ P 0 n ≤ 3) ∧ j = P 4 n) ∨ (P 0 n = 2 ∧ j = P 5 n) := by
  unfold fi_s; simp [or_assoc]
theorem fi_s_F {n j : Nat} (h : fi_s P n j = true) (hj : fi_F P j) : fi_F P n := by
  obtain ⟨k, hk⟩ := hj
  refine ⟨k + 1, ?_⟩
  rcases fi_s_t.mp h with ⟨a, rfl⟩ | ⟨⟨a, b⟩, rfl⟩ | ⟨a, rfl⟩
  · exact Or.inr (Or.inl ⟨a, hk⟩)
  · exact Or.inr (Or.inr (Or.inl ⟨a, b, hk⟩))
  · exact Or.inr (Or.inr (Or.inr ⟨a, hk⟩))
theorem fi_s_m (W : pa_W m P) {n j : Nat} (hn : n < m) (h : fi_s P n j = true) : j < m := by
  obtain ⟨_, _, _, w1, w2, w3, w4, _⟩ := W
  rcases fi_s_t.mp h with ⟨a, rfl⟩ | ⟨⟨a, b⟩, rfl⟩ | ⟨a, rfl⟩
  · exact w4 n hn a
  · rcases (show P 0 n = 1 ∨ P 0 n = 2 ∨ P 0 n = 3 by omega) with z | z | z
    · exact (w1 n hn z).1
    · exact (w2 n hn z).1
    · exact w3 n hn z
  · exact (w2 n hn a).2.1
def fi_dn (P : pa_T) (s : Nat → Bool) (b : Bool) (j : Nat) : Prop := (∀ i, fi_s P j i = true → s i = true) ∧ (P 0 j = 0 → b = true)
def fi_cl (P : pa_T) (s : Nat → Bool) (b : Bool) : Prop := ∀ j, s j = true → fi_dn P s b j
def fi_so (m : Nat) (P : pa_T) (f : Nat) (s : Nat → Bool) (b : Bool) : Prop := (∀ j, s j = true → j < m ∧ (fi_F P j → fi_F P f)) ∧ (b = true → fi_F P f) ∧ s f = true
/-- p passes are done, and n places of the next one -/
def fi_in (m : Nat) (P : pa_T) (f p n : Nat) (s : Nat → Bool) (b : Bool) : Prop := fi_so m P f s b ∧ (fi_cl P s b ∨ ∃ s0 : Nat → Bool, p + 1 ≤ pg_ct s0 20 ∧ (∀ j, s0 j = true → s j = true) ∧ ∀ j, j < n → s0 j = true → fi_dn P s b j)
theorem fi_dn_mono {s s' : Nat → Bool} {b b' : Bool} {j : Nat} (hs : ∀ i, s i = true → s' i = true) (hb : b = true → b' = true) (h : fi_dn P s b j) : fi_dn P s' b' j := ⟨fun i hi => hs i (h.1 i hi), fun z => hb (h.2 z)⟩
theorem fi_in_skip {f p n : Nat} {s : Nat → Bool} {b : Bool} (h : fi_in m P f p n s b) (hn : m ≤ n ∨ s n = false) : fi_in m P f p (n + 1) s b := by
  obtain ⟨so, h⟩ := h
  refine ⟨so, ?_⟩
  rcases h with h | ⟨s0, h1, h2, h3⟩
  · exact Or.inl h
  · refine Or.inr ⟨s0, h1, h2, fun j hj hs => ?_⟩
    by_cases e : j = n
    · subst e
      exfalso
      rcases hn with hn | hn
      · have := (so.1 j (h2 j hs)).1; omega
      · rw [h2 j hs] at hn; exact absurd hn (by decide)
    · exact h3 j (by omega) hs
theorem fi_in_do (W : pa_W m P) {f p n : Nat} {s : Nat → Bool} {b : Bool} (h : fi_in m P f p n s b) (hn : n < m) (hs : s n = true) : fi_in m P f p (n + 1) (fun j => s j || fi_s P n j) (b || decide (P 0 n = 0)) := by
  obtain ⟨⟨s1, s2, s3⟩, h⟩ := h
  have mono : ∀ i, s i = true → (s i || fi_s P n i) = true := by intro i hi; rw [hi]; rfl
  have mb : b = true → (b || decide (P 0 n = 0)) = true := by intro z; rw [z]; rfl
  have dn : fi_dn P (fun j => s j || fi_s P n j) (b || decide (P 0 n = 0)) n := by
    refine ⟨fun i hi => ?_, fun z => ?_⟩
    · show (s i || fi_s P n i) = true
      rw [hi, Bool.or_true]
    · rw [decide_eq_true z, Bool.or_true]
  refine ⟨⟨fun j hj => ?_, fun z => ?_, mono f s3⟩, ?_⟩
  · have hj' : (s j || fi_s P n j) = true := hj
    rw [Bool.or_eq_true] at hj'
    rcases hj' with z | z
    · exact s1 j z
    · exact ⟨fi_s_m W hn z, fun w => (s1 n hs).2 (fi_s_F z w)⟩
  · rw [Bool.or_eq_true] at z
    rcases z with z | z
    · exact s2 z
    · have z0 : P 0 n = 0 := of_decide_eq_true z
      exact (s1 n hs).2 ⟨0, z0⟩
  · rcases h with h | ⟨s0, h1, h2, h3⟩
    · refine Or.inl (fun j hj => ?_)
      have hj' : (s j || fi_s P n j) = true := hj
      rw [Bool.or_eq_true] at hj'
      have sj : s j = true := by
        rcases hj' with z | z
        · exact z
        · exact (h n hs).1 j z
      exact fi_dn_mono mono mb (h j sj)
    · refine Or.inr ⟨s0, h1, fun j hj => mono j (h2 j hj), fun j hj hs0 => ?_⟩
      by_cases e : j = n
      · subst e; exact dn
      · exact fi_dn_mono mono mb (h3 j (by omega) hs0)
theorem fi_in_next (hm : m ≤ 20) {f p : Nat} {s : Nat → Bool} {b : Bool} (h : fi_in m P f p 20 s b) : fi_in m P f (p + 1) 0 s b := by
  obtain ⟨so, h⟩ := h
  refine ⟨so, ?_⟩
  rcases h with h | ⟨s0, h1, h2, h3⟩
  · exact Or.inl h
  · by_cases c : ∀ j, s j = true → s0 j = true
    · refine Or.inl (fun j hj => h3 j ?_ (c j hj))
      have := (so.1 j hj).1
      omega
    · obtain ⟨j, hj⟩ : ∃ j, s j = true ∧ s0 j = false := by
        apply Classical.byContradiction
        intro n
        apply c
        intro j hj
        cases hh : s0 j with
        | true => rfl
        | false => exact absurd ⟨j, hj, hh⟩ n
      have := (so.1 j hj.1).1
      have := pg_ct_lt (b := s0) (c := s) (a := j) hj.2 hj.1 20 (fun i _ hi => h2 i hi) (by omega)
      exact Or.inr ⟨s, by omega, fun _ h => h, fun i hi => absurd hi (by omega)⟩
theorem fi_in_end {f : Nat} {s : Nat → Bool} {b : Bool} (h : fi_in m P f 20 0 s b) : b = true ↔ fi_F P f := by
  obtain ⟨⟨s1, s2, s3⟩, h⟩ := h
  refine ⟨s2, fun ⟨k, hk⟩ => ?_⟩
  have cl : fi_cl P s b := by
    rcases h with h | ⟨s0, h1, _⟩
    · exact h
    · have := pg_ct_le s0 20
      omega
  have key : ∀ k j, s j = true → fi P k j → b = true := by
    intro k
    induction k with
    | zero => intro j hs hj; exact (cl j hs).2 hj
    | succ k ih =>
      intro j hs hj
      rcases hj with z | ⟨a, z⟩ | ⟨a, a', z⟩ | ⟨a, z⟩
      · exact (cl j hs).2 z
      · exact ih _ ((cl j hs).1 _ (fi_s_t.mpr (Or.inl ⟨a, rfl⟩))) z
      · exact ih _ ((cl j hs).1 _ (fi_s_t.mpr (Or.inr (Or.inl ⟨⟨a, a'⟩, rfl⟩)))) z
      · exact ih _ ((cl j hs).1 _ (fi_s_t.mpr (Or.inr (Or.inr ⟨a, rfl⟩)))) z
  exact key k f s3 hk
-- ===== the reference's marks =====
def fy_dn (P : pa_T) (s : Nat → Bool) (j : Nat) : Prop := P 0 j ≠ 0 → s (pa_S P (P 4 j)) = true ∧ (P 0 j = 2 → s (pa_S P (P 5 j)) = true)
def fy_so (m : Nat) (P : pa_T) (a : Nat) (s : Nat → Bool) : Prop := (∀ j, s j = true → j < m ∧ P 0 j < 3 ∧ (fi_F P j → fi_F P a)) ∧ s a = true
theorem fy_end {a : Nat} {s : Nat → Bool} (W : pa_W m P) (so : fy_so m P a s) (cl : ∀ j, j < m → s j = true → fy_dn P s j) : fi_F P a ↔ ∃ t, t < m ∧ s t = true ∧ P 0 t = 0 := by
  obtain ⟨s1, s2⟩ := so
  constructor
  · intro ⟨k, hk⟩
    have key : ∀ k j, s j = true → fi P k j → ∃ t, t < m ∧ s t = true ∧ P 0 t = 0 := by
      intro k
      induction k with
      | zero => intro j hs hj; exact ⟨j, (s1 j hs).1, hs, hj⟩
      | succ k ih =>
        intro j hs hj
        obtain ⟨jm, jk, _⟩ := s1 j hs
        rcases hj with z | ⟨z, _⟩ | ⟨z1, z2, z⟩ | ⟨z1, z⟩
        · exact ⟨j, jm, hs, z⟩
        · omega
        · have g : P 4 j < m := by
            rcases (show P 0 j = 1 ∨ P 0 j = 2 by omega) with y | y
            · exact (W.2.2.2.1 j jm y).1
            · exact (W.2.2.2.2.1 j jm y).1
          exact ih _ (cl j jm hs (by omega)).1 (fi_S W g z)
        · exact ih _ ((cl j jm hs (by omega)).2 z1) (fi_S W (W.2.2.2.2.1 j jm z1).2.1 z)
    exact key k a s2 hk
  · intro ⟨t, _, h2, h3⟩
    exact (s1 t h2).2.2 ⟨0, h3⟩
end FI
end
section
-- ===== whether the end can come: both walks =====
section CF
variable {m k : Nat} {P : pa_T} {l : List ro_T} {a : Nat} {xsize xmade xheight xsend : Int32} {xkind xone xother xlabel xpG xpH xtgt xstk xlA xgd xpl xhT xpk xps xlast xhd xln xqL xqV xseen : Nat → Int32} {ymade ydep ysize yrows yat ysend : Int32} {ysort yfrom yto ylab yfst ysnd yar ystk ysen yrec ytold yval yiS yiR ylast ymet : Nat → Int32}
theorem xe_43 {post : SX → Prop} (Z : zX m P xkind xone xother xlabel xpG xpH xtgt) {n : Nat} {s : Nat → Bool} (hn : n < m) (hs : ∀ j, j < 20 → xseen j = ba_bI (s j)) (hp : ∀ seen : Nat → Int32, (∀ j, j < 20 → seen j = ba_bI (s j || (decide (P 0 n = 2) && decide (j = P 5 n)))) → post (xsize, xmade, xheight, xsend, xkind, xone, xother, xlabel, xpG, xpH, xtgt, xstk, xlA, xgd, xpl, xhT, xpk, xps, xlast, xhd, xln, xqL, xqV, seen)) : wX_spread_43 post (nI n) (nI (P 0 n)) xsize xmade xheight xsend xkind xone xother xlabel xpG xpH xtgt xstk xlA xgd xpl xhT xpk xps xlast xhd xln xqL xqV xseen := by
  obtain ⟨i20, e0, _, _, _, _, e5, _, k4, _⟩ := zX_at Z hn
  have m20 := Z.1.2.1
  refine pk_eq (P 0 n) 2 (fun k2 => ⟨ba_in (by omega) (by omega), ?_⟩) (fun k2 => ?_)
  · have g := (Z.1.2.2.2.2.1 n hn k2).2.1
    rw [e5]
    refine ⟨ba_in (by omega) (by omega), ?_⟩
    rw [ba_cl (show P 5 n < 1000 by omega), ba_vb1]
    refine nm_e (hp _ (fun j hj => ?_))
    rw [decide_eq_true k2, Bool.true_and]
    by_cases e : j = P 5 n
    · rw [e, pk_us, decide_eq_true (show P 5 n = P 5 n from rfl), Bool.or_true]; rfl
    · rw [pk_un e, decide_eq_false e, Bool.or_false]; exact hs j hj
  · refine hp _ (fun j hj => ?_)
    rw [decide_eq_false k2, Bool.false_and, Bool.or_false]; exact hs j hj
theorem xe_spread {post : SX → Prop} (Z : zX m P xkind xone xother xlabel xpG xpH xtgt) {n : Nat} {s : Nat → Bool} (hn : n < m) (hs : ∀ j, j < 20 → xseen j = ba_bI (s j)) (hp : ∀ seen : Nat → Int32, (∀ j, j < 20 → seen j = ba_bI (s j || fi_s P n j)) → post (xsize, xmade, xheight, xsend, xkind, xone, xother, xlabel, xpG, xpH, xtgt, xstk, xlA, xgd, xpl, xhT, xpk, xps, xlast, xhd, xln, xqL, xqV, seen)) : wpX_spread post (xsize, xmade, xheight, xsend, xkind, xone, xother, xlabel, xpG, xpH, xtgt, xstk, xlA, xgd, xpl, xhT, xpk, xps, xlast, xhd, xln, xqL, xqV, xseen) (nI n) := by
  obtain ⟨i20, e0, _, _, _, e4, e5, e6, k4, _⟩ := zX_at Z hn
  have m20 := Z.1.2.1
  have vn : vp_in (nI n) 40 := ba_in (by omega) (by omega)
  unfold wpX_spread
  refine ⟨vn, nm_r e0 ?_⟩
  refine pk_eq (P 0 n) 4 (fun c4 => ⟨ba_in (by omega) (by omega), ?_⟩) (fun c4 => ?_)
  · have g := Z.1.2.2.2.2.2.2.1 n hn c4
    rw [e6 c4]
    refine ⟨ba_in (by omega) (by omega), ?_⟩
    rw [ba_cl (show P 6 n < 1000 by omega), ba_vb1]
    refine nm_e (xe_43 (s := fun j => s j || decide (j = P 6 n)) Z hn (fun j hj => ?_) (fun seen h => hp seen (fun j hj => ?_)))
    · show upd xseen (P 6 n) 1 j = ba_bI (s j || decide (j = P 6 n))
      by_cases e : j = P 6 n
      · rw [e, pk_us, decide_eq_true (show P 6 n = P 6 n from rfl), Bool.or_true]; rfl
      · rw [pk_un e, decide_eq_false e, Bool.or_false]; exact hs j hj
    · rw [h j hj]
      congr 1
      unfold fi_s
      rw [decide_eq_true c4, decide_eq_false (show ¬ P 0 n = 2 by omega), decide_eq_false (show ¬ P 0 n ≤ 3 by omega)]
      simp
  · refine pk_eq (P 0 n) 0 (fun c0 => ?_) (fun c0 => ⟨vn, ?_⟩)
    · refine xe_43 (s := s) Z hn hs (fun seen h => hp seen (fun j hj => ?_))
      rw [h j hj]
      congr 1
      unfold fi_s
      rw [decide_eq_false c4, decide_eq_false (show ¬ 1 ≤ P 0 n by omega)]
      simp
    · have g : P 4 n < m := by
        obtain ⟨_, _, _, w1, w2, w3, w4, _⟩ := Z.1
        rcases (show P 0 n = 1 ∨ P 0 n = 2 ∨ P 0 n = 3 by omega) with z | z | z
        · exact (w1 n hn z).1
        · exact (w2 n hn z).1
        · exact w3 n hn z
      rw [e4]
      refine ⟨ba_in (by omega) (by omega), ?_⟩
      rw [ba_cl (show P 4 n < 1000 by omega), ba_vb1]
      refine nm_e (xe_43 (s := fun j => s j || decide (j = P 4 n)) Z hn (fun j hj => ?_) (fun seen h => hp seen (fun j hj => ?_)))
      · show upd xseen (P 4 n) 1 j = ba_bI (s j || decide (j = P 4 n))
        by_cases e : j = P 4 n
        · rw [e, pk_us, decide_eq_true (show P 4 n = P 4 n from rfl), Bool.or_true]; rfl
        · rw [pk_un e, decide_eq_false e, Bool.or_false]; exact hs j hj
      · rw [h j hj]
        congr 1
        unfold fi_s
        rw [decide_eq_false c4, decide_eq_true (show 1 ≤ P 0 n by omega), decide_eq_true (show P 0 n ≤ 3 by omega), Bool.false_and, Bool.false_or, Bool.and_true, Bool.true_and, Bool.or_assoc]
theorem xe_34 {post : Int32 → SX → Prop} (Z : zX m P xkind xone xother xlabel xpG xpH xtgt) (ez : xsize = nI m) {f : Nat} (hp : ∀ (b : Bool) (seen : Nat → Int32), (b = true ↔ fi_F P f) → post (ba_bI b) (xsize, xmade, xheight, xsend, xkind, xone, xother, xlabel, xpG, xpH, xtgt, xstk, xlA, xgd, xpl, xhT, xpk, xps, xlast, xhd, xln, xqL, xqV, seen)) :
    ∀ d c n (s : Nat → Bool) (b : Bool) (xseen : Nat → Int32), c + d = 400 → d < n → (∀ j, j < 20 → xseen j = ba_bI (s j)) → fi_in m P f (c / 20) (c % 20) s b → wX_endComes_34 post n (ba_bI b) (nI c) xsize xmade xheight xsend xkind xone xother xlabel xpG xpH xtgt xstk xlA xgd xpl xhT xpk xps xlast xhd xln xqL xqV xseen := by
  have m20 := Z.1.2.1
  subst ez
  intro d
  induction d with
  | zero =>
    intro c n s b xseen hc hn hs hI
    obtain ⟨n, rfl⟩ : ∃ e, n = e + 1 := ⟨n - 1, by omega⟩
    have e : c = 400 := by omega
    subst e
    refine pk_le 400 400 (fun _ => ⟨ba_nbI b, hp b _ (fi_in_end hI)⟩) (fun z => absurd z (by omega))
  | succ d ih =>
    intro c n s b xseen hc hn hs hI
    obtain ⟨n, rfl⟩ : ∃ e, n = e + 1 := ⟨n - 1, by omega⟩
    have step : ∀ (s : Nat → Bool) (b : Bool), fi_in m P f (c / 20) (c % 20 + 1) s b → fi_in m P f ((c + 1) / 20) ((c + 1) % 20) s b := by
      intro s b h
      by_cases e : c % 20 = 19
      · rw [show (c + 1) / 20 = c / 20 + 1 from by omega, show (c + 1) % 20 = 0 from by omega]
        rw [e] at h
        exact fi_in_next m20 h
      · rw [show (c + 1) / 20 = c / 20 from by omega, show (c + 1) % 20 = c % 20 + 1 from by omega]
        exact h
    have rem : nI c - nI c / 20 * 20 = nI (c % 20) := pk_rem (d := 20) (by omega) (by omega) (by omega)
    refine pk_le 400 c (fun z => absurd z (by omega)) (fun _ => ⟨by decide, ?_⟩)
    refine nm_r rem ?_
    have cl : (nI (c % 20)).toNatClampNeg = c % 20 := ba_cl (by omega)
    refine pk_le m (c % 20) (fun z => nm_r (nI_1 c) ?_) (fun z => ⟨ba_in (by omega) (by omega), ?_⟩)
    · exact ih (c + 1) n s b xseen (by omega) (by omega) hs (step s b (fi_in_skip hI (Or.inl z)))
    · have e1 : xseen (nI (c % 20)).toNatClampNeg = ba_bI (s (c % 20)) := by rw [cl]; exact hs _ (by omega)
      refine ba_br e1 (fun sf => nm_r (nI_1 c) ?_) (fun st => ?_)
      · exact ih (c + 1) n s b xseen (by omega) (by omega) hs (step s b (fi_in_skip hI (Or.inr sf)))
      · have k0 := (zX_at Z z).2.1
        have k4 := (zX_at Z z).2.2.2.2.2.2.2.2.1
        refine xe_spread Z z hs (fun seen h => ?_)
        have go : ∀ b' : Bool, b' = (b || decide (P 0 (c % 20) = 0)) → wX_endComes_34 post n (ba_bI b') (nI (c + 1)) (nI m) xmade xheight xsend xkind xone xother xlabel xpG xpH xtgt xstk xlA xgd xpl xhT xpk xps xlast xhd xln xqL xqV seen := by
          intro b' hb'
          subst hb'
          exact ih (c + 1) n _ _ seen (by omega) (by omega) h (step _ _ (fi_in_do Z.1 hI z st))
        refine ba_br rfl (fun bf => ⟨ba_in (by omega) (by omega), ?_⟩) (fun bt => nm_r (nI_1 c) (go true (by rw [bt]; rfl)))
        refine pk_eq (P 0 (c % 20)) 0 (fun y => nm_r (nI_1 c) (go true ?_)) (fun y => nm_r (nI_1 c) (go false ?_)) k0
        · rw [decide_eq_true y, Bool.or_true]
        · rw [bf, decide_eq_false y]; rfl
theorem xe_2 {post : Int32 → SX → Prop} (Z : zX m P xkind xone xother xlabel xpG xpH xtgt) (ez : xsize = nI m) {f : Nat} (hf : f < m) (hp : ∀ (b : Bool) (seen : Nat → Int32), (b = true ↔ fi_F P f) → post (ba_bI b) (xsize, xmade, xheight, xsend, xkind, xone, xother, xlabel, xpG, xpH, xtgt, xstk, xlA, xgd, xpl, xhT, xpk, xps, xlast, xhd, xln, xqL, xqV, seen)) :
    ∀ d j n (xseen : Nat → Int32), j + d = 20 → d < n → (∀ i, i < j → xseen i = ba_bI (decide (i = f))) → wX_endComes_2 post (nI f) xsize xmade xheight xsend n (nI j) xkind xone xother xlabel xpG xpH xtgt xstk xlA xgd xpl xhT xpk xps xlast xhd xln xqL xqV xseen := by
  have m20 := Z.1.2.1
  intro d
  induction d with
  | zero =>
    intro j n xseen hj hn h
    obtain ⟨n, rfl⟩ : ∃ e, n = e + 1 := ⟨n - 1, by omega⟩
    refine pk_le 20 j (fun _ => ⟨401, ?_⟩) (fun z => absurd z (by omega))
    refine xe_34 Z ez hp 400 0 401 (fun i => decide (i = f)) false _ (by omega) (by omega) (fun i hi => h i (by omega)) ⟨⟨fun i hi => ?_, fun z => absurd z (by decide), decide_eq_true rfl⟩, Or.inr ⟨fun i => decide (i = f), ?_, fun _ h => h, fun i hi => absurd hi (by omega)⟩⟩
    · have e : i = f := of_decide_eq_true hi
      subst e
      exact ⟨hf, fun h => h⟩
    · have := pg_ct_lt (b := fun _ => false) (c := fun i => decide (i = f)) (a := f) rfl (decide_eq_true rfl) 20 (fun i _ z => absurd z Bool.false_ne_true) (by omega)
      show 0 / 20 + 1 ≤ _
      omega
  | succ d ih =>
    intro j n xseen hj hn h
    obtain ⟨n, rfl⟩ : ∃ e, n = e + 1 := ⟨n - 1, by omega⟩
    have vi : vp_in (nI j) 20 := ba_in (by omega) (by omega)
    have cj : (nI j).toNatClampNeg = j := ba_cl (by omega)
    have go : ∀ b : Bool, b = decide (j = f) → wX_endComes_2 post (nI f) xsize xmade xheight xsend n (nI (j + 1)) xkind xone xother xlabel xpG xpH xtgt xstk xlA xgd xpl xhT xpk xps xlast xhd xln xqL xqV (upd xseen j (ba_bI b)) := by
      intro b hb
      refine ih (j + 1) n _ (by omega) (by omega) (fun i hi => ?_)
      by_cases e : i = j
      · subst e; rw [pk_us, hb]
      · rw [pk_un e]; exact h i (by omega)
    refine pk_le 20 j (fun z => absurd z (by omega)) (fun _ => ?_)
    rw [cj, ba_vb0, ba_vb1]
    refine pk_eq j f (fun e => ⟨vi, nm_e (nm_r (nI_1 j) (go true (by rw [decide_eq_true e])))⟩) (fun e => ⟨vi, nm_e (nm_r (nI_1 j) (go false (by rw [decide_eq_false e])))⟩)
theorem xe_end {post : Int32 → SX → Prop} (Z : zX m P xkind xone xother xlabel xpG xpH xtgt) (ez : xsize = nI m) {f : Nat} (hf : f < m) (hp : ∀ (b : Bool) (seen : Nat → Int32), (b = true ↔ fi_F P f) → post (ba_bI b) (xsize, xmade, xheight, xsend, xkind, xone, xother, xlabel, xpG, xpH, xtgt, xstk, xlA, xgd, xpl, xhT, xpk, xps, xlast, xhd, xln, xqL, xqV, seen)) : wpX_endComes post (xsize, xmade, xheight, xsend, xkind, xone, xother, xlabel, xpG, xpH, xtgt, xstk, xlA, xgd, xpl, xhT, xpk, xps, xlast, xhd, xln, xqL, xqV, xseen) (nI f) :=
  ⟨21, xe_2 Z ez hf hp 20 0 21 _ (by omega) (by omega) (fun i hi => absurd hi (by omega))⟩
theorem xe_fore {post : Int32 → Prop} {p : Nat → Nat} (hps : ∀ r, r < 3 → xps r = nI (p r)) (hb : ∀ r, r < 3 → p r < 100000) (hp : ∀ r, r < 3 → (∀ q, q < 3 → p q ≤ p r) → post (nI r)) : wpX_foremost post (xsize, xmade, xheight, xsend, xkind, xone, xother, xlabel, xpG, xpH, xtgt, xstk, xlA, xgd, xpl, xhT, xpk, xps, xlast, xhd, xln, xqL, xqV, xseen) := by
  have c0 : (0 : Int32).toNatClampNeg = 0 := by decide
  have c1 : (1 : Int32).toNatClampNeg = 1 := by decide
  have c2 : (2 : Int32).toNatClampNeg = 2 := by decide
  have v0 : vp_in 0 3 := ba_in (n := 0) (by omega) (by omega)
  have v1 : vp_in 1 3 := ba_in (n := 1) (by omega) (by omega)
  have v2 : vp_in 2 3 := ba_in (n := 2) (by omega) (by omega)
  have b0 := hb 0 (by omega)
  have b1 := hb 1 (by omega)
  have b2 := hb 2 (by omega)
  have e0 := hps 0 (by omega)
  have e1 := hps 1 (by omega)
  have e2 := hps 2 (by omega)
  have fin : ∀ r, r < 3 → (∀ q, q < 3 → p q ≤ p r) → wX_foremost_4 post xsize xmade xheight xsend xkind xone xother xlabel xpG xpH xtgt xstk xlA xgd xpl xhT xpk xps xlast xhd xln xqL xqV xseen 1 (nI r) 3 := fun r hr h => br_t (by decide) (hp r hr h)
  have mid0 : p 1 ≤ p 0 → wX_foremost_4 post xsize xmade xheight xsend xkind xone xother xlabel xpG xpH xtgt xstk xlA xgd xpl xhT xpk xps xlast xhd xln xqL xqV xseen 2 0 2 := by
    intro h
    refine br_f (by decide) ⟨v2, v0, ?_⟩
    rw [c2, c0, e2, e0]
    refine pk_le (p 2) (p 0) (fun z => nm_r (e' := 3) (by decide) (fin 0 (by omega) (fun q hq => ?_))) (fun z => nm_r (e' := 3) (by decide) (fin 2 (by omega) (fun q hq => ?_)))
    · rcases ba_3 hq with rfl | rfl | rfl <;> omega
    · rcases ba_3 hq with rfl | rfl | rfl <;> omega
  have mid1 : p 0 < p 1 → wX_foremost_4 post xsize xmade xheight xsend xkind xone xother xlabel xpG xpH xtgt xstk xlA xgd xpl xhT xpk xps xlast xhd xln xqL xqV xseen 2 1 2 := by
    intro h
    refine br_f (by decide) ⟨v2, v1, ?_⟩
    rw [c2, c1, e2, e1]
    refine pk_le (p 2) (p 1) (fun z => nm_r (e' := 3) (by decide) (fin 1 (by omega) (fun q hq => ?_))) (fun z => nm_r (e' := 3) (by decide) (fin 2 (by omega) (fun q hq => ?_)))
    · rcases ba_3 hq with rfl | rfl | rfl <;> omega
    · rcases ba_3 hq with rfl | rfl | rfl <;> omega
  refine ⟨3, br_f (by decide) ⟨v1, v0, ?_⟩⟩
  rw [c1, c0, e1, e0]
  exact pk_le (p 1) (p 0) (fun z => nm_r (e' := 2) (by decide) (mid0 z)) (fun z => nm_r (e' := 2) (by decide) (mid1 z))
theorem xe_50 {post : Int32 → SX → Prop} (Z : zX m P xkind xone xother xlabel xpG xpH xtgt) (ez : xsize = nI m) {f : Nat} {y : Int32} (ey : y = nI f) (hf : f < m) (hp : ∀ (b : Bool) (seen : Nat → Int32), (b = true ↔ fi_F P f) → post (ba_bI b) (xsize, xmade, xheight, xsend, xkind, xone, xother, xlabel, xpG, xpH, xtgt, xstk, xlA, xgd, xpl, xhT, xpk, xps, xlast, xhd, xln, xqL, xqV, seen)) : wX_canFinish_50 post y xsize xmade xheight xsend xkind xone xother xlabel xpG xpH xtgt xstk xlA xgd xpl xhT xpk xps xlast xhd xln xqL xqV xseen := by
  subst ey
  have m20 := Z.1.2.1
  refine br_t (nI_pos' (by omega)) ?_
  refine xe_end Z ez hf (fun b seen h => ?_)
  have fin := hp b seen h
  refine ba_br rfl (fun z => ?_) (fun z => ?_)
  · subst z; exact fin
  · subst z; exact fin
theorem xe_can {post : Int32 → SX → Prop} (Z : zX m P xkind xone xother xlabel xpG xpH xtgt) (ez : xsize = nI m) (H : zZ k m P l a xpl xhT xpk xps xhd xln xqL xqV) (hk : k ≤ 2048) (hp : ∀ (b : Bool) (seen : Nat → Int32), (b = true ↔ fi_F P a) → post (ba_bI b) (xsize, xmade, xheight, xsend, xkind, xone, xother, xlabel, xpG, xpH, xtgt, xstk, xlA, xgd, xpl, xhT, xpk, xps, xlast, xhd, xln, xqL, xqV, seen)) : wpX_canFinish post (xsize, xmade, xheight, xsend, xkind, xone, xother, xlabel, xpG, xpH, xtgt, xstk, xlA, xgd, xpl, xhT, xpk, xps, xlast, xhd, xln, xqL, xqV, xseen) := by
  have m20 := Z.1.2.1
  obtain ⟨tot, t1, t2, r0, r03, t3⟩ := H.2.2.2
  have t2' : ∀ r, r < 3 → xps r = nI (tot - l.countP (ro_d P r)) ∧ l.countP (ro_d P r) ≤ tot := by
    intro r hr
    obtain ⟨p, h1, h2⟩ := t2 r hr
    refine ⟨?_, by omega⟩
    rw [h1, show tot - l.countP (ro_d P r) = p from by omega]
  unfold wpX_canFinish
  refine xe_fore (p := fun r => tot - l.countP (ro_d P r)) (fun r hr => (t2' r hr).1) (fun r hr => by show tot - _ < 100000; omega) (fun r hr hmax => ?_)
  have z0 : l.countP (ro_d P r) = 0 := by
    have := hmax r0 r03
    have h1 : tot - l.countP (ro_d P r0) ≤ tot - l.countP (ro_d P r) := this
    have := (t2' r hr).2
    omega
  have nd : ∀ x, x ∈ l → ro_W m P x ∧ ro_d P r x = false := by
    intro x hx
    refine ⟨H.1.2.2.1 x hx, ?_⟩
    rw [List.countP_eq_zero] at z0
    exact ro_nt (z0 x hx)
  obtain ⟨c, hb, p, e1, e2, e3, p2, e5⟩ := H.2.1 r hr
  obtain ⟨f1, f2⟩ := fi_ch Z.1 l c hb p nd e5
  have fL := fi_L Z.1 (r := r) H.1.1 H.1.2.1
  have cm := pt_ch_c (b := m) (fun x hx => (H.1.2.2.1 x hx).1) (pa_L_m Z.1 H.1.1) e5
  have vr : vp_in (nI r) 3 := ba_in hr (by omega)
  refine ⟨vr, ?_⟩
  rw [ba_cl (show r < 1000 by omega)]
  refine nm_r e1 ?_
  cases c with
  | zero =>
    have hf : hb = false := by
      cases hb with
      | false => rfl
      | true => obtain ⟨t, h, _⟩ := f2 rfl; omega
    refine br_t (by decide) ?_
    refine br_f (by decide) (br_f (by decide) ?_)
    refine hp false _ ⟨fun z => absurd z (by decide), fun z => ?_⟩
    exact ((f1 hf).mpr (fL.mpr z)).elim
  | succ c =>
    cases c with
    | zero =>
      have hf : hb = false := by
        cases hb with
        | false => rfl
        | true => obtain ⟨t, h, _⟩ := f2 rfl; omega
      refine br_t (by decide) ?_
      refine br_f (by decide) (br_t rfl ?_)
      exact hp true _ ⟨fun _ => fL.mp ((f1 hf).mp trivial), fun _ => rfl⟩
    | succ t =>
      have tm : t < m := by omega
      obtain ⟨i20, k0, _, _, _, e4, e5', _⟩ := zX_at Z tm
      have vt : vp_in (nI t) 40 := ba_in (by omega) (by omega)
      show (nI t < 0 → wX_canFinish_50 post (nI t) xsize xmade xheight xsend xkind xone xother xlabel xpG xpH xtgt xstk xlA xgd xpl xhT xpk xps xlast xhd xln xqL xqV xseen) ∧ _
      refine br_f (nI_pos (by omega)) ⟨vr, ?_⟩
      refine ba_br e2 (fun hf => ?_) (fun htt => ⟨vr, ?_⟩)
      · refine xe_50 Z ez rfl tm (fun b seen h => hp b seen ?_)
        rw [h, ← fL, ← f1 hf]; exact Iff.rfl
      · obtain ⟨t', et, tm', k2, hF⟩ := f2 htt
        have ett : t' = t := by omega
        subst ett
        obtain ⟨g1, g2, _⟩ := Z.1.2.2.2.2.1 t' tm k2
        refine pk_eq p 0 (fun y => ⟨vt, ?_⟩) (fun y => ⟨vt, ?_⟩) e3
        · refine xe_50 Z ez e4 g1 (fun b seen h => hp b seen ?_)
          rw [if_neg (by omega)] at hF
          rw [h, hF, fL]
        · refine xe_50 Z ez e5' g2 (fun b seen h => hp b seen ?_)
          rw [if_pos (by omega)] at hF
          rw [h, hF, fL]
-- --- the reference ---
theorem ye_164 {post : Int32 → SY → Prop} (Z : zY m P ysort yfrom yto ylab yfst ysnd yar) (ez : ysize = nI m) {s : Nat → Bool} (hs : ∀ j, j < 20 → ymet j = ba_bI (s j)) (h1 : (∃ t, t < m ∧ s t = true ∧ P 0 t = 0) → post 1 (ymade, ydep, ysize, yrows, yat, ysend, ysort, yfrom, yto, ylab, yfst, ysnd, yar, ystk, ysen, yrec, ytold, yval, yiS, yiR, ylast, ymet)) (h0 : (¬ ∃ t, t < m ∧ s t = true ∧ P 0 t = 0) → post 0 (ymade, ydep, ysize, yrows, yat, ysend, ysort, yfrom, yto, ylab, yfst, ysnd, yar, ystk, ysen, yrec, ytold, yval, yiS, yiR, ylast, ymet)) :
    ∀ d j n, j + d = m → d < n → (∀ t, t < j → ¬ (s t = true ∧ P 0 t = 0)) → wY_canFinish_164 post ymade ydep ysize yrows yat ysend ysort yfrom yto ylab yfst ysnd yar ystk ysen yrec ytold yval yiS yiR ylast ymet n (nI j) := by
  have m20 := Z.1.2.1
  subst ez
  intro d
  induction d with
  | zero =>
    intro j n hj hn h
    obtain ⟨n, rfl⟩ : ∃ e, n = e + 1 := ⟨n - 1, by omega⟩
    exact pk_le m j (fun _ => h0 (fun ⟨t, a1, a2, a3⟩ => h t (by omega) ⟨a2, a3⟩)) (fun z => absurd z (by omega))
  | succ d ih =>
    intro j n hj hn h
    obtain ⟨n, rfl⟩ : ∃ e, n = e + 1 := ⟨n - 1, by omega⟩
    have jm : j < m := by omega
    obtain ⟨i20, e0, _, _, _, _, _, k4, _⟩ := zY_at Z jm
    have cj : (nI j).toNatClampNeg = j := ba_cl (by omega)
    have go : ¬ (s j = true ∧ P 0 j = 0) → wY_canFinish_164 post ymade ydep (nI m) yrows yat ysend ysort yfrom yto ylab yfst ysnd yar ystk ysen yrec ytold yval yiS yiR ylast ymet n (nI (j + 1)) := by
      intro hh
      refine ih (j + 1) n (by omega) (by omega) (fun t ht => ?_)
      by_cases e : t = j
      · subst e; exact hh
      · exact h t (by omega)
    have e1 : ymet (nI j).toNatClampNeg = ba_bI (s j) := by rw [cj]; exact hs j (by omega)
    refine pk_le m j (fun z => absurd z (by omega)) (fun _ => ⟨ba_in (by omega) (by omega), ?_⟩)
    refine ba_br e1 (fun sf => nm_r (nI_1 j) (go (fun z => absurd z.1 (by rw [sf]; decide)))) (fun st => ⟨ba_in (by omega) (by omega), ?_⟩)
    exact pk_eq (P 0 j) 0 (fun y => h1 ⟨j, jm, st, y⟩) (fun y => nm_r (nI_1 j) (go (fun z => y z.2))) e0
/-- one pass -/
theorem ye_41 {post : Int32 → SY → Prop} {J33 : Int32 → (Nat → Int32) → (Nat → Int32) → (Nat → Int32) → (Nat → Int32) → (Nat → Int32) → (Nat → Int32) → (Nat → Int32) → (Nat → Int32) → (Nat → Int32) → (Nat → Int32) → (Nat → Int32) → (Nat → Int32) → (Nat → Int32) → (Nat → Int32) → (Nat → Int32) → (Nat → Int32) → Prop}
    (Z : zY m P ysort yfrom yto ylab yfst ysnd yar) (ez : ysize = nI m) {a c0 : Nat} (hJ : ∀ (mo : Bool) (s : Nat → Bool) (met : Nat → Int32), (∀ j, j < 20 → met j = ba_bI (s j)) → fy_so m P a s → (mo = true → c0 + 1 ≤ pg_ct s 20) → (mo = false → ∀ j, j < m → s j = true → fy_dn P s j) → J33 (ba_bI mo) ysort yfrom yto ylab yfst ysnd yar ystk ysen yrec ytold yval yiS yiR ylast met) :
    ∀ d j n (mo : Bool) (s : Nat → Bool) (ymet : Nat → Int32), j + d = m → d < n → (∀ j, j < 20 → ymet j = ba_bI (s j)) → fy_so m P a s → c0 ≤ pg_ct s 20 → (mo = true → c0 + 1 ≤ pg_ct s 20) → (mo = false → ∀ i, i < j → s i = true → fy_dn P s i) →
      wY_canFinish_41 post J33 ymade ydep ysize yrows yat ysend n (ba_bI mo) (nI j) ysort yfrom yto ylab yfst ysnd yar ystk ysen yrec ytold yval yiS yiR ylast ymet := by
  have m20 := Z.1.2.1
  subst ez
  intro d
  induction d with
  | zero =>
    intro j n mo s ymet hj hn hs so hc h1 h0
    obtain ⟨n, rfl⟩ : ∃ e, n = e + 1 := ⟨n - 1, by omega⟩
    exact pk_le m j (fun _ => hJ mo s ymet hs so h1 (fun z i hi => h0 z i (by omega))) (fun z => absurd z (by omega))
  | succ d ih =>
    intro j n mo s ymet hj hn hs so hc h1 h0
    obtain ⟨n, rfl⟩ : ∃ e, n = e + 1 := ⟨n - 1, by omega⟩
    have jm : j < m := by omega
    obtain ⟨i20, e0, _, _, _, e4, e5, k4, _⟩ := zY_at Z jm
    have vj : vp_in (nI j) 40 := ba_in (by omega) (by omega)
    have cj : (nI j).toNatClampNeg = j := ba_cl (by omega)
    have skip : (s j = true → fy_dn P s j) → wY_canFinish_41 post J33 ymade ydep (nI m) yrows yat ysend n (ba_bI mo) (nI (j + 1)) ysort yfrom yto ylab yfst ysnd yar ystk ysen yrec ytold yval yiS yiR ylast ymet := by
      intro hh
      refine ih (j + 1) n mo s ymet (by omega) (by omega) hs so hc h1 (fun z i hi hi2 => ?_)
      by_cases e : i = j
      · subst e; exact hh hi2
      · exact h0 z i (by omega) hi2
    have e1 : ymet (nI j).toNatClampNeg = ba_bI (s j) := by rw [cj]; exact hs j (by omega)
    refine pk_le m j (fun z => absurd z (by omega)) (fun _ => ⟨ba_in (by omega) (by omega), ?_⟩)
    refine ba_br e1 (fun sf => nm_r (nI_1 j) (skip (fun z => absurd z (by rw [sf]; decide)))) (fun st => ⟨vj, ?_⟩)
    refine pk_le (P 0 j) 0 (fun z => nm_r (nI_1 j) (skip (fun _ y => absurd (show P 0 j = 0 by omega) y))) (fun k1 => ⟨vj, ?_⟩) e0
    obtain ⟨_, jk, jF⟩ := so.1 j st
    have g4 : P 4 j < m := by
      rcases (show P 0 j = 1 ∨ P 0 j = 2 by omega) with y | y
      · exact (Z.1.2.2.2.1 j jm y).1
      · exact (Z.1.2.2.2.2.1 j jm y).1
    -- behind both walks: w is the second part
    have both : ∀ w, w < m → (P 0 j = 2 → w = P 5 j) → (P 0 j ≠ 2 → w = P 4 j) → ∀ y, y = nI w → wY_canFinish_104 post J33 (wY_canFinish_41 post J33 ymade ydep (nI m) yrows yat ysend n) (ba_bI mo) (nI j) (nI (pa_S P (P 4 j))) y ymade ydep (nI m) yrows yat ysend ysort yfrom yto ylab yfst ysnd yar ystk ysen yrec ytold yval yiS yiR ylast ymet := by
      intro w wm w2 w1 y ey
      have o1 := pa_S_m Z.1 g4
      have o2 := pa_S_m Z.1 wm
      have ok1 := pa_S_k Z.1 g4
      have ok2 := pa_S_k Z.1 wm
      have F1 : fi_F P (pa_S P (P 4 j)) → fi_F P a := fun h => jF (fi_s_F (fi_s_t.mpr (Or.inr (Or.inl ⟨by omega, rfl⟩))) ((fi_FS Z.1 g4).mp h))
      have F2 : fi_F P (pa_S P w) → fi_F P a := by
        intro h
        by_cases k2 : P 0 j = 2
        · refine jF (fi_s_F (fi_s_t.mpr (Or.inr (Or.inr ⟨k2, rfl⟩))) ?_)
          rw [w2 k2] at h
          exact (fi_FS Z.1 (Z.1.2.2.2.2.1 j jm k2).2.1).mp h
        · rw [w1 k2] at h; exact F1 h
      have hw : P 0 j = 2 → pa_S P (P 5 j) = pa_S P w := fun k2 => by rw [w2 k2]
      refine yw_set Z ey wm ?_
      generalize pa_S P w = b2 at *
      generalize hb1 : pa_S P (P 4 j) = b1 at *
      have vb1 : vp_in (nI b1) 20 := ba_in (by omega) (by omega)
      have vb2 : vp_in (nI b2) 20 := ba_in (by omega) (by omega)
      have cb1 : (nI b1).toNatClampNeg = b1 := ba_cl (by omega)
      have cb2 : (nI b2).toNatClampNeg = b2 := ba_cl (by omega)
      have mono : ∀ i, s i = true → ((s i || decide (i = b1)) || decide (i = b2)) = true := by intro i hi; rw [hi]; rfl
      have fin : ∀ mo' : Bool, (mo' = true → c0 + 1 ≤ pg_ct (fun i => (s i || decide (i = b1)) || decide (i = b2)) 20) → (mo' = false → s b1 = true ∧ s b2 = true ∧ mo = false) →
          wY_canFinish_137 post J33 (wY_canFinish_41 post J33 ymade ydep (nI m) yrows yat ysend n) (nI j) (nI b1) (nI b2) (ba_bI mo') ymade ydep (nI m) yrows yat ysend ysort yfrom yto ylab yfst ysnd yar ystk ysen yrec ytold yval yiS yiR ylast ymet := by
        intro mo' hc1 hc0
        refine ⟨vb1, ?_⟩
        rw [cb1, cb2, ba_vb1]
        refine nm_e ⟨vb2, nm_e (nm_r (nI_1 j) ?_)⟩
        refine ih (j + 1) n mo' (fun i => (s i || decide (i = b1)) || decide (i = b2)) _ (by omega) (by omega) (fun i hi => ?_) ⟨fun i hi => ?_, mono a so.2⟩ ?_ hc1 (fun z i hi hs' => ?_)
        · show upd (upd ymet b1 1) b2 1 i = ba_bI ((s i || decide (i = b1)) || decide (i = b2))
          by_cases x2 : i = b2
          · rw [x2, pk_us, decide_eq_true (show b2 = b2 from rfl), Bool.or_true]; rfl
          · rw [pk_un x2, decide_eq_false x2, Bool.or_false]
            by_cases x1 : i = b1
            · rw [x1, pk_us, decide_eq_true (show b1 = b1 from rfl), Bool.or_true]; rfl
            · rw [pk_un x1, decide_eq_false x1, Bool.or_false]; exact hs i hi
        · have hi' : ((s i || decide (i = b1)) || decide (i = b2)) = true := hi
          rw [Bool.or_eq_true, Bool.or_eq_true, decide_eq_true_iff, decide_eq_true_iff] at hi'
          rcases hi' with (x | x) | x
          · exact so.1 i x
          · subst x; exact ⟨o1, ok1, F1⟩
          · subst x; exact ⟨o2, ok2, F2⟩
        · exact Nat.le_trans hc (pg_ct_mono 20 (fun i _ hi => mono i hi))
        · obtain ⟨y1, y2, y3⟩ := hc0 z
          have hs'' : ((s i || decide (i = b1)) || decide (i = b2)) = true := hs'
          rw [Bool.or_eq_true, Bool.or_eq_true, decide_eq_true_iff, decide_eq_true_iff] at hs''
          have si : s i = true := by
            rcases hs'' with (x | x) | x
            · exact x
            · rw [x]; exact y1
            · rw [x]; exact y2
          intro nz
          by_cases x : i = j
          · subst x
            refine ⟨?_, fun k2 => ?_⟩
            · rw [hb1]; exact mono b1 y1
            · rw [hw k2]; exact mono b2 y2
          · obtain ⟨u1, u2⟩ := h0 y3 i (by omega) si nz
            exact ⟨mono _ u1, fun k2 => mono _ (u2 k2)⟩
      refine ba_br rfl (fun mf => ⟨vb1, ?_⟩) (fun mt => ?_)
      · rw [cb1, cb2]
        refine ba_br (hs b1 (by omega)) (fun z => ?_) (fun z => ⟨vb2, ?_⟩)
        · refine fin true (fun _ => ?_) (fun y => absurd y (by decide))
          have := pg_ct_lt (b := s) (c := fun i => (s i || decide (i = b1)) || decide (i = b2)) (a := b1) z (by show ((s b1 || decide (b1 = b1)) || decide (b1 = b2)) = true; rw [decide_eq_true (show b1 = b1 from rfl), Bool.or_true]; rfl) 20 (fun i _ hi => mono i hi) (by omega)
          omega
        · refine ba_br (hs b2 (by omega)) (fun z2 => ?_) (fun z2 => ?_)
          · refine fin true (fun _ => ?_) (fun y => absurd y (by decide))
            have := pg_ct_lt (b := s) (c := fun i => (s i || decide (i = b1)) || decide (i = b2)) (a := b2) z2 (by show ((s b2 || decide (b2 = b1)) || decide (b2 = b2)) = true; rw [decide_eq_true (show b2 = b2 from rfl), Bool.or_true]) 20 (fun i _ hi => mono i hi) (by omega)
            omega
          · exact fin false (fun y => absurd y (by decide)) (fun _ => ⟨z, z2, mf⟩)
      · refine fin true (fun _ => ?_) (fun y => absurd y (by decide))
        exact Nat.le_trans (h1 mt) (pg_ct_mono 20 (fun i _ hi => mono i hi))
    refine yw_set Z (e4 (by omega) (by omega)) g4 ⟨vj, ?_⟩
    refine pk_eq (P 0 j) 2 (fun k2 => ⟨vj, ?_⟩) (fun k2 => ⟨vj, ?_⟩) e0
    · exact both (P 5 j) (Z.1.2.2.2.2.1 j jm k2).2.1 (fun _ => rfl) (fun z => absurd k2 z) _ (e5 k2)
    · exact both (P 4 j) g4 (fun z => absurd z k2) (fun _ => rfl) _ (e4 (by omega) (by omega))
theorem ye_33f {post : Int32 → SY → Prop} (Z : zY m P ysort yfrom yto ylab yfst ysnd yar) (ez : ysize = nI m) {s : Nat → Bool} {n : Nat} (hn : 0 < n) (hs : ∀ j, j < 20 → ymet j = ba_bI (s j)) (so : fy_so m P a s) (cl : ∀ j, j < m → s j = true → fy_dn P s j)
    (hp : ∀ (b : Bool) (met : Nat → Int32), (b = true ↔ fi_F P a) → post (ba_bI b) (ymade, ydep, ysize, yrows, yat, ysend, ysort, yfrom, yto, ylab, yfst, ysnd, yar, ystk, ysen, yrec, ytold, yval, yiS, yiR, ylast, met)) : wY_canFinish_33 post ymade ydep ysize yrows yat ysend n (ba_bI false) ysort yfrom yto ylab yfst ysnd yar ystk ysen yrec ytold yval yiS yiR ylast ymet := by
  obtain ⟨n, rfl⟩ : ∃ e, n = e + 1 := ⟨n - 1, by omega⟩
  refine br_t rfl ⟨m + 1, ?_⟩
  have e := fy_end Z.1 so cl
  refine ye_164 Z ez hs (fun h => ?_) (fun h => ?_) m 0 (m + 1) (by omega) (by omega) (fun t ht => absurd ht (by omega))
  · exact hp true _ ⟨fun _ => e.mpr h, fun _ => rfl⟩
  · exact hp false _ ⟨fun z => absurd z (by decide), fun z => absurd (e.mp z) h⟩
theorem ye_33t {post : Int32 → SY → Prop} (Z : zY m P ysort yfrom yto ylab yfst ysnd yar) (ez : ysize = nI m) (hp : ∀ (b : Bool) (met : Nat → Int32), (b = true ↔ fi_F P a) → post (ba_bI b) (ymade, ydep, ysize, yrows, yat, ysend, ysort, yfrom, yto, ylab, yfst, ysnd, yar, ystk, ysen, yrec, ytold, yval, yiS, yiR, ylast, met)) :
    ∀ d n (s : Nat → Bool) (ymet : Nat → Int32), 20 ≤ d + pg_ct s 20 → d + 1 < n → (∀ j, j < 20 → ymet j = ba_bI (s j)) → fy_so m P a s → wY_canFinish_33 post ymade ydep ysize yrows yat ysend n (ba_bI true) ysort yfrom yto ylab yfst ysnd yar ystk ysen yrec ytold yval yiS yiR ylast ymet := by
  intro d
  induction d with
  | zero =>
    intro n s ymet hd hn hs so
    obtain ⟨n, rfl⟩ : ∃ e, n = e + 1 := ⟨n - 1, by omega⟩
    refine br_f (by decide) ⟨m + 1, ?_⟩
    refine ye_41 Z ez (a := a) (c0 := pg_ct s 20) (fun mo s' met hs' so' h1 h0 => ?_) m 0 (m + 1) false s ymet (by omega) (by omega) hs so (Nat.le_refl _) (fun z => absurd z (by decide)) (fun _ i hi => absurd hi (by omega))
    cases mo with
    | false => exact ye_33f Z ez (by omega) hs' so' (h0 rfl) hp
    | true =>
      have := h1 rfl
      have := pg_ct_le s' 20
      omega
  | succ d ih =>
    intro n s ymet hd hn hs so
    obtain ⟨n, rfl⟩ : ∃ e, n = e + 1 := ⟨n - 1, by omega⟩
    refine br_f (by decide) ⟨m + 1, ?_⟩
    refine ye_41 Z ez (a := a) (c0 := pg_ct s 20) (fun mo s' met hs' so' h1 h0 => ?_) m 0 (m + 1) false s ymet (by omega) (by omega) hs so (Nat.le_refl _) (fun z => absurd z (by decide)) (fun _ i hi => absurd hi (by omega))
    cases mo with
    | false => exact ye_33f Z ez (by omega) hs' so' (h0 rfl) hp
    | true =>
      have := h1 rfl
      exact ih n s' met (by omega) (by omega) hs' so'
theorem ye_2 {post : Int32 → SY → Prop} (Z : zY m P ysort yfrom yto ylab yfst ysnd yar) (ez : ysize = nI m) (ea : yat = nI a) (am : a < m) (ak : P 0 a < 3) (hp : ∀ (b : Bool) (met : Nat → Int32), (b = true ↔ fi_F P a) → post (ba_bI b) (ymade, ydep, ysize, yrows, yat, ysend, ysort, yfrom, yto, ylab, yfst, ysnd, yar, ystk, ysen, yrec, ytold, yval, yiS, yiR, ylast, met)) :
    ∀ d j n (ymet : Nat → Int32), j + d = 20 → d < n → (∀ i, i < j → ymet i = 0) → wY_canFinish_2 post ymade ydep ysize yrows yat ysend n (nI j) ysort yfrom yto ylab yfst ysnd yar ystk ysen yrec ytold yval yiS yiR ylast ymet := by
  have m20 := Z.1.2.1
  subst ea
  intro d
  induction d with
  | zero =>
    intro j n ymet hj hn h
    obtain ⟨n, rfl⟩ : ∃ e, n = e + 1 := ⟨n - 1, by omega⟩
    refine pk_le 20 j (fun _ => ⟨ba_in (by omega) (by omega), ?_⟩) (fun z => absurd z (by omega))
    rw [ba_cl (show a < 1000 by omega), ba_vb1]
    refine nm_e ⟨22, ?_⟩
    refine ye_33t Z ez hp 20 22 (fun i => decide (i = a)) _ (by omega) (by omega) (fun i hi => ?_) ⟨fun i hi => ?_, decide_eq_true rfl⟩
    · show upd ymet a 1 i = ba_bI (decide (i = a))
      by_cases e : i = a
      · rw [e, pk_us, decide_eq_true (show a = a from rfl)]; rfl
      · rw [pk_un e, decide_eq_false e]; exact h i (by omega)
    · have e : i = a := of_decide_eq_true hi
      subst e
      exact ⟨am, ak, fun h => h⟩
  | succ d ih =>
    intro j n ymet hj hn h
    obtain ⟨n, rfl⟩ : ∃ e, n = e + 1 := ⟨n - 1, by omega⟩
    refine pk_le 20 j (fun z => absurd z (by omega)) (fun _ => ⟨ba_in (by omega) (by omega), ?_⟩)
    rw [ba_cl (show j < 1000 by omega), ba_vb0]
    refine nm_e (nm_r (nI_1 j) (ih (j + 1) n _ (by omega) (by omega) (fun i hi => ?_)))
    by_cases c : i = j
    · subst c; rw [pk_us]
    · rw [pk_un c]; exact h i (by omega)
theorem ye_can {post : Int32 → SY → Prop} (Z : zY m P ysort yfrom yto ylab yfst ysnd yar) (ez : ysize = nI m) (ea : yat = nI a) (am : a < m) (ak : P 0 a < 3) (hp : ∀ (b : Bool) (met : Nat → Int32), (b = true ↔ fi_F P a) → post (ba_bI b) (ymade, ydep, ysize, yrows, yat, ysend, ysort, yfrom, yto, ylab, yfst, ysnd, yar, ystk, ysen, yrec, ytold, yval, yiS, yiR, ylast, met)) : wpY_canFinish post (ymade, ydep, ysize, yrows, yat, ysend, ysort, yfrom, yto, ylab, yfst, ysnd, yar, ystk, ysen, yrec, ytold, yval, yiS, yiR, ylast, ymet) :=
  ⟨21, ye_2 Z ez ea am ak hp 20 0 21 _ (by omega) (by omega) (fun i hi => absurd hi (by omega))⟩
end CF
theorem i_vc_canFinish {k : Nat} {u : SX} {v : SY} (I : i_Rel k u v) (hk : k + 4 ≤ 2048) : wpX_canFinish (fun r u' => wpY_canFinish (fun r' v' => r' = r ∧ i_Rel (k + 4) u' v') v) u := by
  obtain ⟨xsize, xmade, xheight, xsend, xkind, xone, xother, xlabel, xpG, xpH, xtgt, xstk, xlA, xgd, xpl, xhT, xpk, xps, xlast, xhd, xln, xqL, xqV, xseen⟩ := u
  obtain ⟨ymade, ydep, ysize, yrows, yat, ysend, ysort, yfrom, yto, ylab, yfst, ysnd, yar, ystk, ysen, yrec, ytold, yval, yiS, yiR, ylast, ymet⟩ := v
  obtain ⟨mk, ht, Q, S, m, P, l, a, B, ZX, ZY, es, es', H, la, hal, er, ea, el, en⟩ := I
  refine xe_can ZX es H (by omega) (fun b seen hb => ?_)
  refine ye_can ZY es' ea H.1.1 H.1.2.1 (fun b' met hb' => ⟨?_, ?_⟩)
  · have e : b' = b := by
      cases b <;> cases b'
      · rfl
      · exact absurd (hb.mpr (hb'.mp rfl)) (by decide)
      · exact absurd (hb'.mpr (hb.mp rfl)) (by decide)
      · rfl
    rw [e]
  · exact ⟨mk, ht, Q, S, m, P, l, a, B, ZX, ZY, es, es', zZ_k (by omega) H, la, hal, er, ea, el, en⟩
end
