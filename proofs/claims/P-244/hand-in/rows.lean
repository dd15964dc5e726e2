section
theorem pk_us {f : Nat → Int32} {k : Nat} {x : Int32} : upd f k x k = x := if_pos rfl
theorem pk_un {f : Nat → Int32} {k j : Nat} {x : Int32} (h : j ≠ k) : upd f k x j = f j := if_neg h
theorem pk_uLs {f : Nat → Int64} {k : Nat} {x : Int64} : vp_updL f k x k = x := if_pos rfl
theorem pk_uLn {f : Nat → Int64} {k j : Nat} {x : Int64} (h : j ≠ k) : vp_updL f k x j = f j := if_neg h
theorem pk_sub {a b : Nat} (h : b ≤ a) : nI a - nI b = nI (a - b) := by
  obtain ⟨c, rfl⟩ : ∃ c, a = c + b := ⟨a - b, by omega⟩
  rw [← nI_add, Int32.add_sub_cancel, Nat.add_sub_cancel]
theorem pk_m1 (n : Nat) : nI (n + 1) + (-1) = nI n := by
  rw [← nI_1, Int32.add_assoc, show (1 : Int32) + (-1) = 0 from rfl, Int32.add_zero]
theorem pk_mul (a b : Nat) : nI a * nI b = nI (a * b) := (Int32.ofNat_mul a b).symm
theorem pk_le {x y : Int32} {A B : Prop} (a b : Nat) (f : a ≤ b → A) (g : b < a → B) (hx : x = nI a := by rfl) (hy : y = nI b := by rfl) (ha : a < 2 ^ 31 := by omega) (hb : b < 2 ^ 31 := by omega) : (x ≤ y → A) ∧ (¬ x ≤ y → B) := by
  subst hx hy
  rw [nI_leI ha hb]
  exact ⟨f, fun z => g (by omega)⟩
theorem pk_lt {x y : Int32} {A B : Prop} (a b : Nat) (f : a < b → A) (g : b ≤ a → B) (hx : x = nI a := by rfl) (hy : y = nI b := by rfl) (ha : a < 2 ^ 31 := by omega) (hb : b < 2 ^ 31 := by omega) : (x < y → A) ∧ (¬ x < y → B) := by
  subst hx hy
  rw [nI_ltI ha hb]
  exact ⟨f, fun z => g (by omega)⟩
theorem pk_eq {x y : Int32} {A B : Prop} (a b : Nat) (f : a = b → A) (g : a ≠ b → B) (hx : x = nI a := by rfl) (hy : y = nI b := by rfl) (ha : a < 2 ^ 31 := by omega) (hb : b < 2 ^ 31 := by omega) : (x = y → A) ∧ (¬ x = y → B) := by
  subst hx hy
  rw [nI_eq ha hb]
  exact ⟨f, g⟩
theorem pk_in {x : Int32} (n N : Nat) (h : n < N) (hx : x = nI n := by rfl) (hN : N < 2 ^ 31 := by omega) : vp_in x N := by
  subst hx
  exact vp_in_nI h hN
theorem pk_cl {x : Int32} (n : Nat) (hx : x = nI n := by rfl) (h : n < 2 ^ 31 := by omega) : x.toNatClampNeg = n := by
  subst hx
  exact nI_clamp h
theorem pk_tn {n : Nat} (h : n < 2 ^ 32) : (nI n).toBitVec.toNat = n := Nat.mod_eq_of_lt h
theorem pk_and (x : Int32) {m : Int32} (k : Nat) (hm : m.toBitVec.toNat = 2 ^ k - 1) : x &&& m = nI (x.toBitVec.toNat % 2 ^ k) := by
  apply Int32.toBitVec_inj.mp
  apply BitVec.eq_of_toNat_eq
  rw [Int32.toBitVec_and, BitVec.toNat_and, hm, Nat.and_two_pow_sub_one_eq_mod]
  show _ = (BitVec.ofNat 32 _).toNat
  rw [BitVec.toNat_ofNat]
  exact (Nat.mod_eq_of_lt (Nat.lt_of_le_of_lt (Nat.mod_le _ _) x.toBitVec.isLt)).symm
theorem pk_andN {n : Nat} (h : n < 2 ^ 32) {m : Int32} (k : Nat) (hm : m.toBitVec.toNat = 2 ^ k - 1) : nI n &&& m = nI (n % 2 ^ k) := by
  rw [pk_and _ k hm, pk_tn h]
theorem pk_shr (a s : Int32) (k : Nat) (hs : (s.toBitVec.smod 32).toNat = k) : (a >>> s).toInt = a.toInt >>> k := by
  show (a.toBitVec.sshiftRight (s.toBitVec.smod 32).toNat).toInt = _
  rw [hs, BitVec.toInt_sshiftRight]
  rfl
theorem pk_shrN {n : Nat} (h : n < 2 ^ 31) (s : Int32) (k : Nat) (hs : (s.toBitVec.smod 32).toNat = k) : nI n >>> s = nI (n / 2 ^ k) := by
  apply Int32.toInt_inj.mp
  have h2 : n / 2 ^ k ≤ n := Nat.div_le_self _ _
  rw [pk_shr _ _ k hs, nI_toInt h, nI_toInt (by omega), Int.shiftRight_eq_div_pow]
  rfl
theorem pk_lT {n : Nat} (h : n < 2 ^ 63) : (lN n).toInt = (n : Int) := lg_ofNat_toInt h
theorem pk_lLT {a b : Nat} (ha : a < 2 ^ 63) (hb : b < 2 ^ 63) : lN a < lN b ↔ a < b := by
  rw [Int64.lt_iff_toInt_lt, pk_lT ha, pk_lT hb]; omega
theorem pk_lLE {a b : Nat} (ha : a < 2 ^ 63) (hb : b < 2 ^ 63) : lN a ≤ lN b ↔ a ≤ b := by
  rw [Int64.le_iff_toInt_le, pk_lT ha, pk_lT hb]; omega
theorem pk_lEQ {a b : Nat} (ha : a < 2 ^ 63) (hb : b < 2 ^ 63) : lN a = lN b ↔ a = b := by
  rw [← Int64.toInt_inj, pk_lT ha, pk_lT hb]; omega
theorem pk_lOf {x : Int64} (h : ¬ x < 0) : ∃ k : Nat, k < 2 ^ 63 ∧ x = lN k := by
  rw [Int64.lt_iff_toInt_lt] at h
  have h0 : (0 : Int64).toInt = 0 := by decide
  have hx := Int64.toInt_lt x
  refine ⟨x.toInt.toNat, by omega, Int64.toInt_inj.mp ?_⟩
  rw [pk_lT (by omega)]
  omega
theorem pk_lDiv {a b : Nat} (ha : a < 2 ^ 63) (h0 : 0 < b) (hb : b < 2 ^ 63) : lN a / lN b = lN (a / b) := by
  apply Int64.toInt_inj.mp
  rw [lg_ldiv_nonneg (by rw [pk_lT ha]; omega) (by rw [pk_lT hb]; omega), pk_lT ha, pk_lT hb, pk_lT (Nat.lt_of_le_of_lt (Nat.div_le_self a b) ha)]
  rfl
theorem pk_lRem {a b : Nat} (ha : a < 2 ^ 63) (h0 : 0 < b) (hb : b < 2 ^ 63) : lN a - lN a / lN b * lN b = lN (a % b) := by
  rw [pk_lDiv ha h0 hb, lN_mul, lN_sub (Nat.div_mul_le_self a b)]
  exact congrArg lN (by have := Nat.div_add_mod' a b; omega)
theorem pk_least (P : Nat → Prop) (h : ∃ k, P k) : ∃ k, P k ∧ ∀ j, j < k → ¬ P j := by
  obtain ⟨k, hk⟩ := h
  induction k using Nat.strongRecOn with
  | ind k ih =>
    by_cases e : ∃ j, j < k ∧ P j
    · obtain ⟨j, hj, pj⟩ := e
      exact ih j hj pj
    · exact ⟨k, hk, fun j hj pj => e ⟨j, hj, pj⟩⟩
end
section
/-! pure rows: small numbers, counts, cleared arrays, the relation's pieces -/
theorem mo_ix (p i : Nat) : nI p * 8 + nI i = nI (p * 8 + i) := by
  show nI p * nI 8 + nI i = _
  rw [pk_mul, nI_add]
theorem mo_c0 : vp_nar .char 0 = 0 := by rw [vp_nar_char]; decide
theorem mo_c1 : vp_nar .char 1 = 1 := by rw [vp_nar_char]; decide
theorem mo_b0 : vp_nar .byte 0 = 0 := by rw [vp_nar_byte]; decide
theorem mo_bm : vp_nar .byte (-1) = -1 := by rw [vp_nar_byte]; decide
theorem mo_bw0 : ∀ w, w < 9 → (nI w).toInt8.toInt32.toInt8.toInt32 = nI w := by decide +kernel
theorem mo_bw {w : Nat} (h : w < 8) : vp_nar .byte ((nI w + 1).toInt8.toInt32) = nI (w + 1) := by
  rw [vp_nar_byte, nI_1]
  exact mo_bw0 (w + 1) (by omega)
theorem mo_sh0 : ∀ r, r < 10 → (nI r).toInt16.toInt32.toInt16.toInt32 = nI r := by decide +kernel
theorem mo_sh {r : Nat} (h : r ≤ 9) : vp_nar .short (nI r).toInt16.toInt32 = nI r := by
  rw [vp_nar_short]
  exact mo_sh0 r (by omega)
theorem mo_m1 : ∀ w, w < 9 → ¬ (-1 : Int32) = nI w := by decide +kernel
theorem mo_m1lt : (-1 : Int32) < 0 := by decide
theorem mo_m1le : ¬ (0 : Int32) ≤ -1 := by decide
theorem mo_12 : ¬ (1 : Int32) = 2 := by decide
theorem mo_10 : ¬ (1 : Int32) = 0 := by decide
theorem mo_20 : ¬ (2 : Int32) = 0 := by decide
theorem mo_21 : ¬ (2 : Int32) = 1 := by decide
theorem mo_01 : ¬ (0 : Int32) = 1 := by decide
theorem mo_02 : ¬ (0 : Int32) = 2 := by decide

/-! arrays that a loop clears -/
def mo_clr (a : Nat → Int32) (i : Nat) : Nat → Int32 := fun j => if j < i then 0 else a j
theorem mo_clr0 (a : Nat → Int32) : mo_clr a 0 = a := by
  funext j
  exact if_neg (by omega)
theorem mo_clrs (a : Nat → Int32) (i : Nat) : upd (mo_clr a i) i 0 = mo_clr a (i + 1) := by
  funext j
  simp only [upd, mo_clr]
  by_cases h : j = i
  · rw [if_pos h, if_pos (by omega)]
  · by_cases h2 : j < i
    · rw [if_neg h, if_pos h2, if_pos (by omega)]
    · rw [if_neg h, if_neg h2, if_neg (by omega)]
theorem mo_clrl {a : Nat → Int32} {i j : Nat} (h : j < i) : mo_clr a i j = 0 := if_pos h
def mo_wk (a : Nat → Int32) (i : Nat) : Nat → Int32 := fun j => if j < i ∧ a j = 2 then 0 else a j
theorem mo_wk0 (a : Nat → Int32) : mo_wk a 0 = a := by
  funext j
  exact if_neg (by omega)
theorem mo_wka (a : Nat → Int32) (i : Nat) : mo_wk a i i = a i := if_neg (by omega)
theorem mo_wks2 {a : Nat → Int32} {i : Nat} (h : a i = 2) : upd (mo_wk a i) i 0 = mo_wk a (i + 1) := by
  funext j
  simp only [upd, mo_wk]
  by_cases e : j = i
  · rw [if_pos e, if_pos ⟨by omega, by rw [e]; exact h⟩]
  · by_cases h2 : j < i ∧ a j = 2
    · rw [if_neg e, if_pos h2, if_pos ⟨by omega, h2.2⟩]
    · rw [if_neg e, if_neg h2, if_neg (fun z => h2 ⟨by omega, z.2⟩)]
theorem mo_wks {a : Nat → Int32} {i : Nat} (h : ¬ a i = 2) : mo_wk a (i + 1) = mo_wk a i := by
  funext j
  simp only [mo_wk]
  by_cases e : j = i
  · rw [if_neg (fun z => h (e ▸ z.2)), if_neg (by omega)]
  · by_cases h2 : j < i ∧ a j = 2
    · rw [if_pos h2, if_pos ⟨by omega, h2.2⟩]
    · rw [if_neg h2, if_neg (fun z => h2 ⟨by omega, z.2⟩)]

/-! counts -/
def mo_cnt (p : Nat → Bool) : Nat → Nat
  | 0 => 0
  | n + 1 => mo_cnt p n + (if p n = true then 1 else 0)
theorem mo_cnt_le (p : Nat → Bool) : ∀ n, mo_cnt p n ≤ n := by
  intro n
  induction n with
  | zero => exact Nat.le_refl _
  | succ n ih =>
    simp only [mo_cnt]
    split <;> omega
theorem mo_cnt_t {p : Nat → Bool} {n : Nat} (h : p n = true) : mo_cnt p (n + 1) = mo_cnt p n + 1 := by
  simp only [mo_cnt, h, if_true]
theorem mo_cnt_f {p : Nat → Bool} {n : Nat} (h : p n = false) : mo_cnt p (n + 1) = mo_cnt p n := by
  simp [mo_cnt, h]
theorem mo_cnt_z {p : Nat → Bool} : ∀ n, (∀ j, j < n → p j = false) → mo_cnt p n = 0 := by
  intro n
  induction n with
  | zero => intro _; rfl
  | succ n ih =>
    intro h
    rw [mo_cnt_f (h n (by omega))]
    exact ih (fun j hj => h j (by omega))
theorem mo_cnt_1 {p : Nat → Bool} {k : Nat} : ∀ n, k < n → p k = true → (∀ j, j < n → j ≠ k → p j = false) → mo_cnt p n = 1 := by
  intro n
  induction n with
  | zero => intro h; omega
  | succ n ih =>
    intro hk hp h
    by_cases e : k = n
    · subst e
      rw [mo_cnt_t hp, mo_cnt_z k (fun j hj => h j (by omega) (by omega))]
    · rw [mo_cnt_f (h n (by omega) (by omega))]
      exact ih (by omega) hp (fun j hj hn => h j (by omega) hn)
theorem mo_cnt_pos {p : Nat → Bool} {k : Nat} : ∀ n, k < n → p k = true → 0 < mo_cnt p n := by
  intro n
  induction n with
  | zero => intro h; omega
  | succ n ih =>
    intro hk hp
    by_cases e : k = n
    · subst e
      rw [mo_cnt_t hp]; omega
    · have := ih (by omega) hp
      simp only [mo_cnt]
      omega
theorem mo_cnt_c {p q : Nat → Bool} : ∀ n, (∀ j, j < n → p j = q j) → mo_cnt p n = mo_cnt q n := by
  intro n
  induction n with
  | zero => intro _; rfl
  | succ n ih =>
    intro h
    simp only [mo_cnt, h n (by omega), ih (fun j hj => h j (by omega))]
theorem mo_cnt_a {p q r : Nat → Bool} : ∀ n, (∀ j, j < n → (if p j = true then 1 else 0) = (if q j = true then 1 else 0) + (if r j = true then 1 else 0)) → mo_cnt p n = mo_cnt q n + mo_cnt r n := by
  intro n
  induction n with
  | zero => intro _; rfl
  | succ n ih =>
    intro h
    have h1 := ih (fun j hj => h j (by omega))
    have h2 := h n (by omega)
    simp only [mo_cnt]
    omega

/-! the relation's pieces -/
def mo_C (N : Nat → Nat) (ct : Nat → Int32) : Prop := ∀ p, p < 3 → N p ≤ 8 ∧ ct p = nI (N p)
def mo_A (W : Nat) (K : Nat → Nat) (ms ws ce : Nat → Int32) : Prop := ∀ k, k < 24 → (ms k = 0 ∧ ce k = 0) ∨ (ms k = 2 ∧ ce k = -1) ∨ (ms k = 1 ∧ ∃ w, w < W ∧ ws w = 1 ∧ ce k = nI (w + 1) ∧ K w = k)
def mo_B (W : Nat) (K : Nat → Nat) (ws wp wm ce pk : Nat → Int32) : Prop := ∀ w, w < 8 → (ws w = 0 ∧ pk w = 0) ∨ (ws w = 2 ∧ pk w = 1 ∧ w < W) ∨ (ws w = 1 ∧ pk w = 0 ∧ w < W ∧ K w < 24 ∧ wp w = nI (K w / 8) ∧ wm w = nI (K w % 8) ∧ ce (K w) = nI (w + 1))
/-- r is the first pipeline with a cell that isn't done (P: done), 3 if there is none -/
def mo_P (N : Nat → Nat) (P : Nat → Prop) (r : Nat) : Prop := r ≤ 3 ∧ (∀ q, q < r → ∀ j, j < N q → P (q * 8 + j)) ∧ (r < 3 → ∃ j, j < N r ∧ ¬ P (r * 8 + j))
theorem mo_Pe (N : Nat → Nat) (P : Nat → Prop) : ∃ r, mo_P N P r := by
  obtain ⟨r, hr, hl⟩ := pk_least (fun q => q = 3 ∨ ∃ j, j < N q ∧ ¬ P (q * 8 + j)) ⟨3, Or.inl rfl⟩
  have h3 : r ≤ 3 := by
    by_cases h : r ≤ 3
    · exact h
    · exact absurd (Or.inl rfl) (hl 3 (by omega))
  refine ⟨r, h3, ?_, ?_⟩
  · intro q hq j hj
    by_cases h : P (q * 8 + j)
    · exact h
    · exact absurd (Or.inr ⟨j, hj, h⟩) (hl q hq)
  · intro h
    cases hr with
    | inl e => omega
    | inr e => exact e
theorem mo_Pt {N : Nat → Nat} {P Q : Nat → Prop} {r : Nat} (hN : ∀ p, p < 3 → N p ≤ 8) (e : ∀ k, k < 24 → (P k ↔ Q k)) (h : mo_P N P r) : mo_P N Q r := by
  obtain ⟨h3, ha, hb⟩ := h
  refine ⟨h3, ?_, ?_⟩
  · intro q hq j hj
    have := hN q (by omega)
    exact (e _ (by omega)).mp (ha q hq j hj)
  · intro hr
    obtain ⟨j, hj, hn⟩ := hb hr
    have := hN r hr
    exact ⟨j, hj, fun z => hn ((e _ (by omega)).mpr z)⟩
end
section
/-! what the relation's pieces give, and that each move keeps them -/
section
variable {W : Nat} {K : Nat → Nat} {ms ws wp wm ce pk : Nat → Int32}
theorem mo_A2 (hA : mo_A W K ms ws ce) (hW : W ≤ 8) : ∀ k, k < 24 → (ms k = 2 ↔ ce k = -1) := by
  intro k hk
  rcases hA k hk with ⟨a, b⟩ | ⟨a, b⟩ | ⟨a, w, hw, _, b, _⟩
  · rw [a, b]; decide
  · rw [a, b]; decide
  · rw [a, b]
    exact ⟨fun z => absurd z mo_12, fun z => absurd z.symm (mo_m1 (w + 1) (by omega))⟩
theorem mo_A0 (hA : mo_A W K ms ws ce) (hW : W ≤ 8) : ∀ k, k < 24 → (ms k = 0 ↔ ce k = 0) := by
  intro k hk
  rcases hA k hk with ⟨a, b⟩ | ⟨a, b⟩ | ⟨a, w, hw, _, b, _⟩
  · rw [a, b]
  · rw [a, b]; decide
  · rw [a, b]
    exact ⟨fun z => absurd z mo_10, fun z => absurd z (nI_ne0 (by omega) (by omega))⟩
theorem mo_Au (hA : mo_A W K ms ws ce) (hW : W ≤ 8) {k w : Nat} (hk : k < 24) (hw : w < 8) (h : ce k = nI (w + 1)) : ws w = 1 ∧ K w = k := by
  rcases hA k hk with ⟨a, b⟩ | ⟨a, b⟩ | ⟨a, x, hx, hs, b, hK⟩
  · rw [b] at h
    exact absurd h.symm (nI_ne0 (by omega) (by omega))
  · rw [b] at h
    exact absurd h (mo_m1 (w + 1) (by omega))
  · rw [b, nI_eq (by omega) (by omega)] at h
    have e : x = w := by omega
    subst e
    exact ⟨hs, hK⟩
theorem mo_B1 (hB : mo_B W K ws wp wm ce pk) {w : Nat} (hw : w < 8) (h : ws w = 1) : pk w = 0 ∧ w < W ∧ K w < 24 ∧ wp w = nI (K w / 8) ∧ wm w = nI (K w % 8) ∧ ce (K w) = nI (w + 1) := by
  rcases hB w hw with ⟨a, _⟩ | ⟨a, _⟩ | ⟨_, b⟩
  · rw [a] at h; exact absurd h mo_01
  · rw [a] at h; exact absurd h mo_21
  · exact b
theorem mo_s1 (hA : mo_A W K ms ws ce) (hB : mo_B W K ws wp wm ce pk) (hW : W ≤ 8) {w : Nat} (hw : w < 8) (h : ws w = 1) : K w < 24 ∧ ce (K w) = nI w + 1 ∧ ∀ j, j < K w → ¬ ce j = nI w + 1 := by
  obtain ⟨_, _, hK, _, _, hc⟩ := mo_B1 hB hw h
  rw [nI_1]
  refine ⟨hK, hc, fun j hj z => ?_⟩
  have := (mo_Au hA hW (by omega) hw z).2
  omega
theorem mo_s0 (hA : mo_A W K ms ws ce) (hW : W ≤ 8) {w : Nat} (hw : w < 8) (h : ¬ ws w = 1) : ∀ j, j < 24 → ¬ ce j = nI w + 1 := by
  intro j hj z
  rw [nI_1] at z
  exact h (mo_Au hA hW hj hw z).1

/-! the running workers are as many as the held cells -/
def mo_e (ce : Nat → Int32) (n : Nat) : Nat → Bool := fun k => decide (0 < (ce k).toInt ∧ (ce k).toInt ≤ (n : Int))
theorem mo_e1 (ce : Nat → Int32) {n : Nat} (h8 : n < 8) (k : Nat) : (if mo_e ce (n + 1) k = true then 1 else 0) = (if mo_e ce n k = true then 1 else 0) + (if decide (ce k = nI (n + 1)) = true then 1 else 0) := by
  have e : ce k = nI (n + 1) ↔ (ce k).toInt = ((n + 1 : Nat) : Int) := by
    rw [← Int32.toInt_inj, nI_toInt (by omega)]
  simp only [mo_e, decide_eq_true_eq, e]
  generalize (ce k).toInt = x
  by_cases a : 0 < x ∧ x ≤ ((n + 1 : Nat) : Int)
  · by_cases b : x = ((n + 1 : Nat) : Int)
    · rw [if_pos a, if_neg (by omega), if_pos b]
    · rw [if_pos a, if_pos (by omega), if_neg b]
  · rw [if_neg a, if_neg (by omega), if_neg (by omega)]
theorem mo_run0 (hA : mo_A W K ms ws ce) (hB : mo_B W K ws wp wm ce pk) (hW : W ≤ 8) : ∀ n, n ≤ 8 → mo_cnt (mo_e ce n) 24 = mo_cnt (fun j => decide (ws j = 1)) n := by
  intro n
  induction n with
  | zero =>
    intro _
    rw [mo_cnt_z (p := mo_e ce 0) 24 (fun j _ => decide_eq_false (fun z => by have h1 := z.1; have h2 := z.2; omega))]
    rfl
  | succ n ih =>
    intro hn
    rw [mo_cnt_a (q := mo_e ce n) (r := fun k => decide (ce k = nI (n + 1))) 24 ?_, ih (by omega)]
    · by_cases h : ws n = 1
      · obtain ⟨hK, hc, _⟩ := mo_s1 hA hB hW (by omega) h
        rw [nI_1] at hc
        rw [mo_cnt_t (p := fun j => decide (ws j = 1)) (decide_eq_true h), mo_cnt_1 (k := K n) 24 hK (decide_eq_true hc)]
        intro j hj hne
        exact decide_eq_false (fun z => hne (mo_Au hA hW hj (by omega) z).2.symm)
      · rw [mo_cnt_f (p := fun j => decide (ws j = 1)) (decide_eq_false h), mo_cnt_z (p := fun k => decide (ce k = nI (n + 1))) 24]
        · rfl
        · intro j hj
          exact decide_eq_false (fun z => h (mo_Au hA hW hj (by omega) z).1)
    · intro j hj
      exact mo_e1 ce (by omega) j
theorem mo_run (hA : mo_A W K ms ws ce) (hB : mo_B W K ws wp wm ce pk) (hW : W ≤ 8) : mo_cnt (fun k => !decide (ce k ≤ 0)) 24 = mo_cnt (fun j => decide (ws j = 1)) W := by
  rw [← mo_run0 hA hB hW W hW]
  apply mo_cnt_c
  intro k hk
  rcases hA k hk with ⟨_, b⟩ | ⟨_, b⟩ | ⟨_, w, hw, _, b, _⟩
  · simp only [mo_e, b]
    rfl
  · simp only [mo_e, b]
    rw [decide_eq_true (show (-1 : Int32) ≤ 0 from by decide), decide_eq_false]
    · rfl
    · intro z
      exact absurd z.1 (by decide)
  · simp only [mo_e, b]
    rw [decide_eq_false (nI_nle (by omega) (by omega)), decide_eq_true]
    · rfl
    · rw [nI_toInt (by omega)]
      omega

/-! the moves -/
theorem mo_Ai (hA : mo_A W K ms ws ce) {w : Nat} {x : Int32} (h : ¬ ws w = 1) : mo_A W K ms (upd ws w x) ce := by
  intro k hk
  rcases hA k hk with a | a | ⟨a, y, hy, hs, b⟩
  · exact Or.inl a
  · exact Or.inr (Or.inl a)
  · have n : y ≠ w := fun e => h (e ▸ hs)
    refine Or.inr (Or.inr ⟨a, y, hy, ?_, b⟩)
    rw [pk_un n]
    exact hs
theorem mo_Bi0 (hB : mo_B W K ws wp wm ce pk) {w : Nat} : mo_B W K (upd ws w 0) wp wm ce (upd pk w 0) := by
  intro j hj
  by_cases e : j = w
  · subst e
    exact Or.inl ⟨pk_us, pk_us⟩
  · rw [pk_un e, pk_un e]
    exact hB j hj
theorem mo_Bi2 (hB : mo_B W K ws wp wm ce pk) {w : Nat} (hw : w < W) : mo_B W K (upd ws w 2) wp wm ce (upd (upd pk w 0) w 1) := by
  intro j hj
  by_cases e : j = w
  · subst e
    exact Or.inr (Or.inl ⟨pk_us, pk_us, hw⟩)
  · rw [pk_un e, pk_un e, pk_un e]
    exact hB j hj
theorem mo_Ac (hA : mo_A W K ms ws ce) {w k : Nat} (hw : w < W) (h : ¬ ws w = 1) : mo_A W (fun j => if j = w then k else K j) (upd ms k 1) (upd ws w 1) (upd ce k (nI (w + 1))) := by
  intro j hj
  by_cases e : j = k
  · subst e
    exact Or.inr (Or.inr ⟨pk_us, w, hw, pk_us, pk_us, if_pos rfl⟩)
  · rw [pk_un e, pk_un e]
    rcases hA j hj with a | a | ⟨a, y, hy, hs, b, c⟩
    · exact Or.inl a
    · exact Or.inr (Or.inl a)
    · have n : y ≠ w := fun e => h (e ▸ hs)
      refine Or.inr (Or.inr ⟨a, y, hy, ?_, b, ?_⟩)
      · rw [pk_un n]; exact hs
      · dsimp only
        rw [if_neg n]; exact c
theorem mo_Bc (hB : mo_B W K ws wp wm ce pk) {w p m : Nat} (hw : w < W) (hp : p < 3) (hm : m < 8) (hc : ce (p * 8 + m) = 0) : mo_B W (fun j => if j = w then p * 8 + m else K j) (upd ws w 1) (upd wp w (nI p)) (upd wm w (nI m)) (upd ce (p * 8 + m) (nI (w + 1))) (upd pk w 0) := by
  intro j hj
  by_cases e : j = w
  · subst e
    refine Or.inr (Or.inr ?_)
    simp only [if_true]
    refine ⟨pk_us, pk_us, hw, by omega, ?_, ?_, pk_us⟩
    · rw [pk_us]
      have : p = (p * 8 + m) / 8 := by omega
      rw [← this]
    · rw [pk_us]
      have : m = (p * 8 + m) % 8 := by omega
      rw [← this]
  · rw [pk_un e, pk_un e, pk_un e, pk_un e]
    dsimp only
    rw [if_neg e]
    rcases hB j hj with a | a | ⟨a, b, c, d, f, g, i⟩
    · exact Or.inl a
    · exact Or.inr (Or.inl a)
    · refine Or.inr (Or.inr ⟨a, b, c, d, f, g, ?_⟩)
      rw [pk_un]
      · exact i
      · intro z
        rw [z, hc] at i
        exact absurd i.symm (nI_ne0 (by omega) (by omega))
theorem mo_Af (hA : mo_A W K ms ws ce) {w : Nat} : mo_A W K (upd ms (K w) 2) (upd ws w 0) (upd ce (K w) (-1)) := by
  intro j hj
  by_cases e : j = K w
  · subst e
    exact Or.inr (Or.inl ⟨pk_us, pk_us⟩)
  · rw [pk_un e, pk_un e]
    rcases hA j hj with a | a | ⟨a, y, hy, hs, b, c⟩
    · exact Or.inl a
    · exact Or.inr (Or.inl a)
    · have n : y ≠ w := fun z => e (z ▸ c.symm)
      refine Or.inr (Or.inr ⟨a, y, hy, ?_, b, c⟩)
      rw [pk_un n]; exact hs
theorem mo_Bf (hA : mo_A W K ms ws ce) (hB : mo_B W K ws wp wm ce pk) (hW : W ≤ 8) {w : Nat} (hw : w < 8) (h : ws w = 1) : mo_B W K (upd ws w 0) wp wm (upd ce (K w) (-1)) pk := by
  obtain ⟨h0, _, hK, _, _, hc⟩ := mo_B1 hB hw h
  intro j hj
  by_cases e : j = w
  · subst e
    exact Or.inl ⟨pk_us, h0⟩
  · rw [pk_un e]
    rcases hB j hj with a | a | ⟨a, b, c, d, f, g, i⟩
    · exact Or.inl a
    · exact Or.inr (Or.inl a)
    · refine Or.inr (Or.inr ⟨a, b, c, d, f, g, ?_⟩)
      rw [pk_un]
      · exact i
      · intro z
        rw [z, hc, nI_eq (by omega) (by omega)] at i
        omega
theorem mo_Aw (hA : mo_A W K ms ws ce) : mo_A W K ms (mo_wk ws W) ce := by
  intro k hk
  rcases hA k hk with a | a | ⟨a, y, hy, hs, b⟩
  · exact Or.inl a
  · exact Or.inr (Or.inl a)
  · refine Or.inr (Or.inr ⟨a, y, hy, ?_, b⟩)
    simp only [mo_wk]
    rw [if_neg (fun z => mo_12 (hs ▸ z.2))]
    exact hs
theorem mo_Bw (hB : mo_B W K ws wp wm ce pk) : mo_B W K (mo_wk ws W) wp wm ce (mo_clr pk 8) := by
  intro j hj
  rw [mo_clrl hj]
  dsimp only [mo_wk]
  rcases hB j hj with ⟨a, b⟩ | ⟨a, b, c⟩ | ⟨a, b, c⟩
  · rw [if_neg (fun z => mo_02 (a ▸ z.2))]
    exact Or.inl ⟨a, rfl⟩
  · rw [if_pos ⟨c, a⟩]
    exact Or.inl ⟨rfl, rfl⟩
  · rw [if_neg (fun z => mo_12 (a ▸ z.2))]
    exact Or.inr (Or.inr ⟨a, rfl, c⟩)
theorem mo_Ao (V : Nat) : mo_A V K (mo_clr ms 24) (mo_clr ws 8) (mo_clr ce 24) := by
  intro k hk
  exact Or.inl ⟨mo_clrl hk, mo_clrl hk⟩
theorem mo_Bo (V : Nat) : mo_B V K (mo_clr ws 8) wp wm ce (mo_clr pk 8) := by
  intro j hj
  exact Or.inl ⟨mo_clrl hj, mo_clrl hj⟩
end
end
section
/-! the component's walks, each with a general post -/
section
variable {cap op cn wk : Int32} {sz : Int64} {ro : Nat → Int64} {ct ms ws wp wm : Nat → Int32}
theorem mo_x16 {post J : Int32 → Prop} {p N : Nat} (hp : p < 3) (hN : N ≤ 8) : ∀ (n i : Nat), i ≤ N → N - i < n → ((∃ j, i ≤ j ∧ j < N ∧ ¬ ms (p * 8 + j) = 2) → post (nI p)) → ((∀ j, i ≤ j → j < N → ms (p * 8 + j) = 2) → J (nI (p + 1))) → wX_current_16 post J (nI p) (nI N) cap op cn wk sz ro ct ms ws wp wm n (nI i) := by
  intro n
  induction n with
  | zero => intro i _ h; omega
  | succ n ih =>
    intro i hi hn h1 h2
    rw [wX_current_16]
    dsimp only
    rw [mo_ix, nI_clamp (n := p * 8 + i) (by omega)]
    refine pk_le N i (fun h => ?_) (fun h => ⟨vp_in_nI (by omega) (by omega), ?_⟩)
    · exact nm_r (nI_1 p) (h2 (fun j _ _ => by omega))
    · by_cases z : ms (p * 8 + i) = 2
      · refine br_t z (nm_r (nI_1 i) (ih (i + 1) (by omega) (by omega) ?_ ?_))
        · intro ⟨j, a, b, c⟩
          exact h1 ⟨j, by omega, b, c⟩
        · intro g
          refine h2 (fun j a b => ?_)
          by_cases e : j = i
          · rw [e]; exact z
          · exact g j (by omega) b
      · exact br_f z (h1 ⟨i, Nat.le_refl _, h, z⟩)
theorem mo_xc2 {post : Int32 → Prop} {N : Nat → Nat} {r : Nat} (hC : mo_C N ct) (hr : mo_P N (fun k => ms k = 2) r) (hp : post (nI r)) : ∀ (n p : Nat), p ≤ r → r - p < n → wX_current_2 post cap op cn wk sz ro ct ms ws wp wm n (nI p) := by
  obtain ⟨h3, ha, hb⟩ := hr
  intro n
  induction n with
  | zero => intro p _ h; omega
  | succ n ih =>
    intro p hpr hn
    refine pk_le 3 p (fun h => ?_) (fun h => And.intro (vp_in_nI (by omega) (by omega)) ?_)
    · have e : r = 3 := by omega
      subst e
      exact hp
    · have hc := hC p h
      refine nm_r (e' := nI (N p)) (by rw [nI_clamp (by omega)]; exact hc.2) ⟨9, mo_x16 h hc.1 9 0 (by omega) (by omega) ?_ ?_⟩
      · intro ⟨j, _, hj, hne⟩
        by_cases e : p = r
        · rw [e]; exact hp
        · exact absurd (ha p (by omega) j hj) hne
      · intro g
        by_cases e : p = r
        · subst e
          obtain ⟨j, hj, hne⟩ := hb h
          exact absurd (g j (by omega) hj) hne
        · exact ih (p + 1) (by omega) (by omega)
theorem mo_xcur {post : Int32 → Prop} {N : Nat → Nat} {r : Nat} (hC : mo_C N ct) (hr : mo_P N (fun k => ms k = 2) r) (hp : post (nI r)) : wpX_current post (cap, op, cn, wk, sz, ro, ct, ms, ws, wp, wm) := by
  have h3 := hr.1
  exact Exists.intro 4 (mo_xc2 hC hr hp 4 0 (by omega) (by omega))

/-! claim -/
theorem mo_x72f {post : Int32 → SX → Prop} {w p m N : Nat} (hw : w < 8) (hp : p < 3) (hN : N ≤ 8) (hm : m < N) (h0 : ms (p * 8 + m) = 0) (hl : ∀ j, j < m → ¬ ms (p * 8 + j) = 0) (hq : post (nI m) (cap, op, cn, wk, sz, ro, ct, upd ms (p * 8 + m) 1, upd ws w 1, upd wp w (nI p), upd wm w (nI m))) : ∀ (n i : Nat), i ≤ m → m - i < n → wX_claim_72 post (nI w) (nI p) (nI N) cap op cn wk sz ro ct ms ws wp wm n (nI i) := by
  intro n
  induction n with
  | zero => intro i _ h; omega
  | succ n ih =>
    intro i hi hn
    rw [wX_claim_72]
    dsimp only
    rw [mo_ix, nI_clamp (n := p * 8 + i) (by omega), nI_clamp (n := w) (by omega)]
    have hi24 : vp_in (nI (p * 8 + i)) 24 := vp_in_nI (by omega) (by omega)
    have hi8 : vp_in (nI w) 8 := vp_in_nI hw (by omega)
    refine br_f (nI_ge (by omega) (by omega)) ⟨hi24, ?_⟩
    by_cases e : i = m
    · subst e
      exact br_t h0 ⟨hi24, nm_e ⟨hi8, nm_e ⟨hi8, nm_e ⟨hi8, nm_e hq⟩⟩⟩⟩
    · exact br_f (hl i (by omega)) (nm_r (nI_1 i) (ih (i + 1) (by omega) (by omega)))
theorem mo_x72n {post : Int32 → SX → Prop} {w p N : Nat} (hw : w < 8) (hp : p < 3) (hN : N ≤ 8) (hl : ∀ j, j < N → ¬ ms (p * 8 + j) = 0) (hq : post (-1) (cap, op, cn, wk, sz, ro, ct, ms, upd ws w 2, wp, wm)) : ∀ (n i : Nat), i ≤ N → N - i < n → wX_claim_72 post (nI w) (nI p) (nI N) cap op cn wk sz ro ct ms ws wp wm n (nI i) := by
  intro n
  induction n with
  | zero => intro i _ h; omega
  | succ n ih =>
    intro i hi hn
    rw [wX_claim_72]
    dsimp only
    rw [mo_ix, nI_clamp (n := p * 8 + i) (by omega), nI_clamp (n := w) (by omega)]
    have hi8 : vp_in (nI w) 8 := vp_in_nI hw (by omega)
    by_cases e : i = N
    · subst e
      exact br_t (nI_le (by omega) (by omega)) ⟨hi8, nm_e hq⟩
    · have hi24 : vp_in (nI (p * 8 + i)) 24 := vp_in_nI (by omega) (by omega)
      exact br_f (nI_ge (by omega) (by omega)) ⟨hi24, br_f (hl i (by omega)) (nm_r (nI_1 i) (ih (i + 1) (by omega) (by omega)))⟩
theorem mo_xcl4 {post : Int32 → SX → Prop} {w W : Nat} (ho : ¬ op = 0) (hw : w < W) (hW : W ≤ 8) (h1 : ws w = 1) (hq : post (-4) (cap, op, cn, nI W, sz, ro, ct, ms, ws, wp, wm)) : wpX_claim post (cap, op, cn, nI W, sz, ro, ct, ms, ws, wp, wm) (nI w) := by
  have hc : (nI w).toNatClampNeg = w := nI_clamp (by omega)
  exact br_f ho (br_f (nI_pos (by omega)) (br_t (nI_lt hw (by omega)) (And.intro (vp_in_nI (by omega) (by omega)) (br_t (by rw [hc]; exact h1) hq))))
theorem mo_xcl2 {post : Int32 → SX → Prop} {N : Nat → Nat} {r w W : Nat} (ho : ¬ op = 0) (hw : w < W) (hW : W ≤ 8) (h1 : ¬ ws w = 1) (hC : mo_C N ct) (hr : mo_P N (fun k => ms k = 2) r) (hz : ¬ cn = 0 ∨ r = 3) (hq : post (-2) (cap, op, cn, nI W, sz, ro, ct, ms, upd ws w 0, wp, wm)) : wpX_claim post (cap, op, cn, nI W, sz, ro, ct, ms, ws, wp, wm) (nI w) := by
  have hc : (nI w).toNatClampNeg = w := nI_clamp (by omega)
  have hi8 : vp_in (nI w) 8 := vp_in_nI (by omega) (by omega)
  refine br_f ho (br_f (nI_pos (by omega)) (br_t (nI_lt hw (by omega)) (And.intro hi8 (br_f (by rw [hc]; exact h1) (mo_xcur hC hr ?_)))))
  by_cases hn : cn = 0
  · have e : r = 3 := hz.resolve_left (fun z => z hn)
    subst e
    exact br_t hn (br_t rfl ⟨hi8, nm_r (by rw [hc]) hq⟩)
  · exact br_f hn ⟨hi8, nm_r (by rw [hc]) hq⟩
theorem mo_xclf {post : Int32 → SX → Prop} {N : Nat → Nat} {r w W m : Nat} (ho : ¬ op = 0) (hw : w < W) (hW : W ≤ 8) (h1 : ¬ ws w = 1) (hC : mo_C N ct) (hr : mo_P N (fun k => ms k = 2) r) (hn : cn = 0) (h3 : r < 3) (hm : m < N r) (h0 : ms (r * 8 + m) = 0) (hl : ∀ j, j < m → ¬ ms (r * 8 + j) = 0) (hq : post (nI m) (cap, op, cn, nI W, sz, ro, ct, upd ms (r * 8 + m) 1, upd ws w 1, upd wp w (nI r), upd wm w (nI m))) : wpX_claim post (cap, op, cn, nI W, sz, ro, ct, ms, ws, wp, wm) (nI w) := by
  have hc : (nI w).toNatClampNeg = w := nI_clamp (by omega)
  have hi8 : vp_in (nI w) 8 := vp_in_nI (by omega) (by omega)
  have hN := hC r h3
  refine br_f ho (br_f (nI_pos (by omega)) (br_t (nI_lt hw (by omega)) (And.intro hi8 (br_f (by rw [hc]; exact h1) (mo_xcur hC hr ?_)))))
  refine br_t hn (pk_eq r 3 (fun e => absurd e (by omega)) (fun _ => And.intro (vp_in_nI (by omega) (by omega)) ?_))
  exact nm_r (e' := nI (N r)) (by rw [nI_clamp (by omega)]; exact hN.2) ⟨9, mo_x72f (by omega) h3 hN.1 hm h0 hl hq 9 0 (by omega) (by omega)⟩
theorem mo_xcln {post : Int32 → SX → Prop} {N : Nat → Nat} {r w W : Nat} (ho : ¬ op = 0) (hw : w < W) (hW : W ≤ 8) (h1 : ¬ ws w = 1) (hC : mo_C N ct) (hr : mo_P N (fun k => ms k = 2) r) (hn : cn = 0) (h3 : r < 3) (hl : ∀ j, j < N r → ¬ ms (r * 8 + j) = 0) (hq : post (-1) (cap, op, cn, nI W, sz, ro, ct, ms, upd ws w 2, wp, wm)) : wpX_claim post (cap, op, cn, nI W, sz, ro, ct, ms, ws, wp, wm) (nI w) := by
  have hc : (nI w).toNatClampNeg = w := nI_clamp (by omega)
  have hi8 : vp_in (nI w) 8 := vp_in_nI (by omega) (by omega)
  have hN := hC r h3
  refine br_f ho (br_f (nI_pos (by omega)) (br_t (nI_lt hw (by omega)) (And.intro hi8 (br_f (by rw [hc]; exact h1) (mo_xcur hC hr ?_)))))
  refine br_t hn (pk_eq r 3 (fun e => absurd e (by omega)) (fun _ => And.intro (vp_in_nI (by omega) (by omega)) ?_))
  exact nm_r (e' := nI (N r)) (by rw [nI_clamp (by omega)]; exact hN.2) ⟨9, mo_x72n (by omega) h3 hN.1 hl hq 9 0 (by omega) (by omega)⟩

/-! finish -/
theorem mo_xf126 {post : Int64 → SX → Prop} {p m : Nat} (hp : p < 3) (hm : m < 8) (hq : (ro p - lN m * sz ≤ sz → post (ro p - lN m * sz) (cap, op, cn, wk, sz, ro, ct, ms, ws, wp, wm)) ∧ (¬ ro p - lN m * sz ≤ sz → post sz (cap, op, cn, wk, sz, ro, ct, ms, ws, wp, wm))) : wX_finish_126 post (nI p) (nI m) cap op cn wk sz ro ct ms ws wp wm := by
  unfold wX_finish_126
  rw [nI_l (by omega), nI_clamp (n := p) (by omega)]
  exact nm_e ⟨vp_in_nI hp (by omega), nm_e hq⟩
theorem mo_xf92 {post : Int64 → SX → Prop} {W : Nat} {a b : Int32} (hW : W ≤ 8) (hq : wX_finish_126 post a b cap op cn (nI W) sz ro ct ms (mo_wk ws W) wp wm) : ∀ (n i : Nat), i ≤ W → W - i < n → wX_finish_92 post a b cap op cn (nI W) sz n (nI i) ro ct ms (mo_wk ws i) wp wm := by
  intro n
  induction n with
  | zero => intro i _ h; omega
  | succ n ih =>
    intro i hi hn
    rw [wX_finish_92]
    dsimp only
    rw [nI_clamp (n := i) (by omega), mo_wka]
    by_cases e : i = W
    · subst e
      exact br_t (nI_le (by omega) (by omega)) hq
    · have hi8 : vp_in (nI i) 8 := vp_in_nI (by omega) (by omega)
      refine br_f (nI_ge (by omega) (by omega)) ⟨hi8, ?_⟩
      have K := ih (i + 1) (by omega) (by omega)
      by_cases z : ws i = 2
      · exact br_t z ⟨hi8, nm_r (mo_wks2 z) (nm_r (nI_1 i) K)⟩
      · rw [mo_wks z] at K
        exact br_f z (nm_r (nI_1 i) K)
theorem mo_xfi2 {post : Int64 → SX → Prop} {w W : Nat} (ho : ¬ op = 0) (hw : w < W) (hW : W ≤ 8) (h1 : ¬ ws w = 1) (hq : post (-2) (cap, op, cn, nI W, sz, ro, ct, ms, ws, wp, wm)) : wpX_finish post (cap, op, cn, nI W, sz, ro, ct, ms, ws, wp, wm) (nI w) := by
  have hc : (nI w).toNatClampNeg = w := nI_clamp (by omega)
  exact br_f ho (br_f (nI_pos (by omega)) (br_t (nI_lt hw (by omega)) (And.intro (vp_in_nI (by omega) (by omega)) (br_f (by rw [hc]; exact h1) hq))))
theorem mo_xfi {post : Int64 → SX → Prop} {N : Nat → Nat} {r s w W p m : Nat} (ho : ¬ op = 0) (hw : w < W) (hW : W ≤ 8) (h1 : ws w = 1) (hp : p < 3) (hm : m < 8) (ep : wp w = nI p) (em : wm w = nI m) (hC : mo_C N ct) (hr : mo_P N (fun k => ms k = 2) r) (hs : mo_P N (fun k => upd ms (p * 8 + m) 2 k = 2) s) (hq : wX_finish_126 post (nI p) (nI m) cap op cn (nI W) sz ro ct (upd ms (p * 8 + m) 2) (if s = r then upd ws w 0 else mo_wk (upd ws w 0) W) wp wm) : wpX_finish post (cap, op, cn, nI W, sz, ro, ct, ms, ws, wp, wm) (nI w) := by
  have hc : (nI w).toNatClampNeg = w := nI_clamp (by omega)
  have hi8 : vp_in (nI w) 8 := vp_in_nI (by omega) (by omega)
  have hr3 := hr.1
  have hs3 := hs.1
  refine br_f ho (br_f (nI_pos (by omega)) (br_t (nI_lt hw (by omega)) (And.intro hi8 (br_t (by rw [hc]; exact h1) (And.intro hi8 (nm_r (e' := nI p) (by rw [hc]; exact ep) (And.intro hi8 (nm_r (e' := nI m) (by rw [hc]; exact em) (mo_xcur hC hr ?_)))))))))
  rw [mo_ix, nI_clamp (n := p * 8 + m) (by omega), hc]
  refine ⟨vp_in_nI (by omega) (by omega), nm_e ⟨hi8, nm_e (mo_xcur hC hs ?_)⟩⟩
  refine pk_eq s r (fun e => ?_) (fun e => ?_)
  · rw [if_pos e] at hq
    exact hq
  · rw [if_neg e] at hq
    refine ⟨9, ?_⟩
    have K := mo_xf92 (ws := upd ws w 0) hW hq 9 0 (by omega) (by omega)
    rw [mo_wk0] at K
    exact K

/-! cancel, idleCount -/
theorem mo_xca {post : Int32 → SX → Prop} {W : Nat} (hW : W ≤ 8) (hq : post (nI (mo_cnt (fun j => decide (ws j = 1)) W)) (cap, op, cn, nI W, sz, ro, ct, ms, mo_wk ws W, wp, wm)) : ∀ (n i : Nat), i ≤ W → W - i < n → wX_cancel_18 post cap op cn (nI W) sz n (nI (mo_cnt (fun j => decide (ws j = 1)) i)) (nI i) ro ct ms (mo_wk ws i) wp wm := by
  intro n
  induction n with
  | zero => intro i _ h; omega
  | succ n ih =>
    intro i hi hn
    rw [wX_cancel_18]
    dsimp only
    rw [nI_clamp (n := i) (by omega), mo_wka]
    by_cases e : i = W
    · subst e
      exact br_t (nI_le (by omega) (by omega)) hq
    · have hi8 : vp_in (nI i) 8 := vp_in_nI (by omega) (by omega)
      refine br_f (nI_ge (by omega) (by omega)) ⟨hi8, ?_⟩
      have K := ih (i + 1) (by omega) (by omega)
      by_cases z : ws i = 2
      · rw [mo_cnt_f (p := fun j => decide (ws j = 1)) (decide_eq_false (by rw [z]; exact mo_21))] at K
        exact br_t z ⟨hi8, nm_r (mo_wks2 z) (nm_r (nI_1 i) K)⟩
      · rw [mo_wks z] at K
        by_cases y : ws i = 1
        · rw [mo_cnt_t (p := fun j => decide (ws j = 1)) (decide_eq_true y)] at K
          exact br_f z ⟨hi8, br_t y (nm_r (nI_1 _) (nm_r (nI_1 i) K))⟩
        · rw [mo_cnt_f (p := fun j => decide (ws j = 1)) (decide_eq_false y)] at K
          exact br_f z ⟨hi8, br_f y (nm_r (nI_1 i) K)⟩
theorem mo_xcan {post : Int32 → SX → Prop} {W : Nat} (ho : ¬ op = 0) (hW : W ≤ 8) (hq : post (nI (mo_cnt (fun j => decide (ws j = 1)) W)) (cap, op, 1, nI W, sz, ro, ct, ms, mo_wk ws W, wp, wm)) : wpX_cancel post (cap, op, cn, nI W, sz, ro, ct, ms, ws, wp, wm) := by
  have K := mo_xca hW hq 9 0 (by omega) (by omega)
  rw [mo_wk0] at K
  exact br_f ho (Exists.intro 9 K)
theorem mo_xid0 {post : Int32 → Prop} {W : Nat} (hW : W ≤ 8) (hq : post (nI (mo_cnt (fun j => decide (ws j = 0)) W))) : ∀ (n i : Nat), i ≤ W → W - i < n → wX_idleCount_13 post cap op cn (nI W) sz ro ct ms ws wp wm n (nI (mo_cnt (fun j => decide (ws j = 0)) i)) (nI i) := by
  intro n
  induction n with
  | zero => intro i _ h; omega
  | succ n ih =>
    intro i hi hn
    rw [wX_idleCount_13]
    dsimp only
    rw [nI_clamp (n := i) (by omega)]
    by_cases e : i = W
    · subst e
      exact br_t (nI_le (by omega) (by omega)) hq
    · have hi8 : vp_in (nI i) 8 := vp_in_nI (by omega) (by omega)
      refine br_f (nI_ge (by omega) (by omega)) ⟨hi8, ?_⟩
      have K := ih (i + 1) (by omega) (by omega)
      by_cases z : ws i = 0
      · rw [mo_cnt_t (p := fun j => decide (ws j = 0)) (decide_eq_true z)] at K
        exact br_t z (nm_r (nI_1 _) (nm_r (nI_1 i) K))
      · rw [mo_cnt_f (p := fun j => decide (ws j = 0)) (decide_eq_false z)] at K
        exact br_f z (nm_r (nI_1 i) K)
theorem mo_xid {post : Int32 → Prop} {W : Nat} (ho : ¬ op = 0) (hW : W ≤ 8) (hq : post (nI (mo_cnt (fun j => decide (ws j = 0)) W))) : wpX_idleCount post (cap, op, cn, nI W, sz, ro, ct, ms, ws, wp, wm) := by
  exact br_f ho (Exists.intro 9 (mo_xid0 hW hq 9 0 (by omega) (by omega)))

/-! open -/
theorem mo_x190 {post : Int32 → SX → Prop} {a b c : Int32} (hq : post (a + b + c) (cap, 1, 0, wk, sz, ro, ct, ms, mo_clr ws 8, mo_clr wp 8, mo_clr wm 8)) : ∀ (n i : Nat), i ≤ 8 → 8 - i < n → wX_open_190 post a b c cap op cn wk sz n (nI i) ro ct ms (mo_clr ws i) (mo_clr wp i) (mo_clr wm i) := by
  intro n
  induction n with
  | zero => intro i _ h; omega
  | succ n ih =>
    intro i hi hn
    rw [wX_open_190]
    dsimp only
    rw [nI_clamp (n := i) (by omega)]
    by_cases e : i = 8
    · subst e
      exact br_t (nI_le (a := 8) (b := 8) (by omega) (by omega)) hq
    · have hi8 : vp_in (nI i) 8 := vp_in_nI (by omega) (by omega)
      exact br_f (nI_ge (b := 8) (by omega) (by omega)) ⟨hi8, nm_r (mo_clrs _ _) ⟨hi8, nm_r (mo_clrs _ _) ⟨hi8, nm_r (mo_clrs _ _) (nm_r (nI_1 i) (ih (i + 1) (by omega) (by omega)))⟩⟩⟩
theorem mo_x166 {post : Int32 → SX → Prop} {a b c : Int32} (hq : post (a + b + c) (cap, 1, 0, wk, sz, ro, ct, mo_clr ms 24, mo_clr ws 8, mo_clr wp 8, mo_clr wm 8)) : ∀ (n i : Nat), i ≤ 24 → 24 - i < n → wX_open_166 post a b c cap op cn wk sz n (nI i) ro ct (mo_clr ms i) ws wp wm := by
  intro n
  induction n with
  | zero => intro i _ h; omega
  | succ n ih =>
    intro i hi hn
    rw [wX_open_166]
    dsimp only
    rw [nI_clamp (n := i) (by omega)]
    by_cases e : i = 24
    · subst e
      have K := mo_x190 (op := op) (cn := cn) hq 9 0 (by omega) (by omega)
      rw [mo_clr0, mo_clr0, mo_clr0] at K
      exact br_t (nI_le (a := 24) (b := 24) (by omega) (by omega)) ⟨9, K⟩
    · have hi24 : vp_in (nI i) 24 := vp_in_nI (by omega) (by omega)
      exact br_f (nI_ge (b := 24) (by omega) (by omega)) ⟨hi24, nm_r (mo_clrs _ _) (nm_r (nI_1 i) (ih (i + 1) (by omega) (by omega)))⟩
theorem mo_xo3r {post : Int32 → SX → Prop} {v1 : Int32} {a1 a2 a3 a4 : Int64} {k : Nat} (hk : k < 8) (h1 : ws k = 1) (hl : ∀ j, j < k → ¬ ws j = 1) (hq : post (-1) (cap, op, cn, wk, sz, ro, ct, ms, ws, wp, wm)) : ∀ (n i : Nat), i ≤ k → k - i < n → wX_open_3 post v1 a1 a2 a3 a4 cap op cn wk sz ro ct ms ws wp wm n (nI i) := by
  intro n
  induction n with
  | zero => intro i _ h; omega
  | succ n ih =>
    intro i hi hn
    have hc : (nI i).toNatClampNeg = i := nI_clamp (by omega)
    have hi8 : vp_in (nI i) 8 := vp_in_nI (by omega) (by omega)
    refine br_f (nI_ge (b := 8) (by omega) (by omega)) (And.intro hi8 ?_)
    by_cases e : i = k
    · subst e
      exact br_t (by rw [hc]; exact h1) hq
    · exact br_f (by rw [hc]; exact hl i (by omega)) (nm_r (nI_1 i) (ih (i + 1) (by omega) (by omega)))
theorem mo_xo3 {post : Int32 → SX → Prop} {v1 : Int32} {a1 a2 a3 a4 : Int64} (hl : ∀ j, j < 8 → ¬ ws j = 1) (hq : wX_open_3 post v1 a1 a2 a3 a4 cap op cn wk sz ro ct ms ws wp wm 1 (nI 8)) : ∀ (n i : Nat), i ≤ 8 → 8 - i = n → wX_open_3 post v1 a1 a2 a3 a4 cap op cn wk sz ro ct ms ws wp wm (n + 1) (nI i) := by
  intro n
  induction n with
  | zero =>
    intro i h1 h2
    have e : i = 8 := by omega
    subst e
    exact hq
  | succ n ih =>
    intro i hi hn
    have hc : (nI i).toNatClampNeg = i := nI_clamp (by omega)
    have hi8 : vp_in (nI i) 8 := vp_in_nI (by omega) (by omega)
    exact br_f (nI_ge (b := 8) (by omega) (by omega)) (And.intro hi8 (br_f (by rw [hc]; exact hl i (by omega)) (nm_r (nI_1 i) (ih (i + 1) (by omega) (by omega)))))
end
end
section
/-! the reference's walks, each with a general post -/
section
variable {cap wk cn : Int32} {sz : Int64} {ro : Nat → Int64} {ct ce pk : Nat → Int32}
theorem mo_y18 {post J : Int32 → Prop} {p N : Nat} (hp : p < 3) (hN : N ≤ 8) (hc : ct p = nI N) : ∀ (n i : Nat), i ≤ N → N - i < n → ((∃ j, i ≤ j ∧ j < N ∧ ¬ ce (p * 8 + j) = -1) → post (nI p)) → ((∀ j, i ≤ j → j < N → ce (p * 8 + j) = -1) → J (nI (p + 1))) → wY_pipeline_18 post J (nI p) cap wk sz cn ro ct ce pk n (nI i) := by
  intro n
  induction n with
  | zero => intro i _ h; omega
  | succ n ih =>
    intro i hi hn h1 h2
    rw [wY_pipeline_18]
    dsimp only
    rw [mo_ix, nI_clamp (n := p * 8 + i) (by omega), nI_clamp (n := p) (by omega), hc]
    refine ⟨vp_in_nI hp (by omega), pk_le N i (fun h => ?_) (fun h => ⟨vp_in_nI (by omega) (by omega), ?_⟩)⟩
    · exact nm_r (nI_1 p) (h2 (fun j _ _ => by omega))
    · by_cases z : ce (p * 8 + i) = -1
      · refine br_t z (nm_r (nI_1 i) (ih (i + 1) (by omega) (by omega) ?_ ?_))
        · intro ⟨j, a, b, c⟩
          exact h1 ⟨j, by omega, b, c⟩
        · intro g
          refine h2 (fun j a b => ?_)
          by_cases e : j = i
          · rw [e]; exact z
          · exact g j (by omega) b
      · exact br_f z (h1 ⟨i, Nat.le_refl _, h, z⟩)
theorem mo_y11 {post : Int32 → Prop} {N : Nat → Nat} {r : Nat} (hC : mo_C N ct) (hr : mo_P N (fun k => ce k = -1) r) (hp : post (nI r)) : ∀ (n p : Nat), p ≤ r → r - p < n → wY_pipeline_11 post cap wk sz cn ro ct ce pk n (nI p) := by
  obtain ⟨h3, ha, hb⟩ := hr
  intro n
  induction n with
  | zero => intro p _ h; omega
  | succ n ih =>
    intro p hpr hn
    refine pk_le 3 p (fun h => ?_) (fun h => ?_)
    · have e : r = 3 := by omega
      subst e
      exact hp
    · have hc := hC p h
      refine ⟨9, mo_y18 h hc.1 hc.2 9 0 (by omega) (by omega) ?_ ?_⟩
      · intro ⟨j, _, hj, hne⟩
        by_cases e : p = r
        · rw [e]; exact hp
        · exact absurd (ha p (by omega) j hj) hne
      · intro g
        by_cases e : p = r
        · subst e
          obtain ⟨j, hj, hne⟩ := hb h
          exact absurd (g j (by omega) hj) hne
        · exact ih (p + 1) (by omega) (by omega)
theorem mo_ypip {post : Int32 → Prop} {N : Nat → Nat} {r W : Nat} (h0 : 0 < W) (hW : W ≤ 8) (hC : mo_C N ct) (hr : mo_P N (fun k => ce k = -1) r) (hp : post (nI r)) : wpY_pipeline post (cap, nI W, sz, cn, ro, ct, ce, pk) := by
  have h3 := hr.1
  exact br_f (nI_ne0 h0 (by omega)) (Exists.intro 4 (mo_y11 hC hr hp 4 0 (by omega) (by omega)))

/-! slotOf, running, wakeAll -/
theorem mo_ysf {post : Int32 → Prop} {x : Int32} {k : Nat} (hk : k < 24) (h0 : ce k = x + 1) (hl : ∀ j, j < k → ¬ ce j = x + 1) (hp : post (nI k)) : ∀ (n i : Nat), i ≤ k → k - i < n → wY_slotOf_2 post x cap wk sz cn ro ct ce pk n (nI i) := by
  intro n
  induction n with
  | zero => intro i _ h; omega
  | succ n ih =>
    intro i hi hn
    have hc : (nI i).toNatClampNeg = i := nI_clamp (by omega)
    refine br_f (nI_ge (b := 24) (by omega) (by omega)) (And.intro (vp_in_nI (by omega) (by omega)) ?_)
    by_cases e : i = k
    · subst e
      exact br_t (by rw [hc]; exact h0) hp
    · exact br_f (by rw [hc]; exact hl i (by omega)) (nm_r (nI_1 i) (ih (i + 1) (by omega) (by omega)))
theorem mo_ysn {post : Int32 → Prop} {x : Int32} (hl : ∀ j, j < 24 → ¬ ce j = x + 1) (hp : post (-1)) : ∀ (n i : Nat), i ≤ 24 → 24 - i < n → wY_slotOf_2 post x cap wk sz cn ro ct ce pk n (nI i) := by
  intro n
  induction n with
  | zero => intro i _ h; omega
  | succ n ih =>
    intro i hi hn
    by_cases e : i = 24
    · subst e
      exact br_t (nI_le (a := 24) (b := 24) (by omega) (by omega)) hp
    · have hc : (nI i).toNatClampNeg = i := nI_clamp (by omega)
      exact br_f (nI_ge (b := 24) (by omega) (by omega)) (And.intro (vp_in_nI (by omega) (by omega)) (br_f (by rw [hc]; exact hl i (by omega)) (nm_r (nI_1 i) (ih (i + 1) (by omega) (by omega)))))
theorem mo_yslf {post : Int32 → Prop} {x : Int32} {k : Nat} (hk : k < 24) (h0 : ce k = x + 1) (hl : ∀ j, j < k → ¬ ce j = x + 1) (hp : post (nI k)) : wpY_slotOf post (cap, wk, sz, cn, ro, ct, ce, pk) x :=
  Exists.intro 25 (mo_ysf hk h0 hl hp 25 0 (by omega) (by omega))
theorem mo_ysln {post : Int32 → Prop} {x : Int32} (hl : ∀ j, j < 24 → ¬ ce j = x + 1) (hp : post (-1)) : wpY_slotOf post (cap, wk, sz, cn, ro, ct, ce, pk) x :=
  Exists.intro 25 (mo_ysn hl hp 25 0 (by omega) (by omega))
theorem mo_yr0 {post : Int32 → Prop} (hp : post (nI (mo_cnt (fun k => !decide (ce k ≤ 0)) 24))) : ∀ (n i : Nat), i ≤ 24 → 24 - i < n → wY_running_4 post cap wk sz cn ro ct ce pk n (nI (mo_cnt (fun k => !decide (ce k ≤ 0)) i)) (nI i) := by
  intro n
  induction n with
  | zero => intro i _ h; omega
  | succ n ih =>
    intro i hi hn
    by_cases e : i = 24
    · subst e
      exact br_t (nI_le (a := 24) (b := 24) (by omega) (by omega)) hp
    · have hc : (nI i).toNatClampNeg = i := nI_clamp (by omega)
      refine br_f (nI_ge (b := 24) (by omega) (by omega)) (And.intro (vp_in_nI (by omega) (by omega)) ?_)
      have K := ih (i + 1) (by omega) (by omega)
      by_cases z : ce i ≤ 0
      · rw [mo_cnt_f (p := fun k => !decide (ce k ≤ 0)) (by simp [z])] at K
        exact br_t (by rw [hc]; exact z) (nm_r (nI_1 i) K)
      · rw [mo_cnt_t (p := fun k => !decide (ce k ≤ 0)) (by simp [z])] at K
        exact br_f (by rw [hc]; exact z) (nm_r (nI_1 _) (nm_r (nI_1 i) K))
theorem mo_yrun {post : Int32 → Prop} (hp : post (nI (mo_cnt (fun k => !decide (ce k ≤ 0)) 24))) : wpY_running post (cap, wk, sz, cn, ro, ct, ce, pk) :=
  Exists.intro 25 (mo_yr0 hp 25 0 (by omega) (by omega))
theorem mo_yw0 {post : SY → Prop} (hp : post (cap, wk, sz, cn, ro, ct, ce, mo_clr pk 8)) : ∀ (n i : Nat), i ≤ 8 → 8 - i < n → wY_wakeAll_2 post cap wk sz cn n (nI i) ro ct ce (mo_clr pk i) := by
  intro n
  induction n with
  | zero => intro i _ h; omega
  | succ n ih =>
    intro i hi hn
    rw [wY_wakeAll_2]
    dsimp only
    rw [nI_clamp (n := i) (by omega), mo_c0]
    by_cases e : i = 8
    · subst e
      exact br_t (nI_le (a := 8) (b := 8) (by omega) (by omega)) hp
    · exact br_f (nI_ge (b := 8) (by omega) (by omega)) ⟨vp_in_nI (by omega) (by omega), nm_r (mo_clrs _ _) (nm_r (nI_1 i) (ih (i + 1) (by omega) (by omega)))⟩
theorem mo_ywk {post : SY → Prop} (hp : post (cap, wk, sz, cn, ro, ct, ce, mo_clr pk 8)) : wpY_wakeAll post (cap, wk, sz, cn, ro, ct, ce, pk) := by
  have K := mo_yw0 hp 9 0 (by omega) (by omega)
  rw [mo_clr0] at K
  exact Exists.intro 9 K

/-! claim -/
theorem mo_y55f {post : Int32 → SY → Prop} {w p m N : Nat} (hw : w < 8) (hp : p < 3) (hN : N ≤ 8) (hc : ct p = nI N) (hm : m < N) (h0 : ce (p * 8 + m) = 0) (hl : ∀ j, j < m → ¬ ce (p * 8 + j) = 0) (hq : post (nI m) (cap, wk, sz, cn, ro, ct, upd ce (p * 8 + m) (nI (w + 1)), pk)) : ∀ (n i : Nat), i ≤ m → m - i < n → wY_claim_55 post (nI w) (nI p) cap wk sz cn ro ct ce pk n (nI i) := by
  intro n
  induction n with
  | zero => intro i _ h; omega
  | succ n ih =>
    intro i hi hn
    rw [wY_claim_55]
    dsimp only
    rw [mo_ix, nI_clamp (n := p * 8 + i) (by omega), nI_clamp (n := p) (by omega), hc, mo_bw hw]
    have hi24 : vp_in (nI (p * 8 + i)) 24 := vp_in_nI (by omega) (by omega)
    refine ⟨vp_in_nI hp (by omega), br_f (nI_ge (by omega) (by omega)) ⟨hi24, ?_⟩⟩
    by_cases e : i = m
    · subst e
      exact br_t h0 ⟨hi24, nm_e hq⟩
    · exact br_f (hl i (by omega)) (nm_r (nI_1 i) (ih (i + 1) (by omega) (by omega)))
theorem mo_y55n {post : Int32 → SY → Prop} {w p N : Nat} (hw : w < 8) (hp : p < 3) (hN : N ≤ 8) (hc : ct p = nI N) (hl : ∀ j, j < N → ¬ ce (p * 8 + j) = 0) (hq : post (-1) (cap, wk, sz, cn, ro, ct, ce, upd pk w 1)) : ∀ (n i : Nat), i ≤ N → N - i < n → wY_claim_55 post (nI w) (nI p) cap wk sz cn ro ct ce pk n (nI i) := by
  intro n
  induction n with
  | zero => intro i _ h; omega
  | succ n ih =>
    intro i hi hn
    rw [wY_claim_55]
    dsimp only
    rw [mo_ix, nI_clamp (n := p * 8 + i) (by omega), nI_clamp (n := p) (by omega), nI_clamp (n := w) (by omega), hc, mo_c1]
    refine ⟨vp_in_nI hp (by omega), ?_⟩
    by_cases e : i = N
    · subst e
      exact br_t (nI_le (by omega) (by omega)) ⟨vp_in_nI hw (by omega), nm_e hq⟩
    · have hi24 : vp_in (nI (p * 8 + i)) 24 := vp_in_nI (by omega) (by omega)
      exact br_f (nI_ge (by omega) (by omega)) ⟨hi24, br_f (hl i (by omega)) (nm_r (nI_1 i) (ih (i + 1) (by omega) (by omega)))⟩
theorem mo_ycl4 {post : Int32 → SY → Prop} {w W k : Nat} (hw : w < W) (hW : W ≤ 8) (hk : k < 24) (h0 : ce k = nI w + 1) (hl : ∀ j, j < k → ¬ ce j = nI w + 1) (hq : post (-4) (cap, nI W, sz, cn, ro, ct, ce, pk)) : wpY_claim post (cap, nI W, sz, cn, ro, ct, ce, pk) (nI w) := by
  refine br_f (nI_pos (by omega)) (br_t (nI_lt hw (by omega)) (mo_yslf hk h0 hl ?_))
  exact br_f (nI_pos (by omega)) hq
theorem mo_ycl2 {post : Int32 → SY → Prop} {N : Nat → Nat} {r w W : Nat} (hw : w < W) (hW : W ≤ 8) (hl : ∀ j, j < 24 → ¬ ce j = nI w + 1) (hC : mo_C N ct) (hr : mo_P N (fun k => ce k = -1) r) (hz : ¬ cn = 0 ∨ r = 3) (hq : post (-2) (cap, nI W, sz, cn, ro, ct, ce, upd pk w 0)) : wpY_claim post (cap, nI W, sz, cn, ro, ct, ce, pk) (nI w) := by
  have hc : (nI w).toNatClampNeg = w := nI_clamp (by omega)
  have hi8 : vp_in (nI w) 8 := vp_in_nI (by omega) (by omega)
  refine br_f (nI_pos (by omega)) (br_t (nI_lt hw (by omega)) (mo_ysln hl ?_))
  refine br_t mo_m1lt (And.intro hi8 (nm_r (e' := upd pk w 0) (by rw [hc, mo_c0]) (mo_ypip (by omega) hW hC hr ?_)))
  by_cases hn : cn = 0
  · have e : r = 3 := hz.resolve_left (fun z => z hn)
    subst e
    exact br_t hn (br_t rfl hq)
  · exact br_f hn hq
theorem mo_yclf {post : Int32 → SY → Prop} {N : Nat → Nat} {r w W m : Nat} (hw : w < W) (hW : W ≤ 8) (hs : ∀ j, j < 24 → ¬ ce j = nI w + 1) (hC : mo_C N ct) (hr : mo_P N (fun k => ce k = -1) r) (hn : cn = 0) (h3 : r < 3) (hm : m < N r) (h0 : ce (r * 8 + m) = 0) (hl : ∀ j, j < m → ¬ ce (r * 8 + j) = 0) (hq : post (nI m) (cap, nI W, sz, cn, ro, ct, upd ce (r * 8 + m) (nI (w + 1)), upd pk w 0)) : wpY_claim post (cap, nI W, sz, cn, ro, ct, ce, pk) (nI w) := by
  have hc : (nI w).toNatClampNeg = w := nI_clamp (by omega)
  have hi8 : vp_in (nI w) 8 := vp_in_nI (by omega) (by omega)
  have hN := hC r h3
  refine br_f (nI_pos (by omega)) (br_t (nI_lt hw (by omega)) (mo_ysln hs ?_))
  refine br_t mo_m1lt (And.intro hi8 (nm_r (e' := upd pk w 0) (by rw [hc, mo_c0]) (mo_ypip (by omega) hW hC hr ?_)))
  exact br_t hn (pk_eq r 3 (fun e => absurd e (by omega)) (fun _ => Exists.intro 9 (mo_y55f (by omega) h3 hN.1 hN.2 hm h0 hl hq 9 0 (by omega) (by omega))))
theorem mo_ycln {post : Int32 → SY → Prop} {N : Nat → Nat} {r w W : Nat} (hw : w < W) (hW : W ≤ 8) (hs : ∀ j, j < 24 → ¬ ce j = nI w + 1) (hC : mo_C N ct) (hr : mo_P N (fun k => ce k = -1) r) (hn : cn = 0) (h3 : r < 3) (hl : ∀ j, j < N r → ¬ ce (r * 8 + j) = 0) (hq : post (-1) (cap, nI W, sz, cn, ro, ct, ce, upd (upd pk w 0) w 1)) : wpY_claim post (cap, nI W, sz, cn, ro, ct, ce, pk) (nI w) := by
  have hc : (nI w).toNatClampNeg = w := nI_clamp (by omega)
  have hi8 : vp_in (nI w) 8 := vp_in_nI (by omega) (by omega)
  have hN := hC r h3
  refine br_f (nI_pos (by omega)) (br_t (nI_lt hw (by omega)) (mo_ysln hs ?_))
  refine br_t mo_m1lt (And.intro hi8 (nm_r (e' := upd pk w 0) (by rw [hc, mo_c0]) (mo_ypip (by omega) hW hC hr ?_)))
  exact br_t hn (pk_eq r 3 (fun e => absurd e (by omega)) (fun _ => Exists.intro 9 (mo_y55n (by omega) h3 hN.1 hN.2 hl hq 9 0 (by omega) (by omega))))

/-! finish -/
theorem mo_y70 {post : Int64 → SY → Prop} : ∀ (j : Nat) (L : Int64) (n : Nat), j < n → j < 2 ^ 31 → ((sz ≤ L - lN j * sz → post sz (cap, wk, sz, cn, ro, ct, ce, pk)) ∧ (¬ sz ≤ L - lN j * sz → post (L - lN j * sz) (cap, wk, sz, cn, ro, ct, ce, pk))) → wY_finish_70 post cap wk sz cn ro ct ce pk n L (nI j) := by
  intro j
  induction j with
  | zero =>
    intro L n hn _ hq
    obtain ⟨n, rfl⟩ : ∃ k, n = k + 1 := ⟨n - 1, by omega⟩
    have e : L - lN 0 * sz = L := by
      show L - 0 * sz = L
      grind
    rw [e] at hq
    exact br_t (nI_le (a := 0) (b := 0) (by omega) (by omega)) hq
  | succ j ih =>
    intro L n hn hj hq
    obtain ⟨n, rfl⟩ : ∃ k, n = k + 1 := ⟨n - 1, by omega⟩
    have e : L - lN (j + 1) * sz = L - sz - lN j * sz := by
      rw [← lN_1]
      grind
    rw [e] at hq
    exact br_f (nI_nle (by omega) hj) (nm_e (nm_r (pk_m1 j) (ih (L - sz) n (by omega) (by omega) hq)))
theorem mo_y54 {post : Int64 → SY → Prop} {k : Nat} (hk : k < 24) (hq : (sz ≤ ro (k / 8) - lN (k % 8) * sz → post sz (cap, wk, sz, cn, ro, ct, ce, pk)) ∧ (¬ sz ≤ ro (k / 8) - lN (k % 8) * sz → post (ro (k / 8) - lN (k % 8) * sz) (cap, wk, sz, cn, ro, ct, ce, pk))) : wY_finish_54 post (nI k) cap wk sz cn ro ct ce pk := by
  unfold wY_finish_54
  rw [pk_shrN (n := k) (by omega) ((3 : Int32) &&& 31) 3 (by decide), pk_andN (n := k) (by omega) (m := 7) 3 (by decide), nI_clamp (by omega)]
  exact ⟨vp_in_nI (by omega) (by omega), nm_e (nm_e ⟨9, mo_y70 (k % 8) (ro (k / 8)) 9 (by omega) (by omega) hq⟩)⟩
theorem mo_yfi2 {post : Int64 → SY → Prop} {w W : Nat} (hw : w < W) (hW : W ≤ 8) (hl : ∀ j, j < 24 → ¬ ce j = nI w + 1) (hq : post (-2) (cap, nI W, sz, cn, ro, ct, ce, pk)) : wpY_finish post (cap, nI W, sz, cn, ro, ct, ce, pk) (nI w) := by
  refine br_f (nI_pos (by omega)) (br_t (nI_lt hw (by omega)) (mo_ysln hl ?_))
  exact br_f mo_m1le hq
theorem mo_yfi {post : Int64 → SY → Prop} {N : Nat → Nat} {r s w W k : Nat} (hw : w < W) (hW : W ≤ 8) (hk : k < 24) (h0 : ce k = nI w + 1) (hl : ∀ j, j < k → ¬ ce j = nI w + 1) (hC : mo_C N ct) (hr : mo_P N (fun k => ce k = -1) r) (hs : mo_P N (fun j => upd ce k (-1) j = -1) s) (hq : wY_finish_54 post (nI k) cap (nI W) sz cn ro ct (upd ce k (-1)) (if s = r then pk else mo_clr pk 8)) : wpY_finish post (cap, nI W, sz, cn, ro, ct, ce, pk) (nI w) := by
  have hc : (nI k).toNatClampNeg = k := nI_clamp (by omega)
  have hr3 := hr.1
  have hs3 := hs.1
  refine br_f (nI_pos (by omega)) (br_t (nI_lt hw (by omega)) (mo_yslf hk h0 hl ?_))
  refine br_t (nI_pos' (by omega)) (mo_ypip (by omega) hW hC hr ?_)
  refine And.intro (vp_in_nI hk (by omega)) (nm_r (e' := upd ce k (-1)) (by rw [hc, mo_bm]) (mo_ypip (by omega) hW hC hs ?_))
  refine pk_eq s r (fun e => ?_) (fun e => ?_)
  · rw [if_pos e] at hq
    exact hq
  · rw [if_neg e] at hq
    exact mo_ywk hq

/-! cancel, idleCount -/
theorem mo_ycan {post : Int32 → SY → Prop} {W : Nat} (h0 : 0 < W) (hW : W ≤ 8) (hq : post (nI (mo_cnt (fun k => !decide (ce k ≤ 0)) 24)) (cap, nI W, sz, 1, ro, ct, ce, mo_clr pk 8)) : wpY_cancel post (cap, nI W, sz, cn, ro, ct, ce, pk) := by
  refine br_f (nI_ne0 h0 (by omega)) (mo_ywk ?_)
  exact mo_yrun hq
theorem mo_yid0 {post : Int32 → Prop} {W : Nat} {q : Nat → Bool} (hW : W ≤ 8) (hs : ∀ j, j < W → (q j = true ∧ pk j = 0 ∧ ∀ k, k < 24 → ¬ ce k = nI j + 1) ∨ (q j = false ∧ ¬ pk j = 0) ∨ (q j = false ∧ pk j = 0 ∧ ∃ k, k < 24 ∧ ce k = nI j + 1 ∧ ∀ i, i < k → ¬ ce i = nI j + 1)) (hq : post (nI (mo_cnt q W))) : ∀ (n i : Nat), i ≤ W → W - i < n → wY_idleCount_4 post cap (nI W) sz cn ro ct ce pk n (nI (mo_cnt q i)) (nI i) := by
  intro n
  induction n with
  | zero => intro i _ h; omega
  | succ n ih =>
    intro i hi hn
    by_cases e : i = W
    · subst e
      exact br_t (nI_le (by omega) (by omega)) hq
    · have hc : (nI i).toNatClampNeg = i := nI_clamp (by omega)
      refine br_f (nI_ge (by omega) (by omega)) (And.intro (vp_in_nI (by omega) (by omega)) ?_)
      have K := ih (i + 1) (by omega) (by omega)
      rcases hs i (by omega) with ⟨a, b, c⟩ | ⟨a, b⟩ | ⟨a, b, k, hk, h0, hl⟩
      · rw [mo_cnt_t a] at K
        refine br_t (by rw [hc]; exact b) (mo_ysln c ?_)
        exact br_f mo_m1le (nm_r (nI_1 _) (nm_r (nI_1 i) K))
      · rw [mo_cnt_f a] at K
        exact br_f (by rw [hc]; exact b) (nm_r (nI_1 i) K)
      · rw [mo_cnt_f a] at K
        refine br_t (by rw [hc]; exact b) (mo_yslf hk h0 hl ?_)
        exact br_t (nI_pos' (by omega)) (nm_r (nI_1 i) K)
theorem mo_yid {post : Int32 → Prop} {W : Nat} {q : Nat → Bool} (hW : W ≤ 8) (hs : ∀ j, j < W → (q j = true ∧ pk j = 0 ∧ ∀ k, k < 24 → ¬ ce k = nI j + 1) ∨ (q j = false ∧ ¬ pk j = 0) ∨ (q j = false ∧ pk j = 0 ∧ ∃ k, k < 24 ∧ ce k = nI j + 1 ∧ ∀ i, i < k → ¬ ce i = nI j + 1)) (hq : post (nI (mo_cnt q W))) : wpY_idleCount post (cap, nI W, sz, cn, ro, ct, ce, pk) :=
  Exists.intro 9 (mo_yid0 hW hs hq 9 0 (by omega) (by omega))

/-! open -/
theorem mo_y151 {post : Int32 → SY → Prop} {a b c : Int32} (hq : post (a + b + c) (cap, wk, sz, cn, ro, ct, mo_clr ce 24, mo_clr pk 8)) : ∀ (n i : Nat), i ≤ 24 → 24 - i < n → wY_open_151 post a b c cap wk sz cn n (nI i) ro ct (mo_clr ce i) pk := by
  intro n
  induction n with
  | zero => intro i _ h; omega
  | succ n ih =>
    intro i hi hn
    rw [wY_open_151]
    dsimp only
    rw [nI_clamp (n := i) (by omega), mo_b0]
    by_cases e : i = 24
    · subst e
      exact br_t (nI_le (a := 24) (b := 24) (by omega) (by omega)) (mo_ywk hq)
    · have hi24 : vp_in (nI i) 24 := vp_in_nI (by omega) (by omega)
      exact br_f (nI_ge (b := 24) (by omega) (by omega)) ⟨hi24, nm_r (mo_clrs _ _) (nm_r (nI_1 i) (ih (i + 1) (by omega) (by omega)))⟩
end
end
section
/-! open: the morsel counts, and both walks -/
theorem mo_sub0 {x y : Nat} (h : x ≤ y) (hy : y < 2 ^ 63) : lN x - lN y ≤ 0 := by
  rw [Int64.le_iff_toInt_le, Int64.toInt_sub, pk_lT (by omega), pk_lT hy, show (0 : Int64).toInt = 0 from by decide]
  rw [Int.bmod_eq_of_le (by omega) (by omega)]
  omega
theorem mo_ym {post : Int32 → Prop} {a b r : Nat} (ha : a < 2 ^ 63) (hb : b < 2 ^ 63) (hr : r ≤ 9) (h1 : (r - 1) * b < a) (h2 : r = 9 ∨ a ≤ r * b) (hp : post (nI r)) : ∀ (n i : Nat), i + 1 ≤ r → r - i < n + 1 → wY_morsels_11 post (lN b) n (lN (a - i * b)) (nI (i + 1)) := by
  intro n
  induction n with
  | zero => intro i _ h; omega
  | succ n ih =>
    intro i hi hn
    by_cases e : i + 1 = r
    · subst e
      refine nm_e (br_c (fun _ => hp) (fun z => br_c (fun _ => hp) (fun y => absurd ?_ z)))
      have y8 : ¬ 8 < i + 1 := fun g => y (nI_lt (a := 8) g (by omega))
      refine mo_sub0 ?_ hb
      rcases h2 with g | g
      · omega
      · rw [Nat.succ_mul] at g
        omega
    · have hm : (i + 1) * b ≤ (r - 1) * b := Nat.mul_le_mul_right b (by omega)
      have hs : (i + 1) * b = i * b + b := Nat.succ_mul i b
      have es : lN (a - i * b) - lN b = lN (a - (i + 1) * b) := by
        rw [lN_sub (by omega)]
        exact congrArg lN (by omega)
      have hz : ¬ lN (a - i * b) - lN b ≤ 0 := by
        rw [es]
        intro z
        have := (pk_lLE (a := a - (i + 1) * b) (b := 0) (by omega) (by omega)).mp z
        omega
      exact nm_r es (br_f hz (br_f (nI_nlt (a := 8) (b := i + 1) (by omega) (by omega)) (nm_r (nI_1 (i + 1)) (ih (i + 1) (by omega) (by omega)))))
def mo_mc (a b : Nat) : Nat := if a / b ≤ 8 then (if a % b = 0 then a / b else a / b + 1) else 9
theorem mo_mcs {a b : Nat} (ha : 0 < a) (hb : 0 < b) : 1 ≤ mo_mc a b ∧ mo_mc a b ≤ 9 ∧ (mo_mc a b - 1) * b < a ∧ (mo_mc a b = 9 ∨ a ≤ mo_mc a b * b) := by
  have e := Nat.div_add_mod' a b
  have hl := Nat.mod_lt a hb
  unfold mo_mc
  generalize a / b = q at *
  generalize a % b = m at *
  by_cases h : q ≤ 8
  · rw [if_pos h]
    by_cases hm : m = 0
    · rw [if_pos hm]
      have hq : q ≠ 0 := by
        intro z
        subst z
        rw [Nat.zero_mul] at e
        omega
      obtain ⟨q, rfl⟩ : ∃ k, q = k + 1 := ⟨q - 1, by omega⟩
      rw [Nat.add_sub_cancel]
      have hs : (q + 1) * b = q * b + b := Nat.succ_mul q b
      exact ⟨by omega, by omega, by omega, Or.inr (by omega)⟩
    · rw [if_neg hm, Nat.add_sub_cancel]
      have hs : (q + 1) * b = q * b + b := Nat.succ_mul q b
      exact ⟨by omega, by omega, by omega, Or.inr (by omega)⟩
  · rw [if_neg h]
    have hm : 9 * b ≤ q * b := Nat.mul_le_mul_right b (by omega)
    exact ⟨by omega, by omega, by omega, Or.inl rfl⟩
section
variable {cap op cn wk : Int32} {sz : Int64} {ro : Nat → Int64} {ct ms ws wp wm ce pk : Nat → Int32}
theorem mo_xm {post : Int32 → Prop} {a b : Nat} (ha : a < 2 ^ 63) (hb : b < 2 ^ 63) (ha0 : 0 < a) (hb0 : 0 < b) (hp : post (nI (mo_mc a b))) : wpX_morselCount post (cap, op, cn, wk, sz, ro, ct, ms, ws, wp, wm) (lN a) (lN b) := by
  have h0 : (0 : Int64) < lN a := (pk_lLT (a := 0) (by omega) ha).mpr ha0
  have hn : ¬ lN b = 0 := fun z => absurd ((pk_lEQ (b := 0) hb (by omega)).mp z) (by omega)
  have hq : a / b ≤ a := Nat.div_le_self _ _
  have hm : a % b < b := Nat.mod_lt _ hb0
  refine br_t h0 (And.intro hn (nm_r (pk_lDiv ha hb0 hb) (And.intro hn (nm_r (pk_lRem ha hb0 hb) ?_))))
  unfold mo_mc at hp
  by_cases h8 : a / b ≤ 8
  · rw [if_pos h8] at hp
    refine br_t ((pk_lLE (b := 8) (by omega) (by omega)).mpr h8) ?_
    by_cases hz : a % b = 0
    · rw [if_pos hz] at hp
      refine br_t ((pk_lEQ (b := 0) (by omega) (by omega)).mpr hz) ?_
      refine br_t ((pk_lLE (b := 8) (by omega) (by omega)).mpr h8) ?_
      rw [lN_i]
      exact hp
    · rw [if_neg hz] at hp
      refine br_f (fun z => hz ((pk_lEQ (b := 0) (by omega) (by omega)).mp z)) (nm_r (lN_1 _) ?_)
      by_cases h7 : a / b + 1 ≤ 8
      · refine br_t ((pk_lLE (b := 8) (by omega) (by omega)).mpr h7) ?_
        rw [lN_i]
        exact hp
      · have e : a / b + 1 = 9 := by omega
        rw [e] at hp
        exact br_f (fun z => h7 ((pk_lLE (b := 8) (by omega) (by omega)).mp z)) hp
  · rw [if_neg h8] at hp
    exact br_f (fun z => h8 ((pk_lLE (b := 8) (by omega) (by omega)).mp z)) hp
end
theorem mo_yms {post : Int32 → Prop} {a b : Nat} (ha : a < 2 ^ 63) (hb : b < 2 ^ 63) (ha0 : 0 < a) (hb0 : 0 < b) (hp : post (nI (mo_mc a b))) : wpY_morsels post (lN a) (lN b) := by
  have h0 : (0 : Int64) < lN a := (pk_lLT (a := 0) (by omega) ha).mpr ha0
  obtain ⟨h1, h2, h3, h4⟩ := mo_mcs ha0 hb0
  have K := mo_ym ha hb h2 h3 h4 hp 10 0 (by omega) (by omega)
  rw [Nat.zero_mul, Nat.sub_zero] at K
  exact br_t h0 (Exists.intro 10 K)
/-- one count for both -/
def mo_M (p s : Int64) (r : Nat) : Prop := (∀ (post : Int32 → Prop) (cap op cn wk : Int32) (sz : Int64) (ro : Nat → Int64) (ct ms ws wp wm : Nat → Int32), post (nI r) → wpX_morselCount post (cap, op, cn, wk, sz, ro, ct, ms, ws, wp, wm) p s) ∧ (∀ (post : Int32 → Prop), post (nI r) → wpY_morsels post p s)
theorem mo_Me {s : Int64} (hs : 1 ≤ s) (p : Int64) : ∃ r, r ≤ 9 ∧ mo_M p s r := by
  by_cases hp : 0 < p
  · obtain ⟨a, ha, rfl⟩ := pk_lOf (x := p) (fun z => absurd (Int64.lt_trans hp z) (Int64.lt_irrefl))
    obtain ⟨b, hb, rfl⟩ := pk_lOf (x := s) (fun z => absurd (Int64.lt_of_le_of_lt hs z) (by decide))
    have ha0 : 0 < a := (pk_lLT (a := 0) (by omega) ha).mp hp
    have hb0 : 1 ≤ b := (pk_lLE (a := 1) (by omega) hb).mp hs
    exact ⟨mo_mc a b, (mo_mcs ha0 hb0).2.1, fun post _ _ _ _ _ _ _ _ _ _ _ h => mo_xm ha hb ha0 hb0 h, fun post h => mo_yms ha hb ha0 hb0 h⟩
  · exact ⟨0, by omega, fun post _ _ _ _ _ _ _ _ _ _ _ h => br_f hp h, fun post h => br_f hp h⟩
section
variable {cap op cn wk : Int32} {sz : Int64} {ro : Nat → Int64} {ct ms ws wp wm ce pk : Nat → Int32} {v1 : Int32} {a1 a2 a3 a4 : Int64}
theorem mo_xo1 {post : Int32 → SX → Prop} (h : ∃ k, k < 8 ∧ ws k = 1) (hq : post (-1) (cap, op, cn, wk, sz, ro, ct, ms, ws, wp, wm)) : wpX_open post (cap, op, cn, wk, sz, ro, ct, ms, ws, wp, wm) v1 a1 a2 a3 a4 := by
  obtain ⟨k, ⟨hk, h1⟩, hl⟩ := pk_least (fun k => k < 8 ∧ ws k = 1) h
  exact Exists.intro 9 (mo_xo3r hk h1 (fun j hj z => hl j hj ⟨by omega, z⟩) hq 9 0 (by omega) (by omega))
theorem mo_xo2 {post : Int32 → SX → Prop} (hl : ∀ j, j < 8 → ¬ ws j = 1) (h : v1 < 1 ∨ ¬ v1 ≤ cap) (hq : post (-2) (cap, op, cn, wk, sz, ro, ct, ms, ws, wp, wm)) : wpX_open post (cap, op, cn, wk, sz, ro, ct, ms, ws, wp, wm) v1 a1 a2 a3 a4 := by
  refine Exists.intro 9 (mo_xo3 hl ?_ 8 0 (by omega) (by omega))
  refine br_t (nI_le (a := 8) (b := 8) (by omega) (by omega)) ?_
  by_cases h1 : v1 < 1
  · exact br_t h1 hq
  · exact br_f h1 (br_f (h.resolve_left h1) hq)
theorem mo_xo3f {post : Int32 → SX → Prop} (hl : ∀ j, j < 8 → ¬ ws j = 1) (h1 : ¬ v1 < 1) (h2 : v1 ≤ cap) (h3 : ¬ 1 ≤ a1) (hq : post (-3) (cap, op, cn, wk, sz, ro, ct, ms, ws, wp, wm)) : wpX_open post (cap, op, cn, wk, sz, ro, ct, ms, ws, wp, wm) v1 a1 a2 a3 a4 := by
  refine Exists.intro 9 (mo_xo3 hl ?_ 8 0 (by omega) (by omega))
  exact br_t (nI_le (a := 8) (b := 8) (by omega) (by omega)) (br_f h1 (br_t h2 (br_f h3 hq)))
theorem mo_xo4 {post : Int32 → SX → Prop} {r0 r1 r2 : Nat} (hl : ∀ j, j < 8 → ¬ ws j = 1) (h1 : ¬ v1 < 1) (h2 : v1 ≤ cap) (h3 : 1 ≤ a1) (m0 : mo_M a2 a1 r0) (m1 : mo_M a3 a1 r1) (m2 : mo_M a4 a1 r2) (g0 : r0 ≤ 9) (g1 : r1 ≤ 9) (g2 : r2 ≤ 9) (h : 8 < r0 ∨ 8 < r1 ∨ 8 < r2) (hq : post (-4) (cap, op, cn, wk, sz, ro, ct, ms, ws, wp, wm)) : wpX_open post (cap, op, cn, wk, sz, ro, ct, ms, ws, wp, wm) v1 a1 a2 a3 a4 := by
  refine Exists.intro 9 (mo_xo3 hl ?_ 8 0 (by omega) (by omega))
  refine br_t (nI_le (a := 8) (b := 8) (by omega) (by omega)) (br_f h1 (br_t h2 (br_t h3 (m0.1 _ _ _ _ _ _ _ _ _ _ _ _ (m1.1 _ _ _ _ _ _ _ _ _ _ _ _ (m2.1 _ _ _ _ _ _ _ _ _ _ _ _ ?_))))))
  exact pk_lt 8 r0 (fun _ => hq) (fun _ => pk_lt 8 r1 (fun _ => hq) (fun _ => pk_le r2 8 (fun _ => absurd h (by omega)) (fun _ => hq)))
theorem mo_xo5 {post : Int32 → SX → Prop} {r0 r1 r2 : Nat} (hl : ∀ j, j < 8 → ¬ ws j = 1) (h1 : ¬ v1 < 1) (h2 : v1 ≤ cap) (h3 : 1 ≤ a1) (m0 : mo_M a2 a1 r0) (m1 : mo_M a3 a1 r1) (m2 : mo_M a4 a1 r2) (g0 : r0 ≤ 8) (g1 : r1 ≤ 8) (g2 : r2 ≤ 8) (hq : post (nI r0 + nI r1 + nI r2) (cap, 1, 0, v1, a1, vp_updL (vp_updL (vp_updL ro 0 a2) 1 a3) 2 a4, upd (upd (upd ct 0 (nI r0)) 1 (nI r1)) 2 (nI r2), mo_clr ms 24, mo_clr ws 8, mo_clr wp 8, mo_clr wm 8)) : wpX_open post (cap, op, cn, wk, sz, ro, ct, ms, ws, wp, wm) v1 a1 a2 a3 a4 := by
  refine Exists.intro 9 (mo_xo3 hl ?_ 8 0 (by omega) (by omega))
  refine br_t (nI_le (a := 8) (b := 8) (by omega) (by omega)) (br_f h1 (br_t h2 (br_t h3 (m0.1 _ _ _ _ _ _ _ _ _ _ _ _ (m1.1 _ _ _ _ _ _ _ _ _ _ _ _ (m2.1 _ _ _ _ _ _ _ _ _ _ _ _ ?_))))))
  refine br_f (nI_nlt (b := r0) (a := 8) g0 (by omega)) (br_f (nI_nlt (b := r1) (a := 8) g1 (by omega)) (br_t (nI_le (a := r2) (b := 8) g2 (by omega)) ?_))
  refine nm_e (nm_e (nm_e (nm_e (nm_e (nm_e ?_)))))
  have K := mo_x166 (op := op) (cn := cn) hq 25 0 (by omega) (by omega)
  rw [mo_clr0] at K
  exact Exists.intro 25 K
theorem mo_yo1 {post : Int32 → SY → Prop} (h : 0 < mo_cnt (fun k => !decide (ce k ≤ 0)) 24) (hq : post (-1) (cap, wk, sz, cn, ro, ct, ce, pk)) : wpY_open post (cap, wk, sz, cn, ro, ct, ce, pk) v1 a1 a2 a3 a4 := by
  have hc := mo_cnt_le (fun k => !decide (ce k ≤ 0)) 24
  refine mo_yrun ?_
  exact br_f (nI_nle h (by omega)) hq
theorem mo_yo2 {post : Int32 → SY → Prop} (hz : mo_cnt (fun k => !decide (ce k ≤ 0)) 24 = 0) (h : v1 < 1 ∨ ¬ v1 ≤ cap) (hq : post (-2) (cap, wk, sz, cn, ro, ct, ce, pk)) : wpY_open post (cap, wk, sz, cn, ro, ct, ce, pk) v1 a1 a2 a3 a4 := by
  refine mo_yrun ?_
  rw [hz]
  refine br_t (nI_le (a := 0) (b := 0) (by omega) (by omega)) ?_
  by_cases h1 : v1 < 1
  · exact br_t h1 hq
  · exact br_f h1 (br_f (h.resolve_left h1) hq)
theorem mo_yo3 {post : Int32 → SY → Prop} (hz : mo_cnt (fun k => !decide (ce k ≤ 0)) 24 = 0) (h1 : ¬ v1 < 1) (h2 : v1 ≤ cap) (h3 : ¬ 1 ≤ a1) (hq : post (-3) (cap, wk, sz, cn, ro, ct, ce, pk)) : wpY_open post (cap, wk, sz, cn, ro, ct, ce, pk) v1 a1 a2 a3 a4 := by
  refine mo_yrun ?_
  rw [hz]
  exact br_t (nI_le (a := 0) (b := 0) (by omega) (by omega)) (br_f h1 (br_t h2 (br_f h3 hq)))
theorem mo_yo4 {post : Int32 → SY → Prop} {r0 r1 r2 : Nat} (hz : mo_cnt (fun k => !decide (ce k ≤ 0)) 24 = 0) (h1 : ¬ v1 < 1) (h2 : v1 ≤ cap) (h3 : 1 ≤ a1) (m0 : mo_M a2 a1 r0) (m1 : mo_M a3 a1 r1) (m2 : mo_M a4 a1 r2) (g0 : r0 ≤ 9) (g1 : r1 ≤ 9) (g2 : r2 ≤ 9) (h : 8 < r0 ∨ 8 < r1 ∨ 8 < r2) (hq : post (-4) (cap, wk, sz, cn, ro, ct, ce, pk)) : wpY_open post (cap, wk, sz, cn, ro, ct, ce, pk) v1 a1 a2 a3 a4 := by
  refine mo_yrun ?_
  rw [hz]
  refine br_t (nI_le (a := 0) (b := 0) (by omega) (by omega)) (br_f h1 (br_t h2 (br_t h3 (m0.2 _ (m1.2 _ (m2.2 _ ?_))))))
  exact pk_lt 8 r0 (fun _ => hq) (fun _ => pk_lt 8 r1 (fun _ => hq) (fun _ => pk_le r2 8 (fun _ => absurd h (by omega)) (fun _ => hq)))
theorem mo_yo5 {post : Int32 → SY → Prop} {r0 r1 r2 : Nat} (hz : mo_cnt (fun k => !decide (ce k ≤ 0)) 24 = 0) (h1 : ¬ v1 < 1) (h2 : v1 ≤ cap) (h3 : 1 ≤ a1) (m0 : mo_M a2 a1 r0) (m1 : mo_M a3 a1 r1) (m2 : mo_M a4 a1 r2) (g0 : r0 ≤ 8) (g1 : r1 ≤ 8) (g2 : r2 ≤ 8) (hq : post (nI r0 + nI r1 + nI r2) (cap, v1, a1, 0, vp_updL (vp_updL (vp_updL ro 0 a2) 1 a3) 2 a4, upd (upd (upd ct 0 (nI r0)) 1 (nI r1)) 2 (nI r2), mo_clr ce 24, mo_clr pk 8)) : wpY_open post (cap, wk, sz, cn, ro, ct, ce, pk) v1 a1 a2 a3 a4 := by
  refine mo_yrun ?_
  rw [hz]
  refine br_t (nI_le (a := 0) (b := 0) (by omega) (by omega)) (br_f h1 (br_t h2 (br_t h3 (m0.2 _ (m1.2 _ (m2.2 _ ?_))))))
  refine br_f (nI_nlt (b := r0) (a := 8) g0 (by omega)) (br_f (nI_nlt (b := r1) (a := 8) g1 (by omega)) (br_t (nI_le (a := r2) (b := 8) g2 (by omega)) ?_))
  refine nm_e (nm_e (nm_e (nm_r (e' := upd ct 0 (nI r0)) (by rw [mo_sh (by omega)]) (nm_r (e' := upd (upd ct 0 (nI r0)) 1 (nI r1)) (by rw [mo_sh (by omega)]) (nm_r (e' := upd (upd (upd ct 0 (nI r0)) 1 (nI r1)) 2 (nI r2)) (by rw [mo_sh (by omega)]) ?_)))))
  have K := mo_y151 hq 25 0 (by omega) (by omega)
  rw [mo_clr0] at K
  exact Exists.intro 25 K
end
end
section
/-! the relation, and the owed statements -/
def mo_I (c W : Nat) (N K : Nat → Nat) (op : Int32) (sz tz : Int64) (ct ms ws wp wm ce pk : Nat → Int32) : Prop := c ≤ 8 ∧ W ≤ 8 ∧ ((op = 0 ∧ W = 0) ∨ (op = 1 ∧ 0 < W ∧ tz = sz)) ∧ mo_C N ct ∧ mo_A W K ms ws ce ∧ mo_B W K ws wp wm ce pk
def mo_R (cap op cn wk : Int32) (sz : Int64) (ro : Nat → Int64) (ct ms ws wp wm : Nat → Int32) (cap' wk' : Int32) (tz : Int64) (cn' : Int32) (ro' : Nat → Int64) (ct' ce pk : Nat → Int32) : Prop := ∃ (c W : Nat) (N K : Nat → Nat), cap = nI c ∧ cap' = nI c ∧ wk = nI W ∧ wk' = nI W ∧ cn' = cn ∧ ro' = ro ∧ ct' = ct ∧ mo_I c W N K op sz tz ct ms ws wp wm ce pk
def i_Rel (_ : Nat) (u : SX) (v : SY) : Prop := match u with
  | (cap, op, cn, wk, sz, ro, ct, ms, ws, wp, wm) => match v with
    | (cap', wk', tz, cn', ro', ct', ce, pk) => mo_R cap op cn wk sz ro ct ms ws wp wm cap' wk' tz cn' ro' ct' ce pk
theorem i_up {k : Nat} {u : SX} {v : SY} (h : i_Rel k u v) : i_Rel (k + 10) u v := h
theorem mo_in {k c W : Nat} {N K : Nat → Nat} {op cn : Int32} {sz tz : Int64} {ro : Nat → Int64} {ct ms ws wp wm ce pk : Nat → Int32} (h : mo_I c W N K op sz tz ct ms ws wp wm ce pk) : i_Rel k (nI c, op, cn, nI W, sz, ro, ct, ms, ws, wp, wm) (nI c, nI W, tz, cn, ro, ct, ce, pk) :=
  ⟨c, W, N, K, rfl, rfl, rfl, rfl, rfl, rfl, rfl, h⟩
theorem mo_el {P : SX → SY → Prop} {k : Nat} {u : SX} {v : SY} (I : i_Rel k u v) (h : ∀ (c W : Nat) (N K : Nat → Nat) (op cn : Int32) (sz tz : Int64) (ro : Nat → Int64) (ct ms ws wp wm ce pk : Nat → Int32), mo_I c W N K op sz tz ct ms ws wp wm ce pk → P (nI c, op, cn, nI W, sz, ro, ct, ms, ws, wp, wm) (nI c, nI W, tz, cn, ro, ct, ce, pk)) : P u v := by
  obtain ⟨cap, op, cn, wk, sz, ro, ct, ms, ws, wp, wm⟩ := u
  obtain ⟨cap', wk', tz, cn', ro', ct', ce, pk⟩ := v
  have J : mo_R cap op cn wk sz ro ct ms ws wp wm cap' wk' tz cn' ro' ct' ce pk := I
  obtain ⟨c, W, N, K, rfl, rfl, rfl, rfl, rfl, rfl, rfl, hI⟩ := J
  exact h c W N K op _ sz tz _ _ ms ws wp wm ce pk hI
theorem mo_i0 {k c : Nat} (hc : c ≤ 8) : i_Rel k (nI c, 0, 0, 0, 1, (fun _ => 0), (fun _ => 0), (fun _ => 0), (fun _ => 0), (fun _ => 0), (fun _ => 0)) (nI c, 0, 0, 0, (fun _ => 0), (fun _ => 0), (fun _ => 0), (fun _ => 0)) :=
  mo_in (W := 0) (N := fun _ => 0) (K := fun _ => 0) ⟨hc, by omega, Or.inl ⟨rfl, rfl⟩, fun _ _ => ⟨Nat.zero_le 8, rfl⟩, fun _ _ => Or.inl ⟨rfl, rfl⟩, fun _ _ => Or.inl ⟨rfl, rfl⟩⟩
theorem i_vc0 (k0 : Int32) : wpX_init (fun u => wpY_init (fun v => i_Rel 1 u v) k0) k0 := by
  by_cases h1 : 1 ≤ k0
  · by_cases h8 : k0 ≤ 8
    · obtain ⟨c, hc, rfl⟩ := nI_of2 (M := 8) (n := 8) (by decide) (fun z => absurd (Int32.lt_of_le_of_lt h1 z) (by decide)) h8
      exact br_t h1 (br_t h8 (br_t h1 (br_t h8 (mo_i0 hc))))
    · exact br_t h1 (br_f h8 (br_t h1 (br_f h8 (mo_i0 (c := 8) (by omega)))))
  · exact br_f h1 (br_t (show (1 : Int32) ≤ 8 from by decide) (br_f h1 (mo_i0 (c := 1) (by omega))))
theorem i_vc_pipeline {k : Nat} {u : SX} {v : SY} (I : i_Rel k u v) (hk : k + 10 ≤ 5121) : wpX_pipeline (fun r => wpY_pipeline (fun r' => r' = r ∧ i_Rel (k + 10) u v) v) u := by
  refine mo_el (P := fun u v => wpX_pipeline (fun r => wpY_pipeline (fun r' => r' = r ∧ i_Rel (k + 10) u v) v) u) I ?_
  intro c W N K op cn sz tz ro ct ms ws wp wm ce pk hI
  have R : i_Rel (k + 10) (nI c, op, cn, nI W, sz, ro, ct, ms, ws, wp, wm) (nI c, nI W, tz, cn, ro, ct, ce, pk) := mo_in hI
  obtain ⟨hc, hW, ho, hC, hA, hB⟩ := hI
  rcases ho with ⟨ho, e⟩ | ⟨ho, h0, _⟩
  · subst e
    exact br_t ho (br_t rfl ⟨rfl, R⟩)
  · obtain ⟨r, hr⟩ := mo_Pe N (fun k => ms k = 2)
    have hr' : mo_P N (fun k => ce k = -1) r := mo_Pt (fun p hp => (hC p hp).1) (mo_A2 hA hW) hr
    refine br_f (by rw [ho]; exact mo_10) (mo_xcur hC hr ?_)
    exact mo_ypip h0 hW hC hr' ⟨rfl, R⟩
theorem i_vc_idleCount {k : Nat} {u : SX} {v : SY} (I : i_Rel k u v) (hk : k + 10 ≤ 5121) : wpX_idleCount (fun r => wpY_idleCount (fun r' => r' = r ∧ i_Rel (k + 10) u v) v) u := by
  refine mo_el (P := fun u v => wpX_idleCount (fun r => wpY_idleCount (fun r' => r' = r ∧ i_Rel (k + 10) u v) v) u) I ?_
  intro c W N K op cn sz tz ro ct ms ws wp wm ce pk hI
  have R : i_Rel (k + 10) (nI c, op, cn, nI W, sz, ro, ct, ms, ws, wp, wm) (nI c, nI W, tz, cn, ro, ct, ce, pk) := mo_in hI
  obtain ⟨hc, hW, ho, hC, hA, hB⟩ := hI
  rcases ho with ⟨ho, e⟩ | ⟨ho, h0, _⟩
  · subst e
    exact br_t ho (mo_yid (q := fun _ => false) hW (fun j hj => absurd hj (by omega)) ⟨rfl, R⟩)
  · refine mo_xid (by rw [ho]; exact mo_10) hW ?_
    refine mo_yid (q := fun j => decide (ws j = 0)) hW ?_ ⟨rfl, R⟩
    intro j hj
    rcases hB j (by omega) with ⟨a, b⟩ | ⟨a, b, _⟩ | ⟨a, b, _⟩
    · exact Or.inl ⟨decide_eq_true a, b, mo_s0 hA hW (by omega) (by rw [a]; exact mo_01)⟩
    · exact Or.inr (Or.inl ⟨decide_eq_false (by rw [a]; exact mo_20), by rw [b]; exact mo_10⟩)
    · exact Or.inr (Or.inr ⟨decide_eq_false (by rw [a]; exact mo_10), b, K j, mo_s1 hA hB hW (by omega) a⟩)
theorem i_vc_cancel {k : Nat} {u : SX} {v : SY} (I : i_Rel k u v) (hk : k + 10 ≤ 5121) : wpX_cancel (fun r u' => wpY_cancel (fun r' v' => r' = r ∧ i_Rel (k + 10) u' v') v) u := by
  refine mo_el (P := fun u v => wpX_cancel (fun r u' => wpY_cancel (fun r' v' => r' = r ∧ i_Rel (k + 10) u' v') v) u) I ?_
  intro c W N K op cn sz tz ro ct ms ws wp wm ce pk hI
  have R : i_Rel (k + 10) (nI c, op, cn, nI W, sz, ro, ct, ms, ws, wp, wm) (nI c, nI W, tz, cn, ro, ct, ce, pk) := mo_in hI
  obtain ⟨hc, hW, ho, hC, hA, hB⟩ := hI
  rcases ho with ⟨ho, e⟩ | ho
  · subst e
    exact br_t ho (br_t rfl ⟨rfl, R⟩)
  · refine mo_xcan (by rw [ho.1]; exact mo_10) hW ?_
    refine mo_ycan ho.2.1 hW ⟨by rw [mo_run hA hB hW], ?_⟩
    exact mo_in ⟨hc, hW, Or.inr ho, hC, mo_Aw hA, mo_Bw hB⟩
theorem i_vc_claim {k : Nat} {u : SX} {v : SY} (I : i_Rel k u v) (hk : k + 10 ≤ 5121) (v1 : Int32) : wpX_claim (fun r u' => wpY_claim (fun r' v' => r' = r ∧ i_Rel (k + 10) u' v') v v1) u v1 := by
  refine mo_el (P := fun u v => wpX_claim (fun r u' => wpY_claim (fun r' v' => r' = r ∧ i_Rel (k + 10) u' v') v v1) u v1) I ?_
  intro c W N K op cn sz tz ro ct ms ws wp wm ce pk hI
  have R : i_Rel (k + 10) (nI c, op, cn, nI W, sz, ro, ct, ms, ws, wp, wm) (nI c, nI W, tz, cn, ro, ct, ce, pk) := mo_in hI
  obtain ⟨hc, hW, ho, hC, hA, hB⟩ := hI
  by_cases hn : v1 < 0
  · by_cases h : op = 0
    · exact br_t h (br_t hn ⟨rfl, R⟩)
    · exact br_f h (br_t hn (br_t hn ⟨rfl, R⟩))
  · by_cases hw : v1 < nI W
    · obtain ⟨w, hw31, rfl⟩ := nI_of hn
      rw [nI_ltI hw31 (by omega)] at hw
      have ho' : op = 1 ∧ 0 < W ∧ tz = sz := ho.resolve_left (fun z => by have := z.2; omega)
      have hop : ¬ op = 0 := by rw [ho'.1]; exact mo_10
      by_cases h1 : ws w = 1
      · obtain ⟨hK, hs, hl⟩ := mo_s1 hA hB hW (by omega) h1
        exact mo_xcl4 hop hw hW h1 (mo_ycl4 hw hW hK hs hl ⟨rfl, R⟩)
      · have hs := mo_s0 hA hW (by omega) h1
        obtain ⟨r, hr⟩ := mo_Pe N (fun k => ms k = 2)
        have hr' : mo_P N (fun k => ce k = -1) r := mo_Pt (fun p hp => (hC p hp).1) (mo_A2 hA hW) hr
        by_cases hz : ¬ cn = 0 ∨ r = 3
        · refine mo_xcl2 hop hw hW h1 hC hr hz (mo_ycl2 hw hW hs hC hr' hz ⟨rfl, ?_⟩)
          exact mo_in ⟨hc, hW, ho, hC, mo_Ai hA h1, mo_Bi0 hB⟩
        · have hcn : cn = 0 := by
            by_cases g : cn = 0
            · exact g
            · exact absurd (Or.inl g) hz
          have hr3 := hr.1
          have h3 : r < 3 := by
            by_cases g : r = 3
            · exact absurd (Or.inr g) hz
            · omega
          have hN := (hC r h3).1
          by_cases hf : ∃ m, m < N r ∧ ms (r * 8 + m) = 0
          · obtain ⟨m, ⟨hm, h0⟩, hl⟩ := pk_least (fun m => m < N r ∧ ms (r * 8 + m) = 0) hf
            have hl' : ∀ j, j < m → ¬ ms (r * 8 + j) = 0 := fun j hj z => hl j hj ⟨by omega, z⟩
            have h0' : ce (r * 8 + m) = 0 := (mo_A0 hA hW _ (by omega)).mp h0
            refine mo_xclf hop hw hW h1 hC hr hcn h3 hm h0 hl' (mo_yclf hw hW hs hC hr' hcn h3 hm h0' (fun j hj z => hl' j hj ((mo_A0 hA hW _ (by omega)).mpr z)) ⟨rfl, ?_⟩)
            exact mo_in ⟨hc, hW, ho, hC, mo_Ac hA hw h1, mo_Bc hB hw h3 (by omega) h0'⟩
          · have hl : ∀ j, j < N r → ¬ ms (r * 8 + j) = 0 := fun j hj z => hf ⟨j, hj, z⟩
            refine mo_xcln hop hw hW h1 hC hr hcn h3 hl (mo_ycln hw hW hs hC hr' hcn h3 (fun j hj z => hl j hj ((mo_A0 hA hW _ (by omega)).mpr z)) ⟨rfl, ?_⟩)
            exact mo_in ⟨hc, hW, ho, hC, mo_Ai hA h1, mo_Bi2 hB hw⟩
    · by_cases h : op = 0
      · exact br_t h (br_f hn (br_f hw ⟨rfl, R⟩))
      · exact br_f h (br_f hn (br_f hw (br_f hn (br_f hw ⟨rfl, R⟩))))
theorem i_vc_finish {k : Nat} {u : SX} {v : SY} (I : i_Rel k u v) (hk : k + 10 ≤ 5121) (v1 : Int32) : wpX_finish (fun r u' => wpY_finish (fun r' v' => r' = r ∧ i_Rel (k + 10) u' v') v v1) u v1 := by
  refine mo_el (P := fun u v => wpX_finish (fun r u' => wpY_finish (fun r' v' => r' = r ∧ i_Rel (k + 10) u' v') v v1) u v1) I ?_
  intro c W N K op cn sz tz ro ct ms ws wp wm ce pk hI
  have R : i_Rel (k + 10) (nI c, op, cn, nI W, sz, ro, ct, ms, ws, wp, wm) (nI c, nI W, tz, cn, ro, ct, ce, pk) := mo_in hI
  obtain ⟨hc, hW, ho, hC, hA, hB⟩ := hI
  by_cases hn : v1 < 0
  · by_cases h : op = 0
    · exact br_t h (br_t hn ⟨rfl, R⟩)
    · exact br_f h (br_t hn (br_t hn ⟨rfl, R⟩))
  · by_cases hw : v1 < nI W
    · obtain ⟨w, hw31, rfl⟩ := nI_of hn
      rw [nI_ltI hw31 (by omega)] at hw
      have ho' : op = 1 ∧ 0 < W ∧ tz = sz := ho.resolve_left (fun z => by have := z.2; omega)
      have hop : ¬ op = 0 := by rw [ho'.1]; exact mo_10
      by_cases h1 : ws w = 1
      · obtain ⟨hK, hs, hl⟩ := mo_s1 hA hB hW (by omega) h1
        obtain ⟨_, _, _, ep, em, _⟩ := mo_B1 hB (by omega) h1
        have ek : K w / 8 * 8 + K w % 8 = K w := Nat.div_add_mod' _ _
        have hA' : mo_A W K (upd ms (K w) 2) (upd ws w 0) (upd ce (K w) (-1)) := mo_Af hA
        have hB' : mo_B W K (upd ws w 0) wp wm (upd ce (K w) (-1)) pk := mo_Bf hA hB hW (by omega) h1
        obtain ⟨r, hr⟩ := mo_Pe N (fun k => ms k = 2)
        have hr' : mo_P N (fun k => ce k = -1) r := mo_Pt (fun p hp => (hC p hp).1) (mo_A2 hA hW) hr
        obtain ⟨s, hq⟩ := mo_Pe N (fun k => upd ms (K w) 2 k = 2)
        have hq' : mo_P N (fun k => upd ce (K w) (-1) k = -1) s := mo_Pt (fun p hp => (hC p hp).1) (mo_A2 hA' hW) hq
        obtain ⟨ho1, ho2, ho3⟩ := ho'
        subst ho3
        have RR : i_Rel (k + 10) (nI c, op, cn, nI W, tz, ro, ct, upd ms (K w) 2, (if s = r then upd ws w 0 else mo_wk (upd ws w 0) W), wp, wm) (nI c, nI W, tz, cn, ro, ct, upd ce (K w) (-1), (if s = r then pk else mo_clr pk 8)) := by
          by_cases e : s = r
          · rw [if_pos e, if_pos e]
            exact mo_in ⟨hc, hW, ho, hC, hA', hB'⟩
          · rw [if_neg e, if_neg e]
            exact mo_in ⟨hc, hW, ho, hC, mo_Aw hA', mo_Bw hB'⟩
        refine mo_xfi (r := r) (s := s) (p := K w / 8) (m := K w % 8) hop hw hW h1 (by omega) (by omega) ep em hC hr (by rw [ek]; exact hq) (mo_xf126 (by omega) (by omega) ?_)
        rw [ek]
        refine br_c (fun a => ?_) (fun a => ?_)
        · refine mo_yfi (r := r) (s := s) hw hW hK hs hl hC hr' hq' (mo_y54 hK (br_c (fun b => ⟨Int64.le_antisymm b a, RR⟩) (fun _ => ⟨rfl, RR⟩)))
        · refine mo_yfi (r := r) (s := s) hw hW hK hs hl hC hr' hq' (mo_y54 hK (br_c (fun _ => ⟨rfl, RR⟩) (fun b => absurd (Int64.le_of_lt (Int64.not_le.mp b)) a)))
      · exact mo_xfi2 hop hw hW h1 (mo_yfi2 hw hW (mo_s0 hA hW (by omega) h1) ⟨rfl, R⟩)
    · by_cases h : op = 0
      · exact br_t h (br_f hn (br_f hw ⟨rfl, R⟩))
      · exact br_f h (br_f hn (br_f hw (br_f hn (br_f hw ⟨rfl, R⟩))))
theorem i_vc_open {k : Nat} {u : SX} {v : SY} (I : i_Rel k u v) (hk : k + 10 ≤ 5121) (v1 : Int32) (a1 : Int64) (a2 : Int64) (a3 : Int64) (a4 : Int64) : wpX_open (fun r u' => wpY_open (fun r' v' => r' = r ∧ i_Rel (k + 10) u' v') v v1 a1 a2 a3 a4) u v1 a1 a2 a3 a4 := by
  refine mo_el (P := fun u v => wpX_open (fun r u' => wpY_open (fun r' v' => r' = r ∧ i_Rel (k + 10) u' v') v v1 a1 a2 a3 a4) u v1 a1 a2 a3 a4) I ?_
  intro c W N K op cn sz tz ro ct ms ws wp wm ce pk hI
  have R : i_Rel (k + 10) (nI c, op, cn, nI W, sz, ro, ct, ms, ws, wp, wm) (nI c, nI W, tz, cn, ro, ct, ce, pk) := mo_in hI
  obtain ⟨hc, hW, ho, hC, hA, hB⟩ := hI
  have hrun := mo_run hA hB hW
  by_cases hx : ∃ j, j < 8 ∧ ws j = 1
  · obtain ⟨j, hj, h1⟩ := hx
    refine mo_xo1 ⟨j, hj, h1⟩ (mo_yo1 ?_ ⟨rfl, R⟩)
    rw [hrun]
    exact mo_cnt_pos W (mo_B1 hB hj h1).2.1 (decide_eq_true h1)
  · have hl : ∀ j, j < 8 → ¬ ws j = 1 := fun j hj z => hx ⟨j, hj, z⟩
    have hz : mo_cnt (fun k => !decide (ce k ≤ 0)) 24 = 0 := by
      rw [hrun]
      exact mo_cnt_z W (fun j hj => decide_eq_false (hl j (by omega)))
    by_cases h12 : v1 < 1 ∨ ¬ v1 ≤ nI c
    · exact mo_xo2 hl h12 (mo_yo2 hz h12 ⟨rfl, R⟩)
    · have h1 : ¬ v1 < 1 := fun z => h12 (Or.inl z)
      have h2 : v1 ≤ nI c := by
        by_cases g : v1 ≤ nI c
        · exact g
        · exact absurd (Or.inr g) h12
      by_cases h3 : 1 ≤ a1
      · obtain ⟨r0, g0, m0⟩ := mo_Me h3 a2
        obtain ⟨r1, g1, m1⟩ := mo_Me h3 a3
        obtain ⟨r2, g2, m2⟩ := mo_Me h3 a4
        by_cases h8 : 8 < r0 ∨ 8 < r1 ∨ 8 < r2
        · exact mo_xo4 hl h1 h2 h3 m0 m1 m2 g0 g1 g2 h8 (mo_yo4 hz h1 h2 h3 m0 m1 m2 g0 g1 g2 h8 ⟨rfl, R⟩)
        · refine mo_xo5 hl h1 h2 h3 m0 m1 m2 (by omega) (by omega) (by omega) (mo_yo5 hz h1 h2 h3 m0 m1 m2 (by omega) (by omega) (by omega) ⟨rfl, ?_⟩)
          have hv0 : ¬ v1 < 0 := fun z => h1 (Int32.lt_trans z (by decide))
          obtain ⟨V, hV31, rfl⟩ := nI_of hv0
          have hVc : V ≤ c := (nI_leI hV31 (by omega)).mp h2
          have hV1 : ¬ V < 1 := fun z => h1 (nI_lt (b := 1) z (by omega))
          refine mo_in (N := fun p => if p = 0 then r0 else if p = 1 then r1 else r2) (K := K) ⟨hc, by omega, Or.inr ⟨rfl, by omega, rfl⟩, ?_, mo_Ao V, mo_Bo V⟩
          intro p hp
          have hp3 : p = 0 ∨ p = 1 ∨ p = 2 := by omega
          rcases hp3 with rfl | rfl | rfl
          · exact ⟨by dsimp only; rw [if_pos rfl]; omega, rfl⟩
          · exact ⟨by dsimp only; rw [if_neg (by omega), if_pos rfl]; omega, rfl⟩
          · exact ⟨by dsimp only; rw [if_neg (by omega), if_neg (by omega)]; omega, rfl⟩
      · exact mo_xo3f hl h1 h2 h3 (mo_yo3 hz h1 h2 h3 ⟨rfl, R⟩)
end
