section
theorem pk_us {f : Nat → Int32} {k : Nat} {x : Int32} : upd f k x k = x := if_pos rfl
theorem pk_un {f : Nat → Int32} {k j : Nat} {x : Int32} (h : j ≠ k) : upd f k x j = f j := if_neg h
theorem pk_sub {a b : Nat} (h : b ≤ a) : nI a - nI b = nI (a - b) := by
  obtain ⟨c, rfl⟩ : ∃ c, a = c + b := ⟨a - b, by omega⟩
  rw [← nI_add, Int32.add_sub_cancel, Nat.add_sub_cancel]
theorem pk_m1 (n : Nat) : nI (n + 1) + (-1) = nI n := by
  rw [← nI_1, Int32.add_assoc, show (1 : Int32) + (-1) = 0 from rfl, Int32.add_zero]
theorem pk_mul (a b : Nat) : nI a * nI b = nI (a * b) := (Int32.ofNat_mul a b).symm
theorem pk_div {a d : Nat} (ha : a < 2 ^ 31) (h0 : 0 < d) (hd : d < 2 ^ 31) : nI a / nI d = nI (a / d) := by
  apply Int32.toInt_inj.mp
  rw [lg_idiv_nonneg (by rw [nI_toInt ha]; omega) (by rw [nI_toInt hd]; omega), nI_toInt ha, nI_toInt hd, nI_toInt (Nat.lt_of_le_of_lt (Nat.div_le_self a d) ha)]
  first | rfl | exact (Int.natCast_ediv _ _).symm
theorem pk_rem {a d : Nat} (ha : a < 2 ^ 31) (h0 : 0 < d) (hd : d < 2 ^ 31) : nI a - nI a / nI d * nI d = nI (a % d) := by
  rw [pk_div ha h0 hd, pk_mul, pk_sub (Nat.div_mul_le_self a d)]
  exact congrArg nI (by have := Nat.div_add_mod' a d; omega)
theorem pk_sub_toInt {a b : Nat} (ha : a < 2 ^ 30) (hb : b < 2 ^ 30) : (nI a - nI b).toInt = (a : Int) - b := by
  rw [Int32.toInt_sub, nI_toInt (by omega), nI_toInt (by omega)]
  exact Int.bmod_eq_of_le (by omega) (by omega)
theorem pk_sneg {a b : Nat} (hb : b < 2 ^ 30) (h : a < b) : nI a - nI b < 0 := by
  rw [Int32.lt_iff_toInt_lt, pk_sub_toInt (by omega) hb, show (0 : Int32).toInt = 0 from by decide]
  omega
theorem pk_ix (x : Int32) {n : Nat} (hn : n < 2 ^ 31) : x < 0 ∨ nI n ≤ x ∨ ∃ j : Nat, j < n ∧ x = nI j := by
  by_cases h : x < 0
  · exact Or.inl h
  · obtain ⟨j, hj, rfl⟩ := nI_of h
    by_cases h2 : j < n
    · exact Or.inr (Or.inr ⟨j, h2, rfl⟩)
    · exact Or.inr (Or.inl (nI_le (by omega) hj))
theorem pk_le {x y : Int32} {A B : Prop} (a b : Nat) (f : a ≤ b → A) (g : b < a → B) (hx : x = nI a := by rfl) (hy : y = nI b := by rfl) (ha : a < 2 ^ 31 := by omega) (hb : b < 2 ^ 31 := by omega) : (x ≤ y → A) ∧ (¬ x ≤ y → B) := by
  subst hx hy
  rw [nI_leI ha hb]
  exact ⟨f, fun z => g (by omega)⟩
theorem pk_lt {x y : Int32} {A B : Prop} (a b : Nat) (f : a < b → A) (g : b ≤ a → B) (hx : x = nI a := by rfl) (hy : y = nI b := by rfl) (ha : a < 2 ^ 31 := by omega) (hb : b < 2 ^ 31 := by omega) : (x < y → A) ∧ (¬ x < y → B) := by
  subst hx hy
  rw [nI_ltI ha hb]
  exact ⟨f, fun z => g (by omega)⟩
theorem pk_eq {x y : Int32} {A B : Prop} (a b : Nat) (f : a = b → A) (g : a ≠ b → B) (hx : x = nI a := by rfl) (hy : y = nI b := by rfl) (ha : a < 2 ^ 31 := by omega) (hb : b < 2 ^ 31 := by omega) : (x = y → A) ∧ (¬ x = y → B) := by
  subst hx hy
  rw [nI_eq ha hb]
  exact ⟨f, g⟩
theorem pk_in {x : Int32} (n N : Nat) (h : n < N) (hx : x = nI n := by rfl) (hN : N < 2 ^ 31 := by omega) : vp_in x N := by
  subst hx
  exact vp_in_nI h hN
theorem pk_cl {x : Int32} (n : Nat) (hx : x = nI n := by rfl) (h : n < 2 ^ 31 := by omega) : x.toNatClampNeg = n := by
  subst hx
  exact nI_clamp h
theorem pk_tn {n : Nat} (h : n < 2 ^ 32) : (nI n).toBitVec.toNat = n := Nat.mod_eq_of_lt h
theorem pk_and (x : Int32) {m : Int32} (k : Nat) (hm : m.toBitVec.toNat = 2 ^ k - 1) : x &&& m = nI (x.toBitVec.toNat % 2 ^ k) := by
  apply Int32.toBitVec_inj.mp
  apply BitVec.eq_of_toNat_eq
  rw [Int32.toBitVec_and, BitVec.toNat_and, hm, Nat.and_two_pow_sub_one_eq_mod]
  show _ = (BitVec.ofNat 32 _).toNat
  rw [BitVec.toNat_ofNat]
  exact (Nat.mod_eq_of_lt (Nat.lt_of_le_of_lt (Nat.mod_le _ _) x.toBitVec.isLt)).symm
theorem pk_andN {n : Nat} (h : n < 2 ^ 32) {m : Int32} (k : Nat) (hm : m.toBitVec.toNat = 2 ^ k - 1) : nI n &&& m = nI (n % 2 ^ k) := by
  rw [pk_and _ k hm, pk_tn h]
theorem pk_shl (a s : Int32) (k : Nat) (hs : (s.toBitVec.smod 32).toNat = k) : (a <<< s).toBitVec.toNat = a.toBitVec.toNat * 2 ^ k % 2 ^ 32 := by
  show (a.toBitVec <<< (s.toBitVec.smod 32).toNat).toNat = _
  rw [hs, BitVec.toNat_shiftLeft, Nat.shiftLeft_eq]
theorem pk_shlN {n : Nat} (s : Int32) (k : Nat) (hs : (s.toBitVec.smod 32).toNat = k) (h : n * 2 ^ k < 2 ^ 32) : nI n <<< s = nI (n * 2 ^ k) := by
  apply Int32.toBitVec_inj.mp
  apply BitVec.eq_of_toNat_eq
  have hn : n < 2 ^ 32 := Nat.lt_of_le_of_lt (Nat.le_mul_of_pos_right n (Nat.two_pow_pos k)) h
  rw [pk_shl _ _ k hs, pk_tn hn, pk_tn h, Nat.mod_eq_of_lt h]
theorem pk_shr (a s : Int32) (k : Nat) (hs : (s.toBitVec.smod 32).toNat = k) : (a >>> s).toInt = a.toInt >>> k := by
  show (a.toBitVec.sshiftRight (s.toBitVec.smod 32).toNat).toInt = _
  rw [hs, BitVec.toInt_sshiftRight]
  rfl
theorem pk_shrN {n : Nat} (h : n < 2 ^ 31) (s : Int32) (k : Nat) (hs : (s.toBitVec.smod 32).toNat = k) : nI n >>> s = nI (n / 2 ^ k) := by
  apply Int32.toInt_inj.mp
  have h2 : n / 2 ^ k ≤ n := Nat.div_le_self _ _
  rw [pk_shr _ _ k hs, nI_toInt h, nI_toInt (by omega), Int.shiftRight_eq_div_pow]
  rfl
theorem pk_loop {σ : Type} (W : Nat → Nat → σ → Prop) (I : Nat → σ → Prop) (e i0 : Nat) (s : σ) (hi : i0 ≤ e) (h0 : I i0 s) (hx : ∀ n s, I e s → W (n + 1) e s)
    (hs : ∀ n i s, i < e → I i s → (∀ s', I (i + 1) s' → W n (i + 1) s') → W (n + 1) i s) : ∃ n, W n i0 s :=
  ⟨e + 1, loop_i W I e hx hs (e + 1) i0 s hi (by omega) h0⟩
theorem pk_loopD {σ : Type} (W : Nat → Nat → σ → Prop) (I : Nat → σ → Prop) (hx : ∀ n s, I 0 s → W (n + 1) 0 s)
    (hs : ∀ n i s, I (i + 1) s → (∀ s', I i s' → W n i s') → W (n + 1) (i + 1) s) : ∀ (e : Nat) (s : σ), I e s → W (e + 1) e s := by
  intro e
  induction e with
  | zero => exact fun s h => hx 0 s h
  | succ e ih => exact fun s h => hs (e + 1) e s h (fun s' h' => ih s' h')
theorem pk_least (P : Nat → Prop) (h : ∃ k, P k) : ∃ k, P k ∧ ∀ j, j < k → ¬ P j := by
  obtain ⟨k, hk⟩ := h
  induction k using Nat.strongRecOn with
  | ind k ih =>
    by_cases e : ∃ j, j < k ∧ P j
    · obtain ⟨j, hj, pj⟩ := e
      exact ih j hj pj
    · exact ⟨k, hk, fun j hj pj => e ⟨j, hj, pj⟩⟩
def bt (x : Int32) (i : Nat) : Bool := x.toBitVec.getLsbD i
theorem b_ext {x y : Int32} (h : ∀ i, i < 32 → bt x i = bt y i) : x = y := Int32.toBitVec_inj.mp (BitVec.eq_of_getLsbD_eq (fun i hi => h i hi))
theorem b_or (x y : Int32) (i : Nat) : bt (x ||| y) i = (bt x i || bt y i) := by unfold bt; rw [Int32.toBitVec_or, BitVec.getLsbD_or]
theorem b_and (x y : Int32) (i : Nat) : bt (x &&& y) i = (bt x i && bt y i) := by unfold bt; rw [Int32.toBitVec_and, BitVec.getLsbD_and]
theorem b_big {x : Int32} {i : Nat} (h : 32 ≤ i) : bt x i = false := BitVec.getLsbD_of_ge _ _ h
theorem b_0 (i : Nat) : bt 0 i = false := BitVec.getLsbD_zero
theorem s_l : ∀ n, n < 32 → ((nI n &&& 31).toBitVec.smod 32).toNat = n := by decide +kernel
theorem b_shl (n : Nat) (hn : n < 32) (x : Int32) {i : Nat} (hi : i < 32) : bt (x <<< (nI n &&& 31)) i = (decide (n ≤ i) && bt x (i - n)) := by
  unfold bt
  rw [Int32.toBitVec_shiftLeft]
  show (x.toBitVec <<< ((nI n &&& 31).toBitVec.smod 32).toNat).getLsbD i = _
  rw [s_l n hn, BitVec.getLsbD_shiftLeft]
  rcases Nat.lt_or_ge i n with h | h
  · simp [h, Nat.not_le.mpr h]
  · simp [hi, h, Nat.not_lt.mpr h]
theorem b_sshr (n : Nat) (hn : n < 32) (x : Int32) {i : Nat} (hi : i < 32) : bt (x >>> (nI n &&& 31)) i = if n + i < 32 then bt x (n + i) else bt x 31 := by
  unfold bt
  rw [Int32.toBitVec_shiftRight]
  show (x.toBitVec.sshiftRight ((nI n &&& 31).toBitVec.smod 32).toNat).getLsbD i = _
  rw [s_l n hn, BitVec.getLsbD_sshiftRight, BitVec.msb_eq_getLsbD_last]
  simp [hi]
end
section
/-! the component's state as two functions: F (fields by number), A (arrays by number) -/
def tw_s {α : Type} (f : Nat → α) (k : Nat) (x : α) : Nat → α := fun i => match Nat.beq i k with | true => x | false => f i
theorem tw_ss {α : Type} {f : Nat → α} {k : Nat} {x : α} : tw_s f k x k = x := by unfold tw_s; rw [Nat.beq_refl]
theorem tw_sn {α : Type} {f : Nat → α} {k j : Nat} {x : α} (h : j ≠ k) : tw_s f k x j = f j := by
  unfold tw_s
  cases e : Nat.beq j k with
  | true => exact absurd (Nat.eq_of_beq_eq_true e) h
  | false => rfl
theorem tw_se {α : Type} {f : Nat → α} {k j : Nat} {x : α} (h : j = k) : tw_s f k x j = x := by rw [h]; exact tw_ss
theorem tw_si {α : Type} (f : Nat → α) (k j : Nat) (x : α) : tw_s f k x j = if j = k then x else f j := by
  by_cases h : j = k
  · rw [if_pos h, tw_se h]
  · rw [if_neg h, tw_sn h]
abbrev tw_t (F : Nat → Int32) (A : Nat → Nat → Int32) : SX := (F 0, F 1, F 2, F 3, F 4, F 5, F 6, F 7, F 8, F 9, F 10, F 11, F 12, F 13, F 14, F 15, F 16, F 17, F 18, F 19, F 20, F 21, F 22, F 23, F 24, F 25, F 26, F 27, F 28, F 29, F 30, F 31, F 32, A 0, A 1, A 2, A 3, A 4, A 5, A 6, A 7, A 8, A 9, A 10, A 11, A 12, A 13, A 14, A 15, A 16, A 17, A 18, A 19, A 20, A 21, A 22, A 23, A 24, A 25, A 26, A 27, A 28, A 29, A 30, A 31, A 32, A 33, A 34, A 35, A 36, A 37, A 38, A 39, A 40, A 41)
abbrev tw_y (G : Nat → Int32) (B : Nat → Nat → Int32) : SY := (G 0, G 1, G 2, G 3, G 4, G 5, G 6, G 7, B 0, B 1, B 2, B 3, B 4, B 5, B 6, B 7, B 8, B 9)
theorem tw_ue {f : Nat → Int32} {k j : Nat} {x : Int32} (h : j = k) : upd f k x j = x := by rw [h]; exact pk_us
theorem tw_ui (f : Nat → Int32) (k j : Nat) (x : Int32) : upd f k x j = if j = k then x else f j := rfl
theorem tw_usame (f : Nat → Int32) (k : Nat) : upd f k (f k) = f := by
  funext j
  by_cases h : j = k
  · rw [tw_ue h, h]
  · exact pk_un h
theorem tw_m12 (f o : Nat) : nI f * 12 + nI o = nI (12 * f + o) := by
  rw [show (12 : Int32) = nI 12 from rfl, pk_mul, nI_add, Nat.mul_comm]
theorem tw_m12' (f : Nat) : nI f * 12 = nI (12 * f) := by
  rw [show (12 : Int32) = nI 12 from rfl, pk_mul, Nat.mul_comm]
theorem tw_m8 (f : Nat) : nI f * 8 = nI (8 * f) := by
  rw [show (8 : Int32) = nI 8 from rfl, pk_mul, Nat.mul_comm]
theorem tw_m4 (f : Nat) : nI f * 4 = nI (4 * f) := by
  rw [show (4 : Int32) = nI 4 from rfl, pk_mul, Nat.mul_comm]
theorem tw_m512 (f : Nat) : nI f * 512 = nI (512 * f) := by
  rw [show (512 : Int32) = nI 512 from rfl, pk_mul, Nat.mul_comm]
theorem tw_m256 (f : Nat) : nI f * 256 = nI (256 * f) := by
  rw [show (256 : Int32) = nI 256 from rfl, pk_mul, Nat.mul_comm]
theorem tw_m1024 (f : Nat) : nI f * 1024 = nI (1024 * f) := by
  rw [show (1024 : Int32) = nI 1024 from rfl, pk_mul, Nat.mul_comm]
theorem tw_m64 (f : Nat) : nI f * 64 = nI (64 * f) := by
  rw [show (64 : Int32) = nI 64 from rfl, pk_mul, Nat.mul_comm]
theorem tw_p1 (a : Nat) : nI a + 1 = nI (a + 1) := nI_1 a
theorem tw_p2 (a : Nat) : nI a + 2 = nI (a + 2) := nI_add a 2
theorem tw_p3 (a : Nat) : nI a + 3 = nI (a + 3) := nI_add a 3
theorem tw_p4 (a : Nat) : nI a + 4 = nI (a + 4) := nI_add a 4
theorem tw_p8 (a : Nat) : nI a + 8 = nI (a + 8) := nI_add a 8
theorem tw_p12 (a : Nat) : nI a + 12 = nI (a + 12) := nI_add a 12
theorem tw_d1 {a : Nat} (h : 0 < a) : nI a - 1 = nI (a - 1) := pk_sub (b := 1) h
theorem tw_d2 {a : Nat} (h : 2 ≤ a) : nI a - 2 = nI (a - 2) := pk_sub (b := 2) h
theorem tw_ne {a b : Nat} (ha : a < 2 ^ 31) (hb : b < 2 ^ 31) (h : a ≠ b) : ¬ nI a = nI b := fun z => h ((nI_eq ha hb).mp z)
/-- an index of the form 'e', within -/
theorem tw_in {x : Int32} {n N : Nat} (e : x = nI n) (h : n < N) (hN : N < 2 ^ 31) : vp_in x N := by rw [e]; exact vp_in_nI h hN
theorem tw_cl {x : Int32} {n : Nat} (e : x = nI n) (h : n < 2 ^ 31) : x.toNatClampNeg = n := by rw [e]; exact nI_clamp h
theorem tw_ni {x y : Int32} {a b : Nat} (hx : x = nI a) (hy : y = nI b) (e : x = y) (ha : a < 2 ^ 31) (hb : b < 2 ^ 31) : a = b := (nI_eq ha hb).mp (by rw [← hx, ← hy, e])
theorem tw_uu (f : Nat → Int32) (k : Nat) (x y : Int32) : upd (upd f k x) k y = upd f k y := by
  funext j
  by_cases h : j = k
  · rw [tw_ue h, tw_ue h]
  · rw [pk_un h, pk_un h, pk_un h]
end
section
/-! the plain machine: a program PR and a state m, both sides' common picture -/
abbrev pp_P : Type := Nat × Nat × Nat × (Nat → Int32) × (Nat → Int32) × (Nat → Int32) × (Nat → Nat) × (Nat → Nat)
abbrev pp_nc (P : pp_P) : Nat := P.1
abbrev pp_nf (P : pp_P) : Nat := P.2.1
abbrev pp_mx (P : pp_P) : Nat := P.2.2.1
abbrev pp_op (P : pp_P) : Nat → Int32 := P.2.2.2.1
abbrev pp_ar (P : pp_P) : Nat → Int32 := P.2.2.2.2.1
abbrev pp_ow (P : pp_P) : Nat → Int32 := P.2.2.2.2.2.1
abbrev pp_fs (P : pp_P) : Nat → Nat := P.2.2.2.2.2.2.1
abbrev pp_fa (P : pp_P) : Nat → Nat := P.2.2.2.2.2.2.2
def pp_an (P : pp_P) (p : Nat) : Nat := (pp_ar P p).toNatClampNeg
/-- the end of function f -/
def pp_fe (P : pp_P) (f : Nat) : Nat := if f + 1 < pp_nf P then pp_fs P (f + 1) else pp_nc P
def pp_cell (P : pp_P) (p : Nat) : Prop :=
  (∃ k, k ≤ 14 ∧ pp_op P p = nI k)
  ∧ ((pp_op P p = 1 ∨ pp_op P p = 2) → pp_an P p < 4)
  ∧ ((pp_op P p = 3 ∨ pp_op P p = 4) → pp_an P p < 8)
  ∧ ((pp_op P p = 10 ∨ pp_op P p = 11) → pp_an P p < pp_nc P)
  ∧ (pp_op P p = 12 → pp_an P p < pp_nf P)
  ∧ (¬ (pp_op P p = 0 ∨ (5 ≤ pp_op P p ∧ pp_op P p ≤ 9) ∨ 13 ≤ pp_op P p) → pp_ar P p = nI (pp_an P p))
  ∧ (¬ pp_op P p = 10 → ¬ pp_op P p = 13 → p + 1 < pp_nc P)
  ∧ (∃ f, f < pp_nf P ∧ pp_ow P p = nI f ∧ pp_fs P f ≤ p ∧ p < pp_fe P f ∧ ∀ f', f' < pp_nf P → pp_fs P f' ≤ p → p < pp_fe P f' → f' = f)
def pp_ok (P : pp_P) : Prop :=
  pp_nc P ≤ 64 ∧ pp_nf P ≤ 8 ∧ 1 ≤ pp_mx P ∧ pp_mx P ≤ 8 ∧ (∀ p, p < pp_nc P → pp_cell P p)
  ∧ (∀ f, f < pp_nf P → pp_fs P f < pp_nc P ∧ pp_fa P f ≤ 4 ∧ pp_ow P (pp_fs P f) = nI f ∧ (∀ p, p < pp_fs P f → ¬ pp_ow P p = nI f) ∧ pp_fs P f < pp_fe P f ∧ pp_fe P f ≤ pp_nc P)
abbrev mm_S : Type := Nat × (Nat → Nat) × (Nat → Nat) × (Nat → Int32) × (Nat → Int32) × (Nat → Int32) × Nat × Nat × Int32 × Nat
abbrev mm_d (m : mm_S) : Nat := m.1
abbrev mm_p (m : mm_S) : Nat → Nat := m.2.1
abbrev mm_h (m : mm_S) : Nat → Nat := m.2.2.1
abbrev mm_s (m : mm_S) : Nat → Int32 := m.2.2.2.1
abbrev mm_g (m : mm_S) : Nat → Int32 := m.2.2.2.2.1
abbrev mm_o (m : mm_S) : Nat → Int32 := m.2.2.2.2.2.1
abbrev mm_n (m : mm_S) : Nat := m.2.2.2.2.2.2.1
abbrev mm_a (m : mm_S) : Nat := m.2.2.2.2.2.2.2.1
abbrev mm_r (m : mm_S) : Int32 := m.2.2.2.2.2.2.2.2.1
abbrev mm_f (m : mm_S) : Nat := m.2.2.2.2.2.2.2.2.2
abbrev mm_t (m : mm_S) : Nat := mm_d m - 1
abbrev mm_pc (m : mm_S) : Nat := mm_p m (mm_d m - 1)
abbrev mm_ht (m : mm_S) : Nat := mm_h m (mm_d m - 1)
/-- the value on top of the innermost frame's stack, and the one below -/
abbrev mm_top (m : mm_S) : Int32 := mm_s m (12 * (mm_d m - 1) + 3 + mm_ht m)
abbrev mm_nxt (m : mm_S) : Int32 := mm_s m (12 * (mm_d m - 1) + 2 + mm_ht m)
def mm_ari (op x y : Int32) : Int32 := if op = 5 then x + y else if op = 6 then x - y else if op = 7 then x * y else if op = 8 then x / y else if y ≤ x then 0 else 1
/-- innermost frame: next pc q, height h, slots S; globals G, outs O, n -/
def mm_fr (m : mm_S) (q h : Nat) (S G O : Nat → Int32) (n f : Nat) : mm_S :=
  (mm_d m, tw_s (mm_p m) (mm_d m - 1) q, tw_s (mm_h m) (mm_d m - 1) h, S, G, O, n, mm_a m, mm_r m, f)
def mm_push (m : mm_S) (v : Int32) : mm_S :=
  mm_fr m (mm_pc m + 1) (mm_ht m + 1) (upd (mm_s m) (12 * (mm_d m - 1) + 4 + mm_ht m) v) (mm_g m) (mm_o m) (mm_n m) (mm_f m)
def mm_cost (P : pp_P) (p : Nat) : Prop := pp_op P p = 12 ∨ pp_op P p = 13 ∨ ((pp_op P p = 10 ∨ pp_op P p = 11) ∧ pp_an P p ≤ p)
/-- the fuel behind a jump at p -/
def mm_jf (P : pp_P) (p f : Nat) : Nat := if pp_an P p ≤ p then f - 1 else f
/-- the callee's frame -/
def mm_call (P : pp_P) (m : mm_S) : mm_S :=
  (mm_d m + 1, tw_s (tw_s (mm_p m) (mm_d m - 1) (mm_pc m + 1)) (mm_d m) (pp_fs P (pp_an P (mm_pc m))),
   tw_s (tw_s (mm_h m) (mm_d m - 1) (mm_ht m - pp_fa P (pp_an P (mm_pc m)))) (mm_d m) 0,
   (fun j => if j = 12 * mm_d m then (if 0 < pp_fa P (pp_an P (mm_pc m)) then mm_s m (12 * (mm_d m - 1) + 4 + (mm_ht m - pp_fa P (pp_an P (mm_pc m)))) else 0)
     else if j = 12 * mm_d m + 1 then (if 1 < pp_fa P (pp_an P (mm_pc m)) then mm_s m (12 * (mm_d m - 1) + 5 + (mm_ht m - pp_fa P (pp_an P (mm_pc m)))) else 0)
     else if j = 12 * mm_d m + 2 then (if 2 < pp_fa P (pp_an P (mm_pc m)) then mm_s m (12 * (mm_d m - 1) + 6 + (mm_ht m - pp_fa P (pp_an P (mm_pc m)))) else 0)
     else if j = 12 * mm_d m + 3 then (if 3 < pp_fa P (pp_an P (mm_pc m)) then mm_s m (12 * (mm_d m - 1) + 7 + (mm_ht m - pp_fa P (pp_an P (mm_pc m)))) else 0)
     else mm_s m j),
   mm_g m, mm_o m, mm_n m, mm_a m, mm_r m, mm_f m - 1)
def mm_ret (m : mm_S) : mm_S :=
  (mm_d m - 1, mm_p m, tw_s (mm_h m) (mm_d m - 2) (mm_h m (mm_d m - 2) + 1),
   upd (mm_s m) (12 * (mm_d m - 2) + 4 + mm_h m (mm_d m - 2)) (mm_top m), mm_g m, mm_o m, mm_n m, mm_a m, mm_r m, mm_f m - 1)
def mm_done (m : mm_S) : mm_S :=
  (0, mm_p m, mm_h m, mm_s m, mm_g m, mm_o m, mm_n m, 2, mm_top m, mm_f m - 1)
def mm_trap (m : mm_S) (c f : Nat) : mm_S :=
  (mm_d m, mm_p m, mm_h m, mm_s m, mm_g m, mm_o m, mm_n m, c, mm_r m, f)
/-- the trap's code -/
def mm_isT (P : pp_P) (m : mm_S) (c : Nat) : Prop :=
  ((pp_op P (mm_pc m) = 0 ∨ pp_op P (mm_pc m) = 1 ∨ pp_op P (mm_pc m) = 3) ∧ mm_ht m = 8 ∧ c = 4)
  ∨ ((pp_op P (mm_pc m) = 2 ∨ pp_op P (mm_pc m) = 4 ∨ pp_op P (mm_pc m) = 11 ∨ pp_op P (mm_pc m) = 13 ∨ pp_op P (mm_pc m) = 14) ∧ mm_ht m = 0 ∧ c = 3)
  ∨ ((∃ k, 5 ≤ k ∧ k ≤ 9 ∧ pp_op P (mm_pc m) = nI k) ∧ mm_ht m < 2 ∧ c = 3)
  ∨ (pp_op P (mm_pc m) = 8 ∧ 2 ≤ mm_ht m ∧ mm_top m = 0 ∧ c = 6)
  ∨ (pp_op P (mm_pc m) = 14 ∧ 0 < mm_ht m ∧ mm_n m = 32 ∧ c = 7)
  ∨ (pp_op P (mm_pc m) = 12 ∧ mm_ht m < pp_fa P (pp_an P (mm_pc m)) ∧ c = 3)
  ∨ (pp_op P (mm_pc m) = 12 ∧ pp_fa P (pp_an P (mm_pc m)) = 0 ∧ mm_ht m = 8 ∧ c = 4)
  ∨ (pp_op P (mm_pc m) = 12 ∧ pp_fa P (pp_an P (mm_pc m)) ≤ mm_ht m ∧ (pp_fa P (pp_an P (mm_pc m)) = 0 → ¬ mm_ht m = 8) ∧ mm_d m = pp_mx P ∧ c = 5)
/-- one step -/
def mm_St (P : pp_P) (m m' : mm_S) : Prop := mm_a m = 1 ∧ (
  (pp_op P (mm_pc m) = 0 ∧ mm_ht m < 8 ∧ m' = mm_push m (pp_ar P (mm_pc m)))
  ∨ (pp_op P (mm_pc m) = 1 ∧ mm_ht m < 8 ∧ m' = mm_push m (mm_s m (12 * (mm_d m - 1) + pp_an P (mm_pc m))))
  ∨ (pp_op P (mm_pc m) = 3 ∧ mm_ht m < 8 ∧ m' = mm_push m (mm_g m (pp_an P (mm_pc m))))
  ∨ (pp_op P (mm_pc m) = 2 ∧ 0 < mm_ht m ∧ m' = mm_fr m (mm_pc m + 1) (mm_ht m - 1) (upd (mm_s m) (12 * (mm_d m - 1) + pp_an P (mm_pc m)) (mm_top m)) (mm_g m) (mm_o m) (mm_n m) (mm_f m))
  ∨ (pp_op P (mm_pc m) = 4 ∧ 0 < mm_ht m ∧ m' = mm_fr m (mm_pc m + 1) (mm_ht m - 1) (mm_s m) (upd (mm_g m) (pp_an P (mm_pc m)) (mm_top m)) (mm_o m) (mm_n m) (mm_f m))
  ∨ (pp_op P (mm_pc m) = 14 ∧ 0 < mm_ht m ∧ mm_n m < 32 ∧ m' = mm_fr m (mm_pc m + 1) (mm_ht m - 1) (mm_s m) (mm_g m) (upd (mm_o m) (mm_n m) (mm_top m)) (mm_n m + 1) (mm_f m))
  ∨ ((∃ k, 5 ≤ k ∧ k ≤ 9 ∧ pp_op P (mm_pc m) = nI k) ∧ 2 ≤ mm_ht m ∧ (pp_op P (mm_pc m) = 8 → ¬ mm_top m = 0) ∧ m' = mm_fr m (mm_pc m + 1) (mm_ht m - 1) (upd (mm_s m) (12 * (mm_d m - 1) + 2 + mm_ht m) (mm_ari (pp_op P (mm_pc m)) (mm_nxt m) (mm_top m))) (mm_g m) (mm_o m) (mm_n m) (mm_f m))
  ∨ (pp_op P (mm_pc m) = 10 ∧ (pp_an P (mm_pc m) ≤ mm_pc m → 0 < mm_f m) ∧ m' = mm_fr m (pp_an P (mm_pc m)) (mm_ht m) (mm_s m) (mm_g m) (mm_o m) (mm_n m) (mm_jf P (mm_pc m) (mm_f m)))
  ∨ (pp_op P (mm_pc m) = 11 ∧ 0 < mm_ht m ∧ (pp_an P (mm_pc m) ≤ mm_pc m → 0 < mm_f m) ∧ m' = mm_fr m (if mm_top m = 0 then pp_an P (mm_pc m) else mm_pc m + 1) (mm_ht m - 1) (mm_s m) (mm_g m) (mm_o m) (mm_n m) (mm_jf P (mm_pc m) (mm_f m)))
  ∨ (pp_op P (mm_pc m) = 12 ∧ 0 < mm_f m ∧ pp_fa P (pp_an P (mm_pc m)) ≤ mm_ht m ∧ (pp_fa P (pp_an P (mm_pc m)) = 0 → ¬ mm_ht m = 8) ∧ mm_d m < pp_mx P ∧ m' = mm_call P m)
  ∨ (pp_op P (mm_pc m) = 13 ∧ 0 < mm_f m ∧ 0 < mm_ht m ∧ 2 ≤ mm_d m ∧ m' = mm_ret m)
  ∨ (pp_op P (mm_pc m) = 13 ∧ 0 < mm_f m ∧ 0 < mm_ht m ∧ mm_d m = 1 ∧ m' = mm_done m)
  ∨ (∃ c, mm_isT P m c ∧ (mm_cost P (mm_pc m) → 0 < mm_f m) ∧ ((mm_cost P (mm_pc m) ∧ m' = mm_trap m c (mm_f m - 1)) ∨ (¬ mm_cost P (mm_pc m) ∧ m' = mm_trap m c (mm_f m)))))
/-- it stops here: no longer active, or a charge that can't be met -/
def mm_stop (P : pp_P) (m : mm_S) : Prop := ¬ mm_a m = 1 ∨ (mm_cost P (mm_pc m) ∧ mm_f m = 0)
def mm_W (P : pp_P) (m : mm_S) : Prop :=
  mm_d m ≤ pp_mx P ∧ (mm_a m = 1 → 1 ≤ mm_d m) ∧ (∀ i, i < mm_d m → mm_p m i < pp_nc P ∧ mm_h m i ≤ 8) ∧ (∀ i, i + 1 < mm_d m → mm_h m i ≤ 7) ∧ mm_n m ≤ 32 ∧ mm_f m ≤ 64 ∧ mm_a m ≤ 7
/-- n steps -/
def mm_Sn (P : pp_P) : Nat → mm_S → mm_S → Prop
  | 0, m, m' => m = m'
  | n + 1, m, m' => ∃ m1, mm_St P m m1 ∧ mm_Sn P n m1 m'
def mm_Ss (P : pp_P) (m m' : mm_S) : Prop := ∃ n, mm_Sn P n m m'
theorem mm_Ss0 {P : pp_P} {m : mm_S} : mm_Ss P m m := ⟨0, rfl⟩
theorem mm_Ss1 {P : pp_P} {m m' : mm_S} (h : mm_St P m m') : mm_Ss P m m' := ⟨1, m', h, rfl⟩
theorem mm_SnT {P : pp_P} : ∀ (n : Nat) {m m1 m2 : mm_S} {k : Nat}, mm_Sn P n m m1 → mm_Sn P k m1 m2 → mm_Sn P (n + k) m m2
  | 0, m, m1, m2, k, h, g => by rw [Nat.zero_add]; exact (show m = m1 from h) ▸ g
  | n + 1, m, m1, m2, k, h, g => by
    obtain ⟨x, hx, hr⟩ := h
    rw [Nat.add_right_comm]
    exact ⟨x, hx, mm_SnT n hr g⟩
theorem mm_SsT {P : pp_P} {m m1 m2 : mm_S} (h : mm_Ss P m m1) (g : mm_Ss P m1 m2) : mm_Ss P m m2 := by
  obtain ⟨a, h⟩ := h
  obtain ⟨b, g⟩ := g
  exact ⟨a + b, mm_SnT a h g⟩
/-- what is left to do, at most -/
def mm_pot (m : mm_S) : Nat := if mm_a m = 1 then 64 * mm_f m + (64 - mm_pc m) else 0
end
section
/-! the plain machine: every step keeps mm_W and lowers mm_pot -/
theorem mm_Wfr {P : pp_P} {m : mm_S} {q h n f : Nat} {S G O : Nat → Int32} (hW : mm_W P m) (hq : q < pp_nc P) (hh : h ≤ 8) (hn : n ≤ 32) (hf : f ≤ 64) : mm_W P (mm_fr m q h S G O n f) := by
  obtain ⟨w1, w2, w3, w4, w5, w6, w7⟩ := hW
  refine ⟨w1, w2, ?_, ?_, hn, hf, w7⟩
  · intro i hi
    have hi' : i < mm_d m := hi
    show tw_s (mm_p m) (mm_d m - 1) q i < pp_nc P ∧ tw_s (mm_h m) (mm_d m - 1) h i ≤ 8
    by_cases e : i = mm_d m - 1
    · rw [tw_se e, tw_se e]; exact ⟨hq, hh⟩
    · rw [tw_sn e, tw_sn e]; exact w3 i hi'
  · intro i hi
    have hi' : i + 1 < mm_d m := hi
    show tw_s (mm_h m) (mm_d m - 1) h i ≤ 7
    rw [tw_sn (by omega)]
    exact w4 i hi'
theorem mm_potA {m : mm_S} (h : mm_a m = 1) : mm_pot m = 64 * mm_f m + (64 - mm_pc m) := if_pos h
theorem mm_potFr {m : mm_S} {q h n f : Nat} {S G O : Nat → Int32} (ha : mm_a m = 1) : mm_pot (mm_fr m q h S G O n f) = 64 * f + (64 - q) := by
  rw [mm_potA (show mm_a (mm_fr m q h S G O n f) = 1 from ha)]
  show 64 * f + (64 - tw_s (mm_p m) (mm_d m - 1) q (mm_d m - 1)) = _
  rw [tw_ss]
theorem mm_Wst {P : pp_P} {m m' : mm_S} (hP : pp_ok P) (hW : mm_W P m) (hS : mm_St P m m') : mm_W P m' ∧ mm_pot m' < mm_pot m := by
  obtain ⟨ha, hS⟩ := hS
  obtain ⟨p1, p2, p3, p4, p5, p6⟩ := hP
  have hW' := hW
  obtain ⟨w1, w2, w3, w4, w5, w6, w7⟩ := hW'
  have hd := w2 ha
  obtain ⟨hpc, hht⟩ : mm_pc m < pp_nc P ∧ mm_ht m ≤ 8 := w3 (mm_d m - 1) (by omega)
  obtain ⟨c1, c2, c3, c4, c5, c6, c7, c8⟩ := p5 _ hpc
  rw [mm_potA ha]
  have nx : ∀ k : Int32, pp_op P (mm_pc m) = k → ¬ k = 10 → ¬ k = 13 → mm_pc m + 1 < pp_nc P := fun k e a b => c7 (by rw [e]; exact a) (by rw [e]; exact b)
  have jf : ∀ f : Nat, mm_jf P (mm_pc m) f ≤ f := by intro f; unfold mm_jf; split <;> omega
  rcases hS with ⟨o, h, rfl⟩ | ⟨o, h, rfl⟩ | ⟨o, h, rfl⟩ | ⟨o, h, rfl⟩ | ⟨o, h, rfl⟩ | ⟨o, h, h2, rfl⟩ | ⟨⟨k, k1, k2, o⟩, h, h2, rfl⟩ | ⟨o, h, rfl⟩ | ⟨o, h, h2, rfl⟩ | ⟨o, h, h2, h3, h4, rfl⟩ | ⟨o, h, h2, h3, rfl⟩ | ⟨o, h, h2, h3, rfl⟩ | ⟨c, hc, h, h2⟩
  · have q := nx _ o (by decide) (by decide)
    refine ⟨mm_Wfr hW q (by omega) w5 w6, ?_⟩
    unfold mm_push
    rw [mm_potFr ha]; omega
  · have q := nx _ o (by decide) (by decide)
    refine ⟨mm_Wfr hW q (by omega) w5 w6, ?_⟩
    unfold mm_push
    rw [mm_potFr ha]; omega
  · have q := nx _ o (by decide) (by decide)
    refine ⟨mm_Wfr hW q (by omega) w5 w6, ?_⟩
    unfold mm_push
    rw [mm_potFr ha]; omega
  · have q := nx _ o (by decide) (by decide)
    refine ⟨mm_Wfr hW q (by omega) w5 w6, ?_⟩
    rw [mm_potFr ha]; omega
  · have q := nx _ o (by decide) (by decide)
    refine ⟨mm_Wfr hW q (by omega) w5 w6, ?_⟩
    rw [mm_potFr ha]; omega
  · have q := nx _ o (by decide) (by decide)
    refine ⟨mm_Wfr hW q (by omega) (by omega) w6, ?_⟩
    rw [mm_potFr ha]; omega
  · have q := nx _ o (fun z => by have := (nI_eq (a := k) (b := 10) (by omega) (by omega)).mp z; omega) (fun z => by have := (nI_eq (a := k) (b := 13) (by omega) (by omega)).mp z; omega)
    refine ⟨mm_Wfr hW q (by omega) w5 w6, ?_⟩
    rw [mm_potFr ha]; omega
  · have q := c4 (Or.inl o)
    refine ⟨mm_Wfr hW q (by omega) w5 (Nat.le_trans (jf _) w6), ?_⟩
    rw [mm_potFr ha]
    unfold mm_jf
    by_cases e : pp_an P (mm_pc m) ≤ mm_pc m
    · rw [if_pos e]; have := h e; omega
    · rw [if_neg e]; omega
  · have q := c4 (Or.inr o)
    have q2 := nx _ o (by decide) (by decide)
    have q3 : (if mm_top m = 0 then pp_an P (mm_pc m) else mm_pc m + 1) < pp_nc P := by split <;> assumption
    refine ⟨mm_Wfr hW q3 (by omega) w5 (Nat.le_trans (jf _) w6), ?_⟩
    rw [mm_potFr ha]
    unfold mm_jf
    by_cases e : pp_an P (mm_pc m) ≤ mm_pc m
    · rw [if_pos e]; have := h2 e; split <;> omega
    · rw [if_neg e]; split <;> omega
  · have q := c5 o
    obtain ⟨f1, f2, f3, f4, f5, f6⟩ := p6 _ q
    have q2 := nx _ o (by decide) (by decide)
    refine ⟨⟨?_, fun _ => ?_, ?_, ?_, w5, ?_, w7⟩, ?_⟩
    · show mm_d m + 1 ≤ _; omega
    · show 1 ≤ mm_d m + 1; omega
    · intro i hi
      have hi' : i < mm_d m + 1 := hi
      show tw_s (tw_s (mm_p m) (mm_d m - 1) (mm_pc m + 1)) (mm_d m) (pp_fs P (pp_an P (mm_pc m))) i < _ ∧ tw_s (tw_s (mm_h m) (mm_d m - 1) (mm_ht m - pp_fa P (pp_an P (mm_pc m)))) (mm_d m) 0 i ≤ 8
      by_cases e : i = mm_d m
      · rw [tw_se e, tw_se e]; exact ⟨f1, by omega⟩
      · rw [tw_sn e, tw_sn e]
        by_cases e2 : i = mm_d m - 1
        · rw [tw_se e2, tw_se e2]; exact ⟨q2, by omega⟩
        · rw [tw_sn e2, tw_sn e2]; exact w3 i (by omega)
    · intro i hi
      have hi' : i + 1 < mm_d m + 1 := hi
      show tw_s (tw_s (mm_h m) (mm_d m - 1) (mm_ht m - pp_fa P (pp_an P (mm_pc m)))) (mm_d m) 0 i ≤ 7
      rw [tw_sn (by omega)]
      by_cases e2 : i = mm_d m - 1
      · rw [tw_se e2]
        by_cases z : pp_fa P (pp_an P (mm_pc m)) = 0
        · have := h3 z; omega
        · omega
      · rw [tw_sn e2]; exact w4 i (by omega)
    · show mm_f m - 1 ≤ 64; omega
    · rw [mm_potA (show mm_a (mm_call P m) = 1 from ha)]
      show 64 * (mm_f m - 1) + (64 - _) < _
      omega
  · refine ⟨⟨?_, fun _ => ?_, ?_, ?_, w5, ?_, w7⟩, ?_⟩
    · show mm_d m - 1 ≤ _; omega
    · show 1 ≤ mm_d m - 1; omega
    · intro i hi
      have hi' : i < mm_d m - 1 := hi
      show mm_p m i < _ ∧ tw_s (mm_h m) (mm_d m - 2) (mm_h m (mm_d m - 2) + 1) i ≤ 8
      by_cases e : i = mm_d m - 2
      · rw [tw_se e]; exact ⟨(w3 i (by omega)).1, by have := w4 (mm_d m - 2) (by omega); omega⟩
      · rw [tw_sn e]; exact w3 i (by omega)
    · intro i hi
      have hi' : i + 1 < mm_d m - 1 := hi
      show tw_s (mm_h m) (mm_d m - 2) (mm_h m (mm_d m - 2) + 1) i ≤ 7
      rw [tw_sn (by omega)]; exact w4 i (by omega)
    · show mm_f m - 1 ≤ 64; omega
    · rw [mm_potA (show mm_a (mm_ret m) = 1 from ha)]
      show 64 * (mm_f m - 1) + (64 - _) < _
      omega
  · refine ⟨⟨?_, fun z => ?_, ?_, ?_, w5, ?_, ?_⟩, ?_⟩
    · show 0 ≤ _; omega
    · exact absurd (show (2 : Nat) = 1 from z) (by decide)
    · intro i hi; exact absurd (show i < 0 from hi) (by omega)
    · intro i hi; exact absurd (show i + 1 < 0 from hi) (by omega)
    · show mm_f m - 1 ≤ 64; omega
    · show 2 ≤ 7; omega
    · show mm_pot (mm_done m) < _
      unfold mm_pot
      rw [if_neg (show ¬ mm_a (mm_done m) = 1 from by show ¬ (2 : Nat) = 1; decide)]
      omega
  · have c7 : c ≤ 7 ∧ ¬ c = 1 := by
      rcases hc with ⟨_, _, r⟩ | ⟨_, _, r⟩ | ⟨_, _, r⟩ | ⟨_, _, _, r⟩ | ⟨_, _, _, r⟩ | ⟨_, _, r⟩ | ⟨_, _, _, r⟩ | ⟨_, _, _, _, r⟩ <;> omega
    have gen : ∀ f, f ≤ 64 → mm_W P (mm_trap m c f) ∧ mm_pot (mm_trap m c f) < 64 * mm_f m + (64 - mm_pc m) := by
      intro f hf
      refine ⟨⟨w1, fun z => absurd (show c = 1 from z) c7.2, w3, w4, w5, hf, c7.1⟩, ?_⟩
      unfold mm_pot
      rw [if_neg (show ¬ mm_a (mm_trap m c f) = 1 from c7.2)]
      omega
    rcases h2 with ⟨_, rfl⟩ | ⟨_, rfl⟩
    · exact gen _ (by omega)
    · exact gen _ w6
theorem mm_WSs {P : pp_P} (hP : pp_ok P) : ∀ (n : Nat) {m m' : mm_S}, mm_W P m → mm_Sn P n m m' → mm_W P m' ∧ mm_pot m' + n ≤ mm_pot m
  | 0, m, m', hW, h => by
    have e : m = m' := h
    subst e
    exact ⟨hW, Nat.le_refl _⟩
  | n + 1, m, m', hW, h => by
    obtain ⟨x, hx, hr⟩ := h
    obtain ⟨a, b⟩ := mm_Wst hP hW hx
    obtain ⟨c, d⟩ := mm_WSs hP n a hr
    exact ⟨c, by omega⟩
/-- no trap here -/
def mm_nT (P : pp_P) (m : mm_S) : Prop :=
  ((pp_op P (mm_pc m) = 0 ∨ pp_op P (mm_pc m) = 1 ∨ pp_op P (mm_pc m) = 3) ∧ mm_ht m < 8)
  ∨ ((pp_op P (mm_pc m) = 2 ∨ pp_op P (mm_pc m) = 4 ∨ pp_op P (mm_pc m) = 11 ∨ pp_op P (mm_pc m) = 13) ∧ 0 < mm_ht m)
  ∨ (pp_op P (mm_pc m) = 14 ∧ 0 < mm_ht m ∧ mm_n m < 32)
  ∨ ((∃ k, 5 ≤ k ∧ k ≤ 9 ∧ pp_op P (mm_pc m) = nI k) ∧ 2 ≤ mm_ht m ∧ (pp_op P (mm_pc m) = 8 → ¬ mm_top m = 0))
  ∨ pp_op P (mm_pc m) = 10
  ∨ (pp_op P (mm_pc m) = 12 ∧ pp_fa P (pp_an P (mm_pc m)) ≤ mm_ht m ∧ (pp_fa P (pp_an P (mm_pc m)) = 0 → ¬ mm_ht m = 8) ∧ mm_d m < pp_mx P)
theorem mm_opc {P : pp_P} {p : Nat} (h : pp_cell P p) : pp_op P p = 0 ∨ pp_op P p = 1 ∨ pp_op P p = 2 ∨ pp_op P p = 3 ∨ pp_op P p = 4 ∨ pp_op P p = 5 ∨ pp_op P p = 6 ∨ pp_op P p = 7 ∨ pp_op P p = 8 ∨ pp_op P p = 9 ∨ pp_op P p = 10 ∨ pp_op P p = 11 ∨ pp_op P p = 12 ∨ pp_op P p = 13 ∨ pp_op P p = 14 := by
  obtain ⟨⟨k, hk, e⟩, _⟩ := h
  rw [e]
  have c : k = 0 ∨ k = 1 ∨ k = 2 ∨ k = 3 ∨ k = 4 ∨ k = 5 ∨ k = 6 ∨ k = 7 ∨ k = 8 ∨ k = 9 ∨ k = 10 ∨ k = 11 ∨ k = 12 ∨ k = 13 ∨ k = 14 := by omega
  rcases c with rfl | rfl | rfl | rfl | rfl | rfl | rfl | rfl | rfl | rfl | rfl | rfl | rfl | rfl | rfl <;> decide
theorem mm_59 {o : Int32} (h : o = 5 ∨ o = 6 ∨ o = 7 ∨ o = 8 ∨ o = 9) : ∃ k, 5 ≤ k ∧ k ≤ 9 ∧ o = nI k := by
  rcases h with h | h | h | h | h
  · exact ⟨5, by omega, by omega, h⟩
  · exact ⟨6, by omega, by omega, h⟩
  · exact ⟨7, by omega, by omega, h⟩
  · exact ⟨8, by omega, by omega, h⟩
  · exact ⟨9, by omega, by omega, h⟩
/-- either it traps here or it does not -/
theorem mm_dec {P : pp_P} {m : mm_S} (hP : pp_ok P) (hW : mm_W P m) (ha : mm_a m = 1) : (∃ c, mm_isT P m c) ∨ mm_nT P m := by
  obtain ⟨p1, p2, p3, p4, p5, p6⟩ := hP
  obtain ⟨w1, w2, w3, w4, w5, w6, w7⟩ := hW
  have hd := w2 ha
  obtain ⟨hpc, hht⟩ : mm_pc m < pp_nc P ∧ mm_ht m ≤ 8 := w3 (mm_d m - 1) (by omega)
  have push : (pp_op P (mm_pc m) = 0 ∨ pp_op P (mm_pc m) = 1 ∨ pp_op P (mm_pc m) = 3) → (∃ c, mm_isT P m c) ∨ mm_nT P m := by
    intro o
    by_cases z : mm_ht m = 8
    · exact Or.inl ⟨4, Or.inl ⟨o, z, rfl⟩⟩
    · exact Or.inr (Or.inl ⟨o, by omega⟩)
  have pop : (pp_op P (mm_pc m) = 2 ∨ pp_op P (mm_pc m) = 4 ∨ pp_op P (mm_pc m) = 11 ∨ pp_op P (mm_pc m) = 13) → (∃ c, mm_isT P m c) ∨ mm_nT P m := by
    intro o
    by_cases z : mm_ht m = 0
    · refine Or.inl ⟨3, Or.inr (Or.inl ⟨?_, z, rfl⟩)⟩
      rcases o with o | o | o | o
      · exact Or.inl o
      · exact Or.inr (Or.inl o)
      · exact Or.inr (Or.inr (Or.inl o))
      · exact Or.inr (Or.inr (Or.inr (Or.inl o)))
    · exact Or.inr (Or.inr (Or.inl ⟨o, by omega⟩))
  have bin : (pp_op P (mm_pc m) = 5 ∨ pp_op P (mm_pc m) = 6 ∨ pp_op P (mm_pc m) = 7 ∨ pp_op P (mm_pc m) = 8 ∨ pp_op P (mm_pc m) = 9) → (∃ c, mm_isT P m c) ∨ mm_nT P m := by
    intro o
    have o' := mm_59 o
    by_cases z : mm_ht m < 2
    · exact Or.inl ⟨3, Or.inr (Or.inr (Or.inl ⟨o', z, rfl⟩))⟩
    · by_cases z2 : pp_op P (mm_pc m) = 8 ∧ mm_top m = 0
      · exact Or.inl ⟨6, Or.inr (Or.inr (Or.inr (Or.inl ⟨z2.1, by omega, z2.2, rfl⟩)))⟩
      · exact Or.inr (Or.inr (Or.inr (Or.inr (Or.inl ⟨o', by omega, fun e t => z2 ⟨e, t⟩⟩))))
  rcases mm_opc (p5 _ hpc) with o | o | o | o | o | o | o | o | o | o | o | o | o | o | o
  · exact push (Or.inl o)
  · exact push (Or.inr (Or.inl o))
  · exact pop (Or.inl o)
  · exact push (Or.inr (Or.inr o))
  · exact pop (Or.inr (Or.inl o))
  · exact bin (Or.inl o)
  · exact bin (Or.inr (Or.inl o))
  · exact bin (Or.inr (Or.inr (Or.inl o)))
  · exact bin (Or.inr (Or.inr (Or.inr (Or.inl o))))
  · exact bin (Or.inr (Or.inr (Or.inr (Or.inr o))))
  · exact Or.inr (Or.inr (Or.inr (Or.inr (Or.inr (Or.inl o)))))
  · exact pop (Or.inr (Or.inr (Or.inl o)))
  · by_cases z : mm_ht m < pp_fa P (pp_an P (mm_pc m))
    · exact Or.inl ⟨3, Or.inr (Or.inr (Or.inr (Or.inr (Or.inr (Or.inl ⟨o, z, rfl⟩)))))⟩
    · by_cases z2 : pp_fa P (pp_an P (mm_pc m)) = 0 ∧ mm_ht m = 8
      · exact Or.inl ⟨4, Or.inr (Or.inr (Or.inr (Or.inr (Or.inr (Or.inr (Or.inl ⟨o, z2.1, z2.2, rfl⟩))))))⟩
      · by_cases z3 : mm_d m = pp_mx P
        · exact Or.inl ⟨5, Or.inr (Or.inr (Or.inr (Or.inr (Or.inr (Or.inr (Or.inr ⟨o, by omega, fun e t => z2 ⟨e, t⟩, z3, rfl⟩))))))⟩
        · exact Or.inr (Or.inr (Or.inr (Or.inr (Or.inr (Or.inr ⟨o, by omega, fun e t => z2 ⟨e, t⟩, by omega⟩)))))
  · exact pop (Or.inr (Or.inr (Or.inr o)))
  · by_cases z : mm_ht m = 0
    · exact Or.inl ⟨3, Or.inr (Or.inl ⟨Or.inr (Or.inr (Or.inr (Or.inr o))), z, rfl⟩)⟩
    · by_cases z2 : mm_n m < 32
      · exact Or.inr (Or.inr (Or.inr (Or.inl ⟨o, by omega, z2⟩)))
      · exact Or.inl ⟨7, Or.inr (Or.inr (Or.inr (Or.inr (Or.inl ⟨o, by omega, by omega, rfl⟩))))⟩
theorem mm_cs {P : pp_P} {m : mm_S} {i : Nat} (hi : i < 4) : (mm_call P m).2.2.2.1 (12 * mm_d m + i) = if i < pp_fa P (pp_an P (mm_pc m)) then mm_s m (12 * (mm_d m - 1) + (4 + i) + (mm_ht m - pp_fa P (pp_an P (mm_pc m)))) else 0 := by
  unfold mm_call
  dsimp only
  have cj : i = 0 ∨ i = 1 ∨ i = 2 ∨ i = 3 := by omega
  rcases cj with rfl | rfl | rfl | rfl
  · rw [if_pos (show 12 * mm_d m + 0 = 12 * mm_d m from rfl)]
  · rw [if_neg (show ¬ 12 * mm_d m + 1 = 12 * mm_d m by omega), if_pos (show 12 * mm_d m + 1 = 12 * mm_d m + 1 from rfl)]
  · rw [if_neg (show ¬ 12 * mm_d m + 2 = 12 * mm_d m by omega), if_neg (show ¬ 12 * mm_d m + 2 = 12 * mm_d m + 1 by omega), if_pos (show 12 * mm_d m + 2 = 12 * mm_d m + 2 from rfl)]
  · rw [if_neg (show ¬ 12 * mm_d m + 3 = 12 * mm_d m by omega), if_neg (show ¬ 12 * mm_d m + 3 = 12 * mm_d m + 1 by omega), if_neg (show ¬ 12 * mm_d m + 3 = 12 * mm_d m + 2 by omega), if_pos (show 12 * mm_d m + 3 = 12 * mm_d m + 3 from rfl)]
theorem mm_cn {P : pp_P} {m : mm_S} {j : Nat} (hj : j < 12 * mm_d m ∨ 12 * mm_d m + 4 ≤ j) : (mm_call P m).2.2.2.1 j = mm_s m j := by
  unfold mm_call
  dsimp only
  rw [if_neg (show ¬ j = 12 * mm_d m by omega), if_neg (show ¬ j = 12 * mm_d m + 1 by omega), if_neg (show ¬ j = 12 * mm_d m + 2 by omega), if_neg (show ¬ j = 12 * mm_d m + 3 by omega)]
end
section
/-! the reference: its state agrees with the plain machine -/
def yy_P (P : pp_P) (G : Nat → Int32) (B : Nat → Nat → Int32) : Prop :=
  (G 0) = nI (pp_nc P) ∧ (G 1) = nI (pp_nf P) ∧ (G 2) = nI (pp_mx P) ∧ (G 7) = 1 ∧ (B 0) = pp_op P ∧ (B 1) = pp_ar P ∧ (B 2) = pp_ow P ∧ (∀ f, f < pp_nf P → (B 3) f = nI (pp_fa P f))
def yy_M (m : mm_S) (G : Nat → Int32) (B : Nat → Nat → Int32) : Prop :=
  (G 3) = nI (mm_d m) ∧ (G 4) = nI (mm_n m) ∧ (G 5) = nI (mm_a m) ∧ (G 6) = mm_r m ∧ (B 4) = mm_g m ∧ (B 9) = mm_o m
  ∧ (∀ i, i < mm_d m → (B 5) i = nI (mm_p m i)) ∧ (∀ i, i < mm_d m → (B 6) i = nI (mm_h m i))
  ∧ (∀ i j, i < mm_d m → j < 4 → (B 7) (4 * i + j) = mm_s m (12 * i + j))
  ∧ (∀ i k, i < mm_d m → k < mm_h m i → (B 8) (8 * i + k) = mm_s m (12 * i + 4 + k))
/-- innermost frame's effects: pcs, heights, one local or one stack cell -/
theorem yy_Mfr {m : mm_S} {G : Nat → Int32} {B : Nat → Nat → Int32} {q h : Nat} {S Gl O L' T' : Nat → Int32} {n f : Nat} {G' : Nat → Int32} {B' : Nat → Nat → Int32}
    (hd : 1 ≤ mm_d m) (hA : yy_M m G B)
    (g3 : G' 3 = G 3) (g4 : G' 4 = nI n) (g5 : G' 5 = G 5) (g6 : G' 6 = G 6) (b4 : B' 4 = Gl) (b9 : B' 9 = O)
    (b5 : B' 5 = upd (B 5) (mm_d m - 1) (nI q)) (b6 : B' 6 = upd (B 6) (mm_d m - 1) (nI h)) (b7 : B' 7 = L') (b8 : B' 8 = T')
    (s1 : ∀ i j, i < mm_d m → j < 4 → L' (4 * i + j) = S (12 * i + j))
    (s2 : ∀ i k, i < mm_d m → k < tw_s (mm_h m) (mm_d m - 1) h i → T' (8 * i + k) = S (12 * i + 4 + k)) : yy_M (mm_fr m q h S Gl O n f) G' B' := by
  obtain ⟨a1, a2, a3, a4, a5, a6, a7, a8, a9, a10⟩ := hA
  refine ⟨g3.trans a1, g4, g5.trans a3, g6.trans a4, b4, b9, ?_, ?_, ?_, ?_⟩
  · intro i hi
    show B' 5 i = nI (tw_s (mm_p m) (mm_d m - 1) q i)
    rw [b5]
    by_cases e : i = mm_d m - 1
    · rw [tw_ue e, tw_se e]
    · rw [pk_un e, tw_sn e]; exact a7 i hi
  · intro i hi
    show B' 6 i = nI (tw_s (mm_h m) (mm_d m - 1) h i)
    rw [b6]
    by_cases e : i = mm_d m - 1
    · rw [tw_ue e, tw_se e]
    · rw [pk_un e, tw_sn e]; exact a8 i hi
  · intro i j hi hj; rw [b7]; exact s1 i j hi hj
  · intro i k hi hk; rw [b8]; exact s2 i k hi hk
/-- the stack cells when the top shrinks to h ≤ the old height and nothing is stored -/
theorem yy_Ms {m : mm_S} {G : Nat → Int32} {B : Nat → Nat → Int32} {h : Nat} (hA : yy_M m G B) (hh : h ≤ mm_ht m) :
    ∀ i k, i < mm_d m → k < tw_s (mm_h m) (mm_d m - 1) h i → B 8 (8 * i + k) = mm_s m (12 * i + 4 + k) := by
  intro i k hi hk
  obtain ⟨a1, a2, a3, a4, a5, a6, a7, a8, a9, a10⟩ := hA
  refine a10 i k hi ?_
  by_cases e : i = mm_d m - 1
  · rw [tw_se e] at hk; rw [e]; exact Nat.lt_of_lt_of_le hk hh
  · rw [tw_sn e] at hk; exact hk
/-- one stack cell c ≤ old height stored, the height then c + 1 -/
theorem yy_Mt {P : pp_P} {m : mm_S} {G : Nat → Int32} {B : Nat → Nat → Int32} {c : Nat} {v : Int32} (hW : mm_W P m) (hA : yy_M m G B) (hc : c ≤ mm_ht m) (h8 : c < 8) :
    ∀ i k, i < mm_d m → k < tw_s (mm_h m) (mm_d m - 1) (c + 1) i → upd (B 8) (8 * (mm_d m - 1) + c) v (8 * i + k) = upd (mm_s m) (12 * (mm_d m - 1) + 4 + c) v (12 * i + 4 + k) := by
  intro i k hi hk
  obtain ⟨a1, a2, a3, a4, a5, a6, a7, a8, a9, a10⟩ := hA
  obtain ⟨w1, w2, w3, w4, w5, w6, w7⟩ := hW
  by_cases e : i = mm_d m - 1
  · rw [tw_se e] at hk
    by_cases e2 : k = c
    · rw [tw_ue (by omega), tw_ue (by omega)]
    · rw [pk_un (by omega), pk_un (by omega)]
      exact a10 i k hi (by rw [e]; exact Nat.lt_of_lt_of_le (by omega) hc)
  · rw [tw_sn e] at hk
    have := w4 i (by omega)
    rw [pk_un (by omega), pk_un (by omega)]
    exact a10 i k hi hk
/-- the locals beside a store into the stack part -/
theorem yy_Ml {m : mm_S} {G : Nat → Int32} {B : Nat → Nat → Int32} {c : Nat} {v : Int32} (hA : yy_M m G B) (h8 : c < 8) :
    ∀ i j, i < mm_d m → j < 4 → B 7 (4 * i + j) = upd (mm_s m) (12 * (mm_d m - 1) + 4 + c) v (12 * i + j) := by
  intro i j hi hj
  obtain ⟨a1, a2, a3, a4, a5, a6, a7, a8, a9, a10⟩ := hA
  rw [pk_un (by omega)]
  exact a9 i j hi hj
end
section
/-! the reference: one turn of its loop is one step of the plain machine -/
section
variable {P : pp_P} {m : mm_S} {G : Nat → Int32} {B : Nat → Nat → Int32}
theorem yy_fc {post : Int32 → Prop} {f s : Nat} (hc : (G 0) = nI (pp_nc P)) (hn : pp_nc P ≤ 64) (hs : s < pp_nc P) (ho : (B 2) s = nI f) (hb : ∀ p, p < s → ¬ (B 2) p = nI f) (K : post (nI s)) :
    ∀ (k j n : Nat), j + k = s → k < n → wY_firstCell_2 post (nI f) (G 0) (G 1) (G 2) (G 3) (G 4) (G 5) (G 6) (G 7) (B 0) (B 1) (B 2) (B 3) (B 4) (B 5) (B 6) (B 7) (B 8) (B 9) n (nI j)
  | 0, j, n, hj, hk => by
    obtain ⟨n, rfl⟩ : ∃ n', n = n' + 1 := ⟨n - 1, by omega⟩
    have e : j = s := by omega
    subst e
    unfold wY_firstCell_2
    rw [hc, nI_clamp (by omega)]
    exact br_f (nI_ge (by omega) (by omega)) ⟨vp_in_nI (by omega) (by omega), br_t ho K⟩
  | k + 1, j, n, hj, hk => by
    obtain ⟨n, rfl⟩ : ∃ n', n = n' + 1 := ⟨n - 1, by omega⟩
    unfold wY_firstCell_2
    rw [nI_clamp (by omega)]
    refine br_f (by rw [hc]; exact nI_ge (by omega) (by omega)) ⟨vp_in_nI (by omega) (by omega), br_f (hb j (by omega)) (nm_r (nI_1 j) ?_)⟩
    exact yy_fc hc hn hs ho hb K k (j + 1) n (by omega) (by omega)
theorem yy_first {post : Int32 → Prop} {f : Nat} (hP : pp_ok P) (hc : (G 0) = nI (pp_nc P)) (ho : (B 2) = pp_ow P) (hf : f < pp_nf P) (K : post (nI (pp_fs P f))) : wpY_firstCell post (tw_y G B) (nI f) := by
  obtain ⟨p1, p2, p3, p4, p5, p6⟩ := hP
  obtain ⟨f1, f2, f3, f4, f5, f6⟩ := p6 f hf
  show ∃ n2 : Nat, wY_firstCell_2 post (nI f) (G 0) (G 1) (G 2) (G 3) (G 4) (G 5) (G 6) (G 7) (B 0) (B 1) (B 2) (B 3) (B 4) (B 5) (B 6) (B 7) (B 8) (B 9) n2 (nI 0)
  exact ⟨pp_fs P f + 1, yy_fc hc p1 f1 (by rw [ho]; exact f3) (fun p hp => by rw [ho]; exact f4 p hp) K (pp_fs P f) 0 _ (by omega) (by omega)⟩
theorem yy_put {post : SY → Prop} {d h : Nat} {v : Int32} (g3 : (G 3) = nI d) (hd : 1 ≤ d) (h8 : d ≤ 8) (hh : h < 8)
    (K : post (tw_y G (tw_s (tw_s B 8 (upd (B 8) (8 * (d - 1) + h) v)) 6 (upd (B 6) (d - 1) (nI (h + 1)))))) : wpY_put post (tw_y G B) (nI h) v := by
  have e1 : (G 3) - 1 = nI (d - 1) := by rw [g3]; exact tw_d1 hd
  have e2 : ((G 3) - 1) * 8 + nI h = nI (8 * (d - 1) + h) := by rw [e1, tw_m8, nI_add]
  show vp_in (((G 3) - 1) * 8 + nI h) 64 ∧ _
  rw [e2, e1]
  refine ⟨vp_in_nI (by omega) (by omega), ?_⟩
  rw [nI_clamp (by omega), nI_clamp (by omega)]
  refine nm_e ⟨vp_in_nI (by omega) (by omega), nm_r (e' := upd (B 6) (d - 1) (nI (h + 1))) (by rw [nI_1]) ?_⟩
  exact K
/-- the chain of an effect behind its reads -/
theorem yy_eff {post : SY → Prop} {op ar : Int32} {p : Nat} (hW : mm_W P m) (hA : yy_M m G B) (ha : mm_a m = 1) (mx8 : pp_mx P ≤ 8)
    (K : ∀ y x : Int32, (1 ≤ mm_ht m → y = mm_top m) → (2 ≤ mm_ht m → x = mm_nxt m) → wY_effect_69 post (nI p) op ar (nI (mm_d m - 1)) (nI (mm_ht m)) y x (G 0) (G 1) (G 2) (G 3) (G 4) (G 5) (G 6) (G 7) (B 0) (B 1) (B 2) (B 3) (B 4) (B 5) (B 6) (B 7) (B 8) (B 9)) : wpY_effect post (tw_y G B) (nI p) op ar := by
  obtain ⟨w1, w2, w3, w4, w5, w6, w7⟩ := hW
  obtain ⟨a1, a2, a3, a4, a5, a6, a7, a8, a9, a10⟩ := hA
  have hd := w2 ha
  have hh : mm_ht m ≤ 8 := (w3 (mm_d m - 1) (by omega)).2
  have e1 : (G 3) - 1 = nI (mm_d m - 1) := by rw [a1]; exact tw_d1 hd
  unfold wpY_effect
  refine nm_r e1 ⟨vp_in_nI (by omega) (by omega), nm_r (e' := nI (mm_ht m)) (by rw [nI_clamp (by omega)]; exact a8 _ (by omega)) ?_⟩
  have s1 : 1 ≤ mm_ht m → nI (mm_d m - 1) * 8 + nI (mm_ht m) - 1 = nI (8 * (mm_d m - 1) + (mm_ht m - 1)) := by
    intro z; rw [tw_m8, nI_add, tw_d1 (by omega)]; congr 1; omega
  have s2 : 2 ≤ mm_ht m → nI (mm_d m - 1) * 8 + nI (mm_ht m) - 2 = nI (8 * (mm_d m - 1) + (mm_ht m - 2)) := by
    intro z; rw [tw_m8, nI_add, tw_d2 (by omega)]; congr 1; omega
  have tail : ∀ y : Int32, (1 ≤ mm_ht m → y = mm_top m) → wY_effect_42 post (nI p) op ar (nI (mm_d m - 1)) (nI (mm_ht m)) y (G 0) (G 1) (G 2) (G 3) (G 4) (G 5) (G 6) (G 7) (B 0) (B 1) (B 2) (B 3) (B 4) (B 5) (B 6) (B 7) (B 8) (B 9) := by
    intro y hy
    unfold wY_effect_42
    refine pk_lt (mm_ht m) 2 (fun z => K y 0 hy (fun z2 => absurd z2 (by omega))) (fun z => ?_) (ha := by omega)
    rw [s2 z, nI_clamp (by omega)]
    refine ⟨vp_in_nI (by omega) (by omega), K y _ hy (fun _ => ?_)⟩
    rw [a10 _ _ (by omega) (show mm_ht m - 2 < mm_ht m by omega)]
    exact congrArg (mm_s m) (by omega)
  refine pk_lt (mm_ht m) 1 (fun z => tail 0 (fun z2 => absurd z2 (by omega))) (fun z => ?_) (ha := by omega)
  rw [s1 z, nI_clamp (by omega)]
  refine ⟨vp_in_nI (by omega) (by omega), tail _ (fun _ => ?_)⟩
  rw [a10 _ _ (by omega) (show mm_ht m - 1 < mm_ht m by omega)]
  exact congrArg (mm_s m) (by omega)
end
end
section
/-! the reference's effects, op by op -/
section
variable {P : pp_P} {m : mm_S} {G : Nat → Int32} {B : Nat → Nat → Int32} {post : SY → Prop} {p h d : Nat} {ar y x : Int32}
theorem yy_o0 (g3 : (G 3) = nI d) (hd : 1 ≤ d) (h8 : d ≤ 8) (hh : h < 8)
    (K : post (tw_y G (tw_s (tw_s (tw_s B 5 (upd (B 5) (d - 1) (nI (p + 1)))) 8 (upd (B 8) (8 * (d - 1) + h) ar)) 6 (upd (B 6) (d - 1) (nI (h + 1)))))) : wY_effect_69 post (nI p) 0 ar (nI (d - 1)) (nI h) y x (G 0) (G 1) (G 2) (G 3) (G 4) (G 5) (G 6) (G 7) (B 0) (B 1) (B 2) (B 3) (B 4) (B 5) (B 6) (B 7) (B 8) (B 9) := by
  unfold wY_effect_69
  rw [nI_clamp (by omega)]
  refine ⟨vp_in_nI (by omega) (by omega), nm_r (e' := upd (B 5) (d - 1) (nI (p + 1))) (by rw [nI_1]) ?_⟩
  refine br_t rfl (yy_put (B := tw_s B 5 (upd (B 5) (d - 1) (nI (p + 1)))) g3 hd h8 hh ?_)
  repeat (first | refine br_f (by decide) ?_ | refine br_t (by decide) ?_)
  exact K
theorem yy_o1 {a : Nat} (g3 : (G 3) = nI d) (hd : 1 ≤ d) (h8 : d ≤ 8) (hh : h < 8) (ea : ar = nI a) (ha : a < 4)
    (K : post (tw_y G (tw_s (tw_s (tw_s B 5 (upd (B 5) (d - 1) (nI (p + 1)))) 8 (upd (B 8) (8 * (d - 1) + h) ((B 7) (4 * (d - 1) + a)))) 6 (upd (B 6) (d - 1) (nI (h + 1)))))) : wY_effect_69 post (nI p) 1 ar (nI (d - 1)) (nI h) y x (G 0) (G 1) (G 2) (G 3) (G 4) (G 5) (G 6) (G 7) (B 0) (B 1) (B 2) (B 3) (B 4) (B 5) (B 6) (B 7) (B 8) (B 9) := by
  unfold wY_effect_69
  rw [nI_clamp (by omega)]
  refine ⟨vp_in_nI (by omega) (by omega), nm_r (e' := upd (B 5) (d - 1) (nI (p + 1))) (by rw [nI_1]) ?_⟩
  refine br_f (by decide) ?_
  unfold wY_effect_92
  rw [ea, tw_m4, nI_add, nI_clamp (by omega)]
  refine br_t rfl ⟨vp_in_nI (by omega) (by omega), yy_put (B := tw_s B 5 (upd (B 5) (d - 1) (nI (p + 1)))) g3 hd h8 hh ?_⟩
  repeat (first | refine br_f (by decide) ?_ | refine br_t (by decide) ?_)
  exact K
theorem yy_o3 {a : Nat} (g3 : (G 3) = nI d) (hd : 1 ≤ d) (h8 : d ≤ 8) (hh : h < 8) (ea : ar = nI a) (ha : a < 8)
    (K : post (tw_y G (tw_s (tw_s (tw_s B 5 (upd (B 5) (d - 1) (nI (p + 1)))) 8 (upd (B 8) (8 * (d - 1) + h) ((B 4) a))) 6 (upd (B 6) (d - 1) (nI (h + 1)))))) : wY_effect_69 post (nI p) 3 ar (nI (d - 1)) (nI h) y x (G 0) (G 1) (G 2) (G 3) (G 4) (G 5) (G 6) (G 7) (B 0) (B 1) (B 2) (B 3) (B 4) (B 5) (B 6) (B 7) (B 8) (B 9) := by
  unfold wY_effect_69
  rw [nI_clamp (by omega)]
  refine ⟨vp_in_nI (by omega) (by omega), nm_r (e' := upd (B 5) (d - 1) (nI (p + 1))) (by rw [nI_1]) ?_⟩
  refine br_f (by decide) (br_f (by decide) ?_)
  unfold wY_effect_114
  rw [ea, nI_clamp (by omega)]
  refine br_t rfl ⟨vp_in_nI (by omega) (by omega), yy_put (B := tw_s B 5 (upd (B 5) (d - 1) (nI (p + 1)))) g3 hd h8 hh ?_⟩
  repeat (first | refine br_f (by decide) ?_ | refine br_t (by decide) ?_)
  exact K
/-- the five operations -/
theorem yy_o59 {k : Nat} (hk : 5 ≤ k) (hk2 : k ≤ 9) (g3 : (G 3) = nI d) (hd : 1 ≤ d) (h8 : d ≤ 8) (hh : h ≤ 8) (h2 : 2 ≤ h) (hz : nI k = 8 → ¬ y = 0)
    (K : post (tw_y G (tw_s (tw_s (tw_s B 5 (upd (B 5) (d - 1) (nI (p + 1)))) 8 (upd (B 8) (8 * (d - 1) + (h - 2)) (mm_ari (nI k) x y))) 6 (upd (B 6) (d - 1) (nI (h - 2 + 1)))))) : wY_effect_69 post (nI p) (nI k) ar (nI (d - 1)) (nI h) y x (G 0) (G 1) (G 2) (G 3) (G 4) (G 5) (G 6) (G 7) (B 0) (B 1) (B 2) (B 3) (B 4) (B 5) (B 6) (B 7) (B 8) (B 9) := by
  unfold wY_effect_69
  rw [nI_clamp (by omega)]
  refine ⟨vp_in_nI (by omega) (by omega), nm_r (e' := upd (B 5) (d - 1) (nI (p + 1))) (by rw [nI_1]) ?_⟩
  have e2 : nI h - 2 = nI (h - 2) := tw_d2 h2
  have c : k = 5 ∨ k = 6 ∨ k = 7 ∨ k = 8 ∨ k = 9 := by omega
  rcases c with rfl | rfl | rfl | rfl | rfl
  · repeat (first | refine br_f (by decide) ?_ | refine br_t (by decide) ?_)
    rw [e2]
    refine yy_put (B := tw_s B 5 (upd (B 5) (d - 1) (nI (p + 1)))) g3 hd h8 (by omega) ?_
    repeat (first | refine br_f (by decide) ?_ | refine br_t (by decide) ?_)
    exact K
  · repeat (first | refine br_f (by decide) ?_ | refine br_t (by decide) ?_)
    rw [e2]
    refine yy_put (B := tw_s B 5 (upd (B 5) (d - 1) (nI (p + 1)))) g3 hd h8 (by omega) ?_
    repeat (first | refine br_f (by decide) ?_ | refine br_t (by decide) ?_)
    exact K
  · repeat (first | refine br_f (by decide) ?_ | refine br_t (by decide) ?_)
    rw [e2]
    refine yy_put (B := tw_s B 5 (upd (B 5) (d - 1) (nI (p + 1)))) g3 hd h8 (by omega) ?_
    repeat (first | refine br_f (by decide) ?_ | refine br_t (by decide) ?_)
    exact K
  · repeat (first | refine br_f (by decide) ?_ | refine br_t (by decide) ?_)
    refine br_f (hz rfl) ⟨hz rfl, ?_⟩
    rw [e2]
    refine yy_put (B := tw_s B 5 (upd (B 5) (d - 1) (nI (p + 1)))) g3 hd h8 (by omega) ?_
    repeat (first | refine br_f (by decide) ?_ | refine br_t (by decide) ?_)
    exact K
  · repeat (first | refine br_f (by decide) ?_ | refine br_t (by decide) ?_)
    have ek : mm_ari (nI 9) x y = if y ≤ x then 0 else 1 := rfl
    rw [ek] at K
    refine br_c (fun z => ?_) (fun z => ?_)
    · rw [if_pos z] at K
      unfold wY_effect_234
      rw [e2]
      refine yy_put (B := tw_s B 5 (upd (B 5) (d - 1) (nI (p + 1)))) g3 hd h8 (by omega) ?_
      repeat (first | refine br_f (by decide) ?_ | refine br_t (by decide) ?_)
      exact K
    · rw [if_neg z] at K
      unfold wY_effect_234
      rw [e2]
      refine yy_put (B := tw_s B 5 (upd (B 5) (d - 1) (nI (p + 1)))) g3 hd h8 (by omega) ?_
      repeat (first | refine br_f (by decide) ?_ | refine br_t (by decide) ?_)
      exact K
theorem yy_o2 {a : Nat} (hd : 1 ≤ d) (h8 : d ≤ 8) (hh : h ≤ 8) (h2 : 1 ≤ h) (ea : ar = nI a) (ha : a < 4)
    (K : post (tw_y G (tw_s (tw_s (tw_s B 5 (upd (B 5) (d - 1) (nI (p + 1)))) 6 (upd (B 6) (d - 1) (nI (h - 1)))) 7 (upd (B 7) (4 * (d - 1) + a) y)))) : wY_effect_69 post (nI p) 2 ar (nI (d - 1)) (nI h) y x (G 0) (G 1) (G 2) (G 3) (G 4) (G 5) (G 6) (G 7) (B 0) (B 1) (B 2) (B 3) (B 4) (B 5) (B 6) (B 7) (B 8) (B 9) := by
  unfold wY_effect_69
  rw [nI_clamp (by omega)]
  refine ⟨vp_in_nI (by omega) (by omega), nm_r (e' := upd (B 5) (d - 1) (nI (p + 1))) (by rw [nI_1]) ?_⟩
  repeat (first | refine br_f (by decide) ?_ | refine br_t (by decide) ?_)
  unfold wY_effect_259
  rw [nI_clamp (by omega), tw_d1 h2]
  refine ⟨vp_in_nI (by omega) (by omega), nm_e ?_⟩
  unfold wY_effect_270
  rw [ea, tw_m4, nI_add, nI_clamp (by omega)]
  refine br_t rfl ⟨vp_in_nI (by omega) (by omega), nm_e ?_⟩
  repeat (first | refine br_f (by decide) ?_ | refine br_t (by decide) ?_)
  exact K
theorem yy_o4 {a : Nat} (hd : 1 ≤ d) (h8 : d ≤ 8) (hh : h ≤ 8) (h2 : 1 ≤ h) (ea : ar = nI a) (ha : a < 8)
    (K : post (tw_y G (tw_s (tw_s (tw_s B 5 (upd (B 5) (d - 1) (nI (p + 1)))) 6 (upd (B 6) (d - 1) (nI (h - 1)))) 4 (upd (B 4) a y)))) : wY_effect_69 post (nI p) 4 ar (nI (d - 1)) (nI h) y x (G 0) (G 1) (G 2) (G 3) (G 4) (G 5) (G 6) (G 7) (B 0) (B 1) (B 2) (B 3) (B 4) (B 5) (B 6) (B 7) (B 8) (B 9) := by
  unfold wY_effect_69
  rw [nI_clamp (by omega)]
  refine ⟨vp_in_nI (by omega) (by omega), nm_r (e' := upd (B 5) (d - 1) (nI (p + 1))) (by rw [nI_1]) ?_⟩
  repeat (first | refine br_f (by decide) ?_ | refine br_t (by decide) ?_)
  unfold wY_effect_259
  rw [nI_clamp (by omega), tw_d1 h2]
  refine ⟨vp_in_nI (by omega) (by omega), nm_e ?_⟩
  refine br_f (by decide) ?_
  unfold wY_effect_288
  rw [ea, nI_clamp (by omega)]
  refine br_t rfl ⟨vp_in_nI (by omega) (by omega), nm_e ?_⟩
  repeat (first | refine br_f (by decide) ?_ | refine br_t (by decide) ?_)
  exact K
theorem yy_o14 {n : Nat} (g4 : (G 4) = nI n) (hn : n < 32) (hd : 1 ≤ d) (h8 : d ≤ 8) (hh : h ≤ 8) (h2 : 1 ≤ h)
    (K : post (tw_y (tw_s G 4 (nI (n + 1))) (tw_s (tw_s (tw_s B 5 (upd (B 5) (d - 1) (nI (p + 1)))) 6 (upd (B 6) (d - 1) (nI (h - 1)))) 9 (upd (B 9) n y)))) : wY_effect_69 post (nI p) 14 ar (nI (d - 1)) (nI h) y x (G 0) (G 1) (G 2) (G 3) (G 4) (G 5) (G 6) (G 7) (B 0) (B 1) (B 2) (B 3) (B 4) (B 5) (B 6) (B 7) (B 8) (B 9) := by
  unfold wY_effect_69
  rw [nI_clamp (by omega)]
  refine ⟨vp_in_nI (by omega) (by omega), nm_r (e' := upd (B 5) (d - 1) (nI (p + 1))) (by rw [nI_1]) ?_⟩
  repeat (first | refine br_f (by decide) ?_ | refine br_t (by decide) ?_)
  unfold wY_effect_259
  rw [nI_clamp (by omega), tw_d1 h2]
  refine ⟨vp_in_nI (by omega) (by omega), nm_e ?_⟩
  repeat (first | refine br_f (by decide) ?_)
  unfold wY_effect_326
  rw [g4, nI_clamp (by omega)]
  refine br_t rfl ⟨vp_in_nI (by omega) (by omega), nm_e (nm_r (nI_1 n) ?_)⟩
  repeat (first | refine br_f (by decide) ?_ | refine br_t (by decide) ?_)
  exact K
theorem yy_o10 {a : Nat} (hd : 1 ≤ d) (h8 : d ≤ 8) (ea : ar = nI a)
    (K : post (tw_y G (tw_s B 5 (upd (B 5) (d - 1) (nI a))))) : wY_effect_69 post (nI p) 10 ar (nI (d - 1)) (nI h) y x (G 0) (G 1) (G 2) (G 3) (G 4) (G 5) (G 6) (G 7) (B 0) (B 1) (B 2) (B 3) (B 4) (B 5) (B 6) (B 7) (B 8) (B 9) := by
  unfold wY_effect_69
  rw [nI_clamp (by omega)]
  refine ⟨vp_in_nI (by omega) (by omega), nm_e ?_⟩
  repeat (first | refine br_f (by decide) ?_ | refine br_t (by decide) ?_)
  unfold wY_effect_318
  rw [nI_clamp (by omega), ea]
  refine ⟨vp_in_nI (by omega) (by omega), nm_r (tw_uu _ _ _ _) ?_⟩
  repeat (first | refine br_f (by decide) ?_ | refine br_t (by decide) ?_)
  exact K
theorem yy_o11 {a : Nat} (hd : 1 ≤ d) (h8 : d ≤ 8) (hh : h ≤ 8) (h2 : 1 ≤ h) (ea : ar = nI a)
    (K : post (tw_y G (tw_s (tw_s B 5 (upd (B 5) (d - 1) (nI (if y = 0 then a else p + 1)))) 6 (upd (B 6) (d - 1) (nI (h - 1)))))) : wY_effect_69 post (nI p) 11 ar (nI (d - 1)) (nI h) y x (G 0) (G 1) (G 2) (G 3) (G 4) (G 5) (G 6) (G 7) (B 0) (B 1) (B 2) (B 3) (B 4) (B 5) (B 6) (B 7) (B 8) (B 9) := by
  unfold wY_effect_69
  rw [nI_clamp (by omega)]
  refine ⟨vp_in_nI (by omega) (by omega), nm_e ?_⟩
  repeat (first | refine br_f (by decide) ?_ | refine br_t (by decide) ?_)
  unfold wY_effect_259
  rw [nI_clamp (by omega), tw_d1 h2]
  refine ⟨vp_in_nI (by omega) (by omega), nm_e ?_⟩
  refine br_f (by decide) (br_f (by decide) (br_f (by decide) (br_t (by decide) ?_)))
  refine br_c (fun z => ?_) (fun z => ?_)
  · rw [if_pos z] at K
    unfold wY_effect_318
    rw [nI_clamp (by omega), ea]
    refine ⟨vp_in_nI (by omega) (by omega), nm_r (tw_uu _ _ _ _) ?_⟩
    repeat (first | refine br_f (by decide) ?_ | refine br_t (by decide) ?_)
    exact K
  · rw [if_neg z, ← nI_1] at K
    repeat (first | refine br_f (by decide) ?_ | refine br_t (by decide) ?_)
    exact K
/-- a return into a frame below -/
theorem yy_o13 {hb : Nat} (hd : 2 ≤ d) (h8 : d ≤ 8) (hh : hb < 8) (b6 : (B 6) (d - 2) = nI hb)
    (K : post (tw_y (tw_s G 3 (nI (d - 1))) (tw_s (tw_s (tw_s B 5 (upd (B 5) (d - 1) (nI (p + 1)))) 8 (upd (B 8) (8 * (d - 2) + hb) y)) 6 (upd (B 6) (d - 2) (nI (hb + 1)))))) : wY_effect_69 post (nI p) 13 ar (nI (d - 1)) (nI h) y x (G 0) (G 1) (G 2) (G 3) (G 4) (G 5) (G 6) (G 7) (B 0) (B 1) (B 2) (B 3) (B 4) (B 5) (B 6) (B 7) (B 8) (B 9) := by
  unfold wY_effect_69
  rw [nI_clamp (by omega)]
  refine ⟨vp_in_nI (by omega) (by omega), nm_r (e' := upd (B 5) (d - 1) (nI (p + 1))) (by rw [nI_1]) ?_⟩
  repeat (first | refine br_f (by decide) ?_)
  unfold wY_effect_470
  have e0 : ¬ nI (d - 1) = 0 := nI_ne0 (by omega) (by omega)
  have e1 : nI (d - 1) - 1 = nI (d - 2) := by rw [tw_d1 (by omega)]; congr 1
  rw [e1, nI_clamp (by omega), b6]
  refine br_t rfl (br_f e0 ⟨vp_in_nI (by omega) (by omega), ?_⟩)
  refine yy_put (G := tw_s G 3 (nI (d - 1))) (B := tw_s B 5 (upd (B 5) (d - 1) (nI (p + 1)))) (d := d - 1) rfl (by omega) (by omega) hh ?_
  exact K
theorem yy_o13d (K : post (tw_y (tw_s (tw_s (tw_s G 3 (nI 0)) 5 2) 6 y) (tw_s B 5 (upd (B 5) 0 (nI (p + 1)))))) : wY_effect_69 post (nI p) 13 ar (nI 0) (nI h) y x (G 0) (G 1) (G 2) (G 3) (G 4) (G 5) (G 6) (G 7) (B 0) (B 1) (B 2) (B 3) (B 4) (B 5) (B 6) (B 7) (B 8) (B 9) := by
  unfold wY_effect_69
  rw [nI_clamp (by omega)]
  refine ⟨vp_in_nI (by omega) (by omega), nm_r (e' := upd (B 5) 0 (nI (p + 1))) (by rw [nI_1]) ?_⟩
  repeat (first | refine br_f (by decide) ?_)
  exact br_t rfl (br_t rfl K)
/-- the callee's locals -/
theorem yy_it {n a t h' nn j : Nat} (hj : j < 4) (ht : t ≤ 6) (hh : h' ≤ 8) (hn : nn ≤ h')
    (K : wY_effect_382 post 12 ar (nI t) (nI h') y (nI nn) (G 0) (G 1) (G 2) (G 3) (G 4) (G 5) (G 6) (G 7) n (nI (j + 1)) (B 0) (B 1) (B 2) (B 3) (B 4) (B 5) (B 6) (upd (B 7) (4 * (t + 1) + j) (if j < nn then B 8 (8 * t + (h' - nn) + j) else 0)) (B 8) (B 9)) : wY_effect_382 post 12 ar (nI t) (nI h') y (nI nn) (G 0) (G 1) (G 2) (G 3) (G 4) (G 5) (G 6) (G 7) (n + 1) (nI j) (B 0) (B 1) (B 2) (B 3) (B 4) (B 5) (B 6) (B 7) (B 8) (B 9) := by
  unfold wY_effect_382
  refine br_f (nI_ge (b := 4) (by omega) (by decide)) ?_
  have e1 : (nI t + 1) * 4 + nI j = nI (4 * (t + 1) + j) := by rw [nI_1, tw_m4, nI_add]
  rw [e1, nI_clamp (by omega)]
  refine pk_le nn j (fun z => ?_) (fun z => ?_) (ha := by omega) (hb := by omega)
  · rw [if_neg (by omega)] at K
    exact ⟨vp_in_nI (by omega) (by omega), nm_e (nm_r (nI_1 j) K)⟩
  · rw [if_pos z] at K
    have e2 : nI t * 8 + nI h' - nI nn + nI j = nI (8 * t + (h' - nn) + j) := by
      rw [tw_m8, nI_add, pk_sub (by omega), nI_add]; congr 1; omega
    rw [e2, nI_clamp (by omega)]
    exact ⟨vp_in_nI (by omega) (by omega), ⟨vp_in_nI (by omega) (by omega), nm_e (nm_r (nI_1 j) K)⟩⟩
theorem yy_o12 {a nn : Nat} (hP : pp_ok P) (hQ : yy_P P G B) (hd : 1 ≤ d) (h8 : d ≤ 7) (hh : h ≤ 8) (ea : ar = nI a) (ha : a < pp_nf P) (hn : pp_fa P a = nn) (hn2 : nn ≤ h)
    (K : post (tw_y (tw_s G 3 (nI (d + 1))) (tw_s (tw_s (tw_s B 5 (upd (upd (B 5) (d - 1) (nI (p + 1))) d (nI (pp_fs P a)))) 6 (upd (upd (B 6) (d - 1) (nI (h - nn))) d (nI 0)))
       7 (upd (upd (upd (upd (B 7) (4 * d) (if 0 < nn then B 8 (8 * (d - 1) + (h - nn)) else 0)) (4 * d + 1) (if 1 < nn then B 8 (8 * (d - 1) + (h - nn) + 1) else 0)) (4 * d + 2) (if 2 < nn then B 8 (8 * (d - 1) + (h - nn) + 2) else 0)) (4 * d + 3) (if 3 < nn then B 8 (8 * (d - 1) + (h - nn) + 3) else 0))))) : wY_effect_69 post (nI p) 12 ar (nI (d - 1)) (nI h) y x (G 0) (G 1) (G 2) (G 3) (G 4) (G 5) (G 6) (G 7) (B 0) (B 1) (B 2) (B 3) (B 4) (B 5) (B 6) (B 7) (B 8) (B 9) := by
  obtain ⟨q1, q2, q3, q4, q5, q6, q7, q8⟩ := hQ
  have hP' := hP
  obtain ⟨p1, p2, p3, p4, p5, p6⟩ := hP'
  unfold wY_effect_69
  rw [nI_clamp (by omega)]
  refine ⟨vp_in_nI (by omega) (by omega), nm_r (e' := upd (B 5) (d - 1) (nI (p + 1))) (by rw [nI_1]) ?_⟩
  repeat (first | refine br_f (by decide) ?_)
  unfold wY_effect_353
  rw [ea, nI_clamp (by omega)]
  refine br_t rfl ⟨vp_in_nI (by omega) (by omega), nm_r (e' := nI nn) (by rw [q8 a ha, hn]) ?_⟩
  rw [nI_clamp (by omega)]
  refine ⟨vp_in_nI (by omega) (by omega), nm_r (e' := upd (B 6) (d - 1) (nI (h - nn))) (by rw [pk_sub hn2]) ⟨5, ?_⟩⟩
  refine yy_it (G := G) (B := tw_s (tw_s B 5 (upd (B 5) (d - 1) (nI (p + 1)))) 6 (upd (B 6) (d - 1) (nI (h - nn)))) (t := d - 1) (j := 0) (a := 0) (by omega) (by omega) hh hn2 ?_
  refine yy_it (G := G) (B := tw_s (tw_s (tw_s B 5 (upd (B 5) (d - 1) (nI (p + 1)))) 6 (upd (B 6) (d - 1) (nI (h - nn)))) 7 (upd (B 7) (4 * (d - 1 + 1) + 0) (if 0 < nn then B 8 (8 * (d - 1) + (h - nn) + 0) else 0))) (t := d - 1) (j := 1) (a := 0) (by omega) (by omega) hh hn2 ?_
  refine yy_it (G := G) (B := tw_s (tw_s (tw_s B 5 (upd (B 5) (d - 1) (nI (p + 1)))) 6 (upd (B 6) (d - 1) (nI (h - nn)))) 7 (upd (upd (B 7) (4 * (d - 1 + 1) + 0) (if 0 < nn then B 8 (8 * (d - 1) + (h - nn) + 0) else 0)) (4 * (d - 1 + 1) + 1) (if 1 < nn then B 8 (8 * (d - 1) + (h - nn) + 1) else 0))) (t := d - 1) (j := 2) (a := 0) (by omega) (by omega) hh hn2 ?_
  refine yy_it (G := G) (B := tw_s (tw_s (tw_s B 5 (upd (B 5) (d - 1) (nI (p + 1)))) 6 (upd (B 6) (d - 1) (nI (h - nn)))) 7 (upd (upd (upd (B 7) (4 * (d - 1 + 1) + 0) (if 0 < nn then B 8 (8 * (d - 1) + (h - nn) + 0) else 0)) (4 * (d - 1 + 1) + 1) (if 1 < nn then B 8 (8 * (d - 1) + (h - nn) + 1) else 0)) (4 * (d - 1 + 1) + 2) (if 2 < nn then B 8 (8 * (d - 1) + (h - nn) + 2) else 0))) (t := d - 1) (j := 3) (a := 0) (by omega) (by omega) hh hn2 ?_
  have ed : d - 1 + 1 = d := by omega
  have e1 : nI (d - 1) + 1 = nI d := by rw [nI_1, ed]
  have e2 : nI (d - 1) + 2 = nI (d + 1) := by rw [tw_p2]; congr 1; omega
  unfold wY_effect_382
  refine br_t (by decide) ?_
  refine yy_first (G := G) (B := tw_s (tw_s (tw_s B 5 (upd (B 5) (d - 1) (nI (p + 1)))) 6 (upd (B 6) (d - 1) (nI (h - nn)))) 7 (upd (upd (upd (upd (B 7) (4 * (d - 1 + 1) + 0) (if 0 < nn then B 8 (8 * (d - 1) + (h - nn) + 0) else 0)) (4 * (d - 1 + 1) + 1) (if 1 < nn then B 8 (8 * (d - 1) + (h - nn) + 1) else 0)) (4 * (d - 1 + 1) + 2) (if 2 < nn then B 8 (8 * (d - 1) + (h - nn) + 2) else 0)) (4 * (d - 1 + 1) + 3) (if 3 < nn then B 8 (8 * (d - 1) + (h - nn) + 3) else 0))) hP q1 q7 ha ?_
  show vp_in (nI (d - 1) + 1) 8 ∧ _
  rw [e1, nI_clamp (by omega), e2]
  refine ⟨vp_in_nI (by omega) (by omega), nm_e ⟨vp_in_nI (by omega) (by omega), nm_e (nm_e (br_f (by decide) ?_))⟩⟩
  rw [ed] 
  exact K
end
end
section
/-! the reference: traps, the head of its loop, one turn -/
section
variable {P : pp_P} {m : mm_S} {G : Nat → Int32} {B : Nat → Nat → Int32}
theorem yy_trH {post : Int32 → Prop} {op ar : Int32} (hW : mm_W P m) (hA : yy_M m G B) (ha : mm_a m = 1) (mx8 : pp_mx P ≤ 8)
    (K : ((op = 0 → wY_trapAt_26 post op ar (nI (mm_ht m)) (G 0) (G 1) (G 2) (G 3) (G 4) (G 5) (G 6) (G 7) (B 0) (B 1) (B 2) (B 3) (B 4) (B 5) (B 6) (B 7) (B 8) (B 9)) ∧ (¬ op = 0 → ((op = 1 → wY_trapAt_26 post op ar (nI (mm_ht m)) (G 0) (G 1) (G 2) (G 3) (G 4) (G 5) (G 6) (G 7) (B 0) (B 1) (B 2) (B 3) (B 4) (B 5) (B 6) (B 7) (B 8) (B 9)) ∧ (¬ op = 1 → ((op = 3 → wY_trapAt_26 post op ar (nI (mm_ht m)) (G 0) (G 1) (G 2) (G 3) (G 4) (G 5) (G 6) (G 7) (B 0) (B 1) (B 2) (B 3) (B 4) (B 5) (B 6) (B 7) (B 8) (B 9)) ∧ (¬ op = 3 → wY_trapAt_34 post op ar (nI (mm_ht m)) (G 0) (G 1) (G 2) (G 3) (G 4) (G 5) (G 6) (G 7) (B 0) (B 1) (B 2) (B 3) (B 4) (B 5) (B 6) (B 7) (B 8) (B 9)))))))) : wpY_trapAt post (tw_y G B) op ar := by
  obtain ⟨w1, w2, w3, w4, w5, w6, w7⟩ := hW
  obtain ⟨a1, a2, a3, a4, a5, a6, a7, a8, a9, a10⟩ := hA
  have hd := w2 ha
  have e1 : (G 3) - 1 = nI (mm_d m - 1) := by rw [a1]; exact tw_d1 hd
  unfold wpY_trapAt
  refine ⟨tw_in e1 (by omega) (by omega), nm_r (e' := nI (mm_ht m)) (by rw [e1, nI_clamp (by omega)]; exact a8 _ (by omega)) K⟩
theorem yy_nT {post : Int32 → Prop} (hP : pp_ok P) (hW : mm_W P m) (hQ : yy_P P G B) (hA : yy_M m G B) (ha : mm_a m = 1) (hT : mm_nT P m) (K : post 1) : wpY_trapAt post (tw_y G B) (pp_op P (mm_pc m)) (pp_ar P (mm_pc m)) := by
  have hP' := hP
  obtain ⟨p1, p2, p3, p4, p5, p6⟩ := hP'
  have hW' := hW
  obtain ⟨w1, w2, w3, w4, w5, w6, w7⟩ := hW'
  have hA' := hA
  obtain ⟨a1, a2, a3, a4, a5, a6, a7, a8, a9, a10⟩ := hA'
  have hQ' := hQ
  obtain ⟨q1, q2, q3, q4, q5, q6, q7, q8⟩ := hQ'
  have hd := w2 ha
  obtain ⟨hpc, hht⟩ : mm_pc m < pp_nc P ∧ mm_ht m ≤ 8 := w3 (mm_d m - 1) (by omega)
  obtain ⟨c1, c2, c3, c4, c5, c6, c7, c8⟩ := p5 _ hpc
  refine yy_trH hW hA ha p4 ?_
  have n8 : mm_ht m < 8 → ¬ nI (mm_ht m) = 8 := fun z => tw_ne (b := 8) (by omega) (by omega) (by omega)
  have n0 : 0 < mm_ht m → ¬ nI (mm_ht m) = 0 := fun z => nI_ne0 z (by omega)
  have e1 : (G 3) - 1 = nI (mm_d m - 1) := by rw [a1]; exact tw_d1 hd
  rcases hT with ⟨o | o | o, h⟩ | ⟨o | o | o | o, h⟩ | ⟨o, h, h2⟩ | ⟨⟨k, k1, k2, o⟩, h, h2⟩ | o | ⟨o, h, h2, h3⟩
  iterate 3
    · rw [o]
      have f1 := n8 h
      repeat (first | refine br_t (by assumption) ?_ | refine br_f (by assumption) ?_ | refine br_f (by decide) ?_ | refine br_t (by decide) ?_)
      exact K
  iterate 4
    · rw [o]
      have f1 := n0 h
      repeat (first | refine br_t (by assumption) ?_ | refine br_f (by assumption) ?_ | refine br_f (by decide) ?_ | refine br_t (by decide) ?_)
      exact K
  · rw [o]
    have f1 := n0 h
    have f2 : ¬ (G 4) = 32 := by rw [a2]; exact tw_ne (b := 32) (by omega) (by omega) (by omega)
    repeat (first | refine br_t (by assumption) ?_ | refine br_f (by assumption) ?_ | refine br_f (by decide) ?_ | refine br_t (by decide) ?_)
    exact K
  · rw [o] at h2 ⊢
    have f1 : (2 : Int32) ≤ nI (mm_ht m) := nI_le (a := 2) h (by omega)
    have s1 : ((G 3) - 1) * 8 + nI (mm_ht m) - 1 = nI (8 * (mm_d m - 1) + (mm_ht m - 1)) := by
      rw [e1, tw_m8, nI_add, tw_d1 (by omega)]; congr 1; omega
    have f2 : vp_in (((((G 3) - 1) * 8) + nI (mm_ht m)) - 1) 64 := tw_in s1 (by omega) (by omega)
    have f3 : nI k = 8 → ¬ ((B 8) (((((G 3) - 1) * 8) + nI (mm_ht m)) - 1).toNatClampNeg) = 0 := by
      intro z
      rw [s1, nI_clamp (by omega), a10 _ _ (by omega) (show mm_ht m - 1 < mm_ht m by omega)]
      have := h2 z
      rwa [show 12 * (mm_d m - 1) + 4 + (mm_ht m - 1) = 12 * (mm_d m - 1) + 3 + mm_ht m by omega]
    have c : k = 5 ∨ k = 6 ∨ k = 7 ∨ k = 8 ∨ k = 9 := by omega
    rcases c with rfl | rfl | rfl | rfl | rfl
    iterate 3
      · repeat (first | refine br_t (by assumption) ?_ | refine br_f (by assumption) ?_ | refine br_f (by decide) ?_ | refine br_t (by decide) ?_)
        exact K
    · have f4 := f3 rfl
      repeat (first | refine br_t (by assumption) ?_ | refine br_f (by assumption) ?_ | refine br_f (by decide) ?_ | refine br_t (by decide) ?_)
      refine And.intro f2 ?_
      repeat (first | refine br_t (by assumption) ?_ | refine br_f (by assumption) ?_ | refine br_f (by decide) ?_ | refine br_t (by decide) ?_)
      exact K
    · repeat (first | refine br_t (by assumption) ?_ | refine br_f (by assumption) ?_ | refine br_f (by decide) ?_ | refine br_t (by decide) ?_)
      exact K
  · rw [o]
    repeat (first | refine br_f (by decide) ?_ | refine br_t (by decide) ?_)
    exact K
  · have ean := c6 (by rw [o]; decide)
    have hf := c5 o
    obtain ⟨x1, x2, x3, x4, x5, x6⟩ := p6 _ hf
    rw [o, ean]
    have f1 : vp_in (nI (pp_an P (mm_pc m))) 8 := vp_in_nI (by omega) (by omega)
    have v1 : (B 3) (nI (pp_an P (mm_pc m))).toNatClampNeg = nI (pp_fa P (pp_an P (mm_pc m))) := by rw [nI_clamp (by omega)]; exact q8 _ hf
    have f2 : ((B 3) (nI (pp_an P (mm_pc m))).toNatClampNeg) ≤ nI (mm_ht m) := by rw [v1]; exact nI_le h (by omega)
    have f3 : ¬ (G 3) = (G 2) := by rw [a1, q3]; exact tw_ne (by omega) (by omega) (by omega)
    repeat (first | refine br_f (by decide) ?_ | refine br_t (by decide) ?_)
    refine And.intro f1 (br_t f2 (br_t rfl (And.intro f1 ?_)))
    rw [v1]
    refine pk_eq (pp_fa P (pp_an P (mm_pc m))) 0 (fun z => ?_) (fun z => ?_) (ha := by omega)
    · exact br_f (tw_ne (b := 8) (by omega) (by omega) (h2 z)) (br_t rfl (br_f f3 K))
    · exact br_t rfl (br_f f3 K)
theorem yy_isT {post : Int32 → Prop} {c : Nat} (hP : pp_ok P) (hW : mm_W P m) (hQ : yy_P P G B) (hA : yy_M m G B) (ha : mm_a m = 1) (hT : mm_isT P m c) (K : post (nI c)) : wpY_trapAt post (tw_y G B) (pp_op P (mm_pc m)) (pp_ar P (mm_pc m)) := by
  have hP' := hP
  obtain ⟨p1, p2, p3, p4, p5, p6⟩ := hP'
  have hW' := hW
  obtain ⟨w1, w2, w3, w4, w5, w6, w7⟩ := hW'
  have hA' := hA
  obtain ⟨a1, a2, a3, a4, a5, a6, a7, a8, a9, a10⟩ := hA'
  have hQ' := hQ
  obtain ⟨q1, q2, q3, q4, q5, q6, q7, q8⟩ := hQ'
  have hd := w2 ha
  obtain ⟨hpc, hht⟩ : mm_pc m < pp_nc P ∧ mm_ht m ≤ 8 := w3 (mm_d m - 1) (by omega)
  obtain ⟨c1, c2, c3, c4, c5, c6, c7, c8⟩ := p5 _ hpc
  refine yy_trH hW hA ha p4 ?_
  have e1 : (G 3) - 1 = nI (mm_d m - 1) := by rw [a1]; exact tw_d1 hd
  have call : pp_op P (mm_pc m) = 12 → pp_ar P (mm_pc m) = nI (pp_an P (mm_pc m)) ∧ pp_an P (mm_pc m) < pp_nf P ∧ pp_fa P (pp_an P (mm_pc m)) ≤ 4 := fun o => ⟨c6 (by rw [o]; decide), c5 o, (p6 _ (c5 o)).2.1⟩
  rcases hT with ⟨o | o | o, h, rfl⟩ | ⟨o | o | o | o | o, h, rfl⟩ | ⟨⟨k, k1, k2, o⟩, h, rfl⟩ | ⟨o, h, h2, rfl⟩ | ⟨o, h, h2, rfl⟩ | ⟨o, h, rfl⟩ | ⟨o, h, h2, rfl⟩ | ⟨o, h, h2, h3, rfl⟩
  iterate 3
    · rw [o]
      have f1 : nI (mm_ht m) = 8 := by rw [h]; rfl
      repeat (first | refine br_t (by assumption) ?_ | refine br_f (by assumption) ?_ | refine br_f (by decide) ?_ | refine br_t (by decide) ?_)
      exact K
  iterate 5
    · rw [o]
      have f1 : nI (mm_ht m) = 0 := by rw [h]; rfl
      repeat (first | refine br_t (by assumption) ?_ | refine br_f (by assumption) ?_ | refine br_f (by decide) ?_ | refine br_t (by decide) ?_)
      exact K
  · rw [o]
    have f1 : ¬ (2 : Int32) ≤ nI (mm_ht m) := nI_ge (b := 2) h (by omega)
    have c : k = 5 ∨ k = 6 ∨ k = 7 ∨ k = 8 ∨ k = 9 := by omega
    rcases c with rfl | rfl | rfl | rfl | rfl
    iterate 5
      · repeat (first | refine br_t (by assumption) ?_ | refine br_f (by assumption) ?_ | refine br_f (by decide) ?_ | refine br_t (by decide) ?_)
        exact K
  · rw [o]
    have f1 : (2 : Int32) ≤ nI (mm_ht m) := nI_le (a := 2) h (by omega)
    have s1 : ((G 3) - 1) * 8 + nI (mm_ht m) - 1 = nI (8 * (mm_d m - 1) + (mm_ht m - 1)) := by
      rw [e1, tw_m8, nI_add, tw_d1 (by omega)]; congr 1; omega
    have f2 : vp_in (((((G 3) - 1) * 8) + nI (mm_ht m)) - 1) 64 := tw_in s1 (by omega) (by omega)
    have f3 : ((B 8) (((((G 3) - 1) * 8) + nI (mm_ht m)) - 1).toNatClampNeg) = 0 := by
      rw [s1, nI_clamp (by omega), a10 _ _ (by omega) (show mm_ht m - 1 < mm_ht m by omega)]
      rw [show 12 * (mm_d m - 1) + 4 + (mm_ht m - 1) = 12 * (mm_d m - 1) + 3 + mm_ht m by omega]
      exact h2
    repeat (first | refine br_t (by assumption) ?_ | refine br_f (by assumption) ?_ | refine br_f (by decide) ?_ | refine br_t (by decide) ?_)
    exact And.intro f2 (br_t f3 K)
  · rw [o]
    have f1 : ¬ nI (mm_ht m) = 0 := nI_ne0 h (by omega)
    have f2 : (G 4) = 32 := by rw [a2, h2]; rfl
    repeat (first | refine br_t (by assumption) ?_ | refine br_f (by assumption) ?_ | refine br_f (by decide) ?_ | refine br_t (by decide) ?_)
    exact K
  · obtain ⟨ean, hf, h4⟩ := call o
    rw [o, ean]
    have f1 : vp_in (nI (pp_an P (mm_pc m))) 8 := vp_in_nI (by omega) (by omega)
    have v1 : (B 3) (nI (pp_an P (mm_pc m))).toNatClampNeg = nI (pp_fa P (pp_an P (mm_pc m))) := by rw [nI_clamp (by omega)]; exact q8 _ hf
    have f2 : ¬ ((B 3) (nI (pp_an P (mm_pc m))).toNatClampNeg) ≤ nI (mm_ht m) := by rw [v1]; exact nI_ge h (by omega)
    repeat (first | refine br_f (by decide) ?_ | refine br_t (by decide) ?_)
    exact And.intro f1 (br_f f2 K)
  · obtain ⟨ean, hf, h4⟩ := call o
    rw [o, ean]
    have f1 : vp_in (nI (pp_an P (mm_pc m))) 8 := vp_in_nI (by omega) (by omega)
    have v1 : (B 3) (nI (pp_an P (mm_pc m))).toNatClampNeg = nI (pp_fa P (pp_an P (mm_pc m))) := by rw [nI_clamp (by omega)]; exact q8 _ hf
    have f2 : ((B 3) (nI (pp_an P (mm_pc m))).toNatClampNeg) ≤ nI (mm_ht m) := by rw [v1]; exact nI_le (by omega) (by omega)
    have f3 : ((B 3) (nI (pp_an P (mm_pc m))).toNatClampNeg) = 0 := by rw [v1, h]; rfl
    have f4 : nI (mm_ht m) = 8 := by rw [h2]; rfl
    repeat (first | refine br_f (by decide) ?_ | refine br_t (by decide) ?_)
    exact And.intro f1 (br_t f2 (br_t rfl (And.intro f1 (br_t f3 (br_t f4 K)))))
  · obtain ⟨ean, hf, h4⟩ := call o
    rw [o, ean]
    have f1 : vp_in (nI (pp_an P (mm_pc m))) 8 := vp_in_nI (by omega) (by omega)
    have v1 : (B 3) (nI (pp_an P (mm_pc m))).toNatClampNeg = nI (pp_fa P (pp_an P (mm_pc m))) := by rw [nI_clamp (by omega)]; exact q8 _ hf
    have f2 : ((B 3) (nI (pp_an P (mm_pc m))).toNatClampNeg) ≤ nI (mm_ht m) := by rw [v1]; exact nI_le h (by omega)
    have f3 : (G 3) = (G 2) := by rw [a1, q3, h3]
    repeat (first | refine br_f (by decide) ?_ | refine br_t (by decide) ?_)
    refine And.intro f1 (br_t f2 (br_t rfl (And.intro f1 ?_)))
    rw [v1]
    refine pk_eq (pp_fa P (pp_an P (mm_pc m))) 0 (fun z => ?_) (fun z => ?_) (ha := by omega)
    · exact br_f (tw_ne (b := 8) (by omega) (by omega) (h2 z)) (br_t rfl (br_t f3 K))
    · exact br_t rfl (br_t f3 K)
theorem yy_100 {post : Int32 → SY → Prop} {J : Int32 → Int32 → Int32 → Int32 → Int32 → Int32 → Int32 → Int32 → Int32 → Int32 → (Nat → Int32) → (Nat → Int32) → (Nat → Int32) → (Nat → Int32) → (Nat → Int32) → (Nat → Int32) → (Nat → Int32) → (Nat → Int32) → (Nat → Int32) → (Nat → Int32) → Prop} {f : Nat} {x3 x4 x5 : Int32} (hf : f < 100)
    (K : wY_run_112 post J (nI f) x3 x4 x5 (G 0) (G 1) (G 2) (G 3) (G 4) (G 5) (G 6) (G 7) (B 0) (B 1) (B 2) (B 3) (B 4) (B 5) (B 6) (B 7) (B 8) (B 9)) : wY_run_100 post J (nI (f + 1)) x3 x4 x5 (G 0) (G 1) (G 2) (G 3) (G 4) (G 5) (G 6) (G 7) (B 0) (B 1) (B 2) (B 3) (B 4) (B 5) (B 6) (B 7) (B 8) (B 9) :=
  br_f (nI_ne0 (by omega) (by omega)) (nm_r (pk_m1 f) K)
theorem yy_head {post : Int32 → SY → Prop} {n i : Nat} (hP : pp_ok P) (hW : mm_W P m) (hQ : yy_P P G B) (hA : yy_M m G B) (ha : mm_a m = 1) (hi : i < 5000) (f' : Nat) (hc : mm_cost P (mm_pc m) → mm_f m = f' + 1) (hn : ¬ mm_cost P (mm_pc m) → f' = mm_f m)
    (K : wY_run_112 post (wY_run_23 post n) (nI f') (nI i) (nI (mm_pc m)) (pp_op P (mm_pc m)) (G 0) (G 1) (G 2) (G 3) (G 4) (G 5) (G 6) (G 7) (B 0) (B 1) (B 2) (B 3) (B 4) (B 5) (B 6) (B 7) (B 8) (B 9)) : wY_run_23 post (n + 1) (nI (mm_f m)) (nI i) (G 0) (G 1) (G 2) (G 3) (G 4) (G 5) (G 6) (G 7) (B 0) (B 1) (B 2) (B 3) (B 4) (B 5) (B 6) (B 7) (B 8) (B 9) := by
  obtain ⟨p1, p2, p3, p4, p5, p6⟩ := hP
  obtain ⟨w1, w2, w3, w4, w5, w6, w7⟩ := hW
  obtain ⟨a1, a2, a3, a4, a5, a6, a7, a8, a9, a10⟩ := hA
  obtain ⟨q1, q2, q3, q4, q5, q6, q7, q8⟩ := hQ
  have hd := w2 ha
  obtain ⟨hpc, hht⟩ : mm_pc m < pp_nc P ∧ mm_ht m ≤ 8 := w3 (mm_d m - 1) (by omega)
  obtain ⟨c1, c2, c3, c4, c5, c6, c7, c8⟩ := p5 _ hpc
  have e1 : (G 3) - 1 = nI (mm_d m - 1) := by rw [a1]; exact tw_d1 hd
  have hf' : mm_cost P (mm_pc m) → f' < 100 := fun z => by have := hc z; omega
  have cst : mm_cost P (mm_pc m) → wY_run_100 post (wY_run_23 post n) (nI (mm_f m)) (nI i) (nI (mm_pc m)) (pp_op P (mm_pc m)) (G 0) (G 1) (G 2) (G 3) (G 4) (G 5) (G 6) (G 7) (B 0) (B 1) (B 2) (B 3) (B 4) (B 5) (B 6) (B 7) (B 8) (B 9) := by
    intro z
    rw [hc z]
    exact yy_100 (hf' z) K
  have nst : ¬ mm_cost P (mm_pc m) → wY_run_112 post (wY_run_23 post n) (nI (mm_f m)) (nI i) (nI (mm_pc m)) (pp_op P (mm_pc m)) (G 0) (G 1) (G 2) (G 3) (G 4) (G 5) (G 6) (G 7) (B 0) (B 1) (B 2) (B 3) (B 4) (B 5) (B 6) (B 7) (B 8) (B 9) := by
    intro z
    rw [← hn z]
    exact K
  have jmp : (pp_op P (mm_pc m) = 10 ∨ pp_op P (mm_pc m) = 11) → wY_run_88 post (wY_run_23 post n) (nI (mm_f m)) (nI i) (nI (mm_pc m)) (pp_op P (mm_pc m)) (G 0) (G 1) (G 2) (G 3) (G 4) (G 5) (G 6) (G 7) (B 0) (B 1) (B 2) (B 3) (B 4) (B 5) (B 6) (B 7) (B 8) (B 9) := by
    intro o
    unfold wY_run_88
    have ean : (B 1) (nI (mm_pc m)).toNatClampNeg = nI (pp_an P (mm_pc m)) := by
      rw [nI_clamp (by omega), q6]
      exact c6 (by rcases o with o | o <;> rw [o] <;> decide)
    have := c4 o
    rw [ean]
    refine And.intro (vp_in_nI (by omega) (by omega)) (pk_lt (mm_pc m) (pp_an P (mm_pc m)) (fun z => ?_) (fun z => ?_) (ha := by omega) (hb := by omega))
    · refine nst (fun q => ?_)
      rcases q with q | q | ⟨_, q⟩
      · rcases o with o | o <;> exact absurd (o.symm.trans q) (by decide)
      · rcases o with o | o <;> exact absurd (o.symm.trans q) (by decide)
      · omega
    · exact cst (Or.inr (Or.inr ⟨o, z⟩))
  unfold wY_run_23
  refine br_f (nI_ge (b := 5000) hi (by omega)) (br_t (by rw [a3, ha]; rfl) ⟨tw_in e1 (by omega) (by omega), nm_r (e' := nI (mm_pc m)) (by rw [e1, nI_clamp (by omega)]; exact a7 _ (by omega)) ⟨vp_in_nI (by omega) (by omega), nm_r (e' := pp_op P (mm_pc m)) (by rw [nI_clamp (by omega), q5]) ?_⟩⟩)
  refine br_c (fun o => cst (Or.inl o)) (fun o12 => br_c (fun o => cst (Or.inr (Or.inl o))) (fun o13 => br_c (fun o => jmp (Or.inl o)) (fun o10 => br_c (fun o => jmp (Or.inr o)) (fun o11 => nst ?_))))
  intro q
  rcases q with q | q | ⟨q | q, _⟩
  · exact o12 q
  · exact o13 q
  · exact o10 q
  · exact o11 q
/-- the loop ends where the plain machine stops -/
theorem yy_stop {post : Int32 → SY → Prop} {n i : Nat} (hP : pp_ok P) (hW : mm_W P m) (hQ : yy_P P G B) (hA : yy_M m G B) (hi : i < 5000) (hs : mm_stop P m)
    (K : post (nI (mm_a m)) (tw_y G B)) : wY_run_23 post (n + 1) (nI (mm_f m)) (nI i) (G 0) (G 1) (G 2) (G 3) (G 4) (G 5) (G 6) (G 7) (B 0) (B 1) (B 2) (B 3) (B 4) (B 5) (B 6) (B 7) (B 8) (B 9) := by
  obtain ⟨p1, p2, p3, p4, p5, p6⟩ := hP
  obtain ⟨w1, w2, w3, w4, w5, w6, w7⟩ := hW
  obtain ⟨a1, a2, a3, a4, a5, a6, a7, a8, a9, a10⟩ := hA
  obtain ⟨q1, q2, q3, q4, q5, q6, q7, q8⟩ := hQ
  have K' : post (G 5) (tw_y G B) := by rw [a3]; exact K
  by_cases ha : mm_a m = 1
  · rcases hs with hs | ⟨hc, hf⟩
    · exact absurd ha hs
    have hd := w2 ha
    obtain ⟨hpc, hht⟩ : mm_pc m < pp_nc P ∧ mm_ht m ≤ 8 := w3 (mm_d m - 1) (by omega)
    obtain ⟨c1, c2, c3, c4, c5, c6, c7, c8⟩ := p5 _ hpc
    have e1 : (G 3) - 1 = nI (mm_d m - 1) := by rw [a1]; exact tw_d1 hd
    have cst : wY_run_100 post (wY_run_23 post n) (nI (mm_f m)) (nI i) (nI (mm_pc m)) (pp_op P (mm_pc m)) (G 0) (G 1) (G 2) (G 3) (G 4) (G 5) (G 6) (G 7) (B 0) (B 1) (B 2) (B 3) (B 4) (B 5) (B 6) (B 7) (B 8) (B 9) := by
      rw [hf]
      exact br_t rfl K'
    have jmp : (pp_op P (mm_pc m) = 10 ∨ pp_op P (mm_pc m) = 11) → pp_an P (mm_pc m) ≤ mm_pc m → wY_run_88 post (wY_run_23 post n) (nI (mm_f m)) (nI i) (nI (mm_pc m)) (pp_op P (mm_pc m)) (G 0) (G 1) (G 2) (G 3) (G 4) (G 5) (G 6) (G 7) (B 0) (B 1) (B 2) (B 3) (B 4) (B 5) (B 6) (B 7) (B 8) (B 9) := by
      intro o z
      unfold wY_run_88
      have ean : (B 1) (nI (mm_pc m)).toNatClampNeg = nI (pp_an P (mm_pc m)) := by
        rw [nI_clamp (by omega), q6]
        exact c6 (by rcases o with o | o <;> rw [o] <;> decide)
      have := c4 o
      rw [ean]
      exact And.intro (vp_in_nI (by omega) (by omega)) (br_f (nI_nlt z (by omega)) cst)
    unfold wY_run_23
    refine br_f (nI_ge (b := 5000) hi (by omega)) (br_t (by rw [a3, ha]; rfl) ⟨tw_in e1 (by omega) (by omega), nm_r (e' := nI (mm_pc m)) (by rw [e1, nI_clamp (by omega)]; exact a7 _ (by omega)) ⟨vp_in_nI (by omega) (by omega), nm_r (e' := pp_op P (mm_pc m)) (by rw [nI_clamp (by omega), q5]) ?_⟩⟩)
    refine br_c (fun o => cst) (fun o12 => br_c (fun o => cst) (fun o13 => br_c (fun o => jmp (Or.inl o) ?_) (fun o10 => br_c (fun o => jmp (Or.inr o) ?_) (fun o11 => ?_))))
    · rcases hc with q | q | ⟨_, q⟩
      · exact absurd q o12
      · exact absurd q o13
      · exact q
    · rcases hc with q | q | ⟨_, q⟩
      · exact absurd q o12
      · exact absurd q o13
      · exact q
    · rcases hc with q | q | ⟨q | q, _⟩
      · exact absurd q o12
      · exact absurd q o13
      · exact absurd q o10
      · exact absurd q o11
  · unfold wY_run_23
    refine br_f (nI_ge (b := 5000) hi (by omega)) (br_f (fun z => ha ?_) K')
    rw [a3] at z
    exact (nI_eq (b := 1) (by omega) (by omega)).mp z
end
end
section
/-! the reference: one turn of its loop -/
section
variable {P : pp_P} {m : mm_S} {G : Nat → Int32} {B : Nat → Nat → Int32}
theorem yy_112n {post : Int32 → SY → Prop} {n i f' : Nat} (hP : pp_ok P) (hW : mm_W P m) (hQ : yy_P P G B) (hA : yy_M m G B) (ha : mm_a m = 1) (hT : mm_nT P m)
    (K : ∀ Q : SY → Prop, (∀ (G' : Nat → Int32) (B' : Nat → Nat → Int32), wY_run_23 post n (nI f') (nI (i + 1)) (G' 0) (G' 1) (G' 2) (G' 3) (G' 4) (G' 5) (G' 6) (G' 7) (B' 0) (B' 1) (B' 2) (B' 3) (B' 4) (B' 5) (B' 6) (B' 7) (B' 8) (B' 9) → Q (tw_y G' B')) → wpY_effect Q (tw_y G B) (nI (mm_pc m)) (pp_op P (mm_pc m)) (pp_ar P (mm_pc m))) :
    wY_run_112 post (wY_run_23 post n) (nI f') (nI i) (nI (mm_pc m)) (pp_op P (mm_pc m)) (G 0) (G 1) (G 2) (G 3) (G 4) (G 5) (G 6) (G 7) (B 0) (B 1) (B 2) (B 3) (B 4) (B 5) (B 6) (B 7) (B 8) (B 9) := by
  have hp : mm_pc m < 64 := Nat.lt_of_lt_of_le (hW.2.2.1 (mm_d m - 1) (by have := hW.2.1 ha; omega)).1 hP.1
  have q6 : (B 1) (mm_pc m) = pp_ar P (mm_pc m) := congrFun hQ.2.2.2.2.2.1 _
  unfold wY_run_112
  rw [nI_clamp (by omega), q6]
  refine ⟨vp_in_nI hp (by omega), yy_nT hP hW hQ hA ha hT (br_t rfl ⟨vp_in_nI hp (by omega), K _ (fun G' B' h => ?_)⟩)⟩
  exact nm_r (nI_1 i) h
theorem yy_112t {post : Int32 → SY → Prop} {n i f' c : Nat} (hP : pp_ok P) (hW : mm_W P m) (hQ : yy_P P G B) (hA : yy_M m G B) (ha : mm_a m = 1) (hT : mm_isT P m c) (hc : c ≤ 7) (hc1 : ¬ c = 1)
    (K : wY_run_23 post n (nI f') (nI (i + 1)) (G 0) (G 1) (G 2) (G 3) (G 4) (nI c) (G 6) (G 7) (B 0) (B 1) (B 2) (B 3) (B 4) (B 5) (B 6) (B 7) (B 8) (B 9)) :
    wY_run_112 post (wY_run_23 post n) (nI f') (nI i) (nI (mm_pc m)) (pp_op P (mm_pc m)) (G 0) (G 1) (G 2) (G 3) (G 4) (G 5) (G 6) (G 7) (B 0) (B 1) (B 2) (B 3) (B 4) (B 5) (B 6) (B 7) (B 8) (B 9) := by
  have hp : mm_pc m < 64 := Nat.lt_of_lt_of_le (hW.2.2.1 (mm_d m - 1) (by have := hW.2.1 ha; omega)).1 hP.1
  have q6 : (B 1) (mm_pc m) = pp_ar P (mm_pc m) := congrFun hQ.2.2.2.2.2.1 _
  unfold wY_run_112
  rw [nI_clamp (by omega), q6]
  exact ⟨vp_in_nI hp (by omega), yy_isT hP hW hQ hA ha hT (br_f (tw_ne (b := 1) (by omega) (by omega) hc1) (nm_r (nI_1 i) K))⟩
theorem yy_step {post : Int32 → SY → Prop} {n i : Nat} {m' : mm_S} (hP : pp_ok P) (hW : mm_W P m) (hQ : yy_P P G B) (hA : yy_M m G B) (hS : mm_St P m m') (hi : i < 5000)
    (K : ∀ (G' : Nat → Int32) (B' : Nat → Nat → Int32), yy_P P G' B' → yy_M m' G' B' → wY_run_23 post n (nI (mm_f m')) (nI (i + 1)) (G' 0) (G' 1) (G' 2) (G' 3) (G' 4) (G' 5) (G' 6) (G' 7) (B' 0) (B' 1) (B' 2) (B' 3) (B' 4) (B' 5) (B' 6) (B' 7) (B' 8) (B' 9)) : wY_run_23 post (n + 1) (nI (mm_f m)) (nI i) (G 0) (G 1) (G 2) (G 3) (G 4) (G 5) (G 6) (G 7) (B 0) (B 1) (B 2) (B 3) (B 4) (B 5) (B 6) (B 7) (B 8) (B 9) := by
  obtain ⟨ha, hS⟩ := hS
  have hP' := hP
  obtain ⟨p1, p2, p3, p4, p5, p6⟩ := hP'
  have hW' := hW
  obtain ⟨w1, w2, w3, w4, w5, w6, w7⟩ := hW'
  have hA' := hA
  obtain ⟨a1, a2, a3, a4, a5, a6, a7, a8, a9, a10⟩ := hA'
  have hQ' := hQ
  obtain ⟨q1, q2, q3, q4, q5, q6, q7, q8⟩ := hQ'
  have hd := w2 ha
  obtain ⟨hpc, hht⟩ : mm_pc m < pp_nc P ∧ mm_ht m ≤ 8 := w3 (mm_d m - 1) (by omega)
  obtain ⟨c1, c2, c3, c4, c5, c6, c7, c8⟩ := p5 _ hpc
  have d8 : mm_d m ≤ 8 := Nat.le_trans w1 p4
  have nc : ∀ k : Int32, pp_op P (mm_pc m) = k → ¬ k = 12 → ¬ k = 13 → ¬ k = 10 → ¬ k = 11 → ¬ mm_cost P (mm_pc m) := by
    intro k e x1 x2 x3 x4 z
    rcases z with z | z | ⟨z | z, _⟩
    · exact x1 (e.symm.trans z)
    · exact x2 (e.symm.trans z)
    · exact x3 (e.symm.trans z)
    · exact x4 (e.symm.trans z)
  have head0 : ¬ mm_cost P (mm_pc m) → wY_run_112 post (wY_run_23 post n) (nI (mm_f m)) (nI i) (nI (mm_pc m)) (pp_op P (mm_pc m)) (G 0) (G 1) (G 2) (G 3) (G 4) (G 5) (G 6) (G 7) (B 0) (B 1) (B 2) (B 3) (B 4) (B 5) (B 6) (B 7) (B 8) (B 9) → wY_run_23 post (n + 1) (nI (mm_f m)) (nI i) (G 0) (G 1) (G 2) (G 3) (G 4) (G 5) (G 6) (G 7) (B 0) (B 1) (B 2) (B 3) (B 4) (B 5) (B 6) (B 7) (B 8) (B 9) :=
    fun z k => yy_head hP hW hQ hA ha hi (mm_f m) (fun q => absurd q z) (fun _ => rfl) k
  have head1 : mm_cost P (mm_pc m) → 0 < mm_f m → wY_run_112 post (wY_run_23 post n) (nI (mm_f m - 1)) (nI i) (nI (mm_pc m)) (pp_op P (mm_pc m)) (G 0) (G 1) (G 2) (G 3) (G 4) (G 5) (G 6) (G 7) (B 0) (B 1) (B 2) (B 3) (B 4) (B 5) (B 6) (B 7) (B 8) (B 9) → wY_run_23 post (n + 1) (nI (mm_f m)) (nI i) (G 0) (G 1) (G 2) (G 3) (G 4) (G 5) (G 6) (G 7) (B 0) (B 1) (B 2) (B 3) (B 4) (B 5) (B 6) (B 7) (B 8) (B 9) :=
    fun z f0 k => yy_head hP hW hQ hA ha hi (mm_f m - 1) (fun _ => by omega) (fun q => absurd z q) k
  have push : ∀ v : Int32, (∀ (G' : Nat → Int32) (B' : Nat → Nat → Int32), yy_P P G' B' → yy_M (mm_push m v) G' B' → wY_run_23 post n (nI (mm_f m)) (nI (i + 1)) (G' 0) (G' 1) (G' 2) (G' 3) (G' 4) (G' 5) (G' 6) (G' 7) (B' 0) (B' 1) (B' 2) (B' 3) (B' 4) (B' 5) (B' 6) (B' 7) (B' 8) (B' 9)) → mm_ht m < 8 →
      wY_run_23 post n (nI (mm_f m)) (nI (i + 1)) (G 0) (G 1) (G 2) (G 3) (G 4) (G 5) (G 6) (G 7) (B 0) (B 1) (B 2) (B 3) (B 4) (upd (B 5) (mm_d m - 1) (nI (mm_pc m + 1))) (upd (B 6) (mm_d m - 1) (nI (mm_ht m + 1))) (B 7) (upd (B 8) (8 * (mm_d m - 1) + mm_ht m) v) (B 9) := by
    intro v k h
    exact k G (tw_s (tw_s (tw_s B 5 (upd (B 5) (mm_d m - 1) (nI (mm_pc m + 1)))) 8 (upd (B 8) (8 * (mm_d m - 1) + mm_ht m) v)) 6 (upd (B 6) (mm_d m - 1) (nI (mm_ht m + 1)))) hQ
      (yy_Mfr (L' := B 7) (T' := upd (B 8) (8 * (mm_d m - 1) + mm_ht m) v) hd hA rfl a2 rfl rfl a5 a6 rfl rfl rfl rfl (yy_Ml hA h) (yy_Mt hW hA (Nat.le_refl _) h))
  have jf : mm_jf P (mm_pc m) (mm_f m) = if pp_an P (mm_pc m) ≤ mm_pc m then mm_f m - 1 else mm_f m := rfl
  have headj : (pp_op P (mm_pc m) = 10 ∨ pp_op P (mm_pc m) = 11) → (pp_an P (mm_pc m) ≤ mm_pc m → 0 < mm_f m) → wY_run_112 post (wY_run_23 post n) (nI (mm_jf P (mm_pc m) (mm_f m))) (nI i) (nI (mm_pc m)) (pp_op P (mm_pc m)) (G 0) (G 1) (G 2) (G 3) (G 4) (G 5) (G 6) (G 7) (B 0) (B 1) (B 2) (B 3) (B 4) (B 5) (B 6) (B 7) (B 8) (B 9) → wY_run_23 post (n + 1) (nI (mm_f m)) (nI i) (G 0) (G 1) (G 2) (G 3) (G 4) (G 5) (G 6) (G 7) (B 0) (B 1) (B 2) (B 3) (B 4) (B 5) (B 6) (B 7) (B 8) (B 9) := by
    intro o z k
    by_cases e : pp_an P (mm_pc m) ≤ mm_pc m
    · rw [jf, if_pos e] at k
      exact head1 (Or.inr (Or.inr ⟨o, e⟩)) (z e) k
    · rw [jf, if_neg e] at k
      refine head0 (fun q => ?_) k
      rcases q with q | q | ⟨_, q⟩
      · rcases o with o | o <;> exact absurd (o.symm.trans q) (by decide)
      · rcases o with o | o <;> exact absurd (o.symm.trans q) (by decide)
      · exact e q
  rcases hS with ⟨o, h, rfl⟩ | ⟨o, h, rfl⟩ | ⟨o, h, rfl⟩ | ⟨o, h, rfl⟩ | ⟨o, h, rfl⟩ | ⟨o, h, h2, rfl⟩ | ⟨⟨k, k1, k2, o⟩, h, h2, rfl⟩ | ⟨o, h, rfl⟩ | ⟨o, h, h2, rfl⟩ | ⟨o, h, h2, h3, h4, rfl⟩ | ⟨o, h, h2, h3, rfl⟩ | ⟨o, h, h2, h3, rfl⟩ | ⟨c, hc, h, h2⟩
  · refine head0 (nc _ o (by decide) (by decide) (by decide) (by decide)) (yy_112n hP hW hQ hA ha (Or.inl ⟨Or.inl o, h⟩) (fun Q hq => yy_eff hW hA ha p4 (fun y x hy hx => ?_)))
    rw [o]
    exact yy_o0 a1 hd d8 h (hq _ _ (push _ K h))
  · refine head0 (nc _ o (by decide) (by decide) (by decide) (by decide)) (yy_112n hP hW hQ hA ha (Or.inl ⟨Or.inr (Or.inl o), h⟩) (fun Q hq => yy_eff hW hA ha p4 (fun y x hy hx => ?_)))
    have an := c2 (Or.inl o)
    rw [← a9 _ _ (by omega) an] at K
    have ea := c6 (by rw [o]; decide)
    rw [o]
    exact yy_o1 a1 hd d8 h ea an (hq _ _ (push _ K h))
  · refine head0 (nc _ o (by decide) (by decide) (by decide) (by decide)) (yy_112n hP hW hQ hA ha (Or.inl ⟨Or.inr (Or.inr o), h⟩) (fun Q hq => yy_eff hW hA ha p4 (fun y x hy hx => ?_)))
    have an := c3 (Or.inl o)
    rw [← a5] at K
    have ea := c6 (by rw [o]; decide)
    rw [o]
    exact yy_o3 a1 hd d8 h ea an (hq _ _ (push _ K h))
  · refine head0 (nc _ o (by decide) (by decide) (by decide) (by decide)) (yy_112n hP hW hQ hA ha (Or.inr (Or.inl ⟨Or.inl o, h⟩)) (fun Q hq => yy_eff hW hA ha p4 (fun y x hy hx => ?_)))
    have an := c2 (Or.inr o)
    have ea := c6 (by rw [o]; decide)
    rw [o, hy h]
    refine yy_o2 hd d8 hht h ea an (hq _ _ (K _ _ hQ (yy_Mfr (L' := upd (B 7) (4 * (mm_d m - 1) + pp_an P (mm_pc m)) (mm_top m)) (T' := B 8) hd hA rfl a2 rfl rfl a5 a6 rfl rfl rfl rfl ?_ ?_)))
    · intro z j hz hj
      by_cases e : z = mm_d m - 1 ∧ j = pp_an P (mm_pc m)
      · rw [tw_ue (by omega), tw_ue (by omega)]
      · rw [pk_un (by omega), pk_un (by omega)]; exact a9 z j hz hj
    · intro z j hz hj
      have hj8 : j < 8 := by
        by_cases e : z = mm_d m - 1
        · rw [tw_se e] at hj; omega
        · rw [tw_sn e] at hj; exact Nat.lt_of_lt_of_le hj (w3 z hz).2
      rw [pk_un (by omega)]
      exact yy_Ms hA (by omega) z j hz hj
  · refine head0 (nc _ o (by decide) (by decide) (by decide) (by decide)) (yy_112n hP hW hQ hA ha (Or.inr (Or.inl ⟨Or.inr (Or.inl o), h⟩)) (fun Q hq => yy_eff hW hA ha p4 (fun y x hy hx => ?_)))
    have an := c3 (Or.inr o)
    have ea := c6 (by rw [o]; decide)
    rw [o, hy h]
    exact yy_o4 hd d8 hht h ea an (hq _ _ (K _ _ hQ (yy_Mfr (L' := B 7) (T' := B 8) hd hA rfl a2 rfl rfl (congrArg (fun z => upd z _ _) a5) a6 rfl rfl rfl rfl a9 (yy_Ms hA (by omega)))))
  · refine head0 (nc _ o (by decide) (by decide) (by decide) (by decide)) (yy_112n hP hW hQ hA ha (Or.inr (Or.inr (Or.inl ⟨o, h, h2⟩))) (fun Q hq => yy_eff hW hA ha p4 (fun y x hy hx => ?_)))
    rw [o, hy h]
    exact yy_o14 a2 h2 hd d8 hht h (hq _ _ (K _ _ hQ (yy_Mfr (L' := B 7) (T' := B 8) hd hA rfl rfl rfl rfl a5 (congrArg (fun z => upd z _ _) a6) rfl rfl rfl rfl a9 (yy_Ms hA (by omega)))))
  · refine head0 (nc _ o ?_ ?_ ?_ ?_) (yy_112n hP hW hQ hA ha (Or.inr (Or.inr (Or.inr (Or.inl ⟨⟨k, k1, k2, o⟩, h, h2⟩)))) (fun Q hq => yy_eff hW hA ha p4 (fun y x hy hx => ?_)))
    · exact tw_ne (b := 12) (by omega) (by omega) (by omega)
    · exact tw_ne (b := 13) (by omega) (by omega) (by omega)
    · exact tw_ne (b := 10) (by omega) (by omega) (by omega)
    · exact tw_ne (b := 11) (by omega) (by omega) (by omega)
    · rw [o] at K h2 ⊢
      rw [hy (by omega), hx h]
      refine yy_o59 k1 k2 a1 hd d8 hht h h2 (hq _ _ (K _ _ hQ (yy_Mfr (L' := B 7) (T' := upd (B 8) (8 * (mm_d m - 1) + (mm_ht m - 2)) (mm_ari (nI k) (mm_nxt m) (mm_top m))) hd hA rfl a2 rfl rfl a5 a6 rfl ?_ rfl rfl ?_ ?_)))
      · exact congrArg (fun z => upd (B 6) (mm_d m - 1) (nI z)) (by omega)
      · have := yy_Ml (c := mm_ht m - 2) (v := mm_ari (nI k) (mm_nxt m) (mm_top m)) hA (by omega)
        rwa [show 12 * (mm_d m - 1) + 4 + (mm_ht m - 2) = 12 * (mm_d m - 1) + 2 + mm_ht m by omega] at this
      · have := yy_Mt (c := mm_ht m - 2) (v := mm_ari (nI k) (mm_nxt m) (mm_top m)) hW hA (by omega) (by omega)
        rwa [show 12 * (mm_d m - 1) + 4 + (mm_ht m - 2) = 12 * (mm_d m - 1) + 2 + mm_ht m by omega, show mm_ht m - 2 + 1 = mm_ht m - 1 by omega] at this
  · refine headj (Or.inl o) h (yy_112n hP hW hQ hA ha (Or.inr (Or.inr (Or.inr (Or.inr (Or.inl o))))) (fun Q hq => yy_eff hW hA ha p4 (fun y x hy hx => ?_)))
    have ea := c6 (by rw [o]; decide)
    rw [o]
    refine yy_o10 hd d8 ea (hq _ _ (K _ _ hQ (yy_Mfr (L' := B 7) (T' := B 8) hd hA rfl a2 rfl rfl a5 a6 rfl ?_ rfl rfl a9 (yy_Ms hA (Nat.le_refl _)))))
    show B 6 = _
    rw [← a8 _ (by omega), tw_usame]
  · refine headj (Or.inr o) h2 (yy_112n hP hW hQ hA ha (Or.inr (Or.inl ⟨Or.inr (Or.inr (Or.inl o)), h⟩)) (fun Q hq => yy_eff hW hA ha p4 (fun y x hy hx => ?_)))
    have ea := c6 (by rw [o]; decide)
    rw [o, hy h]
    exact yy_o11 hd d8 hht h ea (hq _ _ (K _ _ hQ (yy_Mfr (L' := B 7) (T' := B 8) hd hA rfl a2 rfl rfl a5 a6 rfl rfl rfl rfl a9 (yy_Ms hA (by omega)))))
  · refine head1 (Or.inl o) h (yy_112n hP hW hQ hA ha (Or.inr (Or.inr (Or.inr (Or.inr (Or.inr ⟨o, h2, h3, h4⟩))))) (fun Q hq => yy_eff hW hA ha p4 (fun y x hy hx => ?_)))
    have ea := c6 (by rw [o]; decide)
    have an := c5 o
    rw [o]
    refine yy_o12 hP hQ hd (by omega) hht ea an rfl h2 (hq _ _ (K _ _ hQ ⟨rfl, a2, a3, a4, a5, a6, ?_, ?_, ?_, ?_⟩))
    · intro z hz
      have hz' : z < mm_d m + 1 := hz
      show upd (upd (B 5) (mm_d m - 1) (nI (mm_pc m + 1))) (mm_d m) (nI (pp_fs P (pp_an P (mm_pc m)))) z = nI (tw_s (tw_s (mm_p m) (mm_d m - 1) (mm_pc m + 1)) (mm_d m) (pp_fs P (pp_an P (mm_pc m))) z)
      by_cases e : z = mm_d m
      · rw [tw_ue e, tw_se e]
      · rw [pk_un e, tw_sn e]
        by_cases e2 : z = mm_d m - 1
        · rw [tw_ue e2, tw_se e2]
        · rw [pk_un e2, tw_sn e2]; exact a7 z (by omega)
    · intro z hz
      have hz' : z < mm_d m + 1 := hz
      show upd (upd (B 6) (mm_d m - 1) (nI (mm_ht m - pp_fa P (pp_an P (mm_pc m))))) (mm_d m) (nI 0) z = nI (tw_s (tw_s (mm_h m) (mm_d m - 1) (mm_ht m - pp_fa P (pp_an P (mm_pc m)))) (mm_d m) 0 z)
      by_cases e : z = mm_d m
      · rw [tw_ue e, tw_se e]
      · rw [pk_un e, tw_sn e]
        by_cases e2 : z = mm_d m - 1
        · rw [tw_ue e2, tw_se e2]
        · rw [pk_un e2, tw_sn e2]; exact a8 z (by omega)
    · intro z j hz hj
      have hz' : z < mm_d m + 1 := hz
      have src : ∀ c, c < pp_fa P (pp_an P (mm_pc m)) → B 8 (8 * (mm_d m - 1) + (mm_ht m - pp_fa P (pp_an P (mm_pc m))) + c) = mm_s m (12 * (mm_d m - 1) + (4 + c) + (mm_ht m - pp_fa P (pp_an P (mm_pc m)))) := by
        intro c hc
        have := a10 (mm_d m - 1) (mm_ht m - pp_fa P (pp_an P (mm_pc m)) + c) (by omega) (show _ < mm_ht m by omega)
        rw [Nat.add_assoc, this]
        exact congrArg (mm_s m) (by omega)
      have va : ∀ c, (if c < pp_fa P (pp_an P (mm_pc m)) then B 8 (8 * (mm_d m - 1) + (mm_ht m - pp_fa P (pp_an P (mm_pc m))) + c) else 0) = (if c < pp_fa P (pp_an P (mm_pc m)) then mm_s m (12 * (mm_d m - 1) + (4 + c) + (mm_ht m - pp_fa P (pp_an P (mm_pc m)))) else 0) := by
        intro c
        by_cases e : c < pp_fa P (pp_an P (mm_pc m))
        · rw [if_pos e, if_pos e]; exact src c e
        · rw [if_neg e, if_neg e]
      show upd (upd (upd (upd (B 7) _ _) _ _) _ _) _ _ (4 * z + j) = (mm_call P m).2.2.2.1 (12 * z + j)
      by_cases e : z = mm_d m
      · subst e
        rw [mm_cs hj]
        have cj : j = 0 ∨ j = 1 ∨ j = 2 ∨ j = 3 := by omega
        rcases cj with rfl | rfl | rfl | rfl
        · rw [pk_un (by omega), pk_un (by omega), pk_un (by omega), tw_ue (by omega)]
          exact va 0
        · rw [pk_un (by omega), pk_un (by omega), tw_ue (by omega)]
          exact va 1
        · rw [pk_un (by omega), tw_ue (by omega)]
          exact va 2
        · rw [tw_ue (by omega)]
          exact va 3
      · rw [mm_cn (by omega), pk_un (by omega), pk_un (by omega), pk_un (by omega), pk_un (by omega)]
        exact a9 z j (by omega) hj
    · intro z j hz hj
      have hz' : z < mm_d m + 1 := hz
      have hj' : j < tw_s (tw_s (mm_h m) (mm_d m - 1) (mm_ht m - pp_fa P (pp_an P (mm_pc m)))) (mm_d m) 0 z := hj
      show B 8 (8 * z + j) = (mm_call P m).2.2.2.1 (12 * z + 4 + j)
      by_cases e : z = mm_d m
      · rw [tw_se e] at hj'; omega
      · rw [tw_sn e] at hj'
        have j8 : j < mm_h m z := by
          by_cases e2 : z = mm_d m - 1
          · rw [tw_se e2] at hj'; rw [e2]; exact Nat.lt_of_lt_of_le hj' (Nat.sub_le _ _)
          · rw [tw_sn e2] at hj'; exact hj'
        have := (w3 z (by omega)).2
        rw [mm_cn (by omega)]
        exact a10 z j (by omega) j8
  · refine head1 (Or.inr (Or.inl o)) h (yy_112n hP hW hQ hA ha (Or.inr (Or.inl ⟨Or.inr (Or.inr (Or.inr o)), h2⟩)) (fun Q hq => yy_eff hW hA ha p4 (fun y x hy hx => ?_)))
    have hb := w4 (mm_d m - 2) (by omega)
    rw [o, hy h2]
    refine yy_o13 h3 d8 (by omega) (a8 _ (by omega)) (hq _ _ (K _ _ hQ ⟨rfl, a2, a3, a4, a5, a6, ?_, ?_, ?_, ?_⟩))
    · intro z hz
      have hz' : z < mm_d m - 1 := hz
      show upd (B 5) (mm_d m - 1) (nI (mm_pc m + 1)) z = nI (mm_p m z)
      rw [pk_un (by omega)]
      exact a7 z (by omega)
    · intro z hz
      have hz' : z < mm_d m - 1 := hz
      show upd (B 6) (mm_d m - 2) (nI (mm_h m (mm_d m - 2) + 1)) z = nI (tw_s (mm_h m) (mm_d m - 2) (mm_h m (mm_d m - 2) + 1) z)
      by_cases e : z = mm_d m - 2
      · rw [tw_ue e, tw_se e]
      · rw [pk_un e, tw_sn e]; exact a8 z (by omega)
    · intro z j hz hj
      have hz' : z < mm_d m - 1 := hz
      show B 7 (4 * z + j) = upd (mm_s m) (12 * (mm_d m - 2) + 4 + mm_h m (mm_d m - 2)) (mm_top m) (12 * z + j)
      rw [pk_un (by omega)]
      exact a9 z j (by omega) hj
    · intro z j hz hj
      have hz' : z < mm_d m - 1 := hz
      have hj' : j < tw_s (mm_h m) (mm_d m - 2) (mm_h m (mm_d m - 2) + 1) z := hj
      show upd (B 8) (8 * (mm_d m - 2) + mm_h m (mm_d m - 2)) (mm_top m) (8 * z + j) = upd (mm_s m) (12 * (mm_d m - 2) + 4 + mm_h m (mm_d m - 2)) (mm_top m) (12 * z + 4 + j)
      by_cases e : z = mm_d m - 2
      · rw [tw_se e] at hj'
        by_cases e2 : j = mm_h m (mm_d m - 2)
        · rw [tw_ue (by omega), tw_ue (by omega)]
        · rw [pk_un (by omega), pk_un (by omega)]; exact a10 z j (by omega) (by rw [e]; omega)
      · rw [tw_sn e] at hj'
        have := (w3 z (by omega)).2
        rw [pk_un (by omega), pk_un (by omega)]; exact a10 z j (by omega) hj'
  · refine head1 (Or.inr (Or.inl o)) h (yy_112n hP hW hQ hA ha (Or.inr (Or.inl ⟨Or.inr (Or.inr (Or.inr o)), h2⟩)) (fun Q hq => yy_eff hW hA ha p4 (fun y x hy hx => ?_)))
    rw [o, hy h2, show mm_d m - 1 = 0 by omega]
    refine yy_o13d (hq _ _ (K _ _ hQ ⟨rfl, a2, rfl, ?_, a5, a6, ?_, ?_, ?_, ?_⟩))
    · show mm_s m (12 * (mm_d m - 1) + 3 + mm_ht m) = _
      rfl
    · intro z hz; exact absurd (show z < 0 from hz) (by omega)
    · intro z hz; exact absurd (show z < 0 from hz) (by omega)
    · intro z j hz; exact absurd (show z < 0 from hz) (by omega)
    · intro z j hz; exact absurd (show z < 0 from hz) (by omega)
  · have c7 : c ≤ 7 ∧ ¬ c = 1 := by
      rcases hc with ⟨_, _, r⟩ | ⟨_, _, r⟩ | ⟨_, _, r⟩ | ⟨_, _, _, r⟩ | ⟨_, _, _, r⟩ | ⟨_, _, r⟩ | ⟨_, _, _, r⟩ | ⟨_, _, _, _, r⟩ <;> omega
    rcases h2 with ⟨z, rfl⟩ | ⟨z, rfl⟩
    · exact head1 z (h z) (yy_112t hP hW hQ hA ha hc c7.1 c7.2 (K (tw_s G 5 (nI c)) B hQ ⟨a1, a2, rfl, a4, a5, a6, a7, a8, a9, a10⟩))
    · exact head0 z (yy_112t hP hW hQ hA ha hc c7.1 c7.2 (K (tw_s G 5 (nI c)) B hQ ⟨a1, a2, rfl, a4, a5, a6, a7, a8, a9, a10⟩))
/-- from m to m' in k steps, then it stops -/
theorem yy_runs {post : Int32 → SY → Prop} (hP : pp_ok P) : ∀ (k : Nat) {i : Nat} {m m' : mm_S} {G : Nat → Int32} {B : Nat → Nat → Int32}, mm_W P m → yy_P P G B → yy_M m G B → mm_Sn P k m m' → mm_stop P m' → i + k < 5000 →
    (∀ (G' : Nat → Int32) (B' : Nat → Nat → Int32), yy_P P G' B' → yy_M m' G' B' → post (nI (mm_a m')) (tw_y G' B')) → wY_run_23 post (k + 1) (nI (mm_f m)) (nI i) (G 0) (G 1) (G 2) (G 3) (G 4) (G 5) (G 6) (G 7) (B 0) (B 1) (B 2) (B 3) (B 4) (B 5) (B 6) (B 7) (B 8) (B 9)
  | 0, i, m, m', G, B, hW, hQ, hA, hS, hT, hi, K => by
    have e : m = m' := hS
    subst e
    exact yy_stop hP hW hQ hA (by omega) hT (K G B hQ hA)
  | k + 1, i, m, m', G, B, hW, hQ, hA, hS, hT, hi, K => by
    obtain ⟨x, hx, hr⟩ := hS
    exact yy_step hP hW hQ hA hx (by omega) (fun G' B' q a => yy_runs hP k (mm_Wst hP hW hx).1 q a hr hT (by omega) K)
end
end
section
/-! the component: its state agrees with the plain machine; small methods -/
def xx_P (P : pp_P) (F : Nat → Int32) (A : Nat → Nat → Int32) : Prop :=
  (F 8) = nI (pp_nf P) ∧ (F 9) = nI (pp_nc P) ∧ (F 10) = 1 ∧ (F 12) = nI (pp_mx P) ∧ (A 0) = pp_op P ∧ (A 1) = pp_ar P ∧ (A 2) = pp_ow P
  ∧ (∀ f, f < pp_nf P → (A 3) f = nI (pp_fs P f)) ∧ (∀ f, f < pp_nf P → (A 4) f = nI (pp_fa P f))
def xx_M (m : mm_S) (F : Nat → Int32) (A : Nat → Nat → Int32) : Prop :=
  (F 13) = nI (mm_d m) ∧ (F 14) = nI (mm_n m) ∧ (F 15) = nI (mm_a m) ∧ (F 16) = mm_r m ∧ (F 17) = nI (mm_f m) ∧ (A 10) = mm_g m ∧ (A 11) = mm_o m
  ∧ (∀ i, i < mm_d m → (A 8) i = nI (mm_p m i)) ∧ (∀ i, i < mm_d m → (A 9) i = nI (mm_h m i))
  ∧ (∀ i o, i < mm_d m → o < 4 + mm_h m i → (A 7) (12 * i + o) = mm_s m (12 * i + o))
/-- what the running of either tier leaves of the units -/
def xx_K (A A' : Nat → Nat → Int32) : Prop :=
  (∀ j, 16 ≤ j → A' j = A j) ∧ A' 14 = (A 14) ∧ (∀ U, U < 8 → (A' 12) U = 1 → (A 12) U = 1 ∧ ∀ g, g < 8 → bt ((A 14) U) g = true → (A' 10) g = (A 10) g)
theorem xx_K0 {A A' : Nat → Nat → Int32} (h : ∀ j, 16 ≤ j → A' j = A j) (h14 : A' 14 = (A 14)) (h12 : A' 12 = (A 12)) (h10 : A' 10 = (A 10)) : xx_K A A' :=
  ⟨h, h14, fun U _ e => ⟨by rw [h12] at e; exact e, fun g _ _ => by rw [h10]⟩⟩
theorem xx_KT {A A1 A2 : Nat → Nat → Int32} (h : xx_K A A1) (g : xx_K A1 A2) : xx_K A A2 := by
  obtain ⟨h1, h2, h3⟩ := h
  obtain ⟨g1, g2, g3⟩ := g
  refine ⟨fun j hj => (g1 j hj).trans (h1 j hj), g2.trans h2, fun U hU e => ?_⟩
  obtain ⟨e1, b1⟩ := g3 U hU e
  obtain ⟨e2, b2⟩ := h3 U hU e1
  exact ⟨e2, fun k hk hb => (b1 k hk (by rw [h2]; exact hb)).trans (b2 k hk hb)⟩
theorem xx_Mfr {m : mm_S} {F : Nat → Int32} {A : Nat → Nat → Int32} {q h : Nat} {S Gl O : Nat → Int32} {n f : Nat} {F' : Nat → Int32} {A' : Nat → Nat → Int32}
    (hA : xx_M m F A)
    (g3 : (F' 13) = (F 13)) (g4 : (F' 14) = nI n) (g5 : (F' 15) = (F 15)) (g6 : (F' 16) = (F 16)) (g7 : (F' 17) = nI f) (b4 : (A' 10) = Gl) (b9 : (A' 11) = O)
    (b5 : (A' 8) = upd (A 8) (mm_d m - 1) (nI q)) (b6 : (A' 9) = upd (A 9) (mm_d m - 1) (nI h))
    (s : ∀ i o, i < mm_d m → o < 4 + tw_s (mm_h m) (mm_d m - 1) h i → (A' 7) (12 * i + o) = S (12 * i + o)) : xx_M (mm_fr m q h S Gl O n f) F' A' := by
  obtain ⟨a1, a2, a3, a4, a5, a6, a7, a8, a9, a10⟩ := hA
  refine ⟨g3.trans a1, g4, g5.trans a3, g6.trans a4, g7, b4, b9, ?_, ?_, s⟩
  · intro i hi
    show (A' 8) i = nI (tw_s (mm_p m) (mm_d m - 1) q i)
    rw [b5]
    by_cases e : i = mm_d m - 1
    · rw [tw_ue e, tw_se e]
    · rw [pk_un e, tw_sn e]; exact a8 i hi
  · intro i hi
    show (A' 9) i = nI (tw_s (mm_h m) (mm_d m - 1) h i)
    rw [b6]
    by_cases e : i = mm_d m - 1
    · rw [tw_ue e, tw_se e]
    · rw [pk_un e, tw_sn e]; exact a9 i hi
/-- slots, one of them stored anew -/
theorem xx_Ms {m : mm_S} {F : Nat → Int32} {A : Nat → Nat → Int32} {h k : Nat} {v : Int32} (hA : xx_M m F A)
    (hk : ∀ o, o < 4 + h → 12 * (mm_d m - 1) + o ≠ k → o < 4 + mm_ht m) :
    ∀ i o, i < mm_d m → o < 4 + tw_s (mm_h m) (mm_d m - 1) h i → upd (A 7) k v (12 * i + o) = upd (mm_s m) k v (12 * i + o) := by
  intro i o hi ho
  obtain ⟨a1, a2, a3, a4, a5, a6, a7, a8, a9, a10⟩ := hA
  by_cases e : 12 * i + o = k
  · rw [tw_ue e, tw_ue e]
  · rw [pk_un e, pk_un e]
    refine a10 i o hi ?_
    by_cases e2 : i = mm_d m - 1
    · rw [tw_se e2] at ho
      rw [e2]
      exact hk o ho (by rw [← e2]; exact e)
    · rw [tw_sn e2] at ho; exact ho
theorem xx_Mn {m : mm_S} {F : Nat → Int32} {A : Nat → Nat → Int32} {h : Nat} (hA : xx_M m F A) (hh : h ≤ mm_ht m) :
    ∀ i o, i < mm_d m → o < 4 + tw_s (mm_h m) (mm_d m - 1) h i → (A 7) (12 * i + o) = mm_s m (12 * i + o) := by
  intro i o hi ho
  obtain ⟨a1, a2, a3, a4, a5, a6, a7, a8, a9, a10⟩ := hA
  refine a10 i o hi ?_
  by_cases e2 : i = mm_d m - 1
  · rw [tw_se e2] at ho
    rw [e2]
    exact Nat.lt_of_lt_of_le ho (Nat.add_le_add_left hh 4)
  · rw [tw_sn e2] at ho; exact ho
section
variable {F : Nat → Int32} {A : Nat → Nat → Int32}
theorem xx_push {post : SX → Prop} {f h : Nat} {v : Int32} (hf : f < 8) (eh : (A 9) f = nI h) (hh : h < 8)
    (K : post (tw_t F (tw_s (tw_s A 7 (upd (A 7) (12 * f + 4 + h) v)) 9 (upd (A 9) f (nI (h + 1)))))) : wpX_push post (tw_t F A) (nI f) v := by
  have c1 : (nI f).toNatClampNeg = f := nI_clamp (by omega)
  have e1 : nI f * 12 + 4 + (A 9) f = nI (12 * f + 4 + h) := by rw [eh, tw_m12', tw_p4, nI_add]
  unfold wpX_push
  refine And.intro (vp_in_nI (by omega) (by omega)) ?_
  rw [c1, e1, nI_clamp (by omega)]
  refine And.intro (vp_in_nI (by omega) (by omega)) (nm_e (And.intro (vp_in_nI (by omega) (by omega)) (And.intro (vp_in_nI (by omega) (by omega)) (nm_r (e' := upd (A 9) f (nI (h + 1))) (by rw [eh, nI_1]) ?_))))
  exact K
/-- bit g of d, as it is asked -/
theorem xx_bit (d : Int32) {g : Nat} (hg : g < 8) : ((d >>> (nI g &&& 31)) &&& 1) = 0 ↔ bt d g = false := by
  have b1 : ∀ i, i < 32 → bt 1 i = decide (i = 0) := by decide +kernel
  constructor
  · intro h
    have e : bt ((d >>> (nI g &&& 31)) &&& 1) 0 = false := by rw [h]; exact b_0 0
    rw [b_and, b_sshr g (by omega) d (by omega), if_pos (by omega), b1 0 (by omega)] at e
    simpa using e
  · intro h
    apply b_ext
    intro i hi
    rw [b_and, b_0, b1 i hi]
    by_cases z : i = 0
    · subst z
      rw [b_sshr g (by omega) d (by omega), if_pos (by omega), Nat.add_zero, h]
      rfl
    · rw [decide_eq_false z, Bool.and_false]
/-- the loop over the units -/
theorem xx_sgL {post : SX → Prop} {g : Nat} (hg : g < 8) : ∀ (k i n : Nat) (x3 : Int32) (A' : Nat → Nat → Int32), i + k = 8 → k < n →
    (∀ j, j ≠ 12 → j ≠ 13 → A' j = A j) → (∀ U, i ≤ U → U < 8 → (A' 12) U = (A 12) U) → (∀ U, U < i → (A' 12) U = 1 → (A 12) U = 1 ∧ bt ((A 14) U) g = false) →
    (∀ A'' : Nat → Nat → Int32, (∀ j, j ≠ 12 → j ≠ 13 → j ≠ 15 → A'' j = A j) → (∀ U, U < 8 → (A'' 12) U = 1 → (A 12) U = 1 ∧ bt ((A 14) U) g = false) → post (tw_t F A'')) →
    wX_setGlobal_23 post (nI g) (F 0) (F 1) (F 2) (F 3) (F 4) (F 5) (F 6) (F 7) (F 8) (F 9) (F 10) (F 11) (F 12) (F 13) (F 14) (F 15) (F 16) (F 17) (F 18) (F 19) (F 20) (F 21) (F 22) (F 23) (F 24) (F 25) (F 26) (F 27) (F 28) (F 29) (F 30) (F 31) (F 32) n x3 (nI i) (A' 0) (A' 1) (A' 2) (A' 3) (A' 4) (A' 5) (A' 6) (A' 7) (A' 8) (A' 9) (A' 10) (A' 11) (A' 12) (A' 13) (A' 14) (A' 15) (A' 16) (A' 17) (A' 18) (A' 19) (A' 20) (A' 21) (A' 22) (A' 23) (A' 24) (A' 25) (A' 26) (A' 27) (A' 28) (A' 29) (A' 30) (A' 31) (A' 32) (A' 33) (A' 34) (A' 35) (A' 36) (A' 37) (A' 38) (A' 39) (A' 40) (A' 41)
  | 0, i, n, x3, A', hi, hn, h1, h2, h3, K => by
    obtain ⟨n, rfl⟩ : ∃ n', n = n' + 1 := ⟨n - 1, by omega⟩
    have e : i = 8 := by omega
    subst e
    unfold wX_setGlobal_23
    refine br_t (by decide) (br_c (fun _ => K A' (fun j a b _ => h1 j a b) h3) (fun _ => And.intro (vp_in_nI (by omega) (by omega)) (And.intro (vp_in_nI (by omega) (by omega)) (nm_e ?_))))
    exact K (tw_s A' 15 _) (fun j a b c => (tw_sn c).trans (h1 j a b)) h3
  | k + 1, i, n, x3, A', hi, hn, h1, h2, h3, K => by
    obtain ⟨n, rfl⟩ : ∃ n', n = n' + 1 := ⟨n - 1, by omega⟩
    unfold wX_setGlobal_23
    have c1 : (nI i).toNatClampNeg = i := nI_clamp (by omega)
    have v1 : vp_in (nI i) 8 := vp_in_nI (by omega) (by omega)
    have e14 : (A' 14) i = (A 14) i := congrFun (h1 _ (by decide) (by decide)) i
    refine br_f (nI_ge (b := 8) (by omega) (by omega)) (And.intro v1 ?_)
    rw [c1, e14, nI_1]
    refine br_c (fun z => And.intro v1 (br_c (fun z2 => nm_e ?_) (fun z2 => And.intro v1 (nm_e (And.intro v1 (nm_e (nm_e ?_))))))) (fun z => nm_e ?_)
    · refine xx_sgL hg k (i + 1) n x3 A' (by omega) (by omega) h1 (fun U a b => h2 U (by omega) b) (fun U a b => ?_) K
      by_cases e : U = i
      · subst e
        rw [h2 U (Nat.le_refl _) (by omega)] at b
        exact ⟨b, (xx_bit _ hg).mp z2⟩
      · exact h3 U (by omega) b
    · refine xx_sgL hg k (i + 1) n 1 (tw_s (tw_s A' 12 (upd (A' 12) i 0)) 13 (upd (A' 13) i 0)) (by omega) (by omega) (fun j a b => ((tw_sn b).trans (tw_sn a)).trans (h1 j a b)) (fun U a b => ?_) (fun U a b => ?_) K
      · show upd (A' 12) i 0 U = _
        rw [pk_un (by omega)]; exact h2 U (by omega) b
      · have b' : upd (A' 12) i 0 U = 1 := b
        by_cases e : U = i
        · rw [tw_ue e] at b'; exact absurd b' (by decide)
        · rw [pk_un e] at b'; exact h3 U (by omega) b'
    · refine xx_sgL hg k (i + 1) n x3 A' (by omega) (by omega) h1 (fun U a b => h2 U (by omega) b) (fun U a b => ?_) K
      by_cases e : U = i
      · subst e; exact absurd b z
      · exact h3 U (by omega) b
theorem xx_setGlobal {post : SX → Prop} {g : Nat} {v : Int32} (hg : g < 8)
    (K : ∀ A' : Nat → Nat → Int32, (A' 10) = upd (A 10) g v → (∀ j, j ≠ 10 → j ≠ 12 → j ≠ 13 → j ≠ 15 → A' j = A j) → xx_K A A' → post (tw_t F A')) : wpX_setGlobal post (tw_t F A) (nI g) v := by
  have c1 : (nI g).toNatClampNeg = g := nI_clamp (by omega)
  have v1 : vp_in (nI g) 8 := vp_in_nI (by omega) (by omega)
  unfold wpX_setGlobal
  refine And.intro v1 ?_
  rw [c1]
  refine br_c (fun z => K A (by rw [← z, tw_usame]) (fun _ _ _ _ _ => rfl) (xx_K0 (fun _ _ => rfl) rfl rfl rfl)) (fun z => And.intro v1 (nm_e ⟨9, ?_⟩))
  refine xx_sgL (F := F) (A := tw_s A 10 (upd (A 10) g v)) hg 8 0 9 0 (tw_s A 10 (upd (A 10) g v)) (by omega) (by omega) (fun _ _ _ => rfl) (fun _ _ _ => rfl) (fun U h => absurd h (by omega)) (fun A'' h1 h2 => ?_)
  have e10 : (A'' 10) = upd (A 10) g v := h1 _ (by decide) (by decide) (by decide)
  refine K A'' e10 (fun j a b c d => (h1 j b c d).trans (tw_sn a)) ⟨fun j hj => ?_, ?_, fun U hU e => ?_⟩
  · exact (h1 j (by omega) (by omega) (by omega)).trans (tw_sn (by omega))
  · exact h1 _ (by decide) (by decide) (by decide)
  · obtain ⟨e1, e2⟩ := h2 U hU e
    refine ⟨e1, fun k hk hb => ?_⟩
    rw [e10]
    by_cases e3 : k = g
    · subst e3
      have e2' : bt ((A 14) U) k = false := e2
      rw [e2'] at hb; exact absurd hb (by decide)
    · exact pk_un e3
end
end
section
/-! the component's interpreter: one step -/
section
variable {P : pp_P} {m : mm_S} {F : Nat → Int32} {A : Nat → Nat → Int32}
theorem xx_stPush {post : Int32 → Prop} {o ar : Int32} {h : Nat} (ho : o = 0 ∨ o = 1 ∨ o = 3) (hh : h ≤ 8) (K1 : h = 8 → post 4) (K0 : h < 8 → post 0) : wpX_stackTrap post (tw_t F A) o ar (nI h) := by
  have K : wX_stackTrap_14 post (nI h) (F 0) (F 1) (F 2) (F 3) (F 4) (F 5) (F 6) (F 7) (F 8) (F 9) (F 10) (F 11) (F 12) (F 13) (F 14) (F 15) (F 16) (F 17) (F 18) (F 19) (F 20) (F 21) (F 22) (F 23) (F 24) (F 25) (F 26) (F 27) (F 28) (F 29) (F 30) (F 31) (F 32) (A 0) (A 1) (A 2) (A 3) (A 4) (A 5) (A 6) (A 7) (A 8) (A 9) (A 10) (A 11) (A 12) (A 13) (A 14) (A 15) (A 16) (A 17) (A 18) (A 19) (A 20) (A 21) (A 22) (A 23) (A 24) (A 25) (A 26) (A 27) (A 28) (A 29) (A 30) (A 31) (A 32) (A 33) (A 34) (A 35) (A 36) (A 37) (A 38) (A 39) (A 40) (A 41) := by
    unfold wX_stackTrap_14
    exact pk_eq h 8 K1 (fun z => K0 (by omega)) (ha := by omega)
  unfold wpX_stackTrap
  rcases ho with rfl | rfl | rfl
  · exact br_t rfl K
  · exact br_f (by decide) (br_t rfl K)
  · exact br_f (by decide) (br_f (by decide) (br_t rfl K))
theorem xx_st59 {post : Int32 → Prop} {ar : Int32} {h k : Nat} (k1 : 5 ≤ k) (k2 : k ≤ 9) (hh : h ≤ 8) (K1 : h < 2 → post 3) (K0 : 2 ≤ h → post 0) : wpX_stackTrap post (tw_t F A) (nI k) ar (nI h) := by
  unfold wpX_stackTrap
  refine br_f (tw_ne (b := 0) (by omega) (by omega) (by omega)) (br_f (tw_ne (b := 1) (by omega) (by omega) (by omega)) (br_f (tw_ne (b := 3) (by omega) (by omega) (by omega)) (br_f (nI_nlt (b := 5) k1 (by omega)) (br_f (nI_nlt (a := 9) k2 (by omega)) ?_))))
  exact pk_le 2 h K0 (fun z => K1 (by omega)) (hb := by omega)
theorem xx_stPop {post : Int32 → Prop} {o ar : Int32} {h : Nat} (ho : o = 2 ∨ o = 4 ∨ o = 11 ∨ o = 13 ∨ o = 14) (hh : h ≤ 8) (K1 : h = 0 → post 3) (K0 : 0 < h → post 0) : wpX_stackTrap post (tw_t F A) o ar (nI h) := by
  have K : ((nI h = 0 → post 3) ∧ (¬ nI h = 0 → post 0)) := pk_eq h 0 K1 (fun z => K0 (by omega)) (ha := by omega)
  unfold wpX_stackTrap
  rcases ho with rfl | rfl | rfl | rfl | rfl
  iterate 5
    · repeat (first | refine br_f (by decide) ?_ | refine br_t (by decide) ?_)
      exact K
theorem xx_st10 {post : Int32 → Prop} {ar : Int32} {h : Int32} (K0 : post 0) : wpX_stackTrap post (tw_t F A) 10 ar h := by
  unfold wpX_stackTrap
  repeat (first | refine br_f (by decide) ?_ | refine br_t (by decide) ?_)
  exact K0
theorem xx_st12 {post : Int32 → Prop} {a n h : Nat} (ha : a < 8) (hn : (A 4) a = nI n) (n4 : n ≤ 4) (hh : h ≤ 8) (K1 : h < n → post 3) (K2 : n = 0 → h = 8 → post 4) (K0 : n ≤ h → (n = 0 → ¬ h = 8) → post 0) : wpX_stackTrap post (tw_t F A) 12 (nI a) (nI h) := by
  unfold wpX_stackTrap
  repeat (first | refine br_f (by decide) ?_ | refine br_t (by decide) ?_)
  have v1 : vp_in (nI a) 8 := vp_in_nI ha (by omega)
  refine And.intro v1 ?_
  rw [nI_clamp (by omega), hn]
  refine pk_le n h (fun z => And.intro v1 ?_) K1 (ha := by omega) (hb := by omega)
  refine pk_eq n 0 (fun z2 => ?_) (fun z2 => K0 z (fun q => absurd q z2)) (ha := by omega)
  exact pk_eq h 8 (K2 z2) (fun z3 => K0 z (fun _ => z3)) (ha := by omega)
theorem xx_trap {post : Int32 → Prop} (hP : pp_ok P) (hW : mm_W P m) (hQ : xx_P P F A) (hA : xx_M m F A) (ha : mm_a m = 1) (K1 : ∀ c, mm_isT P m c → post (nI c)) (K0 : mm_nT P m → post 0) :
    wpX_trapOf post (tw_t F A) (pp_op P (mm_pc m)) (pp_ar P (mm_pc m)) (nI (mm_d m - 1)) := by
  obtain ⟨p1, p2, p3, p4, p5, p6⟩ := hP
  obtain ⟨w1, w2, w3, w4, w5, w6, w7⟩ := hW
  obtain ⟨a1, a2, a3, a4, a5, a6, a7, a8, a9, a10⟩ := hA
  obtain ⟨q1, q2, q3, q4, q5, q6, q7, q8, q9⟩ := hQ
  have hd := w2 ha
  obtain ⟨hpc, hht⟩ : mm_pc m < pp_nc P ∧ mm_ht m ≤ 8 := w3 (mm_d m - 1) (by omega)
  have cc := p5 _ hpc
  obtain ⟨c1, c2, c3, c4, c5, c6, c7, c8⟩ := cc
  have eh : (A 9) (nI (mm_d m - 1)).toNatClampNeg = nI (mm_ht m) := by rw [nI_clamp (by omega)]; exact a9 _ (by omega)
  have st : (∀ R : Int32 → Prop, (∀ r : Int32, ¬ r = 0 → post r → R r) → (((pp_op P (mm_pc m) = 12 → (((F 13) < (F 12) → wX_trapOf_41 post (pp_op P (mm_pc m)) (nI (mm_d m - 1)) (F 0) (F 1) (F 2) (F 3) (F 4) (F 5) (F 6) (F 7) (F 8) (F 9) (F 10) (F 11) (F 12) (F 13) (F 14) (F 15) (F 16) (F 17) (F 18) (F 19) (F 20) (F 21) (F 22) (F 23) (F 24) (F 25) (F 26) (F 27) (F 28) (F 29) (F 30) (F 31) (F 32) (A 0) (A 1) (A 2) (A 3) (A 4) (A 5) (A 6) (A 7) (A 8) (A 9) (A 10) (A 11) (A 12) (A 13) (A 14) (A 15) (A 16) (A 17) (A 18) (A 19) (A 20) (A 21) (A 22) (A 23) (A 24) (A 25) (A 26) (A 27) (A 28) (A 29) (A 30) (A 31) (A 32) (A 33) (A 34) (A 35) (A 36) (A 37) (A 38) (A 39) (A 40) (A 41)) ∧ (¬ (F 13) < (F 12) → post 5))) ∧ (¬ pp_op P (mm_pc m) = 12 → wX_trapOf_41 post (pp_op P (mm_pc m)) (nI (mm_d m - 1)) (F 0) (F 1) (F 2) (F 3) (F 4) (F 5) (F 6) (F 7) (F 8) (F 9) (F 10) (F 11) (F 12) (F 13) (F 14) (F 15) (F 16) (F 17) (F 18) (F 19) (F 20) (F 21) (F 22) (F 23) (F 24) (F 25) (F 26) (F 27) (F 28) (F 29) (F 30) (F 31) (F 32) (A 0) (A 1) (A 2) (A 3) (A 4) (A 5) (A 6) (A 7) (A 8) (A 9) (A 10) (A 11) (A 12) (A 13) (A 14) (A 15) (A 16) (A 17) (A 18) (A 19) (A 20) (A 21) (A 22) (A 23) (A 24) (A 25) (A 26) (A 27) (A 28) (A 29) (A 30) (A 31) (A 32) (A 33) (A 34) (A 35) (A 36) (A 37) (A 38) (A 39) (A 40) (A 41))) → R 0) →
      wpX_stackTrap R (tw_t F A) (pp_op P (mm_pc m)) (pp_ar P (mm_pc m)) (nI (mm_ht m))) → wpX_trapOf post (tw_t F A) (pp_op P (mm_pc m)) (pp_ar P (mm_pc m)) (nI (mm_d m - 1)) := by
    intro h
    unfold wpX_trapOf
    refine And.intro (vp_in_nI (by omega) (by omega)) ?_
    show wpX_stackTrap _ (tw_t F A) _ _ ((A 9) (nI (mm_d m - 1)).toNatClampNeg)
    rw [eh]
    exact h _ (fun r hr hp => br_f hr hp) (fun z => br_t rfl z)
  have push : (pp_op P (mm_pc m) = 0 ∨ pp_op P (mm_pc m) = 1 ∨ pp_op P (mm_pc m) = 3) → ¬ pp_op P (mm_pc m) = 12 → ¬ pp_op P (mm_pc m) = 8 → ¬ pp_op P (mm_pc m) = 14 → wpX_trapOf post (tw_t F A) (pp_op P (mm_pc m)) (pp_ar P (mm_pc m)) (nI (mm_d m - 1)) := by
    intro o n12 n8 n14
    exact st (fun R h1 h0 => xx_stPush o hht (fun z => h1 4 (by decide) (K1 4 (Or.inl ⟨o, z, rfl⟩))) (fun z => h0 (br_f n12 (br_f n8 (br_f n14 (K0 (Or.inl ⟨o, z⟩)))))))
  have pop : (pp_op P (mm_pc m) = 2 ∨ pp_op P (mm_pc m) = 4 ∨ pp_op P (mm_pc m) = 11 ∨ pp_op P (mm_pc m) = 13) → ¬ pp_op P (mm_pc m) = 12 → ¬ pp_op P (mm_pc m) = 8 → ¬ pp_op P (mm_pc m) = 14 → wpX_trapOf post (tw_t F A) (pp_op P (mm_pc m)) (pp_ar P (mm_pc m)) (nI (mm_d m - 1)) := by
    intro o n12 n8 n14
    have o' : pp_op P (mm_pc m) = 2 ∨ pp_op P (mm_pc m) = 4 ∨ pp_op P (mm_pc m) = 11 ∨ pp_op P (mm_pc m) = 13 ∨ pp_op P (mm_pc m) = 14 := by
      rcases o with o | o | o | o
      · exact Or.inl o
      · exact Or.inr (Or.inl o)
      · exact Or.inr (Or.inr (Or.inl o))
      · exact Or.inr (Or.inr (Or.inr (Or.inl o)))
    exact st (fun R h1 h0 => xx_stPop o' hht (fun z => h1 3 (by decide) (K1 3 (Or.inr (Or.inl ⟨o', z, rfl⟩)))) (fun z => h0 (br_f n12 (br_f n8 (br_f n14 (K0 (Or.inr (Or.inl ⟨o, z⟩))))))))
  have bin : ∀ k, 5 ≤ k → k ≤ 9 → ¬ k = 8 → pp_op P (mm_pc m) = nI k → wpX_trapOf post (tw_t F A) (pp_op P (mm_pc m)) (pp_ar P (mm_pc m)) (nI (mm_d m - 1)) := by
    intro k k1 k2 k8 o
    have n8 : ¬ pp_op P (mm_pc m) = 8 := by rw [o]; exact tw_ne (b := 8) (by omega) (by omega) k8
    have n12 : ¬ pp_op P (mm_pc m) = 12 := by rw [o]; exact tw_ne (b := 12) (by omega) (by omega) (by omega)
    have n14 : ¬ pp_op P (mm_pc m) = 14 := by rw [o]; exact tw_ne (b := 14) (by omega) (by omega) (by omega)
    refine st (fun R h1 h0 => ?_)
    have z := xx_st59 (F := F) (A := A) (ar := pp_ar P (mm_pc m)) (post := R) k1 k2 hht (fun z => h1 3 (by decide) (K1 3 (Or.inr (Or.inr (Or.inl ⟨⟨k, k1, k2, o⟩, z, rfl⟩))))) (fun z => h0 (br_f n12 (br_f n8 (br_f n14 (K0 (Or.inr (Or.inr (Or.inr (Or.inl ⟨⟨k, k1, k2, o⟩, z, fun e => absurd e n8⟩)))))))))
    rw [← o] at z
    exact z
  rcases mm_opc (p5 _ hpc) with o | o | o | o | o | o | o | o | o | o | o | o | o | o | o
  · exact push (Or.inl o) (by rw [o]; decide) (by rw [o]; decide) (by rw [o]; decide)
  · exact push (Or.inr (Or.inl o)) (by rw [o]; decide) (by rw [o]; decide) (by rw [o]; decide)
  · exact pop (Or.inl o) (by rw [o]; decide) (by rw [o]; decide) (by rw [o]; decide)
  · exact push (Or.inr (Or.inr o)) (by rw [o]; decide) (by rw [o]; decide) (by rw [o]; decide)
  · exact pop (Or.inr (Or.inl o)) (by rw [o]; decide) (by rw [o]; decide) (by rw [o]; decide)
  · exact bin 5 (by omega) (by omega) (by omega) o
  · exact bin 6 (by omega) (by omega) (by omega) o
  · exact bin 7 (by omega) (by omega) (by omega) o
  · refine st (fun R h1 h0 => ?_)
    have o' : pp_op P (mm_pc m) = nI 8 := o
    rw [o'] at h0 ⊢
    refine xx_st59 (F := F) (A := A) (by omega) (by omega) hht (fun z => h1 3 (by decide) (K1 3 (Or.inr (Or.inr (Or.inl ⟨⟨8, by omega, by omega, o⟩, z, rfl⟩))))) (fun z => h0 (br_f (by decide) (br_t rfl ?_)))
    have s1 : nI (mm_d m - 1) * 12 + 3 + (A 9) (nI (mm_d m - 1)).toNatClampNeg = nI (12 * (mm_d m - 1) + 3 + mm_ht m) := by rw [eh, tw_m12', tw_p3, nI_add]
    have s2 : (A 7) (12 * (mm_d m - 1) + 3 + mm_ht m) = mm_top m := by show _ = mm_s m (12 * (mm_d m - 1) + 3 + mm_ht m); rw [Nat.add_assoc]; exact a10 _ _ (by omega) (show 3 + mm_ht m < 4 + mm_ht m by omega)
    refine And.intro (vp_in_nI (by omega) (by omega)) ?_
    rw [s1, nI_clamp (by omega), s2]
    refine And.intro (vp_in_nI (by omega) (by omega)) (br_c (fun e => K1 6 (Or.inr (Or.inr (Or.inr (Or.inl ⟨o, z, e, rfl⟩))))) (fun e => br_f (by decide) (K0 (Or.inr (Or.inr (Or.inr (Or.inl ⟨⟨8, by omega, by omega, o⟩, z, fun _ => e⟩)))))))
  · exact bin 9 (by omega) (by omega) (by omega) o
  · refine st (fun R h1 h0 => ?_)
    rw [o] at h0 ⊢
    exact xx_st10 (h0 (br_f (by decide) (br_f (by decide) (br_f (by decide) (K0 (Or.inr (Or.inr (Or.inr (Or.inr (Or.inl o))))))))))
  · exact pop (Or.inr (Or.inr (Or.inl o))) (by rw [o]; decide) (by rw [o]; decide) (by rw [o]; decide)
  · refine st (fun R h1 h0 => ?_)
    have ean := c6 (by rw [o]; decide)
    have an := c5 o
    have n4 := (p6 _ an).2.1
    rw [o] at h0 ⊢
    rw [ean]
    refine xx_st12 (by omega) (q9 _ an) n4 hht (fun z => h1 3 (by decide) (K1 3 (Or.inr (Or.inr (Or.inr (Or.inr (Or.inr (Or.inl ⟨o, z, rfl⟩)))))))) (fun z z2 => h1 4 (by decide) (K1 4 (Or.inr (Or.inr (Or.inr (Or.inr (Or.inr (Or.inr (Or.inl ⟨o, z, z2, rfl⟩))))))))) (fun z z2 => h0 (br_t rfl ?_))
    refine pk_lt (mm_d m) (pp_mx P) (fun e => br_f (by decide) (br_f (by decide) (K0 (Or.inr (Or.inr (Or.inr (Or.inr (Or.inr ⟨o, z, z2, e⟩)))))))) (fun e => K1 5 (Or.inr (Or.inr (Or.inr (Or.inr (Or.inr (Or.inr (Or.inr ⟨o, z, z2, by omega, rfl⟩)))))))) (hx := a1) (hy := q4) (ha := by omega) (hb := by omega)
  · exact pop (Or.inr (Or.inr (Or.inr o))) (by rw [o]; decide) (by rw [o]; decide) (by rw [o]; decide)
  · refine st (fun R h1 h0 => ?_)
    rw [o] at h0 ⊢
    refine xx_stPop (Or.inr (Or.inr (Or.inr (Or.inr rfl)))) hht (fun z => h1 3 (by decide) (K1 3 (Or.inr (Or.inl ⟨Or.inr (Or.inr (Or.inr (Or.inr o))), z, rfl⟩)))) (fun z => h0 (br_f (by decide) (br_f (by decide) (br_t rfl ?_))))
    exact pk_lt (mm_n m) 32 (fun e => K0 (Or.inr (Or.inr (Or.inl ⟨o, z, e⟩)))) (fun e => K1 7 (Or.inr (Or.inr (Or.inr (Or.inr (Or.inl ⟨o, z, by omega, rfl⟩)))))) (hx := a2) (ha := by omega)
/-- the callee's locals -/
theorem xx_enIt {post : SX → Prop} {n f nn fr j : Nat} {x2 : Int32} (hj : j < 4) (hf : f ≤ 6) (hfr : fr + nn ≤ 128)
    (K : wX_enterFrame_44 post (nI f) x2 (nI nn) (nI fr) (nI (12 * f + 12)) (F 0) (F 1) (F 2) (F 3) (F 4) (F 5) (F 6) (F 7) (F 8) (F 9) (F 10) (F 11) (F 12) (F 13) (F 14) (F 15) (F 16) (F 17) (F 18) (F 19) (F 20) (F 21) (F 22) (F 23) (F 24) (F 25) (F 26) (F 27) (F 28) (F 29) (F 30) (F 31) (F 32) n (nI (j + 1)) (A 0) (A 1) (A 2) (A 3) (A 4) (A 5) (A 6) (upd (A 7) (12 * f + 12 + j) (if j < nn then (A 7) (fr + j) else 0)) (A 8) (A 9) (A 10) (A 11) (A 12) (A 13) (A 14) (A 15) (A 16) (A 17) (A 18) (A 19) (A 20) (A 21) (A 22) (A 23) (A 24) (A 25) (A 26) (A 27) (A 28) (A 29) (A 30) (A 31) (A 32) (A 33) (A 34) (A 35) (A 36) (A 37) (A 38) (A 39) (A 40) (A 41)) : wX_enterFrame_44 post (nI f) x2 (nI nn) (nI fr) (nI (12 * f + 12)) (F 0) (F 1) (F 2) (F 3) (F 4) (F 5) (F 6) (F 7) (F 8) (F 9) (F 10) (F 11) (F 12) (F 13) (F 14) (F 15) (F 16) (F 17) (F 18) (F 19) (F 20) (F 21) (F 22) (F 23) (F 24) (F 25) (F 26) (F 27) (F 28) (F 29) (F 30) (F 31) (F 32) (n + 1) (nI j) (A 0) (A 1) (A 2) (A 3) (A 4) (A 5) (A 6) (A 7) (A 8) (A 9) (A 10) (A 11) (A 12) (A 13) (A 14) (A 15) (A 16) (A 17) (A 18) (A 19) (A 20) (A 21) (A 22) (A 23) (A 24) (A 25) (A 26) (A 27) (A 28) (A 29) (A 30) (A 31) (A 32) (A 33) (A 34) (A 35) (A 36) (A 37) (A 38) (A 39) (A 40) (A 41) := by
  unfold wX_enterFrame_44
  refine br_f (nI_ge (b := 4) (by omega) (by decide)) ?_
  rw [nI_add, nI_clamp (by omega)]
  refine pk_le nn j (fun z => ?_) (fun z => ?_) (ha := by omega) (hb := by omega)
  · rw [if_neg (by omega)] at K
    exact And.intro (vp_in_nI (by omega) (by omega)) (nm_e (nm_r (nI_1 j) K))
  · rw [if_pos z] at K
    rw [nI_add, nI_clamp (by omega)]
    exact And.intro (vp_in_nI (by omega) (by omega)) (And.intro (vp_in_nI (by omega) (by omega)) (nm_e (nm_r (nI_1 j) K)))
theorem xx_enter {post : SX → Prop} {f a nn h s : Nat} (hf : f ≤ 6) (ha : a < 8) (en : (A 4) a = nI nn) (n4 : nn ≤ h) (hh : h ≤ 8) (eh : (A 9) f = nI h) (es : (A 3) a = nI s) (ed : (F 13) = nI (f + 1))
    (K : post (tw_t (tw_s (tw_s F 13 (nI (f + 2))) 19 2) (tw_s (tw_s (tw_s A 7 (upd (upd (upd (upd (A 7) (12 * f + 12) (if 0 < nn then (A 7) (12 * f + 4 + (h - nn)) else 0)) (12 * f + 12 + 1) (if 1 < nn then (A 7) (12 * f + 4 + (h - nn) + 1) else 0)) (12 * f + 12 + 2) (if 2 < nn then (A 7) (12 * f + 4 + (h - nn) + 2) else 0)) (12 * f + 12 + 3) (if 3 < nn then (A 7) (12 * f + 4 + (h - nn) + 3) else 0))) 8 (upd (A 8) (f + 1) (nI s))) 9 (upd (upd (A 9) f (nI (h - nn))) (f + 1) (nI 0))))) : wpX_enterFrame post (tw_t F A) (nI f) (nI a) := by
  have v1 : vp_in (nI a) 8 := vp_in_nI ha (by omega)
  have v2 : vp_in (nI f) 16 := vp_in_nI (by omega) (by omega)
  have c1 : (nI f).toNatClampNeg = f := nI_clamp (by omega)
  have c2 : (nI a).toNatClampNeg = a := nI_clamp (by omega)
  have r0 : ∀ (R : Nat → Int32) (v : Int32) (k c : Nat), 12 * f + 12 ≤ k → c < nn → upd R k v (12 * f + 4 + (h - nn) + c) = R (12 * f + 4 + (h - nn) + c) := fun R v k c hk hc => pk_un (by omega)
  unfold wpX_enterFrame
  refine And.intro v1 (nm_r (e' := nI nn) (by rw [c2]; exact en) (And.intro v2 (And.intro v2 (nm_r (e' := upd (A 9) f (nI (h - nn))) (by rw [c1, eh, pk_sub n4]) (And.intro v2 (nm_r (e' := nI (12 * f + 4 + (h - nn))) (by rw [c1, tw_ue rfl, tw_m12', tw_p4, nI_add]) (nm_r (e' := nI (12 * f + 12)) (by rw [tw_m12', tw_p12]) ⟨5, ?_⟩)))))))
  refine xx_enIt (F := F) (A := tw_s A 9 (upd (A 9) f (nI (h - nn)))) (f := f) (nn := nn) (fr := 12 * f + 4 + (h - nn)) (j := 0) (by omega) hf (by omega) ?_
  refine xx_enIt (F := F) (A := tw_s (tw_s A 9 (upd (A 9) f (nI (h - nn)))) 7 (upd (A 7) (12 * f + 12 + 0) (if 0 < nn then (A 7) (12 * f + 4 + (h - nn) + 0) else 0))) (f := f) (nn := nn) (fr := 12 * f + 4 + (h - nn)) (j := 1) (by omega) hf (by omega) ?_
  refine xx_enIt (F := F) (A := tw_s (tw_s A 9 (upd (A 9) f (nI (h - nn)))) 7 (upd (upd (A 7) (12 * f + 12 + 0) (if 0 < nn then (A 7) (12 * f + 4 + (h - nn) + 0) else 0)) (12 * f + 12 + 1) (if 1 < nn then (upd (A 7) (12 * f + 12 + 0) (if 0 < nn then (A 7) (12 * f + 4 + (h - nn) + 0) else 0)) (12 * f + 4 + (h - nn) + 1) else 0))) (f := f) (nn := nn) (fr := 12 * f + 4 + (h - nn)) (j := 2) (by omega) hf (by omega) ?_
  refine xx_enIt (F := F) (A := tw_s (tw_s A 9 (upd (A 9) f (nI (h - nn)))) 7 (upd (upd (upd (A 7) (12 * f + 12 + 0) (if 0 < nn then (A 7) (12 * f + 4 + (h - nn) + 0) else 0)) (12 * f + 12 + 1) (if 1 < nn then (upd (A 7) (12 * f + 12 + 0) (if 0 < nn then (A 7) (12 * f + 4 + (h - nn) + 0) else 0)) (12 * f + 4 + (h - nn) + 1) else 0)) (12 * f + 12 + 2) (if 2 < nn then (upd (upd (A 7) (12 * f + 12 + 0) (if 0 < nn then (A 7) (12 * f + 4 + (h - nn) + 0) else 0)) (12 * f + 12 + 1) (if 1 < nn then (upd (A 7) (12 * f + 12 + 0) (if 0 < nn then (A 7) (12 * f + 4 + (h - nn) + 0) else 0)) (12 * f + 4 + (h - nn) + 1) else 0)) (12 * f + 4 + (h - nn) + 2) else 0))) (f := f) (nn := nn) (fr := 12 * f + 4 + (h - nn)) (j := 3) (by omega) hf (by omega) ?_
  unfold wX_enterFrame_44
  refine br_t (by decide) (And.intro v1 ?_)
  rw [nI_1, nI_clamp (n := f + 1) (by omega), c2]
  refine And.intro (vp_in_nI (by omega) (by omega)) (nm_r (e' := upd (A 8) (f + 1) (nI s)) (by show upd _ _ ((A 3) a) = _; rw [es]; rfl) (And.intro (vp_in_nI (by omega) (by omega)) (nm_e (nm_r (e' := nI (f + 2)) (by show (F 13) + 1 = _; rw [ed, nI_1]) ?_))))
  have rd : ∀ (R : Nat → Int32) (v : Int32) (k c : Nat), 12 * f + 12 ≤ k → (if c < nn then upd R k v (12 * f + 4 + (h - nn) + c) else (0 : Int32)) = (if c < nn then R (12 * f + 4 + (h - nn) + c) else 0) := by
    intro R v k c hk; split
    · exact r0 _ _ _ _ hk (by assumption)
    · rfl
  have E : (upd (upd (upd (upd (A 7) (12 * f + 12 + 0) (if 0 < nn then (A 7) (12 * f + 4 + (h - nn) + 0) else 0)) (12 * f + 12 + 1) (if 1 < nn then (upd (A 7) (12 * f + 12 + 0) (if 0 < nn then (A 7) (12 * f + 4 + (h - nn) + 0) else 0)) (12 * f + 4 + (h - nn) + 1) else 0)) (12 * f + 12 + 2) (if 2 < nn then (upd (upd (A 7) (12 * f + 12 + 0) (if 0 < nn then (A 7) (12 * f + 4 + (h - nn) + 0) else 0)) (12 * f + 12 + 1) (if 1 < nn then (upd (A 7) (12 * f + 12 + 0) (if 0 < nn then (A 7) (12 * f + 4 + (h - nn) + 0) else 0)) (12 * f + 4 + (h - nn) + 1) else 0)) (12 * f + 4 + (h - nn) + 2) else 0)) (12 * f + 12 + 3) (if 3 < nn then (upd (upd (upd (A 7) (12 * f + 12 + 0) (if 0 < nn then (A 7) (12 * f + 4 + (h - nn) + 0) else 0)) (12 * f + 12 + 1) (if 1 < nn then (upd (A 7) (12 * f + 12 + 0) (if 0 < nn then (A 7) (12 * f + 4 + (h - nn) + 0) else 0)) (12 * f + 4 + (h - nn) + 1) else 0)) (12 * f + 12 + 2) (if 2 < nn then (upd (upd (A 7) (12 * f + 12 + 0) (if 0 < nn then (A 7) (12 * f + 4 + (h - nn) + 0) else 0)) (12 * f + 12 + 1) (if 1 < nn then (upd (A 7) (12 * f + 12 + 0) (if 0 < nn then (A 7) (12 * f + 4 + (h - nn) + 0) else 0)) (12 * f + 4 + (h - nn) + 1) else 0)) (12 * f + 4 + (h - nn) + 2) else 0)) (12 * f + 4 + (h - nn) + 3) else 0)) = (upd (upd (upd (upd (A 7) (12 * f + 12 + 0) (if 0 < nn then (A 7) (12 * f + 4 + (h - nn) + 0) else 0)) (12 * f + 12 + 1) (if 1 < nn then (A 7) (12 * f + 4 + (h - nn) + 1) else 0)) (12 * f + 12 + 2) (if 2 < nn then (A 7) (12 * f + 4 + (h - nn) + 2) else 0)) (12 * f + 12 + 3) (if 3 < nn then (A 7) (12 * f + 4 + (h - nn) + 3) else 0)) := by
    rw [rd _ _ _ 3 (by omega), rd _ _ _ 3 (by omega), rd _ _ _ 3 (by omega), rd _ _ _ 2 (by omega), rd _ _ _ 2 (by omega), rd _ _ _ 1 (by omega)]
  have E2 : (upd (upd (upd (upd (A 7) (12 * f + 12 + 0) (if 0 < nn then (A 7) (12 * f + 4 + (h - nn) + 0) else 0)) (12 * f + 12 + 1) (if 1 < nn then (upd (A 7) (12 * f + 12 + 0) (if 0 < nn then (A 7) (12 * f + 4 + (h - nn) + 0) else 0)) (12 * f + 4 + (h - nn) + 1) else 0)) (12 * f + 12 + 2) (if 2 < nn then (upd (upd (A 7) (12 * f + 12 + 0) (if 0 < nn then (A 7) (12 * f + 4 + (h - nn) + 0) else 0)) (12 * f + 12 + 1) (if 1 < nn then (upd (A 7) (12 * f + 12 + 0) (if 0 < nn then (A 7) (12 * f + 4 + (h - nn) + 0) else 0)) (12 * f + 4 + (h - nn) + 1) else 0)) (12 * f + 4 + (h - nn) + 2) else 0)) (12 * f + 12 + 3) (if 3 < nn then (upd (upd (upd (A 7) (12 * f + 12 + 0) (if 0 < nn then (A 7) (12 * f + 4 + (h - nn) + 0) else 0)) (12 * f + 12 + 1) (if 1 < nn then (upd (A 7) (12 * f + 12 + 0) (if 0 < nn then (A 7) (12 * f + 4 + (h - nn) + 0) else 0)) (12 * f + 4 + (h - nn) + 1) else 0)) (12 * f + 12 + 2) (if 2 < nn then (upd (upd (A 7) (12 * f + 12 + 0) (if 0 < nn then (A 7) (12 * f + 4 + (h - nn) + 0) else 0)) (12 * f + 12 + 1) (if 1 < nn then (upd (A 7) (12 * f + 12 + 0) (if 0 < nn then (A 7) (12 * f + 4 + (h - nn) + 0) else 0)) (12 * f + 4 + (h - nn) + 1) else 0)) (12 * f + 4 + (h - nn) + 2) else 0)) (12 * f + 4 + (h - nn) + 3) else 0)) = (upd (upd (upd (upd (A 7) (12 * f + 12) (if 0 < nn then (A 7) (12 * f + 4 + (h - nn)) else 0)) (12 * f + 12 + 1) (if 1 < nn then (A 7) (12 * f + 4 + (h - nn) + 1) else 0)) (12 * f + 12 + 2) (if 2 < nn then (A 7) (12 * f + 4 + (h - nn) + 2) else 0)) (12 * f + 12 + 3) (if 3 < nn then (A 7) (12 * f + 4 + (h - nn) + 3) else 0)) := E
  rw [← E2] at K
  exact K
end
end
section
/-! the component's interpreter: effects, one turn -/
def mm_wf (m : mm_S) (f : Nat) : mm_S := (mm_d m, mm_p m, mm_h m, mm_s m, mm_g m, mm_o m, mm_n m, mm_a m, mm_r m, f)
section
variable {P : pp_P} {m : mm_S} {F : Nat → Int32} {A : Nat → Nat → Int32}
theorem xx_arith {post : Int32 → Prop} {k : Nat} {x y : Int32} (k1 : 5 ≤ k) (k2 : k ≤ 9) (hz : nI k = 8 → ¬ y = 0) (K : post (mm_ari (nI k) x y)) : wpX_arith post (tw_t F A) (nI k) x y := by
  unfold wpX_arith
  have c : k = 5 ∨ k = 6 ∨ k = 7 ∨ k = 8 ∨ k = 9 := by omega
  rcases c with rfl | rfl | rfl | rfl | rfl
  · repeat (first | refine br_f (by decide) ?_ | refine br_t (by decide) ?_)
    exact K
  · repeat (first | refine br_f (by decide) ?_ | refine br_t (by decide) ?_)
    exact K
  · repeat (first | refine br_f (by decide) ?_ | refine br_t (by decide) ?_)
    exact K
  · repeat (first | refine br_f (by decide) ?_ | refine br_t (by decide) ?_)
    exact br_f (hz rfl) ⟨hz rfl, K⟩
  · repeat (first | refine br_f (by decide) ?_ | refine br_t (by decide) ?_)
    have ek : mm_ari (nI 9) x y = if y ≤ x then 0 else 1 := rfl
    rw [ek] at K
    exact br_c (fun z => by rw [if_pos z] at K; exact K) (fun z => by rw [if_neg z] at K; exact K)
theorem xx_eff {post : SX → Prop} {f' : Nat} (hP : pp_ok P) (hW : mm_W P m) (hQ : xx_P P F A) (hA : xx_M (mm_wf m f') F A) (ha : mm_a m = 1) (hT : mm_nT P m)
    (hf0 : mm_cost P (mm_pc m) → 0 < mm_f m ∧ f' = mm_f m - 1) (hf1 : ¬ mm_cost P (mm_pc m) → f' = mm_f m)
    (K : ∀ (F' : Nat → Int32) (A' : Nat → Nat → Int32) (m' : mm_S), mm_St P m m' → xx_P P F' A' → xx_M m' F' A' → xx_K A A' → ((F' 20) = (F 20) ∧ mm_a m' = 1 ∨ (F' 20) = 0 ∧ ¬ mm_a m' = 1) → post (tw_t F' A')) :
    wpX_effect post (tw_t F (tw_s A 8 (upd (A 8) (mm_d m - 1) (nI (mm_pc m + 1))))) (nI (mm_d m - 1)) (nI (mm_pc m)) := by
  have hP' := hP
  obtain ⟨p1, p2, p3, p4, p5, p6⟩ := hP'
  have hW' := hW
  obtain ⟨w1, w2, w3, w4, w5, w6, w7⟩ := hW'
  have hA' := hA
  obtain ⟨a1, a2, a3, a4, a5, a6, a7, a8, a9, a10⟩ := hA'
  have hQ' := hQ
  obtain ⟨q1, q2, q3, q4, q5, q6, q7, q8, q9⟩ := hQ'
  have hd := w2 ha
  obtain ⟨hpc, hht⟩ : mm_pc m < pp_nc P ∧ mm_ht m ≤ 8 := w3 (mm_d m - 1) (by omega)
  obtain ⟨c1, c2, c3, c4, c5, c6, c7, c8⟩ := p5 _ hpc
  have d8 : mm_d m ≤ 8 := Nat.le_trans w1 p4
  have eh : (A 9) (mm_d m - 1) = nI (mm_ht m) := a9 _ (show mm_d m - 1 < mm_d m by omega)
  have cp : (nI (mm_pc m)).toNatClampNeg = mm_pc m := nI_clamp (by omega)
  have cf : (nI (mm_d m - 1)).toNatClampNeg = mm_d m - 1 := nI_clamp (by omega)
  have vp : vp_in (nI (mm_pc m)) 64 := vp_in_nI (by omega) (by omega)
  have vf : vp_in (nI (mm_d m - 1)) 16 := vp_in_nI (by omega) (by omega)
  have nc : ∀ k : Int32, pp_op P (mm_pc m) = k → ¬ k = 12 → ¬ k = 13 → ¬ k = 10 → ¬ k = 11 → f' = mm_f m := by
    intro k e x1 x2 x3 x4
    refine hf1 (fun z => ?_)
    rcases z with z | z | ⟨z | z, _⟩
    · exact x1 (e.symm.trans z)
    · exact x2 (e.symm.trans z)
    · exact x3 (e.symm.trans z)
    · exact x4 (e.symm.trans z)
  have jf : (pp_op P (mm_pc m) = 10 ∨ pp_op P (mm_pc m) = 11) → (pp_an P (mm_pc m) ≤ mm_pc m → 0 < mm_f m) ∧ f' = mm_jf P (mm_pc m) (mm_f m) := by
    intro o
    unfold mm_jf
    by_cases e : pp_an P (mm_pc m) ≤ mm_pc m
    · obtain ⟨x, y⟩ := hf0 (Or.inr (Or.inr ⟨o, e⟩))
      rw [if_pos e]; exact ⟨fun _ => x, y⟩
    · rw [if_neg e]
      refine ⟨fun z => absurd z e, hf1 (fun z => ?_)⟩
      rcases z with z | z | ⟨_, z⟩
      · rcases o with o | o <;> exact absurd (o.symm.trans z) (by decide)
      · rcases o with o | o <;> exact absurd (o.symm.trans z) (by decide)
      · exact e z
  have itop : ∀ c, c ≤ 3 → nI (mm_d m - 1) * 12 + 3 + nI (mm_ht m) = nI (12 * (mm_d m - 1) + 3 + mm_ht m) := fun c _ => by rw [tw_m12', tw_p3, nI_add]
  have vtop : vp_in (nI (12 * (mm_d m - 1) + 3 + mm_ht m)) 128 := vp_in_nI (by omega) (by omega)
  have ctop : (nI (12 * (mm_d m - 1) + 3 + mm_ht m)).toNatClampNeg = 12 * (mm_d m - 1) + 3 + mm_ht m := nI_clamp (by omega)
  have rtop : 0 < mm_ht m → (A 7) (12 * (mm_d m - 1) + 3 + mm_ht m) = mm_top m := fun z => by show _ = mm_s m (12 * (mm_d m - 1) + 3 + mm_ht m); rw [Nat.add_assoc]; exact a10 _ _ (show mm_d m - 1 < mm_d m by omega) (show 3 + mm_ht m < 4 + mm_ht m by omega)
  show wpX_effect post ((F 0), (F 1), (F 2), (F 3), (F 4), (F 5), (F 6), (F 7), (F 8), (F 9), (F 10), (F 11), (F 12), (F 13), (F 14), (F 15), (F 16), (F 17), (F 18), (F 19), (F 20), (F 21), (F 22), (F 23), (F 24), (F 25), (F 26), (F 27), (F 28), (F 29), (F 30), (F 31), (F 32), (A 0), (A 1), (A 2), (A 3), (A 4), (A 5), (A 6), (A 7), (upd (A 8) (mm_d m - 1) (nI (mm_pc m + 1))), (A 9), (A 10), (A 11), (A 12), (A 13), (A 14), (A 15), (A 16), (A 17), (A 18), (A 19), (A 20), (A 21), (A 22), (A 23), (A 24), (A 25), (A 26), (A 27), (A 28), (A 29), (A 30), (A 31), (A 32), (A 33), (A 34), (A 35), (A 36), (A 37), (A 38), (A 39), (A 40), (A 41)) (nI (mm_d m - 1)) (nI (mm_pc m))
  unfold wpX_effect
  refine And.intro vp (nm_r (e' := pp_op P (mm_pc m)) (by rw [cp]; exact congrFun q5 _) (And.intro vp (nm_r (e' := pp_ar P (mm_pc m)) (by rw [cp]; exact congrFun q6 _) (nm_r (e' := nI (12 * (mm_d m - 1))) (tw_m12' _) (And.intro vf (nm_r (e' := nI (12 * (mm_d m - 1) + 3 + mm_ht m)) (by rw [cf, tw_p3]; show _ + (A 9) (mm_d m - 1) = _; rw [eh, nI_add]) ?_))))))
  have push : ∀ v : Int32, mm_ht m < 8 → f' = mm_f m → mm_St P m (mm_push m v) → ∀ Q : SX → Prop, (∀ (F' : Nat → Int32) (A' : Nat → Nat → Int32), post (tw_t F' A') → Q (tw_t F' A')) →
      wpX_push Q (tw_t F (tw_s A 8 (upd (A 8) (mm_d m - 1) (nI (mm_pc m + 1))))) (nI (mm_d m - 1)) v := by
    intro v h ef st Q hq
    refine xx_push (by omega) eh h (hq _ _ (K _ _ _ st hQ (xx_Mfr (m := mm_wf m f') hA rfl a2 rfl rfl (by rw [← ef]; exact a5) a6 a7 rfl rfl (xx_Ms (m := mm_wf m f') (F := F) (A := A) hA ?_)) (xx_K0 (fun j hj => ?_) rfl rfl rfl) (Or.inl ⟨rfl, ha⟩)))
    · intro o ho ne
      have ho' : o < 4 + (mm_ht m + 1) := ho
      have ne' : 12 * (mm_d m - 1) + o ≠ 12 * (mm_d m - 1) + 4 + mm_ht m := ne
      show o < 4 + mm_ht m
      omega
    · rw [tw_sn (by omega), tw_sn (by omega), tw_sn (by omega)]
  have bin : ∀ k, 5 ≤ k → k ≤ 9 → pp_op P (mm_pc m) = nI k → 2 ≤ mm_ht m → (pp_op P (mm_pc m) = 8 → ¬ mm_top m = 0) →
      wX_effect_312 post (nI (mm_d m - 1)) (nI k) (nI (12 * (mm_d m - 1) + 3 + mm_ht m)) (F 0) (F 1) (F 2) (F 3) (F 4) (F 5) (F 6) (F 7) (F 8) (F 9) (F 10) (F 11) (F 12) (F 13) (F 14) (F 15) (F 16) (F 17) (F 18) (F 19) (F 20) (F 21) (F 22) (F 23) (F 24) (F 25) (F 26) (F 27) (F 28) (F 29) (F 30) (F 31) (F 32) (A 0) (A 1) (A 2) (A 3) (A 4) (A 5) (A 6) (A 7) (upd (A 8) (mm_d m - 1) (nI (mm_pc m + 1))) (A 9) (A 10) (A 11) (A 12) (A 13) (A 14) (A 15) (A 16) (A 17) (A 18) (A 19) (A 20) (A 21) (A 22) (A 23) (A 24) (A 25) (A 26) (A 27) (A 28) (A 29) (A 30) (A 31) (A 32) (A 33) (A 34) (A 35) (A 36) (A 37) (A 38) (A 39) (A 40) (A 41) := by
    intro k k1 k2 o h hz
    have ef := nc _ o (tw_ne (b := 12) (by omega) (by omega) (by omega)) (tw_ne (b := 13) (by omega) (by omega) (by omega)) (tw_ne (b := 10) (by omega) (by omega) (by omega)) (tw_ne (b := 11) (by omega) (by omega) (by omega))
    have e1 : nI (12 * (mm_d m - 1) + 3 + mm_ht m) - 1 = nI (12 * (mm_d m - 1) + 2 + mm_ht m) := by rw [tw_d1 (by omega)]; congr 1; omega
    have r2 : (A 7) (12 * (mm_d m - 1) + 2 + mm_ht m) = mm_nxt m := by show _ = mm_s m (12 * (mm_d m - 1) + 2 + mm_ht m); rw [Nat.add_assoc]; exact a10 _ _ (show mm_d m - 1 < mm_d m by omega) (show 2 + mm_ht m < 4 + mm_ht m by omega)
    unfold wX_effect_312
    rw [e1, ctop, cf, nI_clamp (show 12 * (mm_d m - 1) + 2 + mm_ht m < 2 ^ 31 by omega), r2, rtop (by omega), eh, tw_d1 (show 0 < mm_ht m by omega)]
    refine And.intro vf (And.intro vf (nm_e (And.intro (vp_in_nI (by omega) (by omega)) (And.intro vtop ?_))))
    refine xx_arith (F := F) (A := tw_s (tw_s A 8 (upd (A 8) (mm_d m - 1) (nI (mm_pc m + 1)))) 9 (upd (A 9) (mm_d m - 1) (nI (mm_ht m - 1)))) k1 k2 (by rw [← o]; exact hz) (And.intro (vp_in_nI (by omega) (by omega)) (nm_e ?_))
    rw [← o]
    refine K F (tw_s (tw_s (tw_s A 8 (upd (A 8) (mm_d m - 1) (nI (mm_pc m + 1)))) 9 (upd (A 9) (mm_d m - 1) (nI (mm_ht m - 1)))) 7 (upd (A 7) (12 * (mm_d m - 1) + 2 + mm_ht m) (mm_ari (pp_op P (mm_pc m)) (mm_nxt m) (mm_top m)))) _ ⟨ha, Or.inr (Or.inr (Or.inr (Or.inr (Or.inr (Or.inr (Or.inl ⟨⟨k, k1, k2, o⟩, h, hz, rfl⟩))))))⟩ hQ (xx_Mfr (m := mm_wf m f') hA rfl a2 rfl rfl (by rw [← ef]; exact a5) a6 a7 rfl rfl (xx_Ms (m := mm_wf m f') (F := F) (A := A) hA ?_)) (xx_K0 (fun j hj => ?_) rfl rfl rfl) (Or.inl ⟨rfl, ha⟩)
    · intro o ho ne
      have ho' : o < 4 + (mm_ht m - 1) := ho
      show o < 4 + mm_ht m
      omega
    · rw [tw_sn (by omega), tw_sn (by omega), tw_sn (by omega)]
  have hTc := hT
  rcases hT with ⟨o | o | o, h⟩ | ⟨o | o | o | o, h⟩ | ⟨o, h, h2⟩ | ⟨⟨k, k1, k2, o⟩, h, h2⟩ | o | ⟨o, h, h2, h3⟩
  · have ef := nc _ o (by decide) (by decide) (by decide) (by decide)
    have st : mm_St P m (mm_push m (pp_ar P (mm_pc m))) := ⟨ha, Or.inl ⟨o, h, rfl⟩⟩
    rw [o]
    repeat (first | refine br_f (by decide) ?_ | refine br_t (by decide) ?_)
    exact push _ h ef st _ (fun F' A' z => z)
  · have ef := nc _ o (by decide) (by decide) (by decide) (by decide)
    have st : mm_St P m (mm_push m (mm_s m (12 * (mm_d m - 1) + pp_an P (mm_pc m)))) := ⟨ha, Or.inr (Or.inl ⟨o, h, rfl⟩)⟩
    have an := c2 (Or.inl o)
    have ea := c6 (by rw [o]; decide)
    rw [o, ea]
    repeat (first | refine br_f (by decide) ?_ | refine br_t (by decide) ?_)
    rw [nI_add, nI_clamp (by omega)]
    refine And.intro (vp_in_nI (by omega) (by omega)) ?_
    have r1 : (A 7) (12 * (mm_d m - 1) + pp_an P (mm_pc m)) = mm_s m (12 * (mm_d m - 1) + pp_an P (mm_pc m)) := a10 _ _ (show mm_d m - 1 < mm_d m by omega) (show pp_an P (mm_pc m) < 4 + mm_ht m by omega)
    rw [← r1] at st
    exact push _ h ef st _ (fun F' A' z => z)
  · have ef := nc _ o (by decide) (by decide) (by decide) (by decide)
    have st : mm_St P m (mm_push m (mm_g m (pp_an P (mm_pc m)))) := ⟨ha, Or.inr (Or.inr (Or.inl ⟨o, h, rfl⟩))⟩
    have an := c3 (Or.inl o)
    have ea := c6 (by rw [o]; decide)
    rw [o, ea]
    repeat (first | refine br_f (by decide) ?_ | refine br_t (by decide) ?_)
    rw [nI_clamp (by omega)]
    refine And.intro (vp_in_nI (by omega) (by omega)) ?_
    have r1 : (A 10) (pp_an P (mm_pc m)) = mm_g m (pp_an P (mm_pc m)) := congrFun a6 _
    rw [← r1] at st
    exact push _ h ef st _ (fun F' A' z => z)
  · have ef := nc _ o (by decide) (by decide) (by decide) (by decide)
    have an := c2 (Or.inr o)
    have ea := c6 (by rw [o]; decide)
    rw [o, ea]
    repeat (first | refine br_f (by decide) ?_ | refine br_t (by decide) ?_)
    rw [cf, ctop, nI_add, nI_clamp (show 12 * (mm_d m - 1) + pp_an P (mm_pc m) < 2 ^ 31 by omega), rtop h, eh, tw_d1 h]
    refine And.intro vf (And.intro vf (nm_e (And.intro vtop (And.intro (vp_in_nI (by omega) (by omega)) (nm_e ?_)))))
    refine K F (tw_s (tw_s (tw_s A 8 (upd (A 8) (mm_d m - 1) (nI (mm_pc m + 1)))) 9 (upd (A 9) (mm_d m - 1) (nI (mm_ht m - 1)))) 7 (upd (A 7) (12 * (mm_d m - 1) + pp_an P (mm_pc m)) (mm_top m))) _ ⟨ha, Or.inr (Or.inr (Or.inr (Or.inl ⟨o, h, rfl⟩)))⟩ hQ (xx_Mfr (m := mm_wf m f') hA rfl a2 rfl rfl (by rw [← ef]; exact a5) a6 a7 rfl rfl (xx_Ms (m := mm_wf m f') (F := F) (A := A) hA ?_)) (xx_K0 (fun j hj => ?_) rfl rfl rfl) (Or.inl ⟨rfl, ha⟩)
    · intro o ho ne
      have ho' : o < 4 + (mm_ht m - 1) := ho
      show o < 4 + mm_ht m
      omega
    · rw [tw_sn (by omega), tw_sn (by omega), tw_sn (by omega)]
  · have ef := nc _ o (by decide) (by decide) (by decide) (by decide)
    have an := c3 (Or.inr o)
    have ea := c6 (by rw [o]; decide)
    rw [o, ea]
    repeat (first | refine br_f (by decide) ?_ | refine br_t (by decide) ?_)
    rw [cf, ctop, rtop h, eh, tw_d1 h]
    refine And.intro vf (And.intro vf (nm_e (And.intro vtop ?_)))
    refine xx_setGlobal (F := F) (A := tw_s (tw_s A 8 (upd (A 8) (mm_d m - 1) (nI (mm_pc m + 1)))) 9 (upd (A 9) (mm_d m - 1) (nI (mm_ht m - 1)))) an (fun A' e10 hj hk => ?_)
    refine K F A' _ ⟨ha, Or.inr (Or.inr (Or.inr (Or.inr (Or.inl ⟨o, h, rfl⟩))))⟩ ⟨q1, q2, q3, q4, (hj _ (by decide) (by decide) (by decide) (by decide)).trans q5, (hj _ (by decide) (by decide) (by decide) (by decide)).trans q6, (hj _ (by decide) (by decide) (by decide) (by decide)).trans q7, fun f hf => (congrFun (hj _ (by decide) (by decide) (by decide) (by decide)) f).trans (q8 f hf), fun f hf => (congrFun (hj _ (by decide) (by decide) (by decide) (by decide)) f).trans (q9 f hf)⟩ ?_ (xx_KT (A1 := tw_s (tw_s A 8 (upd (A 8) (mm_d m - 1) (nI (mm_pc m + 1)))) 9 (upd (A 9) (mm_d m - 1) (nI (mm_ht m - 1)))) (xx_K0 (fun j hj => ?_) rfl rfl rfl) hk) (Or.inl ⟨rfl, ha⟩)
    · have e7 : (A' 7) = (A 7) := hj _ (by decide) (by decide) (by decide) (by decide)
      refine xx_Mfr (m := mm_wf m f') hA rfl a2 rfl rfl (by rw [← ef]; exact a5) (e10.trans (congrArg (fun z => upd z _ _) a6)) ((hj _ (by decide) (by decide) (by decide) (by decide)).trans a7) (hj _ (by decide) (by decide) (by decide) (by decide)) (hj _ (by decide) (by decide) (by decide) (by decide)) ?_
      rw [e7]
      exact xx_Mn (m := mm_wf m f') (F := F) (A := A) hA (Nat.sub_le _ _)
    · rw [tw_sn (by omega), tw_sn (by omega)]
  · obtain ⟨j0, ef⟩ := jf (Or.inr o)
    have an := c4 (Or.inr o)
    have ea := c6 (by rw [o]; decide)
    have st : ∀ q, q = (if mm_top m = 0 then pp_an P (mm_pc m) else mm_pc m + 1) → mm_St P m (mm_fr m q (mm_ht m - 1) (mm_s m) (mm_g m) (mm_o m) (mm_n m) f') := fun q e => ⟨ha, Or.inr (Or.inr (Or.inr (Or.inr (Or.inr (Or.inr (Or.inr (Or.inr (Or.inl ⟨o, h, j0, by rw [e, ef]⟩))))))))⟩
    rw [o, ea]
    repeat (first | refine br_f (by decide) ?_ | refine br_t (by decide) ?_)
    rw [cf, ctop, rtop h, eh, tw_d1 h]
    refine And.intro vf (And.intro vf (nm_e (And.intro vtop (br_c (fun z => ?_) (fun z => ?_)))))
    · show wpX_jump _ (tw_t F (tw_s (tw_s A 8 (upd (A 8) (mm_d m - 1) (nI (mm_pc m + 1)))) 9 (upd (A 9) (mm_d m - 1) (nI (mm_ht m - 1))))) _ _ _
      unfold wpX_jump
      refine And.intro vf ?_
      rw [cf]
      refine nm_r (tw_uu _ _ _ _) ?_
      have s' := st (pp_an P (mm_pc m)) (by rw [if_pos z])
      refine br_c (fun _ => ?_) (fun _ => ?_)
      · refine K F (tw_s (tw_s A 8 (upd (A 8) (mm_d m - 1) (nI (pp_an P (mm_pc m))))) 9 (upd (A 9) (mm_d m - 1) (nI (mm_ht m - 1)))) _ s' hQ (xx_Mfr (m := mm_wf m f') hA rfl a2 rfl rfl a5 a6 a7 rfl rfl (xx_Mn (m := mm_wf m f') (F := F) (A := A) hA (Nat.sub_le _ _))) (xx_K0 (fun j hj => ?_) rfl rfl rfl) (Or.inl ⟨rfl, ha⟩)
        rw [tw_sn (by omega), tw_sn (by omega)]
      · refine K (tw_s F 19 2) (tw_s (tw_s A 8 (upd (A 8) (mm_d m - 1) (nI (pp_an P (mm_pc m))))) 9 (upd (A 9) (mm_d m - 1) (nI (mm_ht m - 1)))) _ s' hQ (xx_Mfr (m := mm_wf m f') hA rfl a2 rfl rfl a5 a6 a7 rfl rfl (xx_Mn (m := mm_wf m f') (F := F) (A := A) hA (Nat.sub_le _ _))) (xx_K0 (fun j hj => ?_) rfl rfl rfl) (Or.inl ⟨rfl, ha⟩)
        rw [tw_sn (by omega), tw_sn (by omega)]
    · have s' := st (mm_pc m + 1) (by rw [if_neg z])
      refine K F (tw_s (tw_s A 8 (upd (A 8) (mm_d m - 1) (nI (mm_pc m + 1)))) 9 (upd (A 9) (mm_d m - 1) (nI (mm_ht m - 1)))) _ s' hQ (xx_Mfr (m := mm_wf m f') hA rfl a2 rfl rfl a5 a6 a7 rfl rfl (xx_Mn (m := mm_wf m f') (F := F) (A := A) hA (Nat.sub_le _ _))) (xx_K0 (fun j hj => ?_) rfl rfl rfl) (Or.inl ⟨rfl, ha⟩)
      rw [tw_sn (by omega), tw_sn (by omega)]
  · obtain ⟨f0, ef⟩ := hf0 (Or.inr (Or.inl o))
    rw [o]
    repeat (first | refine br_f (by decide) ?_ | refine br_t (by decide) ?_)
    rw [ctop, rtop h]
    refine And.intro vtop ?_
    show wpX_leaveFrame _ (tw_t F (tw_s A 8 (upd (A 8) (mm_d m - 1) (nI (mm_pc m + 1))))) _
    unfold wpX_leaveFrame
    refine nm_r (e' := nI (mm_d m - 1)) (by show (F 13) - 1 = _; rw [show (F 13) = nI (mm_d m) from a1]; exact tw_d1 hd) ?_
    refine pk_le (mm_d m - 1) 0 (fun z => ?_) (fun z => ?_) (ha := by omega)
    · have d1 : mm_d m = 1 := by omega
      refine K (tw_s (tw_s (tw_s (tw_s F 13 (nI (mm_d m - 1))) 15 2) 16 (mm_top m)) 20 0) (tw_s A 8 (upd (A 8) (mm_d m - 1) (nI (mm_pc m + 1)))) (mm_done m) ⟨ha, Or.inr (Or.inr (Or.inr (Or.inr (Or.inr (Or.inr (Or.inr (Or.inr (Or.inr (Or.inr (Or.inr (Or.inl ⟨o, f0, h, d1, rfl⟩)))))))))))⟩ hQ ⟨?_, a2, rfl, rfl, ?_, a6, a7, ?_, ?_, ?_⟩ (xx_K0 (fun j hj => ?_) rfl rfl rfl) (Or.inr ⟨rfl, by show ¬ (2 : Nat) = 1; decide⟩)
      · show nI (mm_d m - 1) = nI 0; rw [d1]
      · show (F 17) = nI (mm_f m - 1); rw [← ef]; exact a5
      · intro i hi; exact absurd (show i < 0 from hi) (by omega)
      · intro i hi; exact absurd (show i < 0 from hi) (by omega)
      · intro i _ hi; exact absurd (show i < 0 from hi) (by omega)
      · rw [tw_sn (by omega)]
    · have hb := w4 (mm_d m - 2) (by omega)
      have e2 : nI (mm_d m - 1) - 1 = nI (mm_d m - 2) := by rw [tw_d1 (by omega)]; congr 1
      rw [e2]
      refine xx_push (F := tw_s F 13 (nI (mm_d m - 1))) (A := tw_s A 8 (upd (A 8) (mm_d m - 1) (nI (mm_pc m + 1)))) (f := mm_d m - 2) (h := mm_h m (mm_d m - 2)) (by omega) (a9 _ (show mm_d m - 2 < mm_d m by omega)) (by omega) ?_
      refine K (tw_s (tw_s F 13 (nI (mm_d m - 1))) 19 1) (tw_s (tw_s (tw_s A 8 (upd (A 8) (mm_d m - 1) (nI (mm_pc m + 1)))) 7 (upd (A 7) (12 * (mm_d m - 2) + 4 + mm_h m (mm_d m - 2)) (mm_top m))) 9 (upd (A 9) (mm_d m - 2) (nI (mm_h m (mm_d m - 2) + 1)))) (mm_ret m) ⟨ha, Or.inr (Or.inr (Or.inr (Or.inr (Or.inr (Or.inr (Or.inr (Or.inr (Or.inr (Or.inr (Or.inl ⟨o, f0, h, by omega, rfl⟩))))))))))⟩ hQ ⟨rfl, a2, a3, a4, ?_, a6, a7, ?_, ?_, ?_⟩ (xx_K0 (fun j hj => ?_) rfl rfl rfl) (Or.inl ⟨rfl, ha⟩)
      · show (F 17) = nI (mm_f m - 1); rw [← ef]; exact a5
      · intro i hi
        have hi' : i < mm_d m - 1 := hi
        show upd (A 8) (mm_d m - 1) (nI (mm_pc m + 1)) i = nI (mm_p m i)
        rw [pk_un (by omega)]
        exact a8 i (show i < mm_d m by omega)
      · intro i hi
        have hi' : i < mm_d m - 1 := hi
        show upd (A 9) (mm_d m - 2) (nI (mm_h m (mm_d m - 2) + 1)) i = nI (tw_s (mm_h m) (mm_d m - 2) (mm_h m (mm_d m - 2) + 1) i)
        by_cases e : i = mm_d m - 2
        · rw [tw_ue e, tw_se e]
        · rw [pk_un e, tw_sn e]; exact a9 i (show i < mm_d m by omega)
      · intro i j hi hj
        have hi' : i < mm_d m - 1 := hi
        have hj' : j < 4 + tw_s (mm_h m) (mm_d m - 2) (mm_h m (mm_d m - 2) + 1) i := hj
        show upd (A 7) (12 * (mm_d m - 2) + 4 + mm_h m (mm_d m - 2)) (mm_top m) (12 * i + j) = upd (mm_s m) (12 * (mm_d m - 2) + 4 + mm_h m (mm_d m - 2)) (mm_top m) (12 * i + j)
        by_cases e : 12 * i + j = 12 * (mm_d m - 2) + 4 + mm_h m (mm_d m - 2)
        · rw [tw_ue e, tw_ue e]
        · rw [pk_un e, pk_un e]
          refine a10 i j (show i < mm_d m by omega) ?_
          show j < 4 + mm_h m i
          by_cases e2 : i = mm_d m - 2
          · rw [tw_se e2] at hj'
            rw [e2] at e ⊢
            omega
          · rw [tw_sn e2] at hj'; exact hj'
      · rw [tw_sn (by omega), tw_sn (by omega), tw_sn (by omega)]
  · have ef := nc _ o (by decide) (by decide) (by decide) (by decide)
    rw [o]
    repeat (first | refine br_f (by decide) ?_ | refine br_t (by decide) ?_)
    have eo : (F 14) = nI (mm_n m) := a2
    rw [cf, ctop, rtop h, eh, tw_d1 h, eo, nI_clamp (show mm_n m < 2 ^ 31 by omega)]
    refine And.intro vf (And.intro vf (nm_e (And.intro vtop (And.intro (vp_in_nI (by omega) (by omega)) (nm_e (nm_r (nI_1 _) ?_))))))
    refine K (tw_s F 14 (nI (mm_n m + 1))) (tw_s (tw_s (tw_s A 8 (upd (A 8) (mm_d m - 1) (nI (mm_pc m + 1)))) 9 (upd (A 9) (mm_d m - 1) (nI (mm_ht m - 1)))) 11 (upd (A 11) (mm_n m) (mm_top m))) _ ⟨ha, Or.inr (Or.inr (Or.inr (Or.inr (Or.inr (Or.inl ⟨o, h, h2, rfl⟩)))))⟩ hQ (xx_Mfr (m := mm_wf m f') hA rfl rfl rfl rfl (by rw [← ef]; exact a5) a6 (congrArg (fun z => upd z _ _) a7) rfl rfl (xx_Mn (m := mm_wf m f') (F := F) (A := A) hA (Nat.sub_le _ _))) (xx_K0 (fun j hj => ?_) rfl rfl rfl) (Or.inl ⟨rfl, ha⟩)
    rw [tw_sn (by omega), tw_sn (by omega), tw_sn (by omega)]
  · have b := bin k k1 k2 o h h2
    rw [o]
    have c : k = 5 ∨ k = 6 ∨ k = 7 ∨ k = 8 ∨ k = 9 := by omega
    rcases c with rfl | rfl | rfl | rfl | rfl
    iterate 5
      · repeat (first | refine br_f (by decide) ?_ | refine br_t (by decide) ?_)
        exact b
  · obtain ⟨j0, ef⟩ := jf (Or.inl o)
    have an := c4 (Or.inl o)
    have ea := c6 (by rw [o]; decide)
    have st : mm_St P m (mm_fr m (pp_an P (mm_pc m)) (mm_ht m) (mm_s m) (mm_g m) (mm_o m) (mm_n m) f') := ⟨ha, Or.inr (Or.inr (Or.inr (Or.inr (Or.inr (Or.inr (Or.inr (Or.inl ⟨o, j0, by rw [ef]⟩)))))))⟩
    have eh2 : (A 9) = upd (A 9) (mm_d m - 1) (nI (mm_ht m)) := by rw [← eh, tw_usame]
    rw [o, ea]
    repeat (first | refine br_f (by decide) ?_ | refine br_t (by decide) ?_)
    show wpX_jump _ (tw_t F (tw_s A 8 (upd (A 8) (mm_d m - 1) (nI (mm_pc m + 1))))) _ _ _
    unfold wpX_jump
    refine And.intro vf ?_
    rw [cf]
    refine nm_r (tw_uu _ _ _ _) ?_
    refine br_c (fun _ => ?_) (fun _ => ?_)
    · refine K F (tw_s A 8 (upd (A 8) (mm_d m - 1) (nI (pp_an P (mm_pc m))))) _ st hQ (xx_Mfr (m := mm_wf m f') hA rfl a2 rfl rfl a5 a6 a7 rfl eh2 (xx_Mn (m := mm_wf m f') (F := F) (A := A) hA (Nat.le_refl _))) (xx_K0 (fun j hj => ?_) rfl rfl rfl) (Or.inl ⟨rfl, ha⟩)
      rw [tw_sn (by omega)]
    · refine K (tw_s F 19 2) (tw_s A 8 (upd (A 8) (mm_d m - 1) (nI (pp_an P (mm_pc m))))) _ st hQ (xx_Mfr (m := mm_wf m f') hA rfl a2 rfl rfl a5 a6 a7 rfl eh2 (xx_Mn (m := mm_wf m f') (F := F) (A := A) hA (Nat.le_refl _))) (xx_K0 (fun j hj => ?_) rfl rfl rfl) (Or.inl ⟨rfl, ha⟩)
      rw [tw_sn (by omega)]
  · obtain ⟨f0, ef⟩ := hf0 (Or.inl o)
    have ea := c6 (by rw [o]; decide)
    have an := c5 o
    have n4 := (p6 _ an).2.1
    rw [o, ea]
    repeat (first | refine br_f (by decide) ?_ | refine br_t (by decide) ?_)
    refine xx_enter (F := F) (A := tw_s A 8 (upd (A 8) (mm_d m - 1) (nI (mm_pc m + 1)))) (by omega) (by omega) (q9 _ an) h hht eh (q8 _ an) (by rw [show (F 13) = nI (mm_d m) from a1]; congr 1; omega) ?_
    have ed : mm_d m - 1 + 1 = mm_d m := by omega
    have ed2 : mm_d m - 1 + 2 = mm_d m + 1 := by omega
    have e12 : 12 * (mm_d m - 1) + 12 = 12 * mm_d m := by omega
    rw [ed, ed2, e12]
    refine K _ _ (mm_call P m) ⟨ha, Or.inr (Or.inr (Or.inr (Or.inr (Or.inr (Or.inr (Or.inr (Or.inr (Or.inr (Or.inl ⟨o, f0, h, h2, h3, rfl⟩)))))))))⟩ hQ ⟨rfl, a2, a3, a4, ?_, a6, a7, ?_, ?_, ?_⟩ (xx_K0 (fun j hj => ?_) rfl rfl rfl) (Or.inl ⟨rfl, ha⟩)
    · show (F 17) = nI (mm_f m - 1); rw [← ef]; exact a5
    · intro z hz
      have hz' : z < mm_d m + 1 := hz
      show upd (upd (A 8) (mm_d m - 1) (nI (mm_pc m + 1))) (mm_d m) (nI (pp_fs P (pp_an P (mm_pc m)))) z = nI (tw_s (tw_s (mm_p m) (mm_d m - 1) (mm_pc m + 1)) (mm_d m) (pp_fs P (pp_an P (mm_pc m))) z)
      by_cases e : z = mm_d m
      · rw [tw_ue e, tw_se e]
      · rw [pk_un e, tw_sn e]
        by_cases e2 : z = mm_d m - 1
        · rw [tw_ue e2, tw_se e2]
        · rw [pk_un e2, tw_sn e2]; exact a8 z (show z < mm_d m by omega)
    · intro z hz
      have hz' : z < mm_d m + 1 := hz
      show upd (upd (A 9) (mm_d m - 1) (nI (mm_ht m - pp_fa P (pp_an P (mm_pc m))))) (mm_d m) (nI 0) z = nI (tw_s (tw_s (mm_h m) (mm_d m - 1) (mm_ht m - pp_fa P (pp_an P (mm_pc m)))) (mm_d m) 0 z)
      by_cases e : z = mm_d m
      · rw [tw_ue e, tw_se e]
      · rw [pk_un e, tw_sn e]
        by_cases e2 : z = mm_d m - 1
        · rw [tw_ue e2, tw_se e2]
        · rw [pk_un e2, tw_sn e2]; exact a9 z (show z < mm_d m by omega)
    · intro z j hz hj
      have hz' : z < mm_d m + 1 := hz
      have hj' : j < 4 + tw_s (tw_s (mm_h m) (mm_d m - 1) (mm_ht m - pp_fa P (pp_an P (mm_pc m)))) (mm_d m) 0 z := hj
      have src : ∀ c, c < pp_fa P (pp_an P (mm_pc m)) → (A 7) (12 * (mm_d m - 1) + 4 + (mm_ht m - pp_fa P (pp_an P (mm_pc m))) + c) = mm_s m (12 * (mm_d m - 1) + (4 + c) + (mm_ht m - pp_fa P (pp_an P (mm_pc m)))) := by
        intro c hc
        have := a10 (mm_d m - 1) (4 + c + (mm_ht m - pp_fa P (pp_an P (mm_pc m)))) (show mm_d m - 1 < mm_d m by omega) (show _ < 4 + mm_ht m by omega)
        rw [show 12 * (mm_d m - 1) + 4 + (mm_ht m - pp_fa P (pp_an P (mm_pc m))) + c = 12 * (mm_d m - 1) + (4 + c + (mm_ht m - pp_fa P (pp_an P (mm_pc m)))) by omega, this]
        exact congrArg (mm_s m) (by omega)
      have va : ∀ c, (if c < pp_fa P (pp_an P (mm_pc m)) then (A 7) (12 * (mm_d m - 1) + 4 + (mm_ht m - pp_fa P (pp_an P (mm_pc m))) + c) else 0) = (if c < pp_fa P (pp_an P (mm_pc m)) then mm_s m (12 * (mm_d m - 1) + (4 + c) + (mm_ht m - pp_fa P (pp_an P (mm_pc m)))) else 0) := by
        intro c
        by_cases e : c < pp_fa P (pp_an P (mm_pc m))
        · rw [if_pos e, if_pos e]; exact src c e
        · rw [if_neg e, if_neg e]
      show upd (upd (upd (upd (A 7) _ _) _ _) _ _) _ _ (12 * z + j) = (mm_call P m).2.2.2.1 (12 * z + j)
      by_cases e : z = mm_d m
      · rw [tw_se e] at hj'
        subst e
        rw [mm_cs (by omega)]
        have cj : j = 0 ∨ j = 1 ∨ j = 2 ∨ j = 3 := by omega
        rcases cj with rfl | rfl | rfl | rfl
        · rw [pk_un (by omega), pk_un (by omega), pk_un (by omega), tw_ue (by omega)]
          exact va 0
        · rw [pk_un (by omega), pk_un (by omega), tw_ue (by omega)]
          exact va 1
        · rw [pk_un (by omega), tw_ue (by omega)]
          exact va 2
        · rw [tw_ue (by omega)]
          exact va 3
      · rw [tw_sn e] at hj'
        have j8 : j < 4 + mm_h m z := by
          by_cases e2 : z = mm_d m - 1
          · rw [tw_se e2] at hj'; rw [e2]; exact Nat.lt_of_lt_of_le hj' (Nat.add_le_add_left (Nat.sub_le _ _) 4)
          · rw [tw_sn e2] at hj'; exact hj'
        have := (w3 z (by omega)).2
        rw [mm_cn (by omega), pk_un (by omega), pk_un (by omega), pk_un (by omega), pk_un (by omega)]
        exact a10 z j (show z < mm_d m by omega) j8
    · rw [tw_sn (by omega), tw_sn (by omega), tw_sn (by omega), tw_sn (by omega)]
end
end
section
/-! the component's interpreter: one turn -/
section
variable {P : pp_P} {m : mm_S} {F : Nat → Int32} {A : Nat → Nat → Int32}
theorem xx_step {post : SX → Prop} (hP : pp_ok P) (hW : mm_W P m) (hQ : xx_P P F A) (hA : xx_M m F A) (ha : mm_a m = 1)
    (K1 : ∀ (F' : Nat → Int32) (A' : Nat → Nat → Int32) (m' : mm_S), mm_St P m m' → xx_P P F' A' → xx_M m' F' A' → xx_K A A' → ((F' 20) = (F 20) ∧ mm_a m' = 1 ∨ (F' 20) = 0 ∧ ¬ mm_a m' = 1) → post (tw_t F' A'))
    (K2 : mm_stop P m → post (tw_t (tw_s F 20 0) A)) : wpX_step post (tw_t F A) := by
  have hP' := hP
  obtain ⟨p1, p2, p3, p4, p5, p6⟩ := hP'
  have hW' := hW
  obtain ⟨w1, w2, w3, w4, w5, w6, w7⟩ := hW'
  have hA' := hA
  obtain ⟨a1, a2, a3, a4, a5, a6, a7, a8, a9, a10⟩ := hA'
  have hQ' := hQ
  obtain ⟨q1, q2, q3, q4, q5, q6, q7, q8, q9⟩ := hQ'
  have hd := w2 ha
  obtain ⟨hpc, hht⟩ : mm_pc m < pp_nc P ∧ mm_ht m ≤ 8 := w3 (mm_d m - 1) (by omega)
  obtain ⟨c1, c2, c3, c4, c5, c6, c7, c8⟩ := p5 _ hpc
  have e1 : (F 13) - 1 = nI (mm_d m - 1) := by rw [a1]; exact tw_d1 hd
  have vf : vp_in (nI (mm_d m - 1)) 16 := vp_in_nI (by omega) (by omega)
  have vp : vp_in (nI (mm_pc m)) 64 := vp_in_nI (by omega) (by omega)
  have s82 : ∀ (F' : Nat → Int32) (f' : Nat), xx_P P F' A → xx_M (mm_wf m f') F' A → (F' 20) = (F 20) → (mm_cost P (mm_pc m) → 0 < mm_f m ∧ f' = mm_f m - 1) → (¬ mm_cost P (mm_pc m) → f' = mm_f m) →
      wX_step_82 post (nI (mm_d m - 1)) (nI (mm_pc m)) (pp_op P (mm_pc m)) (pp_ar P (mm_pc m)) (F' 0) (F' 1) (F' 2) (F' 3) (F' 4) (F' 5) (F' 6) (F' 7) (F' 8) (F' 9) (F' 10) (F' 11) (F' 12) (F' 13) (F' 14) (F' 15) (F' 16) (F' 17) (F' 18) (F' 19) (F' 20) (F' 21) (F' 22) (F' 23) (F' 24) (F' 25) (F' 26) (F' 27) (F' 28) (F' 29) (F' 30) (F' 31) (F' 32) (A 0) (A 1) (A 2) (A 3) (A 4) (A 5) (A 6) (A 7) (A 8) (A 9) (A 10) (A 11) (A 12) (A 13) (A 14) (A 15) (A 16) (A 17) (A 18) (A 19) (A 20) (A 21) (A 22) (A 23) (A 24) (A 25) (A 26) (A 27) (A 28) (A 29) (A 30) (A 31) (A 32) (A 33) (A 34) (A 35) (A 36) (A 37) (A 38) (A 39) (A 40) (A 41) := by
    intro F' f' hQ1 hA1 er h0 h1
    have f64 : f' ≤ 64 := by
      by_cases z : mm_cost P (mm_pc m)
      · have := h0 z; omega
      · have := h1 z; omega
    have hW1 : mm_W P (mm_wf m f') := ⟨w1, w2, w3, w4, w5, f64, w7⟩
    unfold wX_step_82
    refine xx_trap (F := F') (A := A) (m := mm_wf m f') hP hW1 hQ1 hA1 ha (fun c hc => ?_) (fun hn => ?_)
    · have c7 : c ≤ 7 ∧ ¬ c = 1 ∧ ¬ c = 0 := by
        rcases hc with ⟨_, _, r⟩ | ⟨_, _, r⟩ | ⟨_, _, r⟩ | ⟨_, _, _, r⟩ | ⟨_, _, _, r⟩ | ⟨_, _, r⟩ | ⟨_, _, _, r⟩ | ⟨_, _, _, _, r⟩ <;> omega
      refine br_f (tw_ne (b := 0) (by omega) (by omega) c7.2.2) ?_
      obtain ⟨b1, b2, b3, b4, b5, b6, b7, b8, b9, b10⟩ := hA1
      refine K1 (tw_s (tw_s F' 15 (nI c)) 20 0) A (mm_trap m c f') ⟨ha, Or.inr (Or.inr (Or.inr (Or.inr (Or.inr (Or.inr (Or.inr (Or.inr (Or.inr (Or.inr (Or.inr (Or.inr ⟨c, hc, fun z => (h0 z).1, ?_⟩)))))))))))⟩ hQ1 ⟨b1, b2, rfl, b4, b5, b6, b7, b8, b9, b10⟩ (xx_K0 (fun _ _ => rfl) rfl rfl rfl) (Or.inr ⟨rfl, c7.2.1⟩)
      by_cases z : mm_cost P (mm_pc m)
      · exact Or.inl ⟨z, by rw [(h0 z).2]⟩
      · exact Or.inr ⟨z, by rw [h1 z]⟩
    · refine br_t rfl (And.intro vf ?_)
      rw [nI_clamp (by omega), nI_1]
      refine nm_e ?_
      refine xx_eff (F := F') (A := A) hP hW hQ1 hA1 ha hn h0 h1 (fun F2 A2 m' st b1 b2 b3 b4 => K1 F2 A2 m' st b1 b2 b3 ?_)
      rw [er] at b4
      exact b4
  have n82 : ¬ mm_cost P (mm_pc m) → wX_step_82 post (nI (mm_d m - 1)) (nI (mm_pc m)) (pp_op P (mm_pc m)) (pp_ar P (mm_pc m)) (F 0) (F 1) (F 2) (F 3) (F 4) (F 5) (F 6) (F 7) (F 8) (F 9) (F 10) (F 11) (F 12) (F 13) (F 14) (F 15) (F 16) (F 17) (F 18) (F 19) (F 20) (F 21) (F 22) (F 23) (F 24) (F 25) (F 26) (F 27) (F 28) (F 29) (F 30) (F 31) (F 32) (A 0) (A 1) (A 2) (A 3) (A 4) (A 5) (A 6) (A 7) (A 8) (A 9) (A 10) (A 11) (A 12) (A 13) (A 14) (A 15) (A 16) (A 17) (A 18) (A 19) (A 20) (A 21) (A 22) (A 23) (A 24) (A 25) (A 26) (A 27) (A 28) (A 29) (A 30) (A 31) (A 32) (A 33) (A 34) (A 35) (A 36) (A 37) (A 38) (A 39) (A 40) (A 41) :=
    fun z => s82 F (mm_f m) hQ hA rfl (fun y => absurd y z) (fun _ => rfl)
  have n59 : mm_cost P (mm_pc m) → wX_step_59 post (nI (mm_d m - 1)) (nI (mm_pc m)) (pp_op P (mm_pc m)) (pp_ar P (mm_pc m)) (F 0) (F 1) (F 2) (F 3) (F 4) (F 5) (F 6) (F 7) (F 8) (F 9) (F 10) (F 11) (F 12) (F 13) (F 14) (F 15) (F 16) (F 17) (F 18) (F 19) (F 20) (F 21) (F 22) (F 23) (F 24) (F 25) (F 26) (F 27) (F 28) (F 29) (F 30) (F 31) (F 32) (A 0) (A 1) (A 2) (A 3) (A 4) (A 5) (A 6) (A 7) (A 8) (A 9) (A 10) (A 11) (A 12) (A 13) (A 14) (A 15) (A 16) (A 17) (A 18) (A 19) (A 20) (A 21) (A 22) (A 23) (A 24) (A 25) (A 26) (A 27) (A 28) (A 29) (A 30) (A 31) (A 32) (A 33) (A 34) (A 35) (A 36) (A 37) (A 38) (A 39) (A 40) (A 41) := by
    intro z
    unfold wX_step_59
    refine pk_eq (mm_f m) 0 (fun y => ?_) (fun y => ?_) (hx := a5) (ha := by omega)
    · exact K2 (Or.inr ⟨z, y⟩)
    · refine nm_r (e' := nI (mm_f m - 1)) (by rw [a5]; exact tw_d1 (by omega)) ?_
      exact s82 (tw_s F 17 (nI (mm_f m - 1))) (mm_f m - 1) hQ ⟨a1, a2, a3, a4, rfl, a6, a7, a8, a9, a10⟩ rfl (fun _ => ⟨by omega, rfl⟩) (fun y2 => absurd z y2)
  have n53 : (pp_op P (mm_pc m) = 10 ∨ pp_op P (mm_pc m) = 11) → wX_step_53 post (nI (mm_d m - 1)) (nI (mm_pc m)) (pp_op P (mm_pc m)) (pp_ar P (mm_pc m)) (F 0) (F 1) (F 2) (F 3) (F 4) (F 5) (F 6) (F 7) (F 8) (F 9) (F 10) (F 11) (F 12) (F 13) (F 14) (F 15) (F 16) (F 17) (F 18) (F 19) (F 20) (F 21) (F 22) (F 23) (F 24) (F 25) (F 26) (F 27) (F 28) (F 29) (F 30) (F 31) (F 32) (A 0) (A 1) (A 2) (A 3) (A 4) (A 5) (A 6) (A 7) (A 8) (A 9) (A 10) (A 11) (A 12) (A 13) (A 14) (A 15) (A 16) (A 17) (A 18) (A 19) (A 20) (A 21) (A 22) (A 23) (A 24) (A 25) (A 26) (A 27) (A 28) (A 29) (A 30) (A 31) (A 32) (A 33) (A 34) (A 35) (A 36) (A 37) (A 38) (A 39) (A 40) (A 41) := by
    intro o
    have ea := c6 (by rcases o with o | o <;> rw [o] <;> decide)
    have an := c4 o
    unfold wX_step_53
    refine pk_lt (mm_pc m) (pp_an P (mm_pc m)) (fun z => n82 (fun q => ?_)) (fun z => n59 (Or.inr (Or.inr ⟨o, z⟩))) (hy := ea) (ha := by omega) (hb := by omega)
    rcases q with q | q | ⟨_, q⟩
    · rcases o with o | o <;> exact absurd (o.symm.trans q) (by decide)
    · rcases o with o | o <;> exact absurd (o.symm.trans q) (by decide)
    · omega
  unfold wpX_step
  refine nm_r e1 (And.intro vf (nm_r (e' := nI (mm_pc m)) (by rw [nI_clamp (by omega)]; exact a8 _ (by omega)) (And.intro vp (nm_r (e' := pp_op P (mm_pc m)) (by rw [nI_clamp (by omega)]; exact congrFun q5 _) (And.intro vp (nm_r (e' := pp_ar P (mm_pc m)) (by rw [nI_clamp (by omega)]; exact congrFun q6 _) ?_))))))
  refine br_c (fun o => n59 (Or.inl o)) (fun o12 => br_c (fun o => n59 (Or.inr (Or.inl o))) (fun o13 => br_c (fun o => n53 (Or.inl o)) (fun o10 => br_c (fun o => n53 (Or.inr o)) (fun o11 => n82 ?_))))
  intro q
  rcases q with q | q | ⟨q | q, _⟩
  · exact o12 q
  · exact o13 q
  · exact o10 q
  · exact o11 q
end
end
section
/-! descriptors: what register code knows of the plain machine's state. L levels above the root frame; p, h: pc and height of each level; k, v: where each slot is; y: a rank; f: charges already paid -/
abbrev dd_D : Type := Nat × (Nat → Nat) × (Nat → Nat) × (Nat → Int32) × (Nat → Int32) × Nat × Nat
abbrev dd_L (D : dd_D) : Nat := D.1
abbrev dd_p (D : dd_D) : Nat → Nat := D.2.1
abbrev dd_h (D : dd_D) : Nat → Nat := D.2.2.1
abbrev dd_k (D : dd_D) : Nat → Int32 := D.2.2.2.1
abbrev dd_v (D : dd_D) : Nat → Int32 := D.2.2.2.2.1
abbrev dd_y (D : dd_D) : Nat := D.2.2.2.2.2.1
abbrev dd_f (D : dd_D) : Nat := D.2.2.2.2.2.2
/-- slot t is live -/
def dd_lv (L : Nat) (h : Nat → Nat) (t : Nat) : Prop := ∃ l o, t = 12 * l + o ∧ l ≤ L ∧ o < 12 ∧ o < 4 + h l
/-- the value of slot t -/
def dd_e (kd vl R : Nat → Int32) (b t : Nat) : Int32 := if kd t = 0 then R (b + t) else if kd t = 1 then vl t else R (b + (vl t).toNatClampNeg)
theorem dd_e0 {kd vl R : Nat → Int32} {b t : Nat} (h : kd t = 0) : dd_e kd vl R b t = R (b + t) := if_pos h
theorem dd_e1 {kd vl R : Nat → Int32} {b t : Nat} (h : kd t = 1) : dd_e kd vl R b t = vl t := by
  unfold dd_e; rw [if_neg (by rw [h]; decide), if_pos h]
theorem dd_e2 {kd vl R : Nat → Int32} {b t r : Nat} (h : kd t = 2) (hv : vl t = nI r) (hr : r < 2 ^ 31) : dd_e kd vl R b t = R (b + r) := by
  unfold dd_e; rw [if_neg (by rw [h]; decide), if_neg (by rw [h]; decide), hv, nI_clamp hr]
/-- depends on kind and value at t alone -/
theorem dd_ec {kd vl kd' vl' R : Nat → Int32} {b t : Nat} (h1 : kd' t = kd t) (h2 : ¬ kd t = 0 → vl' t = vl t) : dd_e kd' vl' R b t = dd_e kd vl R b t := by
  unfold dd_e
  rw [h1]
  by_cases z : kd t = 0
  · rw [if_pos z, if_pos z]
  · rw [if_neg z, if_neg z, h2 z]
theorem dd_ew {kd vl R : Nat → Int32} {b t t0 : Nat} {w : Int32} (h1 : t ≠ t0) (h2 : ¬ kd t = 0 → ¬ kd t = 1 → (vl t).toNatClampNeg ≠ t0) : dd_e kd vl (upd R (b + t0) w) b t = dd_e kd vl R b t := by
  unfold dd_e
  by_cases z : kd t = 0
  · rw [if_pos z, if_pos z, pk_un (by omega)]
  · rw [if_neg z, if_neg z]
    by_cases z1 : kd t = 1
    · rw [if_pos z1, if_pos z1]
    · rw [if_neg z1, if_neg z1]
      have := h2 z z1
      rw [pk_un (by omega)]
theorem dd_eu {kd vl R : Nat → Int32} {b t t0 : Nat} {k v : Int32} (h : t ≠ t0) : dd_e (upd kd t0 k) (upd vl t0 v) R b t = dd_e kd vl R b t :=
  dd_ec (pk_un h) (fun _ => pk_un h)
theorem dd_eu0 {kd vl R : Nat → Int32} {b t t0 : Nat} {k : Int32} (h : t ≠ t0) : dd_e (upd kd t0 k) vl R b t = dd_e kd vl R b t :=
  dd_ec (pk_un h) (fun _ => rfl)
/-- register code's state x and the plain machine's m, by D -/
def cc_M (D : dd_D) (x m : mm_S) : Prop :=
  1 ≤ mm_d x ∧ mm_d m = mm_d x + dd_L D
  ∧ (∀ l, l ≤ dd_L D → mm_p m (mm_d x - 1 + l) = dd_p D l ∧ mm_h m (mm_d x - 1 + l) = dd_h D l)
  ∧ (∀ l o, l ≤ dd_L D → o < 4 + dd_h D l → mm_s m (12 * (mm_d x - 1 + l) + o) = dd_e (dd_k D) (dd_v D) (mm_s x) (12 * (mm_d x - 1)) (12 * l + o))
  ∧ (∀ i, i + 1 < mm_d x → mm_p m i = mm_p x i ∧ mm_h m i = mm_h x i ∧ mm_h x i ≤ 8 ∧ ∀ o, o < 4 + mm_h x i → mm_s m (12 * i + o) = mm_s x (12 * i + o))
  ∧ mm_g m = mm_g x ∧ mm_o m = mm_o x ∧ mm_n m = mm_n x ∧ mm_a m = 1 ∧ mm_a x = 1 ∧ mm_r m = mm_r x ∧ mm_f m = mm_f x + dd_f D
def mm_ws (m : mm_S) (k : Nat) (w : Int32) : mm_S := (mm_d m, mm_p m, mm_h m, upd (mm_s m) k w, mm_g m, mm_o m, mm_n m, mm_a m, mm_r m, mm_f m)
def mm_wg (m : mm_S) (g : Nat) (w : Int32) : mm_S := (mm_d m, mm_p m, mm_h m, mm_s m, upd (mm_g m) g w, mm_o m, mm_n m, mm_a m, mm_r m, mm_f m)
def mm_wo (m : mm_S) (w : Int32) : mm_S := (mm_d m, mm_p m, mm_h m, mm_s m, mm_g m, upd (mm_o m) (mm_n m) w, mm_n m + 1, mm_a m, mm_r m, mm_f m)
theorem cc_pc {D : dd_D} {x m : mm_S} (h : cc_M D x m) : mm_d m - 1 = mm_d x - 1 + dd_L D ∧ mm_pc m = dd_p D (dd_L D) ∧ mm_ht m = dd_h D (dd_L D) := by
  obtain ⟨h1, h2, h3, h4, h5, h6⟩ := h
  have e : mm_d m - 1 = mm_d x - 1 + dd_L D := by omega
  refine ⟨e, ?_, ?_⟩
  · show mm_p m (mm_d m - 1) = _; rw [e]; exact (h3 _ (Nat.le_refl _)).1
  · show mm_h m (mm_d m - 1) = _; rw [e]; exact (h3 _ (Nat.le_refl _)).2
/-- the same state by another descriptor -/
theorem cc_Mc {D D' : dd_D} {x m : mm_S} (h : cc_M D x m) (eL : dd_L D' = dd_L D) (ep : ∀ l, l ≤ dd_L D → dd_p D' l = dd_p D l) (eh : ∀ l, l ≤ dd_L D → dd_h D' l = dd_h D l) (ef : dd_f D' = dd_f D)
    (es : ∀ l o, l ≤ dd_L D → o < 4 + dd_h D l → dd_e (dd_k D') (dd_v D') (mm_s x) (12 * (mm_d x - 1)) (12 * l + o) = dd_e (dd_k D) (dd_v D) (mm_s x) (12 * (mm_d x - 1)) (12 * l + o)) : cc_M D' x m := by
  obtain ⟨h1, h2, h3, h4, h5, h6, h7, h8, h9, h10, h11, h12⟩ := h
  refine ⟨h1, by rw [eL]; exact h2, ?_, ?_, h5, h6, h7, h8, h9, h10, h11, by rw [ef]; exact h12⟩
  · intro l hl
    rw [eL] at hl
    rw [ep l hl, eh l hl]
    exact h3 l hl
  · intro l o hl ho
    rw [eL] at hl
    rw [eh l hl] at ho
    rw [es l o hl ho]
    exact h4 l o hl ho
/-- a step of the innermost frame alone -/
theorem cc_Mfr {D D' : dd_D} {x x' m : mm_S} {q h n f : Nat} {S G O : Nat → Int32} (H : cc_M D x m)
    (eL : dd_L D' = dd_L D) (ep : ∀ l, l < dd_L D → dd_p D' l = dd_p D l) (eq : dd_p D' (dd_L D) = q) (eh : ∀ l, l < dd_L D → dd_h D' l = dd_h D l) (eh' : dd_h D' (dd_L D) = h)
    (xd : mm_d x' = mm_d x) (xp : mm_p x' = mm_p x) (xh : mm_h x' = mm_h x)
    (xs : ∀ i o, i + 1 < mm_d x → o < 4 + mm_h x i → S (12 * i + o) = mm_s x' (12 * i + o))
    (hs : ∀ l o, l ≤ dd_L D → o < 4 + dd_h D' l → S (12 * (mm_d x - 1 + l) + o) = dd_e (dd_k D') (dd_v D') (mm_s x') (12 * (mm_d x - 1)) (12 * l + o))
    (xg : G = mm_g x') (xo : O = mm_o x') (xn : n = mm_n x') (xr : mm_r x' = mm_r x) (xf : f = mm_f x' + dd_f D') (xa : mm_a x' = 1) : cc_M D' x' (mm_fr m q h S G O n f) := by
  obtain ⟨ed, epc, eht⟩ := cc_pc H
  obtain ⟨h1, h2, h3, h4, h5, h6, h7, h8, h9, h10, h11, h12⟩ := H
  refine ⟨by rw [xd]; exact h1, ?_, ?_, ?_, ?_, xg, xo, xn, h9, xa, h11.trans xr.symm, xf⟩
  · show mm_d m = _; rw [xd, eL]; exact h2
  · intro l hl
    rw [eL] at hl
    show tw_s (mm_p m) (mm_d m - 1) q (mm_d x' - 1 + l) = _ ∧ tw_s (mm_h m) (mm_d m - 1) h (mm_d x' - 1 + l) = _
    rw [xd, ed]
    by_cases e : l = dd_L D
    · subst e; rw [tw_ss, tw_ss]; exact ⟨eq.symm, eh'.symm⟩
    · rw [tw_sn (by omega), tw_sn (by omega), ep l (by omega), eh l (by omega)]
      exact h3 l hl
  · intro l o hl ho
    rw [eL] at hl
    show S (12 * (mm_d x' - 1 + l) + o) = _
    rw [xd]
    exact hs l o hl ho
  · intro i hi
    rw [xd] at hi
    show tw_s (mm_p m) (mm_d m - 1) q i = _ ∧ tw_s (mm_h m) (mm_d m - 1) h i = _ ∧ mm_h x' i ≤ 8 ∧ ∀ o, o < 4 + mm_h x' i → S (12 * i + o) = _
    rw [tw_sn (by omega), tw_sn (by omega), xp, xh]
    exact ⟨(h5 i hi).1, (h5 i hi).2.1, (h5 i hi).2.2.1, fun o ho => xs i o hi ho⟩
end
section
/-! the simulation: each cell's step and the descriptor behind it -/
section
variable {P : pp_P} {D : dd_D} {x m : mm_S}
/-- MOVE: slot t0 into its home register -/
theorem cc_move {t0 : Nat} {w : Int32} {y : Nat} (H : cc_M D x m) (hw : w = dd_e (dd_k D) (dd_v D) (mm_s x) (12 * (mm_d x - 1)) t0)
    (nr : ∀ t, dd_lv (dd_L D) (dd_h D) t → t ≠ t0 → ¬ dd_k D t = 0 → ¬ dd_k D t = 1 → (dd_v D t).toNatClampNeg ≠ t0) (hh : ∀ l, l ≤ dd_L D → dd_h D l ≤ 8) :
    cc_M (dd_L D, dd_p D, dd_h D, upd (dd_k D) t0 0, dd_v D, y, dd_f D) (mm_ws x (12 * (mm_d x - 1) + t0) w) m := by
  obtain ⟨h1, h2, h3, h4, h5, h6⟩ := H
  refine ⟨h1, h2, h3, ?_, ?_, h6⟩
  · intro l o hl ho
    have hl' : l ≤ dd_L D := hl
    have ho' : o < 4 + dd_h D l := ho
    have := hh l hl'
    show mm_s m (12 * (mm_d x - 1 + l) + o) = dd_e (upd (dd_k D) t0 0) (dd_v D) (upd (mm_s x) (12 * (mm_d x - 1) + t0) w) (12 * (mm_d x - 1)) (12 * l + o)
    rw [h4 l o hl ho]
    show _ = dd_e (upd (dd_k D) t0 0) (dd_v D) (upd (mm_s x) (12 * (mm_d x - 1) + t0) w) (12 * (mm_d x - 1)) (12 * l + o)
    by_cases e : 12 * l + o = t0
    · rw [e, dd_e0 (tw_ue rfl), tw_ue rfl, hw]
    · rw [dd_eu0 e, dd_ew e]
      exact nr _ ⟨l, o, rfl, hl', by omega, ho'⟩ e
  · intro i hi
    obtain ⟨z1, z2, z0, z3⟩ := h5 i hi
    refine ⟨z1, z2, z0, fun o ho => ?_⟩
    have ho' : o < 4 + mm_h x i := ho
    have z0' : mm_h x i ≤ 8 := z0
    show _ = upd (mm_s x) (12 * (mm_d x - 1) + t0) w (12 * i + o)
    have hi' : i + 1 < mm_d x := hi
    rw [pk_un (by omega)]
    exact z3 o ho
/-- a push, nothing emitted: the new slot is t0 -/
theorem cc_push {k v w : Int32} {y : Nat} (H : cc_M D x m) (hf : dd_f D = 0) (hh : ∀ l, l ≤ dd_L D → dd_h D l ≤ 8) (h8 : dd_h D (dd_L D) < 8)
    (hv : dd_e (upd (dd_k D) (12 * dd_L D + 4 + dd_h D (dd_L D)) k) (upd (dd_v D) (12 * dd_L D + 4 + dd_h D (dd_L D)) v) (mm_s x) (12 * (mm_d x - 1)) (12 * dd_L D + 4 + dd_h D (dd_L D)) = w) :
    cc_M (dd_L D, tw_s (dd_p D) (dd_L D) (dd_p D (dd_L D) + 1), tw_s (dd_h D) (dd_L D) (dd_h D (dd_L D) + 1), upd (dd_k D) (12 * dd_L D + 4 + dd_h D (dd_L D)) k, upd (dd_v D) (12 * dd_L D + 4 + dd_h D (dd_L D)) v, y, 0) x (mm_push m w) := by
  obtain ⟨ed, epc, eht⟩ := cc_pc H
  have H' := H
  obtain ⟨h1, h2, h3, h4, h5, h6, h7, h8', h9, h10, h11, h12⟩ := H'
  unfold mm_push
  rw [epc, eht, ed]
  refine cc_Mfr H rfl (fun l hl => tw_sn (by omega)) tw_ss (fun l hl => tw_sn (by omega)) tw_ss rfl rfl rfl ?_ ?_ h6 h7 h8' rfl (by rw [h12, hf]) h10
  · intro i o hi ho
    have := (h5 i hi).2.2.1
    rw [pk_un (by omega)]
    exact (h5 i hi).2.2.2 o ho
  · intro l o hl ho
    have ho' : o < 4 + tw_s (dd_h D) (dd_L D) (dd_h D (dd_L D) + 1) l := ho
    have hhl := hh l hl
    show _ = dd_e (upd (dd_k D) (12 * dd_L D + 4 + dd_h D (dd_L D)) k) (upd (dd_v D) (12 * dd_L D + 4 + dd_h D (dd_L D)) v) (mm_s x) (12 * (mm_d x - 1)) (12 * l + o)
    by_cases e : l = dd_L D
    · subst e
      rw [tw_ss] at ho'
      by_cases e2 : o = 4 + dd_h D (dd_L D)
      · subst e2
        rw [tw_ue (by omega), ← Nat.add_assoc, hv]
      · rw [pk_un (by omega), dd_eu (by omega)]
        exact h4 _ o (Nat.le_refl _) (by omega)
    · rw [tw_sn e] at ho'
      rw [pk_un (by omega), dd_eu (by omega)]
      exact h4 l o hl ho'
/-- a push into its home register (a load of a global) -/
theorem cc_pushW {v w : Int32} {y : Nat} (H : cc_M D x m) (hf : dd_f D = 0) (hh : ∀ l, l ≤ dd_L D → dd_h D l ≤ 8) (h8 : dd_h D (dd_L D) < 8)
    (nr : ∀ t, dd_lv (dd_L D) (dd_h D) t → ¬ dd_k D t = 0 → ¬ dd_k D t = 1 → (dd_v D t).toNatClampNeg ≠ 12 * dd_L D + 4 + dd_h D (dd_L D)) :
    cc_M (dd_L D, tw_s (dd_p D) (dd_L D) (dd_p D (dd_L D) + 1), tw_s (dd_h D) (dd_L D) (dd_h D (dd_L D) + 1), upd (dd_k D) (12 * dd_L D + 4 + dd_h D (dd_L D)) 0, upd (dd_v D) (12 * dd_L D + 4 + dd_h D (dd_L D)) v, y, 0) (mm_ws x (12 * (mm_d x - 1) + (12 * dd_L D + 4 + dd_h D (dd_L D))) w) (mm_push m w) := by
  obtain ⟨ed, epc, eht⟩ := cc_pc H
  have H' := H
  obtain ⟨h1, h2, h3, h4, h5, h6, h7, h8', h9, h10, h11, h12⟩ := H'
  unfold mm_push
  rw [epc, eht, ed]
  refine cc_Mfr H rfl (fun l hl => tw_sn (by omega)) tw_ss (fun l hl => tw_sn (by omega)) tw_ss rfl rfl rfl ?_ ?_ h6 h7 h8' rfl (by rw [h12, hf]; rfl) h10
  · intro i o hi ho
    have := (h5 i hi).2.2.1
    show _ = upd (mm_s x) (12 * (mm_d x - 1) + (12 * dd_L D + 4 + dd_h D (dd_L D))) w (12 * i + o)
    rw [pk_un (by omega), pk_un (by omega)]
    exact (h5 i hi).2.2.2 o ho
  · intro l o hl ho
    have ho' : o < 4 + tw_s (dd_h D) (dd_L D) (dd_h D (dd_L D) + 1) l := ho
    have hhl := hh l hl
    show _ = dd_e (upd (dd_k D) (12 * dd_L D + 4 + dd_h D (dd_L D)) 0) (upd (dd_v D) (12 * dd_L D + 4 + dd_h D (dd_L D)) v) (upd (mm_s x) (12 * (mm_d x - 1) + (12 * dd_L D + 4 + dd_h D (dd_L D))) w) (12 * (mm_d x - 1)) (12 * l + o)
    by_cases e : 12 * l + o = 12 * dd_L D + 4 + dd_h D (dd_L D)
    · rw [tw_ue (by omega), e, dd_e0 (tw_ue rfl), tw_ue rfl]
    · rw [pk_un (by omega), dd_eu e]
      have hlo : o < 4 + dd_h D l := by
        by_cases e2 : l = dd_L D
        · subst e2; rw [tw_ss] at ho'; omega
        · rw [tw_sn e2] at ho'; exact ho'
      rw [dd_ew e]
      · exact h4 l o hl hlo
      · exact nr _ ⟨l, o, rfl, hl, by omega, hlo⟩
/-- STORE, nothing emitted: local a is where the top was -/
theorem cc_store {a : Nat} {k v : Int32} {y : Nat} (H : cc_M D x m) (hf : dd_f D = 0) (hh : ∀ l, l ≤ dd_L D → dd_h D l ≤ 8) (h0 : 0 < dd_h D (dd_L D)) (ha : a < 4)
    (hv : dd_e (upd (dd_k D) (12 * dd_L D + a) k) (upd (dd_v D) (12 * dd_L D + a) v) (mm_s x) (12 * (mm_d x - 1)) (12 * dd_L D + a) = dd_e (dd_k D) (dd_v D) (mm_s x) (12 * (mm_d x - 1)) (12 * dd_L D + 3 + dd_h D (dd_L D))) :
    cc_M (dd_L D, tw_s (dd_p D) (dd_L D) (dd_p D (dd_L D) + 1), tw_s (dd_h D) (dd_L D) (dd_h D (dd_L D) - 1), upd (dd_k D) (12 * dd_L D + a) k, upd (dd_v D) (12 * dd_L D + a) v, y, 0) x
      (mm_fr m (mm_pc m + 1) (mm_ht m - 1) (upd (mm_s m) (12 * (mm_d m - 1) + a) (mm_top m)) (mm_g m) (mm_o m) (mm_n m) (mm_f m)) := by
  obtain ⟨ed, epc, eht⟩ := cc_pc H
  have H' := H
  obtain ⟨h1, h2, h3, h4, h5, h6, h7, h8', h9, h10, h11, h12⟩ := H'
  have top : mm_top m = dd_e (dd_k D) (dd_v D) (mm_s x) (12 * (mm_d x - 1)) (12 * dd_L D + 3 + dd_h D (dd_L D)) := by
    show mm_s m (12 * (mm_d m - 1) + 3 + mm_ht m) = _
    rw [ed, eht, Nat.add_assoc, h4 _ _ (Nat.le_refl _) (by omega), Nat.add_assoc]
  rw [top, ← hv, epc, eht, ed]
  refine cc_Mfr H rfl (fun l hl => tw_sn (by omega)) tw_ss (fun l hl => tw_sn (by omega)) tw_ss rfl rfl rfl ?_ ?_ h6 h7 h8' rfl (by rw [h12, hf]) h10
  · intro i o hi ho
    have := (h5 i hi).2.2.1
    rw [pk_un (by omega)]
    exact (h5 i hi).2.2.2 o ho
  · intro l o hl ho
    have ho' : o < 4 + tw_s (dd_h D) (dd_L D) (dd_h D (dd_L D) - 1) l := ho
    have hhl := hh l hl
    show _ = dd_e (upd (dd_k D) (12 * dd_L D + a) k) (upd (dd_v D) (12 * dd_L D + a) v) (mm_s x) (12 * (mm_d x - 1)) (12 * l + o)
    have hlo : o < 4 + dd_h D l := by
      by_cases e2 : l = dd_L D
      · subst e2; rw [tw_ss] at ho'; omega
      · rw [tw_sn e2] at ho'; exact ho'
    by_cases e : 12 * l + o = 12 * dd_L D + a
    · rw [tw_ue (by omega), e]
    · rw [pk_un (by omega), dd_eu e]
      exact h4 l o hl hlo
/-- the top goes, nothing else of the slots changes: pc then q, x' differs from x in globals, outs, fuel alone -/
theorem cc_pop {x' : mm_S} {q n f f0 y : Nat} {G O : Nat → Int32} (H : cc_M D x m) (hx : mm_d x' = mm_d x ∧ mm_p x' = mm_p x ∧ mm_h x' = mm_h x ∧ mm_s x' = mm_s x ∧ mm_r x' = mm_r x ∧ mm_a x' = 1)
    (hG : G = mm_g x') (hO : O = mm_o x') (hn : n = mm_n x') (hf : f = mm_f x' + f0) :
    cc_M (dd_L D, tw_s (dd_p D) (dd_L D) q, tw_s (dd_h D) (dd_L D) (dd_h D (dd_L D) - 1), dd_k D, dd_v D, y, f0) x' (mm_fr m q (mm_ht m - 1) (mm_s m) G O n f) := by
  obtain ⟨ed, epc, eht⟩ := cc_pc H
  have H' := H
  obtain ⟨h1, h2, h3, h4, h5, h6, h7, h8', h9, h10, h11, h12⟩ := H'
  obtain ⟨x1, x2, x3, x4, x5, x6⟩ := hx
  rw [eht]
  refine cc_Mfr H rfl (fun l hl => tw_sn (by omega)) tw_ss (fun l hl => tw_sn (by omega)) tw_ss x1 x2 x3 ?_ ?_ hG hO hn x5 hf x6
  · intro i o hi ho
    rw [x4]
    exact (h5 i hi).2.2.2 o ho
  · intro l o hl ho
    have ho' : o < 4 + tw_s (dd_h D) (dd_L D) (dd_h D (dd_L D) - 1) l := ho
    rw [x4]
    refine h4 l o hl ?_
    by_cases e2 : l = dd_L D
    · subst e2; rw [tw_ss] at ho'; omega
    · rw [tw_sn e2] at ho'; exact ho'
/-- a jump: the pc alone -/
theorem cc_jump {x' : mm_S} {q f f0 y : Nat} (H : cc_M D x m) (hx : mm_d x' = mm_d x ∧ mm_p x' = mm_p x ∧ mm_h x' = mm_h x ∧ mm_s x' = mm_s x ∧ mm_r x' = mm_r x ∧ mm_a x' = 1)
    (hG : mm_g m = mm_g x') (hO : mm_o m = mm_o x') (hn : mm_n m = mm_n x') (hf : f = mm_f x' + f0) :
    cc_M (dd_L D, tw_s (dd_p D) (dd_L D) q, dd_h D, dd_k D, dd_v D, y, f0) x' (mm_fr m q (mm_ht m) (mm_s m) (mm_g m) (mm_o m) (mm_n m) f) := by
  obtain ⟨ed, epc, eht⟩ := cc_pc H
  have H' := H
  obtain ⟨h1, h2, h3, h4, h5, h6, h7, h8', h9, h10, h11, h12⟩ := H'
  obtain ⟨x1, x2, x3, x4, x5, x6⟩ := hx
  rw [eht]
  refine cc_Mfr H rfl (fun l hl => tw_sn (by omega)) tw_ss (fun l hl => rfl) rfl x1 x2 x3 ?_ ?_ hG hO hn x5 hf x6
  · intro i o hi ho
    rw [x4]
    exact (h5 i hi).2.2.2 o ho
  · intro l o hl ho
    rw [x4]
    exact h4 l o hl ho
/-- an operation into the home register of the lower operand, or (k = 1) folded -/
theorem cc_bin {op w : Int32} {y : Nat} (H : cc_M D x m) (hf : dd_f D = 0) (hh : ∀ l, l ≤ dd_L D → dd_h D l ≤ 8) (h2 : 2 ≤ dd_h D (dd_L D))
    (hw : w = mm_ari op (mm_nxt m) (mm_top m))
    (nr : ∀ t, dd_lv (dd_L D) (tw_s (dd_h D) (dd_L D) (dd_h D (dd_L D) - 1)) t → t ≠ 12 * dd_L D + 2 + dd_h D (dd_L D) → ¬ dd_k D t = 0 → ¬ dd_k D t = 1 → (dd_v D t).toNatClampNeg ≠ 12 * dd_L D + 2 + dd_h D (dd_L D)) :
    cc_M (dd_L D, tw_s (dd_p D) (dd_L D) (dd_p D (dd_L D) + 1), tw_s (dd_h D) (dd_L D) (dd_h D (dd_L D) - 1), upd (dd_k D) (12 * dd_L D + 2 + dd_h D (dd_L D)) 0, dd_v D, y, 0) (mm_ws x (12 * (mm_d x - 1) + (12 * dd_L D + 2 + dd_h D (dd_L D))) w)
      (mm_fr m (mm_pc m + 1) (mm_ht m - 1) (upd (mm_s m) (12 * (mm_d m - 1) + 2 + mm_ht m) (mm_ari op (mm_nxt m) (mm_top m))) (mm_g m) (mm_o m) (mm_n m) (mm_f m)) := by
  obtain ⟨ed, epc, eht⟩ := cc_pc H
  have H' := H
  obtain ⟨h1, h2', h3, h4, h5, h6, h7, h8', h9, h10, h11, h12⟩ := H'
  rw [← hw, epc, eht, ed]
  refine cc_Mfr H rfl (fun l hl => tw_sn (by omega)) tw_ss (fun l hl => tw_sn (by omega)) tw_ss rfl rfl rfl ?_ ?_ h6 h7 h8' rfl (by rw [h12, hf]; rfl) h10
  · intro i o hi ho
    have := (h5 i hi).2.2.1
    show _ = upd (mm_s x) (12 * (mm_d x - 1) + (12 * dd_L D + 2 + dd_h D (dd_L D))) w (12 * i + o)
    rw [pk_un (by omega), pk_un (by omega)]
    exact (h5 i hi).2.2.2 o ho
  · intro l o hl ho
    have ho' : o < 4 + tw_s (dd_h D) (dd_L D) (dd_h D (dd_L D) - 1) l := ho
    have hhl := hh l hl
    show _ = dd_e (upd (dd_k D) (12 * dd_L D + 2 + dd_h D (dd_L D)) 0) (dd_v D) (upd (mm_s x) (12 * (mm_d x - 1) + (12 * dd_L D + 2 + dd_h D (dd_L D))) w) (12 * (mm_d x - 1)) (12 * l + o)
    have hlo : o < 4 + dd_h D l := by
      by_cases e2 : l = dd_L D
      · subst e2; rw [tw_ss] at ho'; omega
      · rw [tw_sn e2] at ho'; exact ho'
    by_cases e : 12 * l + o = 12 * dd_L D + 2 + dd_h D (dd_L D)
    · rw [tw_ue (by omega), e, dd_e0 (tw_ue rfl), tw_ue rfl]
    · rw [pk_un (by omega), dd_eu0 e, dd_ew e (nr _ ⟨l, o, rfl, hl, by omega, ho'⟩ e)]
      exact h4 l o hl hlo
theorem cc_fold {w : Int32} {op : Int32} {y : Nat} (H : cc_M D x m) (hf : dd_f D = 0) (hh : ∀ l, l ≤ dd_L D → dd_h D l ≤ 8) (h2 : 2 ≤ dd_h D (dd_L D))
    (hw : w = mm_ari op (mm_nxt m) (mm_top m)) (hk : dd_k D (12 * dd_L D + 2 + dd_h D (dd_L D)) = 1) :
    cc_M (dd_L D, tw_s (dd_p D) (dd_L D) (dd_p D (dd_L D) + 1), tw_s (dd_h D) (dd_L D) (dd_h D (dd_L D) - 1), dd_k D, upd (dd_v D) (12 * dd_L D + 2 + dd_h D (dd_L D)) w, y, 0) x
      (mm_fr m (mm_pc m + 1) (mm_ht m - 1) (upd (mm_s m) (12 * (mm_d m - 1) + 2 + mm_ht m) (mm_ari op (mm_nxt m) (mm_top m))) (mm_g m) (mm_o m) (mm_n m) (mm_f m)) := by
  obtain ⟨ed, epc, eht⟩ := cc_pc H
  have H' := H
  obtain ⟨h1, h2', h3, h4, h5, h6, h7, h8', h9, h10, h11, h12⟩ := H'
  rw [← hw, epc, eht, ed]
  refine cc_Mfr H rfl (fun l hl => tw_sn (by omega)) tw_ss (fun l hl => tw_sn (by omega)) tw_ss rfl rfl rfl ?_ ?_ h6 h7 h8' rfl (by rw [h12, hf]) h10
  · intro i o hi ho
    have := (h5 i hi).2.2.1
    rw [pk_un (by omega)]
    exact (h5 i hi).2.2.2 o ho
  · intro l o hl ho
    have ho' : o < 4 + tw_s (dd_h D) (dd_L D) (dd_h D (dd_L D) - 1) l := ho
    have hhl := hh l hl
    show _ = dd_e (dd_k D) (upd (dd_v D) (12 * dd_L D + 2 + dd_h D (dd_L D)) w) (mm_s x) (12 * (mm_d x - 1)) (12 * l + o)
    have hlo : o < 4 + dd_h D l := by
      by_cases e2 : l = dd_L D
      · subst e2; rw [tw_ss] at ho'; omega
      · rw [tw_sn e2] at ho'; exact ho'
    by_cases e : 12 * l + o = 12 * dd_L D + 2 + dd_h D (dd_L D)
    · rw [tw_ue (by omega), e, dd_e1 hk, tw_ue rfl]
    · rw [pk_un (by omega), dd_ec (kd := dd_k D) (vl := dd_v D) rfl (fun _ => pk_un e)]
      exact h4 l o hl hlo
end
end
section
/-! the simulation: calls and returns -/
section
variable {P : pp_P} {D : dd_D} {x m : mm_S}
/-- a call: level L + 1 begins, its locals by k, v -/
theorem cc_call {q s nn y f0 : Nat} {kd vl : Nat → Int32} {x' : mm_S} (H : cc_M D x m) (hf : mm_f m - 1 = mm_f x' + f0) (hx : mm_d x' = mm_d x ∧ mm_p x' = mm_p x ∧ mm_h x' = mm_h x ∧ mm_s x' = mm_s x ∧ mm_g x' = mm_g x ∧ mm_o x' = mm_o x ∧ mm_n x' = mm_n x ∧ mm_r x' = mm_r x ∧ mm_a x' = 1)
    (hh : ∀ l, l ≤ dd_L D → dd_h D l ≤ 8) (hn : pp_fa P (pp_an P (mm_pc m)) = nn) (hs : pp_fs P (pp_an P (mm_pc m)) = s) (hq : mm_pc m + 1 = q) (h2 : nn ≤ dd_h D (dd_L D)) (n4 : nn ≤ 4)
    (hk : ∀ t, t < 12 * (dd_L D + 1) → kd t = dd_k D t ∧ vl t = dd_v D t)
    (hv : ∀ i, i < 4 → dd_e kd vl (mm_s x) (12 * (mm_d x - 1)) (12 * (dd_L D + 1) + i) = if i < nn then dd_e (dd_k D) (dd_v D) (mm_s x) (12 * (mm_d x - 1)) (12 * dd_L D + 4 + (dd_h D (dd_L D) - nn) + i) else 0) :
    cc_M (dd_L D + 1, tw_s (tw_s (dd_p D) (dd_L D) q) (dd_L D + 1) s, tw_s (tw_s (dd_h D) (dd_L D) (dd_h D (dd_L D) - nn)) (dd_L D + 1) 0, kd, vl, y, f0) x' (mm_call P m) := by
  obtain ⟨ed, epc, eht⟩ := cc_pc H
  obtain ⟨h1, h2', h3, h4, h5, h6, h7, h8', h9, h10, h11, h12⟩ := H
  obtain ⟨x1, x2, x3, x4, x5, x6, x7, x8, x9⟩ := hx
  have dm : mm_d m = mm_d x - 1 + dd_L D + 1 := by omega
  have sl : ∀ c, c < nn → mm_s m (12 * (mm_d m - 1) + (4 + c) + (mm_ht m - nn)) = dd_e (dd_k D) (dd_v D) (mm_s x) (12 * (mm_d x - 1)) (12 * dd_L D + 4 + (dd_h D (dd_L D) - nn) + c) := by
    intro c hc
    have := h4 (dd_L D) (4 + c + (dd_h D (dd_L D) - nn)) (Nat.le_refl _) (by omega)
    rw [ed, eht, Nat.add_assoc, this]
    exact congrArg _ (by omega)
  refine ⟨by rw [x1]; exact h1, ?_, ?_, ?_, ?_, h6.trans x5.symm, h7.trans x6.symm, h8'.trans x7.symm, h9, x9, h11.trans x8.symm, hf⟩
  · show mm_d m + 1 = mm_d x' + (dd_L D + 1)
    rw [x1]; omega
  · intro l hl
    have hl' : l ≤ dd_L D + 1 := hl
    show tw_s (tw_s (mm_p m) (mm_d m - 1) (mm_pc m + 1)) (mm_d m) (pp_fs P (pp_an P (mm_pc m))) (mm_d x' - 1 + l) = tw_s (tw_s (dd_p D) (dd_L D) q) (dd_L D + 1) s l
      ∧ tw_s (tw_s (mm_h m) (mm_d m - 1) (mm_ht m - pp_fa P (pp_an P (mm_pc m)))) (mm_d m) 0 (mm_d x' - 1 + l) = tw_s (tw_s (dd_h D) (dd_L D) (dd_h D (dd_L D) - nn)) (dd_L D + 1) 0 l
    rw [x1, hn, hs, hq, eht]
    by_cases e : l = dd_L D + 1
    · rw [tw_se (show mm_d x - 1 + l = mm_d m by omega), tw_se e, tw_se (show mm_d x - 1 + l = mm_d m by omega), tw_se e]
      exact ⟨rfl, rfl⟩
    · rw [tw_sn (show mm_d x - 1 + l ≠ mm_d m by omega), tw_sn e, tw_sn (show mm_d x - 1 + l ≠ mm_d m by omega), tw_sn e]
      by_cases e2 : l = dd_L D
      · rw [tw_se (show mm_d x - 1 + l = mm_d m - 1 by omega), tw_se e2, tw_se (show mm_d x - 1 + l = mm_d m - 1 by omega), tw_se e2]
        exact ⟨rfl, rfl⟩
      · rw [tw_sn (show mm_d x - 1 + l ≠ mm_d m - 1 by omega), tw_sn e2, tw_sn (show mm_d x - 1 + l ≠ mm_d m - 1 by omega), tw_sn e2]
        exact h3 l (by omega)
  · intro l o hl ho
    have hl' : l ≤ dd_L D + 1 := hl
    have ho' : o < 4 + tw_s (tw_s (dd_h D) (dd_L D) (dd_h D (dd_L D) - nn)) (dd_L D + 1) 0 l := ho
    show (mm_call P m).2.2.2.1 (12 * (mm_d x' - 1 + l) + o) = dd_e kd vl (mm_s x') (12 * (mm_d x' - 1)) (12 * l + o)
    rw [x1, x4]
    by_cases e : l = dd_L D + 1
    · rw [tw_se e] at ho'
      subst e
      rw [hv o (by omega), show mm_d x - 1 + (dd_L D + 1) = mm_d m by omega, mm_cs (by omega), hn]
      by_cases z : o < nn
      · rw [if_pos z, if_pos z]; exact sl o z
      · rw [if_neg z, if_neg z]
    · rw [tw_sn e] at ho'
      have hhl := hh l (by omega)
      have hlo : o < 4 + dd_h D l := by
        by_cases e2 : l = dd_L D
        · subst e2; rw [tw_ss] at ho'; omega
        · rw [tw_sn e2] at ho'; exact ho'
      rw [mm_cn (by omega), h4 l o (by omega) hlo]
      obtain ⟨k1, k2⟩ := hk (12 * l + o) (by omega)
      exact (dd_ec k1 (fun _ => k2)).symm
  · intro i hi
    rw [x1] at hi
    obtain ⟨z1, z2, z0, z3⟩ := h5 i hi
    show tw_s (tw_s (mm_p m) (mm_d m - 1) (mm_pc m + 1)) (mm_d m) (pp_fs P (pp_an P (mm_pc m))) i = mm_p x' i ∧ tw_s (tw_s (mm_h m) (mm_d m - 1) (mm_ht m - pp_fa P (pp_an P (mm_pc m)))) (mm_d m) 0 i = mm_h x' i ∧ mm_h x' i ≤ 8 ∧ ∀ o, o < 4 + mm_h x' i → (mm_call P m).2.2.2.1 (12 * i + o) = mm_s x' (12 * i + o)
    rw [x2, x3, x4, tw_sn (by omega), tw_sn (by omega), tw_sn (by omega), tw_sn (by omega)]
    refine ⟨z1, z2, z0, fun o ho => ?_⟩
    rw [mm_cn (by omega)]
    exact z3 o ho
/-- a return into level L below: its new top is where the callee's was -/
theorem cc_ret {L y f0 : Nat} {k v : Int32} {x' : mm_S} (H : cc_M D x m) (eL : dd_L D = L + 1) (hf : mm_f m - 1 = mm_f x' + f0) (hx : mm_d x' = mm_d x ∧ mm_p x' = mm_p x ∧ mm_h x' = mm_h x ∧ mm_s x' = mm_s x ∧ mm_g x' = mm_g x ∧ mm_o x' = mm_o x ∧ mm_n x' = mm_n x ∧ mm_r x' = mm_r x ∧ mm_a x' = 1)
    (hh : ∀ l, l ≤ dd_L D → dd_h D l ≤ 8) (h7 : dd_h D L ≤ 7) (h0 : 0 < dd_h D (L + 1))
    (hv : dd_e (upd (dd_k D) (12 * L + 4 + dd_h D L) k) (upd (dd_v D) (12 * L + 4 + dd_h D L) v) (mm_s x) (12 * (mm_d x - 1)) (12 * L + 4 + dd_h D L) = dd_e (dd_k D) (dd_v D) (mm_s x) (12 * (mm_d x - 1)) (12 * (L + 1) + 3 + dd_h D (L + 1))) :
    cc_M (L, dd_p D, tw_s (dd_h D) L (dd_h D L + 1), upd (dd_k D) (12 * L + 4 + dd_h D L) k, upd (dd_v D) (12 * L + 4 + dd_h D L) v, y, f0) x' (mm_ret m) := by
  obtain ⟨ed, epc, eht⟩ := cc_pc H
  obtain ⟨h1, h2', h3, h4, h5, h6, h7', h8', h9, h10, h11, h12⟩ := H
  obtain ⟨x1, x2, x3, x4, x5, x6, x7, x8, x9⟩ := hx
  rw [eL] at ed epc eht
  have d2 : mm_d m - 2 = mm_d x - 1 + L := by omega
  have e2 : mm_h m (mm_d m - 2) = dd_h D L := by rw [d2]; exact (h3 L (by omega)).2
  have top : mm_top m = dd_e (dd_k D) (dd_v D) (mm_s x) (12 * (mm_d x - 1)) (12 * (L + 1) + 3 + dd_h D (L + 1)) := by
    show mm_s m (12 * (mm_d m - 1) + 3 + mm_ht m) = _
    rw [ed, eht, Nat.add_assoc, h4 _ _ (by omega) (by omega), Nat.add_assoc]
  refine ⟨by rw [x1]; exact h1, ?_, ?_, ?_, ?_, h6.trans x5.symm, h7'.trans x6.symm, h8'.trans x7.symm, h9, x9, h11.trans x8.symm, hf⟩
  · show mm_d m - 1 = mm_d x' + L
    rw [x1]; omega
  · intro l hl
    have hl' : l ≤ L := hl
    show mm_p m (mm_d x' - 1 + l) = dd_p D l ∧ tw_s (mm_h m) (mm_d m - 2) (mm_h m (mm_d m - 2) + 1) (mm_d x' - 1 + l) = tw_s (dd_h D) L (dd_h D L + 1) l
    rw [x1, e2]
    refine ⟨(h3 l (by omega)).1, ?_⟩
    by_cases e : l = L
    · rw [tw_se (by omega), tw_se e]
    · rw [tw_sn (by omega), tw_sn e]; exact (h3 l (by omega)).2
  · intro l o hl ho
    have hl' : l ≤ L := hl
    have ho' : o < 4 + tw_s (dd_h D) L (dd_h D L + 1) l := ho
    show upd (mm_s m) (12 * (mm_d m - 2) + 4 + mm_h m (mm_d m - 2)) (mm_top m) (12 * (mm_d x' - 1 + l) + o) = dd_e (upd (dd_k D) (12 * L + 4 + dd_h D L) k) (upd (dd_v D) (12 * L + 4 + dd_h D L) v) (mm_s x') (12 * (mm_d x' - 1)) (12 * l + o)
    rw [x1, x4, e2, d2]
    have hhl := hh l (by omega)
    by_cases e : 12 * l + o = 12 * L + 4 + dd_h D L
    · rw [tw_ue (by omega), e, hv, top]
    · have hlo : o < 4 + dd_h D l := by
        by_cases e3 : l = L
        · subst e3; rw [tw_ss] at ho'; omega
        · rw [tw_sn e3] at ho'; exact ho'
      rw [pk_un (by omega), dd_eu e]
      exact h4 l o (by omega) hlo
  · intro i hi
    rw [x1] at hi
    obtain ⟨z1, z2, z0, z3⟩ := h5 i hi
    show mm_p m i = mm_p x' i ∧ tw_s (mm_h m) (mm_d m - 2) (mm_h m (mm_d m - 2) + 1) i = mm_h x' i ∧ mm_h x' i ≤ 8 ∧ ∀ o, o < 4 + mm_h x' i → upd (mm_s m) (12 * (mm_d m - 2) + 4 + mm_h m (mm_d m - 2)) (mm_top m) (12 * i + o) = mm_s x' (12 * i + o)
    rw [x2, x3, x4, tw_sn (by omega)]
    refine ⟨z1, z2, z0, fun o ho => ?_⟩
    rw [pk_un (by omega)]
    exact z3 o ho
end
end
section
/-! the certificate of register code -/
def cc_R (P : pp_P) (D : dd_D) (x m : mm_S) : Prop := ∃ m', mm_Ss P m m' ∧ cc_M D x m'
def cc_S (P : pp_P) (Q : (Nat → Int32) → Prop) (D D' : dd_D) : Prop := dd_y D ≤ dd_y D' ∧ ∀ x m, Q (mm_g x) → cc_M D x m → cc_R P D' x m
def cc_G (P : pp_P) (Q : (Nat → Int32) → Prop) (D : dd_D) (x m : mm_S) : Prop := Q (mm_g x) → cc_R P D x m
def cc_V (P : pp_P) (SR : Int32 → dd_D → Prop) (s : Int32) (x m : mm_S) : Prop := ∃ m' D, mm_Ss P m m' ∧ cc_M D x m' ∧ dd_f D = 0 ∧ SR s D
def cc_oa (md a : Int32) (x : mm_S) : Int32 := if md &&& 1 = 0 then mm_s x (12 * (mm_d x - 1) + a.toNatClampNeg) else a
def cc_ob (md b : Int32) (x : mm_S) : Int32 := if md &&& 2 = 0 then mm_s x (12 * (mm_d x - 1) + b.toNatClampNeg) else b
/-- one instruction: from D it goes on to Dn, or jumps, or leaves -/
def cc_I (P : pp_P) (Q : (Nat → Int32) → Prop) (SR TJ : Int32 → dd_D → Prop) (D Dn : dd_D) (o d a b md s : Int32) : Prop :=
  (md &&& 1 = 0 → ∃ r, r < 36 ∧ a = nI r) ∧ (md &&& 2 = 0 → ∃ r, r < 36 ∧ b = nI r) ∧ (
  (o = 15 ∧ dd_y D ≤ dd_y Dn ∧ ∃ t, t < 36 ∧ d = nI t ∧ ∀ x m, Q (mm_g x) → cc_M D x m → cc_G P Q Dn (mm_ws x (12 * (mm_d x - 1) + t) (cc_oa md a x)) m)
  ∨ ((∃ k, 5 ≤ k ∧ k ≤ 9 ∧ o = nI k) ∧ dd_y D ≤ dd_y Dn ∧ ∃ t, t < 36 ∧ d = nI t ∧ ∀ x m, Q (mm_g x) → cc_M D x m → (o = 8 → cc_ob md b x = 0 → cc_V P SR s x m) ∧ ((o = 8 → ¬ cc_ob md b x = 0) → cc_G P Q Dn (mm_ws x (12 * (mm_d x - 1) + t) (mm_ari o (cc_oa md a x) (cc_ob md b x))) m))
  ∨ (o = 3 ∧ dd_y D ≤ dd_y Dn ∧ ∃ t g, t < 36 ∧ d = nI t ∧ g < 8 ∧ b = nI g ∧ md = 3 ∧ ∀ x m, Q (mm_g x) → cc_M D x m → cc_G P Q Dn (mm_ws x (12 * (mm_d x - 1) + t) (mm_g x g)) m)
  ∨ (o = 4 ∧ dd_y D ≤ dd_y Dn ∧ ∃ g, g < 8 ∧ d = nI g ∧ ∀ x m, Q (mm_g x) → cc_M D x m → cc_G P Q Dn (mm_wg x g (cc_oa md a x)) m ∧ cc_V P SR s (mm_wg x g (cc_oa md a x)) m)
  ∨ (o = 14 ∧ dd_y D ≤ dd_y Dn ∧ ∀ x m, Q (mm_g x) → cc_M D x m → (mm_n x < 32 → cc_G P Q Dn (mm_wo x (cc_oa md a x)) m) ∧ (32 ≤ mm_n x → cc_V P SR s x m))
  ∨ (o = 10 ∧ ∃ Dk, TJ d Dk ∧ dd_y D < dd_y Dk ∧ ∀ x m, Q (mm_g x) → cc_M D x m → cc_R P Dk x m)
  ∨ (o = 11 ∧ dd_y D ≤ dd_y Dn ∧ ∃ Dk, TJ d Dk ∧ dd_y D < dd_y Dk ∧ ∀ x m, Q (mm_g x) → cc_M D x m → (cc_oa md a x = 0 → cc_R P Dk x m) ∧ (¬ cc_oa md a x = 0 → cc_R P Dn x m))
  ∨ (o = 16 ∧ ∀ x m, Q (mm_g x) → cc_M D x m → (mm_f x = 0 → cc_V P SR s x m) ∧ (0 < mm_f x → cc_G P Q Dn (mm_wf x (mm_f x - 1)) m))
  ∨ (o = 17 ∧ ∃ l, l ≤ 2 ∧ b = nI l ∧ md = 3 ∧ ∀ x m, Q (mm_g x) → cc_M D x m → ((mm_f x = 0 ∨ pp_mx P ≤ mm_d x + l) → cc_V P SR s x m) ∧ (0 < mm_f x → mm_d x + l < pp_mx P → cc_G P Q Dn (mm_wf x (mm_f x - 1)) m))
  ∨ (o = 18 ∧ ∀ x m, Q (mm_g x) → cc_M D x m → cc_V P SR s x m)
  ∨ (o = 19 ∧ dd_y D ≤ dd_y Dn ∧ ∀ x m, Q (mm_g x) → cc_M D x m → (cc_oa md a x = 0 → cc_V P SR s x m) ∧ (¬ cc_oa md a x = 0 → cc_R P Dn x m)))
section
variable {P : pp_P} {Q Q' : (Nat → Int32) → Prop} {D D' Dn Dn' : dd_D} {x m : mm_S}
theorem cc_Rs (h : cc_R P D x m) (q : Q (mm_g x)) (hs : cc_S P Q D D') : cc_R P D' x m := by
  obtain ⟨m1, a, b⟩ := h
  obtain ⟨m2, c, d⟩ := hs.2 x m1 q b
  exact ⟨m2, mm_SsT a c, d⟩
theorem cc_S0 : cc_S P Q D D := ⟨Nat.le_refl _, fun x m _ h => ⟨m, mm_Ss0, h⟩⟩
theorem cc_ST {D1 D2 D3 : dd_D} (h : cc_S P Q D1 D2) (g : cc_S P Q D2 D3) : cc_S P Q D1 D3 :=
  ⟨Nat.le_trans h.1 g.1, fun x m q hm => cc_Rs (h.2 x m q hm) q g⟩
theorem cc_Sq (hq : ∀ g, Q' g → Q g) (h : cc_S P Q D D') : cc_S P Q' D D' := ⟨h.1, fun x m q hm => h.2 x m (hq _ q) hm⟩
theorem cc_Gs (hq : ∀ g, Q' g → Q g) (h : cc_G P Q D x m) (hs : cc_S P Q' D D') : cc_G P Q' D' x m := fun q => cc_Rs (h (hq _ q)) q hs
theorem cc_Vs {SR SR' : Int32 → dd_D → Prop} {s : Int32} (hsr : ∀ D, SR s D → SR' s D) (h : cc_V P SR s x m) : cc_V P SR' s x m := by
  obtain ⟨m', D, a, b, c, d⟩ := h
  exact ⟨m', D, a, b, c, hsr D d⟩
theorem cc_Im {SR SR' TJ TJ' : Int32 → dd_D → Prop} {o d d' a b md s : Int32} (hq : ∀ g, Q' g → Q g) (hsr : ∀ D, SR s D → SR' s D)
    (htj : (o = 10 ∨ o = 11) → ∀ Dk, TJ d Dk → ∃ Dk', TJ' d' Dk' ∧ cc_S P Q' Dk Dk') (hd : ¬ (o = 10 ∨ o = 11) → d' = d) (hn : cc_S P Q' Dn Dn')
    (h : cc_I P Q SR TJ D Dn o d a b md s) : cc_I P Q' SR' TJ' D Dn' o d' a b md s := by
  obtain ⟨h1, h2, h⟩ := h
  refine ⟨h1, h2, ?_⟩
  rcases h with ⟨o1, y, t, ht, e, k⟩ | ⟨⟨k5, k1, k2, o1⟩, y, t, ht, e, k⟩ | ⟨o1, y, t, g, ht, e, hg, eb, em, k⟩ | ⟨o1, y, g, hg, e, k⟩ | ⟨o1, y, k⟩ | ⟨o1, Dk, tj, y, k⟩ | ⟨o1, y0, Dk, tj, y, k⟩ | ⟨o1, k⟩ | ⟨o1, l, hl, eb, em, k⟩ | ⟨o1, k⟩ | ⟨o1, y, k⟩
  · have ed := hd (by rw [o1]; decide)
    exact Or.inl ⟨o1, Nat.le_trans y hn.1, t, ht, ed.trans e, fun x m q hm => cc_Gs hq (k x m (hq _ q) hm) hn⟩
  · have ed := hd (by
      rintro (z | z)
      · exact tw_ne (a := k5) (b := 10) (by omega) (by omega) (by omega) (o1.symm.trans z)
      · exact tw_ne (a := k5) (b := 11) (by omega) (by omega) (by omega) (o1.symm.trans z))
    exact Or.inr (Or.inl ⟨⟨k5, k1, k2, o1⟩, Nat.le_trans y hn.1, t, ht, ed.trans e, fun x m q hm => ⟨fun z1 z2 => cc_Vs hsr ((k x m (hq _ q) hm).1 z1 z2), fun z => cc_Gs hq ((k x m (hq _ q) hm).2 z) hn⟩⟩)
  · have ed := hd (by rw [o1]; decide)
    exact Or.inr (Or.inr (Or.inl ⟨o1, Nat.le_trans y hn.1, t, g, ht, ed.trans e, hg, eb, em, fun x m q hm => cc_Gs hq (k x m (hq _ q) hm) hn⟩))
  · have ed := hd (by rw [o1]; decide)
    exact Or.inr (Or.inr (Or.inr (Or.inl ⟨o1, Nat.le_trans y hn.1, g, hg, ed.trans e, fun x m q hm => ⟨cc_Gs hq (k x m (hq _ q) hm).1 hn, cc_Vs hsr (k x m (hq _ q) hm).2⟩⟩)))
  · exact Or.inr (Or.inr (Or.inr (Or.inr (Or.inl ⟨o1, Nat.le_trans y hn.1, fun x m q hm => ⟨fun z => cc_Gs hq ((k x m (hq _ q) hm).1 z) hn, fun z => cc_Vs hsr ((k x m (hq _ q) hm).2 z)⟩⟩))))
  · obtain ⟨Dk', t1, t2⟩ := htj (Or.inl o1) Dk tj
    exact Or.inr (Or.inr (Or.inr (Or.inr (Or.inr (Or.inl ⟨o1, Dk', t1, Nat.lt_of_lt_of_le y t2.1, fun x m q hm => cc_Rs (k x m (hq _ q) hm) q t2⟩)))))
  · obtain ⟨Dk', t1, t2⟩ := htj (Or.inr o1) Dk tj
    exact Or.inr (Or.inr (Or.inr (Or.inr (Or.inr (Or.inr (Or.inl ⟨o1, Nat.le_trans y0 hn.1, Dk', t1, Nat.lt_of_lt_of_le y t2.1, fun x m q hm => ⟨fun z => cc_Rs ((k x m (hq _ q) hm).1 z) q t2, fun z => cc_Rs ((k x m (hq _ q) hm).2 z) q hn⟩⟩))))))
  · exact Or.inr (Or.inr (Or.inr (Or.inr (Or.inr (Or.inr (Or.inr (Or.inl ⟨o1, fun x m q hm => ⟨fun z => cc_Vs hsr ((k x m (hq _ q) hm).1 z), fun z => cc_Gs hq ((k x m (hq _ q) hm).2 z) hn⟩⟩)))))))
  · exact Or.inr (Or.inr (Or.inr (Or.inr (Or.inr (Or.inr (Or.inr (Or.inr (Or.inl ⟨o1, l, hl, eb, em, fun x m q hm => ⟨fun z => cc_Vs hsr ((k x m (hq _ q) hm).1 z), fun z z2 => cc_Gs hq ((k x m (hq _ q) hm).2 z z2) hn⟩⟩))))))))
  · exact Or.inr (Or.inr (Or.inr (Or.inr (Or.inr (Or.inr (Or.inr (Or.inr (Or.inr (Or.inl ⟨o1, fun x m q hm => cc_Vs hsr (k x m (hq _ q) hm)⟩)))))))))
  · exact Or.inr (Or.inr (Or.inr (Or.inr (Or.inr (Or.inr (Or.inr (Or.inr (Or.inr (Or.inr ⟨o1, Nat.le_trans y hn.1, fun x m q hm => ⟨fun z => cc_Vs hsr ((k x m (hq _ q) hm).1 z), fun z => cc_Rs ((k x m (hq _ q) hm).2 z) q hn⟩⟩)))))))))
end
/-! the component's arrays and the certificate -/
def cc_Q (A : Nat → Nat → Int32) (U : Nat) : (Nat → Int32) → Prop := fun gl => ∀ g, g < 8 → bt ((A 14) U) g = true → gl g = (A 10) g
/-- the chain of inline contexts from c down to the root -/
def cc_CR (A : Nat → Nat → Int32) (U : Nat) : Nat → Nat → (Nat → Nat) → (Nat → Nat) → Prop
  | 0, c, _, _ => c = 0 ∧ (A 35) (8 * U) = 0
  | L + 1, c, lp, lh => L < 2 ∧ c < 8 ∧ (A 35) (8 * U + c) = nI (L + 1) ∧ (A 33) (8 * U + c) = nI (lp L) ∧ (A 34) (8 * U + c) = nI (lh L) ∧ lp L < 64 ∧ lh L ≤ 7 ∧ ∃ c', c' < c ∧ (A 32) (8 * U + c) = nI (8 * U + c') ∧ cc_CR A U L c' lp lh
/-- the repairs of the slots below t lie in f0 .. f1 -/
def cc_FX (A : Nat → Nat → Int32) (L : Nat) (lh : Nat → Nat) (kd vl : Nat → Int32) (f0 : Nat) : Nat → Nat → Prop
  | 0, f1 => f1 = f0
  | t + 1, f1 => (¬ (dd_lv L lh t ∧ ¬ kd t = 0) ∧ cc_FX A L lh kd vl f0 t f1)
      ∨ ((dd_lv L lh t ∧ ¬ kd t = 0) ∧ ∃ f, f1 = f + 1 ∧ cc_FX A L lh kd vl f0 t f ∧ (A 29) f = nI t ∧ (A 30) f = vl t ∧ ((kd t = 1 ∧ ¬ (A 31) f = 0) ∨ (¬ kd t = 1 ∧ (A 31) f = 0)))
/-- copies name lower registers that are home or dead -/
def dd_ok (P : pp_P) (D : dd_D) : Prop :=
  dd_L D ≤ 2 ∧ (∀ l, l ≤ dd_L D → dd_h D l ≤ 8 ∧ dd_p D l < pp_nc P) ∧ (∀ l, l < dd_L D → dd_h D l ≤ 7)
  ∧ (∀ t, dd_lv (dd_L D) (dd_h D) t → ¬ dd_k D t = 0 → dd_k D t = 1 ∨ (dd_k D t = 2 ∧ ∃ r, r < t ∧ dd_v D t = nI r ∧ (dd_lv (dd_L D) (dd_h D) r → dd_k D r = 0)))
/-- frame state s is that of D -/
def cc_SR (P : pp_P) (A : Nat → Nat → Int32) (U sn fn cn : Nat) (s : Int32) (D : dd_D) : Prop :=
  ∃ i c f0 f1, s = nI i ∧ 256 * U ≤ i ∧ i < sn ∧ (A 24) i = nI (dd_p D (dd_L D)) ∧ (A 25) i = nI (dd_h D (dd_L D)) ∧ (A 26) i = nI (8 * U + c) ∧ c < cn ∧ cc_CR A U (dd_L D) c (dd_p D) (dd_h D)
   ∧ (A 27) i = nI f0 ∧ (A 28) i = nI f1 ∧ 1024 * U ≤ f0 ∧ f1 ≤ fn ∧ cc_FX A (dd_L D) (dd_h D) (dd_k D) (dd_v D) f0 (12 * (dd_L D + 1)) f1 ∧ dd_ok P D
/-- label k is that of D -/
def cc_LR (A : Nat → Nat → Int32) (U cn k : Nat) (D : dd_D) : Prop :=
  ∃ c, c < cn ∧ k = 64 * c + dd_p D (dd_L D) ∧ dd_p D (dd_L D) < 64 ∧ (A 40) k = nI (dd_h D (dd_L D)) ∧ dd_h D (dd_L D) ≤ 8 ∧ cc_CR A U (dd_L D) c (dd_p D) (dd_h D) ∧ (∀ t, dd_k D t = 0) ∧ dd_y D = 2 * dd_p D (dd_L D) + 1 ∧ dd_f D = 0
def cc_TJ (A : Nat → Nat → Int32) (U cn : Nat) (d : Int32) (D : dd_D) : Prop := ∃ k, k < 512 ∧ d = nI k ∧ cc_LR A U cn k D
def cc_T (q : Nat) (Dm : Nat → dd_D) (D : dd_D) (j : Nat) : dd_D := if j < q then Dm j else D
/-- the code so far, the labels so far; D: where the next instruction stands; e = 0: no label stands there -/
def cc_H (P : pp_P) (U cn q sn fn qh qt : Nat) (Dm : Nat → dd_D) (D : dd_D) (e : Nat) (A : Nat → Nat → Int32) : Prop :=
  (∀ j, 512 * U ≤ j → j < q → cc_I P (cc_Q A U) (cc_SR P A U sn fn cn) (cc_TJ A U cn) (Dm j) (cc_T q Dm D (j + 1)) ((A 18) j) ((A 19) j) ((A 20) j) ((A 21) j) ((A 22) j) ((A 23) j))
  ∧ (∀ k, k < 512 → ¬ (A 40) k = -1 → (∃ j, qh ≤ j ∧ j < qt ∧ (A 41) j = nI k) ∨ (∃ ta Dk, (A 39) k = nI ta ∧ 512 * U ≤ ta ∧ ta < q + e ∧ cc_LR A U cn k Dk ∧ cc_S P (cc_Q A U) Dk (cc_T q Dm D ta)))
end
section
/-! the certificate grows -/
theorem tw_nm1 {n : Nat} (h : n < 2 ^ 31) : ¬ nI n = -1 := by
  intro e
  have : (nI n).toInt = (-1 : Int32).toInt := by rw [e]
  rw [nI_toInt h, show (-1 : Int32).toInt = -1 from by decide] at this
  omega
theorem cc_CRm {A A' : Nat → Nat → Int32} {U cn : Nat} (h : ∀ j, 32 ≤ j → j ≤ 35 → ∀ i, i < 8 * U + cn → A' j i = A j i) :
    ∀ (L c : Nat) (lp lh : Nat → Nat), c < cn → cc_CR A U L c lp lh → cc_CR A' U L c lp lh
  | 0, c, lp, lh, hc, H => ⟨H.1, (h 35 (by decide) (by decide) _ (by omega)).trans H.2⟩
  | L + 1, c, lp, lh, hc, H => by
    obtain ⟨h1, h2, h3, h4, h5, h6, h7, c', h8, h9, h10⟩ := H
    exact ⟨h1, h2, (h 35 (by decide) (by decide) _ (by omega)).trans h3, (h 33 (by decide) (by decide) _ (by omega)).trans h4, (h 34 (by decide) (by decide) _ (by omega)).trans h5, h6, h7, c', h8, (h 32 (by decide) (by decide) _ (by omega)).trans h9, cc_CRm h L c' lp lh (by omega) h10⟩
theorem cc_CRc {A : Nat → Nat → Int32} {U : Nat} {lp lh lp' lh' : Nat → Nat} : ∀ (L c : Nat), (∀ l, l < L → lp' l = lp l ∧ lh' l = lh l) → cc_CR A U L c lp lh → cc_CR A U L c lp' lh'
  | 0, c, _, H => H
  | L + 1, c, e, H => by
    obtain ⟨h1, h2, h3, h4, h5, h6, h7, c', h8, h9, h10⟩ := H
    obtain ⟨e1, e2⟩ := e L (by omega)
    refine ⟨h1, h2, h3, by rw [e1]; exact h4, by rw [e2]; exact h5, by rw [e1]; exact h6, by rw [e2]; exact h7, c', h8, h9, cc_CRc L c' (fun l hl => e l (by omega)) h10⟩
theorem cc_CRu {A : Nat → Nat → Int32} {U : Nat} (hU : U < 8) : ∀ (L L' c : Nat) (lp lh lp' lh' : Nat → Nat), cc_CR A U L c lp lh → cc_CR A U L' c lp' lh' → L' = L ∧ ∀ l, l < L → lp' l = lp l ∧ lh' l = lh l
  | 0, 0, c, lp, lh, lp', lh', H, H' => ⟨rfl, fun l hl => absurd hl (by omega)⟩
  | 0, L' + 1, c, lp, lh, lp', lh', H, H' => by
    obtain ⟨h1, h2, h3, h4, h5, h6, h7, c', h8, h9, h10⟩ := H'
    have := H.1
    omega
  | L + 1, 0, c, lp, lh, lp', lh', H, H' => by
    obtain ⟨h1, h2, h3, h4, h5, h6, h7, c', h8, h9, h10⟩ := H
    have := H'.1
    omega
  | L + 1, L' + 1, c, lp, lh, lp', lh', H, H' => by
    obtain ⟨h1, h2, h3, h4, h5, h6, h7, c', h8, h9, h10⟩ := H
    obtain ⟨g1, g2, g3, g4, g5, g6, g7, c2, g8, g9, g10⟩ := H'
    have ec : 8 * U + c' = 8 * U + c2 := tw_ni h9 g9 rfl (by omega) (by omega)
    have ec' : c2 = c' := by omega
    subst ec'
    obtain ⟨i1, i2⟩ := cc_CRu hU L L' c2 lp lh lp' lh' h10 g10
    subst i1
    refine ⟨rfl, fun l hl => ?_⟩
    by_cases e : l = L'
    · subst e
      exact ⟨tw_ni g4 h4 rfl (by omega) (by omega), tw_ni g5 h5 rfl (by omega) (by omega)⟩
    · exact i2 l (by omega)
theorem cc_CRl {A : Nat → Nat → Int32} {U : Nat} : ∀ (L c : Nat) (lp lh : Nat → Nat), cc_CR A U L c lp lh → (A 35) (8 * U + c) = nI L ∧ L ≤ 2 ∧ L ≤ c
  | 0, c, lp, lh, H => by
    obtain ⟨h1, h2⟩ := H
    subst h1
    exact ⟨h2, by omega, by omega⟩
  | L + 1, c, lp, lh, H => by
    obtain ⟨h1, h2, h3, h4, h5, h6, h7, c', h8, h9, h10⟩ := H
    have := (cc_CRl L c' lp lh h10).2.2
    exact ⟨h3, by omega, by omega⟩
theorem cc_FXm {A A' : Nat → Nat → Int32} {L fn f0 : Nat} {lh : Nat → Nat} {kd vl : Nat → Int32} (h : ∀ j, 29 ≤ j → j ≤ 31 → ∀ i, i < fn → A' j i = A j i) :
    ∀ (t f1 : Nat), f1 ≤ fn → cc_FX A L lh kd vl f0 t f1 → cc_FX A' L lh kd vl f0 t f1
  | 0, f1, hf, H => H
  | t + 1, f1, hf, H => by
    rcases H with ⟨a, b⟩ | ⟨a, f, e, b, c1, c2, c3⟩
    · exact Or.inl ⟨a, cc_FXm h t f1 hf b⟩
    · refine Or.inr ⟨a, f, e, cc_FXm h t f (by omega) b, (h 29 (by decide) (by decide) _ (by omega)).trans c1, (h 30 (by decide) (by decide) _ (by omega)).trans c2, ?_⟩
      rw [h 31 (by decide) (by decide) _ (by omega)]
      exact c3
theorem cc_FXle {A : Nat → Nat → Int32} {L f0 : Nat} {lh : Nat → Nat} {kd vl : Nat → Int32} : ∀ (t f1 : Nat), cc_FX A L lh kd vl f0 t f1 → f0 ≤ f1
  | 0, f1, H => by rw [show f1 = f0 from H]; exact Nat.le_refl _
  | t + 1, f1, H => by
    rcases H with ⟨a, b⟩ | ⟨a, f, e, b, _⟩
    · exact cc_FXle t f1 b
    · have := cc_FXle t f b; omega
section
variable {P : pp_P} {U cn q sn fn qh qt cn' sn' fn' e : Nat} {Dm : Nat → dd_D} {D D' : dd_D} {A A' : Nat → Nat → Int32}
theorem cc_SRm (hs : ∀ j, 24 ≤ j → j ≤ 28 → ∀ i, i < sn → A' j i = A j i) (hf : ∀ j, 29 ≤ j → j ≤ 31 → ∀ i, i < fn → A' j i = A j i) (hx : ∀ j, 32 ≤ j → j ≤ 35 → ∀ i, i < 8 * U + cn → A' j i = A j i)
    (l1 : sn ≤ sn') (l2 : fn ≤ fn') (l3 : cn ≤ cn') {s : Int32} (H : cc_SR P A U sn fn cn s D) : cc_SR P A' U sn' fn' cn' s D := by
  obtain ⟨i, c, f0, f1, a1, a2, a3, a4, a5, a6, a7, a8, a9, a10, a11, a12, a13, a14⟩ := H
  exact ⟨i, c, f0, f1, a1, a2, by omega, (hs 24 (by decide) (by decide) i a3).trans a4, (hs 25 (by decide) (by decide) i a3).trans a5, (hs 26 (by decide) (by decide) i a3).trans a6, by omega, cc_CRm hx _ _ _ _ a7 a8, (hs 27 (by decide) (by decide) i a3).trans a9, (hs 28 (by decide) (by decide) i a3).trans a10, a11, by omega, cc_FXm hf _ _ a12 a13, a14⟩
theorem cc_LRm (hx : ∀ j, 32 ≤ j → j ≤ 35 → ∀ i, i < 8 * U + cn → A' j i = A j i) (h40 : ∀ k, ¬ (A 40) k = -1 → (A' 40) k = (A 40) k)
    (l3 : cn ≤ cn') {k : Nat} (H : cc_LR A U cn k D) : cc_LR A' U cn' k D := by
  obtain ⟨c, a1, a2, a3, a4, a5, a6, a7, a8, a9⟩ := H
  exact ⟨c, by omega, a2, a3, (h40 k (by rw [a4]; exact tw_nm1 (by omega))).trans a4, a5, cc_CRm hx _ _ _ _ a1 a6, a7, a8, a9⟩
/-- two descriptors of one label -/
theorem cc_LRu (hU : U < 8) (Q : (Nat → Int32) → Prop) {k : Nat} (h1 : cc_LR A U cn k D) (h2 : cc_LR A U cn k D') : cc_S P Q D D' := by
  obtain ⟨c, a1, a2, a3, a4, a5, a6, a7, a8, a9⟩ := h1
  obtain ⟨c', b1, b2, b3, b4, b5, b6, b7, b8, b9⟩ := h2
  have ec : c' = c := by omega
  subst ec
  obtain ⟨u1, u2⟩ := cc_CRu hU _ _ _ _ _ _ _ a6 b6
  have ep : dd_p D' (dd_L D') = dd_p D (dd_L D) := by omega
  have eh : dd_h D' (dd_L D') = dd_h D (dd_L D) := tw_ni b4 a4 rfl (by omega) (by omega)
  refine ⟨by omega, fun x m _ H => ⟨m, mm_Ss0, cc_Mc H u1 (fun l hl => ?_) (fun l hl => ?_) (b9.trans a9.symm) (fun l o hl ho => ?_)⟩⟩
  · by_cases z : l = dd_L D
    · subst z; rw [u1] at ep; exact ep
    · exact (u2 l (by omega)).1
  · by_cases z : l = dd_L D
    · subst z; rw [u1] at eh; exact eh
    · exact (u2 l (by omega)).2
  · exact dd_ec ((b7 _).trans (a7 _).symm) (fun z => absurd (a7 _) z)
theorem cc_Hgrow (hc : ∀ j, 18 ≤ j → j ≤ 23 → ∀ i, i < q → A' j i = A j i) (hs : ∀ j, 24 ≤ j → j ≤ 28 → ∀ i, i < sn → A' j i = A j i) (hf : ∀ j, 29 ≤ j → j ≤ 31 → ∀ i, i < fn → A' j i = A j i) (hx : ∀ j, 32 ≤ j → j ≤ 35 → ∀ i, i < 8 * U + cn → A' j i = A j i)
    (h39 : A' 39 = (A 39)) (h40 : A' 40 = (A 40)) (h41 : A' 41 = (A 41)) (hq : ∀ gl, cc_Q A' U gl → cc_Q A U gl) (l1 : sn ≤ sn') (l2 : fn ≤ fn') (l3 : cn ≤ cn')
    (H : cc_H P U cn q sn fn qh qt Dm D e A) : cc_H P U cn' q sn' fn' qh qt Dm D e A' := by
  obtain ⟨H1, H2⟩ := H
  constructor
  · intro j j1 j2
    rw [hc 18 (by decide) (by decide) j j2, hc 19 (by decide) (by decide) j j2, hc 20 (by decide) (by decide) j j2, hc 21 (by decide) (by decide) j j2, hc 22 (by decide) (by decide) j j2, hc 23 (by decide) (by decide) j j2]
    refine cc_Im hq (fun D => cc_SRm hs hf hx l1 l2 l3) (fun _ Dk tj => ?_) (fun _ => rfl) cc_S0 (H1 j j1 j2)
    obtain ⟨k, k1, k2, k3⟩ := tj
    exact ⟨Dk, ⟨k, k1, k2, cc_LRm hx (fun k _ => congrFun h40 k) l3 k3⟩, cc_S0⟩
  · intro k k1 k2
    rw [h40] at k2
    rcases H2 k k1 k2 with ⟨j, z1, z2, z3⟩ | ⟨ta, Dk, z1, z2, z3, z4, z5⟩
    · exact Or.inl ⟨j, z1, z2, (congrFun h41 j).trans z3⟩
    · exact Or.inr ⟨ta, Dk, (congrFun h39 k).trans z1, z2, z3, cc_LRm hx (fun k _ => congrFun h40 k) l3 z4, cc_Sq hq z5⟩
theorem cc_Hsil (hs : cc_S P (cc_Q A U) D D') (H : cc_H P U cn q sn fn qh qt Dm D e A) : cc_H P U cn q sn fn qh qt Dm D' e A := by
  have ht : ∀ j, cc_S P (cc_Q A U) (cc_T q Dm D j) (cc_T q Dm D' j) := by
    intro j
    unfold cc_T
    by_cases z : j < q
    · rw [if_pos z, if_pos z]; exact cc_S0
    · rw [if_neg z, if_neg z]; exact hs
  obtain ⟨H1, H2⟩ := H
  constructor
  · intro j j1 j2
    exact cc_Im (fun _ h => h) (fun _ h => h) (fun _ Dk tj => ⟨Dk, tj, cc_S0⟩) (fun _ => rfl) (ht _) (H1 j j1 j2)
  · intro k k1 k2
    rcases H2 k k1 k2 with h | ⟨ta, Dk, z1, z2, z3, z4, z5⟩
    · exact Or.inl h
    · exact Or.inr ⟨ta, Dk, z1, z2, z3, z4, cc_ST z5 (ht _)⟩
theorem cc_He (H : cc_H P U cn q sn fn qh qt Dm D 0 A) : cc_H P U cn q sn fn qh qt Dm D e A := by
  obtain ⟨H1, H2⟩ := H
  refine ⟨H1, fun k k1 k2 => ?_⟩
  rcases H2 k k1 k2 with h | ⟨ta, Dk, z1, z2, z3, z4, z5⟩
  · exact Or.inl h
  · exact Or.inr ⟨ta, Dk, z1, z2, by omega, z4, z5⟩
theorem cc_Hput {o d a b md s : Int32} (he : e ≤ 1) (H : cc_H P U cn q sn fn qh qt Dm D e A)
    (hi : cc_I P (cc_Q A U) (cc_SR P A U sn fn cn) (cc_TJ A U cn) D D' o d a b md s)
    (h18 : (A' 18) = upd (A 18) q o) (h19 : (A' 19) = upd (A 19) q d) (h20 : (A' 20) = upd (A 20) q a) (h21 : (A' 21) = upd (A 21) q b) (h22 : (A' 22) = upd (A 22) q md) (h23 : (A' 23) = upd (A 23) q s)
    (hj : ∀ j, ¬ (18 ≤ j ∧ j ≤ 23) → A' j = A j) (hq0 : 512 * U ≤ q) : cc_H P U cn (q + 1) sn fn qh qt (tw_s Dm q D) D' 0 A' := by
  have hQ : cc_Q A' U = cc_Q A U := by unfold cc_Q; rw [hj 14 (by decide), hj 10 (by decide)]
  have hx : ∀ j, 32 ≤ j → j ≤ 35 → ∀ i, i < 8 * U + cn → A' j i = A j i := fun j a b i _ => congrFun (hj j (by omega)) i
  have hSR : ∀ s D, cc_SR P A U sn fn cn s D → cc_SR P A' U sn fn cn s D := fun s D => cc_SRm (fun j a b i _ => congrFun (hj j (by omega)) i) (fun j a b i _ => congrFun (hj j (by omega)) i) hx (Nat.le_refl _) (Nat.le_refl _) (Nat.le_refl _)
  have hLR : ∀ k D, cc_LR A U cn k D → cc_LR A' U cn k D := fun k D => cc_LRm hx (fun k _ => congrFun (hj 40 (by decide)) k) (Nat.le_refl _)
  obtain ⟨H1, H2⟩ := H
  have tj : ∀ d Dk, cc_TJ A U cn d Dk → ∃ Dk', cc_TJ A' U cn d Dk' ∧ cc_S P (cc_Q A U) Dk Dk' := by
    intro d Dk ⟨k, k1, k2, k3⟩
    exact ⟨Dk, ⟨k, k1, k2, hLR k Dk k3⟩, cc_S0⟩
  have tT : ∀ j, j ≤ q → cc_T (q + 1) (tw_s Dm q D) D' j = cc_T q Dm D j := by
    intro j hj
    unfold cc_T
    rw [if_pos (by omega)]
    by_cases z : j < q
    · rw [if_pos z, tw_sn (by omega)]
    · rw [if_neg z, tw_se (by omega)]
  constructor
  · intro j j1 j2
    rw [h18, h19, h20, h21, h22, h23, hQ]
    by_cases z : j = q
    · subst z
      rw [pk_us, pk_us, pk_us, pk_us, pk_us, pk_us, tw_ss]
      have e1 : cc_T (j + 1) (tw_s Dm j D) D' (j + 1) = D' := by unfold cc_T; rw [if_neg (by omega)]
      rw [e1]
      exact cc_Im (fun _ h => h) (fun D => hSR _ D) (fun _ Dk t => tj _ Dk t) (fun _ => rfl) cc_S0 hi
    · rw [pk_un z, pk_un z, pk_un z, pk_un z, pk_un z, pk_un z, tw_sn z, tT (j + 1) (by omega)]
      exact cc_Im (fun _ h => h) (fun D => hSR _ D) (fun _ Dk t => tj _ Dk t) (fun _ => rfl) cc_S0 (H1 j j1 (by omega))
  · intro k k1 k2
    rw [hj 40 (by decide)] at k2
    rcases H2 k k1 k2 with ⟨j, z1, z2, z3⟩ | ⟨ta, Dk, z1, z2, z3, z4, z5⟩
    · exact Or.inl ⟨j, z1, z2, (congrFun (hj 41 (by decide)) j).trans z3⟩
    · refine Or.inr ⟨ta, Dk, (congrFun (hj 39 (by decide)) k).trans z1, z2, by omega, hLR k Dk z4, ?_⟩
      rw [hQ, tT ta (by omega)]
      exact z5
/-- a label is asked for -/
theorem cc_Hclaim {k : Nat} {h : Int32} (hk : k < 512) (H : cc_H P U cn q sn fn qh qt Dm D e A) (hu : (A 40) k = -1)
    (h40 : (A' 40) = upd (A 40) k h) (h41 : (A' 41) = upd (A 41) qt (nI k)) (hqt : qh ≤ qt) (hj : ∀ j, j ≠ 40 → j ≠ 41 → A' j = A j) : cc_H P U cn q sn fn qh (qt + 1) Dm D e A' := by
  have hQ : cc_Q A' U = cc_Q A U := by unfold cc_Q; rw [hj 14 (by decide) (by decide), hj 10 (by decide) (by decide)]
  have hx : ∀ j, 32 ≤ j → j ≤ 35 → ∀ i, i < 8 * U + cn → A' j i = A j i := fun j a b i _ => congrFun (hj j (by omega) (by omega)) i
  have hSR : ∀ s D, cc_SR P A U sn fn cn s D → cc_SR P A' U sn fn cn s D := fun s D => cc_SRm (fun j a b i _ => congrFun (hj j (by omega) (by omega)) i) (fun j a b i _ => congrFun (hj j (by omega) (by omega)) i) hx (Nat.le_refl _) (Nat.le_refl _) (Nat.le_refl _)
  have e40 : ∀ k', ¬ (A 40) k' = -1 → (A' 40) k' = (A 40) k' := by
    intro k' hk'
    rw [h40]
    by_cases z : k' = k
    · subst z; exact absurd hu hk'
    · exact pk_un z
  have hLR : ∀ k D, cc_LR A U cn k D → cc_LR A' U cn k D := fun k D => cc_LRm hx e40 (Nat.le_refl _)
  obtain ⟨H1, H2⟩ := H
  constructor
  · intro j j1 j2
    rw [hj 18 (by decide) (by decide), hj 19 (by decide) (by decide), hj 20 (by decide) (by decide), hj 21 (by decide) (by decide), hj 22 (by decide) (by decide), hj 23 (by decide) (by decide), hQ]
    refine cc_Im (fun _ h => h) (fun D => hSR _ D) (fun _ Dk t => ?_) (fun _ => rfl) cc_S0 (H1 j j1 j2)
    obtain ⟨k', z1, z2, z3⟩ := t
    exact ⟨Dk, ⟨k', z1, z2, hLR k' Dk z3⟩, cc_S0⟩
  · intro k' k1 k2
    by_cases z : k' = k
    · subst z
      exact Or.inl ⟨qt, hqt, by omega, by rw [h41, pk_us]⟩
    · have k3 : ¬ (A 40) k' = -1 := by rw [h40, pk_un z] at k2; exact k2
      rcases H2 k' k1 k3 with ⟨j, z1, z2, z3⟩ | ⟨ta, Dk, z1, z2, z3, z4, z5⟩
      · exact Or.inl ⟨j, z1, by omega, by rw [h41, pk_un (by omega)]; exact z3⟩
      · exact Or.inr ⟨ta, Dk, (congrFun (hj 39 (by decide) (by decide)) k').trans z1, z2, z3, hLR k' Dk z4, by rw [hQ]; exact z5⟩
/-- a label is placed at the next instruction: k's height then h; the queue's head moves on if k was there -/
theorem cc_Hplace {k qh' : Nat} {Dk : dd_D} (hk : k < 512) (H : cc_H P U cn q sn fn qh qt Dm D e A) (he : e ≤ 1)
    (h39 : (A' 39) = upd (A 39) k (nI q)) (h40 : ∀ k', k' ≠ k → (A' 40) k' = (A 40) k') (h40k : ¬ (A 40) k = -1 → (A' 40) k = (A 40) k) (hj : ∀ j, j ≠ 39 → j ≠ 40 → A' j = A j)
    (hqq : qh ≤ qh') (hqh : ∀ j, qh ≤ j → j < qh' → (A 41) j = nI k) (hlr : cc_LR A' U cn k Dk) (hs : cc_S P (cc_Q A U) Dk D) (hq0 : 512 * U ≤ q) : cc_H P U cn q sn fn qh' qt Dm D 1 A' := by
  have hQ : cc_Q A' U = cc_Q A U := by unfold cc_Q; rw [hj 14 (by decide) (by decide), hj 10 (by decide) (by decide)]
  have hx : ∀ j, 32 ≤ j → j ≤ 35 → ∀ i, i < 8 * U + cn → A' j i = A j i := fun j a b i _ => congrFun (hj j (by omega) (by omega)) i
  have hSR : ∀ s D, cc_SR P A U sn fn cn s D → cc_SR P A' U sn fn cn s D := fun s D => cc_SRm (fun j a b i _ => congrFun (hj j (by omega) (by omega)) i) (fun j a b i _ => congrFun (hj j (by omega) (by omega)) i) hx (Nat.le_refl _) (Nat.le_refl _) (Nat.le_refl _)
  have e40 : ∀ k', ¬ (A 40) k' = -1 → (A' 40) k' = (A 40) k' := by
    intro k' hk'
    by_cases z : k' = k
    · subst z; exact h40k hk'
    · exact h40 k' z
  have hLR : ∀ k D, cc_LR A U cn k D → cc_LR A' U cn k D := fun k D => cc_LRm hx e40 (Nat.le_refl _)
  obtain ⟨H1, H2⟩ := H
  constructor
  · intro j j1 j2
    rw [hj 18 (by decide) (by decide), hj 19 (by decide) (by decide), hj 20 (by decide) (by decide), hj 21 (by decide) (by decide), hj 22 (by decide) (by decide), hj 23 (by decide) (by decide), hQ]
    refine cc_Im (fun _ h => h) (fun D => hSR _ D) (fun _ Dk t => ?_) (fun _ => rfl) cc_S0 (H1 j j1 j2)
    obtain ⟨k', z1, z2, z3⟩ := t
    exact ⟨Dk, ⟨k', z1, z2, hLR k' Dk z3⟩, cc_S0⟩
  · intro k' k1 k2
    by_cases z : k' = k
    · subst z
      refine Or.inr ⟨q, Dk, by rw [h39, pk_us], hq0, by omega, hlr, ?_⟩
      rw [hQ]
      unfold cc_T
      rw [if_neg (by omega)]
      exact hs
    · have k3 : ¬ (A 40) k' = -1 := by rw [h40 k' z] at k2; exact k2
      rcases H2 k' k1 k3 with ⟨j, z1, z2, z3⟩ | ⟨ta, Dk', z1, z2, z3, z4, z5⟩
      · by_cases z4 : j < qh'
        · exact absurd (tw_ni z3 (hqh j z1 z4) rfl (by omega) (by omega)) z
        · exact Or.inl ⟨j, by omega, z2, (congrFun (hj 41 (by decide) (by decide)) j).trans z3⟩
      · exact Or.inr ⟨ta, Dk', by rw [h39, pk_un z]; exact z1, z2, by omega, hLR k' Dk' z4, by rw [hQ]; exact z5⟩
end
end
section
/-! the compiler: its state, small methods -/
noncomputable def cc_b01 (p : Prop) : Nat := @ite Nat p (Classical.propDecidable p) 1 0
/-- labels not yet asked for, below n -/
noncomputable def cc_un (h : Nat → Int32) : Nat → Nat
  | 0 => 0
  | n + 1 => cc_un h n + cc_b01 (h n = -1)
theorem cc_b1 {p : Prop} (h : p) : cc_b01 p = 1 := by unfold cc_b01; rw [if_pos h]
theorem cc_b0 {p : Prop} (h : ¬ p) : cc_b01 p = 0 := by unfold cc_b01; rw [if_neg h]
theorem cc_unc {h h' : Nat → Int32} : ∀ (n : Nat), (∀ k, k < n → h' k = h k) → cc_un h' n = cc_un h n
  | 0, _ => rfl
  | n + 1, e => by unfold cc_un; rw [cc_unc n (fun k hk => e k (by omega)), e n (by omega)]
theorem cc_unu {h : Nat → Int32} {k : Nat} {x : Int32} (hu : h k = -1) (hx : ¬ x = -1) : ∀ (n : Nat), k < n → cc_un (upd h k x) n + 1 = cc_un h n
  | 0, hk => by omega
  | n + 1, hk => by
    unfold cc_un
    by_cases z : k = n
    · subst z
      rw [cc_unc k (h := h) (fun j hj => pk_un (by omega)), pk_us, cc_b1 hu, cc_b0 hx]
    · have := cc_unu hu hx n (by omega)
      rw [pk_un (show n ≠ k from fun e => z e.symm)]
      omega
theorem cc_unle (h : Nat → Int32) : ∀ n, cc_un h n ≤ n
  | 0 => Nat.le_refl _
  | n + 1 => by
    unfold cc_un
    have := cc_unle h n
    by_cases z : h n = -1
    · rw [cc_b1 z]; omega
    · rw [cc_b0 z]; omega
def cc_B1 (P : pp_P) (U c cn : Nat) (F : Nat → Int32) (A : Nat → Nat → Int32) : Prop :=
  U < 8 ∧ (F 21) = nI U ∧ (F 22) = nI (8 * U + c) ∧ c < cn ∧ cn ≤ 8 ∧ (F 28) = nI (8 * U + cn) ∧ (∀ c', c' < cn → ∃ L lp lh, cc_CR A U L c' lp lh ∧ ∀ l, l < L → lp l < pp_nc P)
def cc_B2 (U q sn fn : Nat) (F : Nat → Int32) : Prop :=
  (F 25) = nI q ∧ 512 * U ≤ q ∧ q ≤ 512 * U + 512 ∧ (F 26) = nI sn ∧ 256 * U ≤ sn ∧ sn ≤ 256 * U + 256 ∧ (F 27) = nI fn ∧ 1024 * U ≤ fn ∧ fn ≤ 1024 * U + 1024 ∧ ((F 32) = 0 ∨ (F 32) = 1)
def cc_B3 (P : pp_P) (cn qh qt : Nat) (F : Nat → Int32) (A : Nat → Nat → Int32) : Prop :=
  (F 29) = nI qh ∧ (F 30) = nI qt ∧ qh ≤ qt ∧ (∀ k, k < 512 → (A 40) k = -1 ∨ ∃ h, h ≤ 8 ∧ (A 40) k = nI h ∧ k / 64 < cn ∧ k % 64 < pp_nc P) ∧ qt + cc_un (A 40) 512 ≤ 512
  ∧ (∀ j, qh ≤ j → j < qt → ∃ k, k < 512 ∧ (A 41) j = nI k ∧ ¬ (A 40) k = -1)
/-- what the compiling of unit U leaves as it was at its start (Z) -/
def cc_Z (Z : (Nat → Int32) × (Nat → Nat → Int32)) (U : Nat) (F : Nat → Int32) (A : Nat → Nat → Int32) : Prop :=
  (∀ j, j < 21 → F j = Z.1 j) ∧ (∀ j, j < 18 → j ≠ 14 → A j = Z.2 j) ∧ (∀ V, V ≠ U → (A 14) V = Z.2 14 V)
  ∧ (∀ j, 18 ≤ j → j ≤ 23 → ∀ i, ¬ (512 * U ≤ i ∧ i < 512 * U + 512) → A j i = Z.2 j i)
  ∧ (∀ j, 24 ≤ j → j ≤ 28 → ∀ i, ¬ (256 * U ≤ i ∧ i < 256 * U + 256) → A j i = Z.2 j i)
  ∧ (∀ j, 29 ≤ j → j ≤ 31 → ∀ i, ¬ (1024 * U ≤ i ∧ i < 1024 * U + 1024) → A j i = Z.2 j i)
  ∧ (∀ j, 32 ≤ j → j ≤ 35 → ∀ i, ¬ (8 * U < i ∧ i < 8 * U + 8) → A j i = Z.2 j i)
/-- the compiler's state; D: the certificate's current descriptor -/
def cc_W (P : pp_P) (Z : (Nat → Int32) × (Nat → Nat → Int32)) (U c cn q sn fn qh qt : Nat) (Dm : Nat → dd_D) (D : dd_D) (e : Nat) (F : Nat → Int32) (A : Nat → Nat → Int32) : Prop :=
  pp_ok P ∧ xx_P P F A ∧ cc_B1 P U c cn F A ∧ cc_B2 U q sn fn F ∧ cc_B3 P cn qh qt F A ∧ ((F 32) = 0 → cc_H P U cn q sn fn qh qt Dm D e A) ∧ cc_Z Z U F A
/-- levels and heights as the compiler holds them -/
def cc_lv (L : Nat) (lv : Nat → Nat) (F : Nat → Int32) (A : Nat → Nat → Int32) : Prop := (F 23) = nI L ∧ L ≤ 2 ∧ (∀ l, l ≤ L → (A 38) l = nI (lv l) ∧ lv l ≤ 8)
theorem dd_lvI {L : Nat} {h : Nat → Nat} {t : Nat} : dd_lv L h t ↔ (t / 12 ≤ L ∧ t % 12 < 4 + h (t / 12)) := by
  constructor
  · rintro ⟨l, o, e, a, b, c⟩
    have e1 : t / 12 = l := by omega
    have e2 : t % 12 = o := by omega
    rw [e1, e2]; exact ⟨a, c⟩
  · intro ⟨a, b⟩
    exact ⟨t / 12, t % 12, by omega, a, by omega, b⟩
theorem dd_lv36 {L : Nat} {h : Nat → Nat} {t : Nat} (hL : L ≤ 2) (H : dd_lv L h t) : t < 12 * (L + 1) ∧ t < 36 := by
  obtain ⟨l, o, e, a, b, c⟩ := H
  omega
theorem dd_lvm {L : Nat} {h h' : Nat → Nat} {t : Nat} (hh : ∀ l, l ≤ L → h l ≤ h' l) (H : dd_lv L h t) : dd_lv L h' t := by
  obtain ⟨l, o, e, a, b, c⟩ := H
  have := hh l a
  exact ⟨l, o, e, a, b, by omega⟩
section
variable {P : pp_P} {Z : (Nat → Int32) × (Nat → Nat → Int32)} {U c cn q sn fn qh qt e L : Nat} {Dm : Nat → dd_D} {D : dd_D} {F : Nat → Int32} {A : Nat → Nat → Int32} {lv : Nat → Nat}
theorem xc_live {post : Int32 → Prop} {t : Nat} (ht : t < 36) (hl : cc_lv L lv F A) (K1 : dd_lv L lv t → post 1) (K0 : ¬ dd_lv L lv t → post 0) : wpX_live post (tw_t F A) (nI t) := by
  obtain ⟨l1, l2, l3⟩ := hl
  have e1 : nI t / 12 = nI (t / 12) := pk_div (d := 12) (by omega) (by omega) (by omega)
  have e2 : nI t - nI t / 12 * 12 = nI (t % 12) := pk_rem (d := 12) (by omega) (by omega) (by omega)
  unfold wpX_live
  refine And.intro (by decide) (nm_r e1 (And.intro (by decide) (nm_r e2 ?_)))
  show ((F 23) < nI (t / 12) → post 0) ∧ _
  rw [l1]
  refine pk_lt L (t / 12) (fun z => K0 (fun h => by have := (dd_lvI.mp h).1; omega)) (fun z => ?_) (ha := by omega) (hb := by omega)
  obtain ⟨v1, v2⟩ := l3 (t / 12) z
  refine pk_lt (t % 12) 4 (fun z2 => K1 (dd_lvI.mpr ⟨z, by omega⟩)) (fun z2 => And.intro (vp_in_nI (by omega) (by omega)) ?_) (ha := by omega)
  have e4 : nI (t % 12) - 4 = nI (t % 12 - 4) := pk_sub (b := 4) z2
  rw [nI_clamp (by omega), v1, e4]
  exact pk_le (lv (t / 12)) (t % 12 - 4) (fun z3 => K0 (fun h => by have := (dd_lvI.mp h).2; omega)) (fun z3 => K1 (dd_lvI.mpr ⟨z, by omega⟩)) (ha := by omega) (hb := by omega)
theorem xc_source {post : Int32 → Prop} {t : Nat} (ht : t < 36) (K : post (if (A 36) t = 0 then nI t else (A 37) t)) : wpX_source post (tw_t F A) (nI t) := by
  unfold wpX_source
  refine And.intro (vp_in_nI ht (by omega)) ?_
  rw [nI_clamp (by omega)]
  exact br_c (fun z => by rw [if_pos z] at K; exact K) (fun z => And.intro (vp_in_nI ht (by omega)) (by rw [if_neg z] at K; exact K))
theorem xc_key {post : Int32 → Prop} {p : Nat} (hu : (F 21) = nI U) (hc : (F 22) = nI (8 * U + c)) (K : post (nI (64 * c + p))) : wpX_keyOf post (tw_t F A) (nI p) := by
  have e1 : ((F 22) - (F 21) * 8) * 64 + nI p = nI (64 * c + p) := by
    rw [hu, hc, tw_m8, pk_sub (by omega), show 8 * U + c - 8 * U = c by omega, tw_m64, nI_add]
  show post (((F 22) - (F 21) * 8) * 64 + nI p)
  rw [e1]
  exact K
theorem cc_B1m {F' : Nat → Int32} {A' : Nat → Nat → Int32} (h : cc_B1 P U c cn F A) (h1 : (F' 21) = (F 21)) (h2 : (F' 22) = (F 22)) (h3 : (F' 28) = (F 28)) (hx : ∀ j, 32 ≤ j → j ≤ 35 → ∀ i, i < 8 * U + cn → A' j i = A j i) : cc_B1 P U c cn F' A' := by
  obtain ⟨b1, b2, b3, b4, b5, b6, b7⟩ := h
  refine ⟨b1, h1.trans b2, h2.trans b3, b4, b5, h3.trans b6, fun c' hc' => ?_⟩
  obtain ⟨L', lp', lh', x1, x2⟩ := b7 c' hc'
  exact ⟨L', lp', lh', cc_CRm hx _ _ _ _ hc' x1, x2⟩
def cc_code (A : Nat → Nat → Int32) (q : Nat) (o d a b md s : Int32) : Nat → Nat → Int32 :=
  tw_s (tw_s (tw_s (tw_s (tw_s (tw_s A 18 (upd (A 18) q o)) 19 (upd (A 19) q d)) 20 (upd (A 20) q a)) 21 (upd (A 21) q b)) 22 (upd (A 22) q md)) 23 (upd (A 23) q s)
theorem xc_put {post : SX → Prop} {o d a b md s : Int32} (hU : U < 8) (hu : (F 21) = nI U) (hB : cc_B2 U q sn fn F)
    (K1 : q < 512 * U + 512 → post (tw_t (tw_s F 25 (nI (q + 1))) (cc_code A q o d a b md s))) (K2 : post (tw_t (tw_s F 32 1) A)) : wpX_put post (tw_t F A) o d a b md s := by
  obtain ⟨b1, b2, b3, b4⟩ := hB
  unfold wpX_put
  show ((F 25) < (F 21) * 512 + 512 → _) ∧ (¬ (F 25) < (F 21) * 512 + 512 → _)
  have e1 : (F 21) * 512 + 512 = nI (512 * U + 512) := by rw [hu, tw_m512]; exact nI_add _ 512
  refine pk_lt q (512 * U + 512) (fun z => ?_) (fun _ => K2) (hx := b1) (hy := e1) (ha := by omega) (hb := by omega)
  have v : vp_in (F 25) 4096 := tw_in b1 (by omega) (by omega)
  have cq : ((F 25)).toNatClampNeg = q := tw_cl b1 (by omega)
  rw [cq]
  exact And.intro v (nm_e (And.intro v (nm_e (And.intro v (nm_e (And.intro v (nm_e (And.intro v (nm_e (And.intro v (nm_e (nm_r (e' := nI (q + 1)) (by rw [b1, nI_1]) (K1 z)))))))))))))
/-- one instruction is emitted -/
theorem xc_emitS {post : SX → Prop} {o d a b md s : Int32} (S : dd_D → Prop) (he : e ≤ 1) (hW : cc_W P Z U c cn q sn fn qh qt Dm D e F A)
    (hi : (F 32) = 0 → ∀ D', S D' → cc_I P (cc_Q A U) (cc_SR P A U sn fn cn) (cc_TJ A U cn) D D' o d a b md s)
    (K : ∀ (F' : Nat → Int32) (A' : Nat → Nat → Int32) (q' : Nat) (Dm' : Nat → dd_D), (∀ D', S D' → cc_W P Z U c cn q' sn fn qh qt Dm' D' 0 F' A') → (∀ j, j ≠ 25 → j ≠ 32 → F' j = F j) → (∀ j, ¬ (18 ≤ j ∧ j ≤ 23) → A' j = A j) → ((F' 32) = 0 → (F 32) = 0) → post (tw_t F' A')) : wpX_put post (tw_t F A) o d a b md s := by
  obtain ⟨w0, w1, w2, w3, w4, w5, w6⟩ := hW
  have w2' := w2
  obtain ⟨b1, b2, b3, b4, b5, b6, b7⟩ := w2'
  have w3' := w3
  obtain ⟨c1, c2, c3, c4, c5, c6, c7, c8, c9, c10⟩ := w3'
  have cj : ∀ j, ¬ (18 ≤ j ∧ j ≤ 23) → cc_code A q o d a b md s j = A j := by
    intro j hj
    unfold cc_code
    rw [tw_sn (by omega), tw_sn (by omega), tw_sn (by omega), tw_sn (by omega), tw_sn (by omega), tw_sn (by omega)]
  refine xc_put b1 b2 w3 (fun hq => ?_) ?_
  · refine K (tw_s F 25 (nI (q + 1))) (cc_code A q o d a b md s) (q + 1) (tw_s Dm q D) (fun D' hS => ⟨w0, w1, cc_B1m w2 rfl rfl rfl (fun j j1 j2 i _ => congrFun (cj j (by omega)) i), ⟨rfl, by omega, by omega, c4, c5, c6, c7, c8, c9, c10⟩, w4, fun hf => ?_, ?_⟩) (fun j h1 h2 => tw_sn h1) (fun j hj => ?_) (fun h => h)
    · have hf' : (F 32) = 0 := hf
      refine cc_Hput he (w5 hf') (hi hf' D' hS) rfl rfl rfl rfl rfl rfl (fun j hj => ?_) c2
      unfold cc_code
      rw [tw_sn (by omega), tw_sn (by omega), tw_sn (by omega), tw_sn (by omega), tw_sn (by omega), tw_sn (by omega)]
    · obtain ⟨z1, z2, z3, z4, z5, z6, z7⟩ := w6
      refine ⟨fun j hj => (tw_sn (by omega)).trans (z1 j hj), fun j hj h14 => (cj j (by omega)).trans (z2 j hj h14), fun V hV => z3 V hV, fun j j1 j2 i hi => ?_, fun j j1 j2 i hi => (congrFun (cj j (by omega)) i).trans (z5 j j1 j2 i hi), fun j j1 j2 i hi => (congrFun (cj j (by omega)) i).trans (z6 j j1 j2 i hi), fun j j1 j2 i hi => (congrFun (cj j (by omega)) i).trans (z7 j j1 j2 i hi)⟩
      rw [← z4 j j1 j2 i hi]
      have jj : j = 18 ∨ j = 19 ∨ j = 20 ∨ j = 21 ∨ j = 22 ∨ j = 23 := by omega
      rcases jj with rfl | rfl | rfl | rfl | rfl | rfl
      · exact pk_un (by omega)
      · exact pk_un (by omega)
      · exact pk_un (by omega)
      · exact pk_un (by omega)
      · exact pk_un (by omega)
      · exact pk_un (by omega)
    · unfold cc_code
      rw [tw_sn (by omega), tw_sn (by omega), tw_sn (by omega), tw_sn (by omega), tw_sn (by omega), tw_sn (by omega)]
  · refine K (tw_s F 32 1) A q Dm (fun D' hS => ⟨w0, w1, w2, ⟨c1, c2, c3, c4, c5, c6, c7, c8, c9, Or.inr rfl⟩, w4, fun hf => absurd (show (1 : Int32) = 0 from hf) (by decide), ⟨fun j hj => (tw_sn (by omega)).trans (w6.1 j hj), w6.2⟩⟩) (fun j h1 h2 => tw_sn h2) (fun j hj => rfl) (fun hf => absurd (show (1 : Int32) = 0 from hf) (by decide))
theorem xc_emit {post : SX → Prop} {o d a b md s : Int32} {D' : dd_D} (he : e ≤ 1) (hW : cc_W P Z U c cn q sn fn qh qt Dm D e F A)
    (hi : (F 32) = 0 → cc_I P (cc_Q A U) (cc_SR P A U sn fn cn) (cc_TJ A U cn) D D' o d a b md s)
    (K : ∀ (F' : Nat → Int32) (A' : Nat → Nat → Int32) (q' : Nat) (Dm' : Nat → dd_D), cc_W P Z U c cn q' sn fn qh qt Dm' D' 0 F' A' → (∀ j, j ≠ 25 → j ≠ 32 → F' j = F j) → (∀ j, ¬ (18 ≤ j ∧ j ≤ 23) → A' j = A j) → ((F' 32) = 0 → (F 32) = 0) → post (tw_t F' A')) : wpX_put post (tw_t F A) o d a b md s :=
  xc_emitS (fun z => z = D') he hW (fun hf D2 e2 => by rw [e2]; exact hi hf) (fun F' A' q' Dm' h => K F' A' q' Dm' (h D' rfl))
end
end
section
/-! the compiler: frame states -/
section
variable {P : pp_P} {Z : (Nat → Int32) × (Nat → Nat → Int32)} {U c cn q sn fn qh qt e L : Nat} {Dm : Nat → dd_D} {D : dd_D} {F : Nat → Int32} {A : Nat → Nat → Int32} {lv : Nat → Nat}
theorem xc_addFix {post : SX → Prop} {t : Nat} (hU : U < 8) (hu : (F 21) = nI U) (ht : t < 36) (hB : cc_B2 U q sn fn F)
    (K1 : fn < 1024 * U + 1024 → post (tw_t (tw_s F 27 (nI (fn + 1))) (tw_s (tw_s (tw_s A 29 (upd (A 29) fn (nI t))) 30 (upd (A 30) fn ((A 37) t))) 31 (upd (A 31) fn (if (A 36) t = 1 then 1 else 0)))))
    (K2 : post (tw_t (tw_s F 32 1) A)) : wpX_addFix post (tw_t F A) (nI t) := by
  obtain ⟨b1, b2, b3, b4, b5, b6, b7, b8, b9, b10⟩ := hB
  unfold wpX_addFix
  show ((F 27) < (F 21) * 1024 + 1024 → _) ∧ (¬ (F 27) < (F 21) * 1024 + 1024 → _)
  have e1 : (F 21) * 1024 + 1024 = nI (1024 * U + 1024) := by rw [hu, tw_m1024]; exact nI_add _ 1024
  refine pk_lt fn (1024 * U + 1024) (fun z => ?_) (fun _ => K2) (hx := b7) (hy := e1) (ha := by omega) (hb := by omega)
  have v : vp_in (F 27) 8192 := tw_in b7 (by omega) (by omega)
  have v2 : vp_in (nI t) 36 := vp_in_nI (by omega) (by omega)
  have cf : ((F 27)).toNatClampNeg = fn := tw_cl b7 (by omega)
  have k := K1 z
  rw [cf, nI_clamp (show t < 2 ^ 31 by omega)]
  refine And.intro v (nm_e (And.intro v2 (And.intro v (nm_e (And.intro v2 (br_c (fun y => ?_) (fun y => ?_)))))))
  · rw [if_pos y] at k
    unfold wX_addFix_73
    rw [cf]
    exact And.intro v (nm_r (e' := upd (A 31) fn 1) rfl (nm_r (e' := nI (fn + 1)) (by rw [b7, nI_1]) k))
  · rw [if_neg y] at k
    unfold wX_addFix_73
    rw [cf]
    exact And.intro v (nm_r (e' := upd (A 31) fn 0) rfl (nm_r (e' := nI (fn + 1)) (by rw [b7, nI_1]) k))
end
theorem xc_snapL {post : Int32 → SX → Prop} {U q sn f0 L : Nat} {lv : Nat → Nat} (hU : U < 8) (hL : L ≤ 2) (hsn : sn < 256 * U + 256) :
    ∀ (k t n fn : Nat) (F : Nat → Int32) (A : Nat → Nat → Int32), t + k = 12 * (L + 1) → k < n → (F 21) = nI U → cc_B2 U q sn fn F → cc_lv L lv F A → ((F 32) = 0 → cc_FX A L lv (A 36) (A 37) f0 t fn) →
    (∀ (F' : Nat → Int32) (A' : Nat → Nat → Int32) (fn' : Nat), (∀ j, j ≠ 27 → j ≠ 32 → F' j = F j) → (∀ j, j ≠ 29 → j ≠ 30 → j ≠ 31 → A' j = A j) → (∀ j, 29 ≤ j → j ≤ 31 → ∀ i, i < fn → A' j i = A j i) → (∀ j, 29 ≤ j → j ≤ 31 → ∀ i, ¬ (1024 * U ≤ i ∧ i < 1024 * U + 1024) → A' j i = A j i) → fn ≤ fn' → cc_B2 U q sn fn' F' → ((F' 32) = 0 → (F 32) = 0) → ((F' 32) = 0 → cc_FX A' L lv (A 36) (A 37) f0 (12 * (L + 1)) fn') →
      post (nI sn) (tw_t (tw_s F' 26 (nI (sn + 1))) (tw_s A' 28 (upd (A' 28) sn (nI fn'))))) →
    wX_snapshot_89 post n (nI t) (F 0) (F 1) (F 2) (F 3) (F 4) (F 5) (F 6) (F 7) (F 8) (F 9) (F 10) (F 11) (F 12) (F 13) (F 14) (F 15) (F 16) (F 17) (F 18) (F 19) (F 20) (F 21) (F 22) (F 23) (F 24) (F 25) (F 26) (F 27) (F 28) (F 29) (F 30) (F 31) (F 32) (A 0) (A 1) (A 2) (A 3) (A 4) (A 5) (A 6) (A 7) (A 8) (A 9) (A 10) (A 11) (A 12) (A 13) (A 14) (A 15) (A 16) (A 17) (A 18) (A 19) (A 20) (A 21) (A 22) (A 23) (A 24) (A 25) (A 26) (A 27) (A 28) (A 29) (A 30) (A 31) (A 32) (A 33) (A 34) (A 35) (A 36) (A 37) (A 38) (A 39) (A 40) (A 41)
  | 0, t, n, fn, F, A, ht, hn, hu, hB, hl, hx, K => by
    obtain ⟨n, rfl⟩ : ∃ n', n = n' + 1 := ⟨n - 1, by omega⟩
    have hB' := hB
    obtain ⟨b1, b2, b3, b4, b5, b6, b7, b8, b9, b10⟩ := hB'
    have e1 : (F 23) * 12 + 12 = nI (12 * L + 12) := by rw [hl.1, tw_m12', tw_p12]
    have et : t = 12 * (L + 1) := by omega
    subst et
    unfold wX_snapshot_89
    refine br_t (by rw [e1]; exact nI_le (by omega) (by omega)) (And.intro (tw_in b4 (by omega) (by omega)) (nm_r (e' := upd (A 28) sn (nI fn)) (by rw [tw_cl b4 (by omega), b7]) (nm_r (e' := nI (sn + 1)) (by rw [b4, nI_1]) ?_)))
    rw [tw_d1 (by omega), Nat.add_sub_cancel]
    exact K F A fn (fun _ _ _ => rfl) (fun _ _ _ _ => rfl) (fun _ _ _ _ _ => rfl) (fun _ _ _ _ _ => rfl) (Nat.le_refl _) hB (fun h => h) hx
  | k + 1, t, n, fn, F, A, ht, hn, hu, hB, hl, hx, K => by
    obtain ⟨n, rfl⟩ : ∃ n', n = n' + 1 := ⟨n - 1, by omega⟩
    have e1 : (F 23) * 12 + 12 = nI (12 * L + 12) := by rw [hl.1, tw_m12', tw_p12]
    have t36 : t < 36 := by omega
    unfold wX_snapshot_89
    refine br_f (by rw [e1]; exact nI_ge (by omega) (by omega)) (And.intro (vp_in_nI t36 (by omega)) ?_)
    rw [nI_clamp (by omega), nI_1]
    refine br_c (fun z => nm_e ?_) (fun z => ?_)
    · exact xc_snapL hU hL hsn k (t + 1) n fn F A (by omega) (by omega) hu hB hl (fun hf => Or.inl ⟨fun h => h.2 z, hx hf⟩) K
    · refine xc_live (F := F) (A := A) t36 hl (fun z2 => br_f (by decide) ?_) (fun z2 => br_t rfl (nm_e ?_))
      · refine xc_addFix (F := F) (A := A) hU hu t36 hB (fun hfn => nm_e ?_) (nm_e ?_)
        · obtain ⟨b1, b2, b3, b4, b5, b6, b7, b8, b9, b10⟩ := hB
          refine xc_snapL (f0 := f0) hU hL hsn k (t + 1) n (fn + 1) (tw_s F 27 (nI (fn + 1))) (tw_s (tw_s (tw_s A 29 (upd (A 29) fn (nI t))) 30 (upd (A 30) fn ((A 37) t))) 31 (upd (A 31) fn (if (A 36) t = 1 then 1 else 0))) (by omega) (by omega) hu ⟨b1, b2, b3, b4, b5, b6, rfl, by omega, by omega, b10⟩ hl (fun hf => ?_) (fun F' A' fn' h1 h2 h3 h3' h4 h5 h6 h7 => ?_)
          · refine Or.inr ⟨⟨z2, z⟩, fn, rfl, cc_FXm (fn := fn) (fun j j1 j2 i hi => ?_) t fn (Nat.le_refl _) (hx hf), pk_us, pk_us, ?_⟩
            · have cj : j = 29 ∨ j = 30 ∨ j = 31 := by omega
              rcases cj with rfl | rfl | rfl
              · exact pk_un (by omega)
              · exact pk_un (by omega)
              · exact pk_un (by omega)
            · by_cases y : (A 36) t = 1
              · refine Or.inl ⟨y, ?_⟩
                show ¬ upd (A 31) fn (if (A 36) t = 1 then 1 else 0) fn = 0
                rw [pk_us, if_pos y]; decide
              · refine Or.inr ⟨y, ?_⟩
                show upd (A 31) fn (if (A 36) t = 1 then 1 else 0) fn = 0
                rw [pk_us, if_neg y]
          · refine K F' A' fn' (fun j a b => (h1 j a b).trans (tw_sn a)) (fun j a b c => (h2 j a b c).trans (((tw_sn c).trans (tw_sn b)).trans (tw_sn a))) (fun j j1 j2 i hi => (h3 j j1 j2 i (by omega)).trans ?_) (fun j j1 j2 i hi => (h3' j j1 j2 i hi).trans ?_) (by omega) h5 h6 h7
            · have cj : j = 29 ∨ j = 30 ∨ j = 31 := by omega
              rcases cj with rfl | rfl | rfl
              · exact pk_un (by omega)
              · exact pk_un (by omega)
              · exact pk_un (by omega)
            · have cj : j = 29 ∨ j = 30 ∨ j = 31 := by omega
              rcases cj with rfl | rfl | rfl
              · exact pk_un (by omega)
              · exact pk_un (by omega)
              · exact pk_un (by omega)
        · obtain ⟨b1, b2, b3, b4, b5, b6, b7, b8, b9, b10⟩ := hB
          exact xc_snapL hU hL hsn k (t + 1) n fn (tw_s F 32 1) A (by omega) (by omega) hu ⟨b1, b2, b3, b4, b5, b6, b7, b8, b9, Or.inr rfl⟩ hl (fun hf => absurd (show (1 : Int32) = 0 from hf) (by decide)) (fun F' A' fn' h1 h2 h3 h3' h4 h5 h6 h7 => K F' A' fn' (fun j a b => (h1 j a b).trans (tw_sn b)) h2 h3 h3' h4 h5 (fun hf => absurd (show (1 : Int32) = 0 from h6 hf) (by decide)) h7)
      · exact xc_snapL hU hL hsn k (t + 1) n fn F A (by omega) (by omega) hu hB hl (fun hf => Or.inl ⟨fun h => z2 h.1, hx hf⟩) K
section
variable {P : pp_P} {Z : (Nat → Int32) × (Nat → Nat → Int32)} {U c cn q sn fn qh qt e L : Nat} {Dm : Nat → dd_D} {D : dd_D} {F : Nat → Int32} {A : Nat → Nat → Int32} {lv : Nat → Nat}
theorem xc_snapshot {post : Int32 → SX → Prop} {pc y : Nat} {lp : Nat → Nat} (hW : cc_W P Z U c cn q sn fn qh qt Dm D e F A) (hl : cc_lv L lv F A) (hcr : cc_CR A U L c lp lv) (hpc : lp L = pc) (hok : dd_ok P (L, lp, lv, (A 36), (A 37), y, 0))
    (K : ∀ (s : Int32) (F' : Nat → Int32) (A' : Nat → Nat → Int32) (sn' fn' : Nat), cc_W P Z U c cn q sn' fn' qh qt Dm D e F' A' → (∀ j, j ≠ 26 → j ≠ 27 → j ≠ 32 → F' j = F j) → (∀ j, ¬ (24 ≤ j ∧ j ≤ 31) → A' j = A j) → ((F' 32) = 0 → (F 32) = 0) → ((F' 32) = 0 → cc_SR P A' U sn' fn' cn s (L, lp, lv, (A 36), (A 37), y, 0)) → post s (tw_t F' A')) : wpX_snapshot post (tw_t F A) (nI pc) := by
  have hW' := hW
  obtain ⟨w0, w1, w2, w3, w4, w5, w6⟩ := hW'
  have w2' := w2
  obtain ⟨b1, b2, b3, b4, b5, b6, b7⟩ := w2'
  have w3' := w3
  obtain ⟨c1, c2, c3, c4, c5, c6, c7, c8, c9, c10⟩ := w3'
  have hl' := hl
  obtain ⟨l1, l2, l3⟩ := hl'
  unfold wpX_snapshot
  show ((F 26) < (F 21) * 256 + 256 → _) ∧ (¬ (F 26) < (F 21) * 256 + 256 → _)
  have e1 : (F 21) * 256 + 256 = nI (256 * U + 256) := by rw [b2, tw_m256]; exact nI_add _ 256
  refine pk_lt sn (256 * U + 256) (fun z => ?_) (fun _ => ?_) (hx := c4) (hy := e1) (ha := by omega) (hb := by omega)
  · have v : vp_in (F 26) 2048 := tw_in c4 (by omega) (by omega)
    have cs : ((F 26)).toNatClampNeg = sn := tw_cl c4 (by omega)
    have vl : vp_in (F 23) 3 := tw_in l1 (by omega) (by omega)
    have eh : (A 38) ((F 23)).toNatClampNeg = nI (lv L) := by rw [l1, nI_clamp (by omega)]; exact (l3 L (Nat.le_refl _)).1
    rw [cs, eh]
    refine And.intro v (nm_e (And.intro vl (And.intro v (nm_e (And.intro v (nm_e (And.intro v (nm_e ⟨12 * (L + 1) + 1, ?_⟩))))))))
    refine xc_snapL (f0 := fn) b1 l2 z (12 * (L + 1)) 0 _ fn F (tw_s (tw_s (tw_s (tw_s A 24 (upd (A 24) sn (nI pc))) 25 (upd (A 25) sn (nI (lv L)))) 26 (upd (A 26) sn (F 22))) 27 (upd (A 27) sn (F 27))) (by omega) (by omega) b2 w3 hl (fun _ => rfl) (fun F' A' fn' h1 h2 h3 h3' h4 h5 h6 h7 => ?_)
    obtain ⟨d1, d2, d3, d4, d5, d6, d7, d8, d9, d10⟩ := h5
    have aj : ∀ j, ¬ (24 ≤ j ∧ j ≤ 31) → A' j = A j := fun j hj => (h2 j (by omega) (by omega) (by omega)).trans ((((tw_sn (by omega)).trans (tw_sn (by omega))).trans (tw_sn (by omega))).trans (tw_sn (by omega)))
    have hfin : ∀ j, ¬ (24 ≤ j ∧ j ≤ 31) → tw_s A' 28 (upd (A' 28) sn (nI fn')) j = A j := fun j hj => (tw_sn (by omega)).trans (aj j hj)
    have hs : ∀ j, 24 ≤ j → j ≤ 28 → ∀ i, i < sn → tw_s A' 28 (upd (A' 28) sn (nI fn')) j i = A j i := by
      intro j j1 j2 i hi
      have cj : j = 24 ∨ j = 25 ∨ j = 26 ∨ j = 27 ∨ j = 28 := by omega
      rcases cj with rfl | rfl | rfl | rfl | rfl
      · rw [tw_sn (by decide), h2 24 (by decide) (by decide) (by decide)]; exact pk_un (by omega)
      · rw [tw_sn (by decide), h2 25 (by decide) (by decide) (by decide)]; exact pk_un (by omega)
      · rw [tw_sn (by decide), h2 26 (by decide) (by decide) (by decide)]; exact pk_un (by omega)
      · rw [tw_sn (by decide), h2 27 (by decide) (by decide) (by decide)]; exact pk_un (by omega)
      · rw [tw_ss, pk_un (by omega), h2 28 (by decide) (by decide) (by decide)]; rfl
    have hfx : ∀ j, 29 ≤ j → j ≤ 31 → ∀ i, i < fn → tw_s A' 28 (upd (A' 28) sn (nI fn')) j i = A j i := by
      intro j j1 j2 i hi
      rw [tw_sn (by omega), h3 j j1 j2 i hi]
      rw [tw_sn (by omega), tw_sn (by omega), tw_sn (by omega), tw_sn (by omega)]
    have hxx : ∀ j, 32 ≤ j → j ≤ 35 → ∀ i, i < 8 * U + cn → tw_s A' 28 (upd (A' 28) sn (nI fn')) j i = A j i := fun j j1 j2 i _ => congrFun (hfin j (by omega)) i
    refine K (nI sn) (tw_s F' 26 (nI (sn + 1))) (tw_s A' 28 (upd (A' 28) sn (nI fn'))) (sn + 1) fn' ⟨w0, ?_, ?_, ⟨d1, d2, d3, rfl, by omega, by omega, d7, d8, d9, d10⟩, ?_, fun hf => ?_, ?_⟩ (fun j a b c => (tw_sn a).trans (h1 j b c)) hfin h6 (fun hf => ?_)
    · obtain ⟨q1, q2, q3, q4, q5, q6, q7, q8, q9⟩ := w1
      exact ⟨(h1 _ (by decide) (by decide)).trans q1, (h1 _ (by decide) (by decide)).trans q2, (h1 _ (by decide) (by decide)).trans q3, (h1 _ (by decide) (by decide)).trans q4, (hfin 0 (by decide)).trans q5, (hfin 1 (by decide)).trans q6, (hfin 2 (by decide)).trans q7, fun f hf => (congrFun (hfin 3 (by decide)) f).trans (q8 f hf), fun f hf => (congrFun (hfin 4 (by decide)) f).trans (q9 f hf)⟩
    · refine ⟨b1, (h1 _ (by decide) (by decide)).trans b2, (h1 _ (by decide) (by decide)).trans b3, b4, b5, (h1 _ (by decide) (by decide)).trans b6, fun c' hc' => ?_⟩
      obtain ⟨L', lp', lh', x1, x2⟩ := b7 c' hc'
      exact ⟨L', lp', lh', cc_CRm hxx _ _ _ _ hc' x1, x2⟩
    · obtain ⟨q1, q2, q3, q4, q5, q6⟩ := w4
      have e40 : tw_s A' 28 (upd (A' 28) sn (nI fn')) 40 = A 40 := hfin 40 (by decide)
      have e41 : tw_s A' 28 (upd (A' 28) sn (nI fn')) 41 = A 41 := hfin 41 (by decide)
      unfold cc_B3
      rw [e40, e41]
      exact ⟨(h1 _ (by decide) (by decide)).trans q1, (h1 _ (by decide) (by decide)).trans q2, q3, q4, q5, q6⟩
    · refine cc_Hgrow (fun j a b i _ => congrFun (hfin j (by omega)) i) hs hfx hxx (hfin 39 (by decide)) (hfin 40 (by decide)) (hfin 41 (by decide)) (fun gl hg => ?_) (by omega) h4 (Nat.le_refl _) (w5 (h6 hf))
      unfold cc_Q at hg ⊢
      rw [hfin 14 (by decide), hfin 10 (by decide)] at hg
      exact hg
    · obtain ⟨z1, z2, z3, z4, z5, z6, z7⟩ := w6
      refine ⟨fun j hj => ((tw_sn (by omega)).trans (h1 j (by omega) (by omega))).trans (z1 j hj), fun j hj h14 => (hfin j (by omega)).trans (z2 j hj h14), fun V hV => (congrFun (hfin 14 (by decide)) V).trans (z3 V hV), fun j j1 j2 i hi => (congrFun (hfin j (by omega)) i).trans (z4 j j1 j2 i hi), fun j j1 j2 i hi => ?_, fun j j1 j2 i hi => ?_, fun j j1 j2 i hi => (congrFun (hfin j (by omega)) i).trans (z7 j j1 j2 i hi)⟩
      · rw [← z5 j j1 j2 i hi]
        have cj : j = 24 ∨ j = 25 ∨ j = 26 ∨ j = 27 ∨ j = 28 := by omega
        rcases cj with rfl | rfl | rfl | rfl | rfl
        · rw [tw_sn (by decide), h2 24 (by decide) (by decide) (by decide)]; exact pk_un (by omega)
        · rw [tw_sn (by decide), h2 25 (by decide) (by decide) (by decide)]; exact pk_un (by omega)
        · rw [tw_sn (by decide), h2 26 (by decide) (by decide) (by decide)]; exact pk_un (by omega)
        · rw [tw_sn (by decide), h2 27 (by decide) (by decide) (by decide)]; exact pk_un (by omega)
        · rw [tw_ss, pk_un (by omega), h2 28 (by decide) (by decide) (by decide)]; rfl
      · rw [← z6 j j1 j2 i hi, tw_sn (by omega), h3' j j1 j2 i hi]
        rw [tw_sn (by omega), tw_sn (by omega), tw_sn (by omega), tw_sn (by omega)]
    · have hf' : (F' 32) = 0 := hf
      have ek : A' 36 = (A 36) := aj _ (by decide)
      have ev : A' 37 = (A 37) := aj _ (by decide)
      have fx := h7 hf'
      refine ⟨sn, c, fn, fn', rfl, c5, by omega, ?_, ?_, ?_, b4, cc_CRm hxx _ _ _ _ b4 hcr, ?_, ?_, c8, Nat.le_refl _, ?_, hok⟩
      · rw [tw_sn (by decide), h2 24 (by decide) (by decide) (by decide)]
        show upd (A 24) sn (nI pc) sn = nI (lp L)
        rw [pk_us, hpc]
      · rw [tw_sn (by decide), h2 25 (by decide) (by decide) (by decide)]
        show upd (A 25) sn (nI (lv L)) sn = nI (lv L)
        rw [pk_us]
      · rw [tw_sn (by decide), h2 26 (by decide) (by decide) (by decide)]
        show upd (A 26) sn (F 22) sn = _
        rw [pk_us, b3]
      · rw [tw_sn (by decide), h2 27 (by decide) (by decide) (by decide)]
        show upd (A 27) sn (F 27) sn = _
        rw [pk_us, c7]
      · rw [tw_ss, pk_us]
      · refine cc_FXm (A := A') (fn := fn') (fun j a b i _ => ?_) _ _ (Nat.le_refl _) fx
        rw [tw_sn (by omega)]
  · have e2 : (F 21) * 256 = nI (256 * U) := by rw [b2, tw_m256]
    rw [e2]
    refine K (nI (256 * U)) (tw_s F 32 1) A sn fn ⟨w0, w1, w2, ⟨c1, c2, c3, c4, c5, c6, c7, c8, c9, Or.inr rfl⟩, w4, fun hf => absurd (show (1 : Int32) = 0 from hf) (by decide), ⟨fun j hj => (tw_sn (by omega)).trans (w6.1 j hj), w6.2⟩⟩ (fun j a b c => tw_sn c) (fun j hj => rfl) (fun hf => absurd (show (1 : Int32) = 0 from hf) (by decide)) (fun hf => absurd (show (1 : Int32) = 0 from hf) (by decide))
/-- a frame state and an instruction that names it -/
theorem xc_guardS {post : SX → Prop} {op b : Int32} {pc y : Nat} {lp : Nat → Nat} (S : dd_D → Prop) (he : e ≤ 1) (hW : cc_W P Z U c cn q sn fn qh qt Dm D e F A) (hl : cc_lv L lv F A) (hcr : cc_CR A U L c lp lv) (hpc : lp L = pc) (hok : dd_ok P (L, lp, lv, (A 36), (A 37), y, 0))
    (hi : (F 32) = 0 → ∀ (SR TJ : Int32 → dd_D → Prop) (s : Int32), SR s (L, lp, lv, (A 36), (A 37), y, 0) → ∀ D', S D' → cc_I P (cc_Q A U) SR TJ D D' op 0 0 b 3 s)
    (K : ∀ (F' : Nat → Int32) (A' : Nat → Nat → Int32) (q' sn' fn' : Nat) (Dm' : Nat → dd_D), (∀ D', S D' → cc_W P Z U c cn q' sn' fn' qh qt Dm' D' 0 F' A') → (∀ j, j ≠ 25 → j ≠ 26 → j ≠ 27 → j ≠ 32 → F' j = F j) → (∀ j, ¬ (18 ≤ j ∧ j ≤ 31) → A' j = A j) → ((F' 32) = 0 → (F 32) = 0) → post (tw_t F' A')) : wpX_guard post (tw_t F A) op (nI pc) b := by
  unfold wpX_guard
  refine xc_snapshot hW hl hcr hpc hok (fun s F' A' sn' fn' hW' h1 h2 h3 h4 => ?_)
  have hQ : cc_Q A' U = cc_Q A U := by unfold cc_Q; rw [h2 14 (by decide), h2 10 (by decide)]
  refine xc_emitS (F := F') (A := A') S he hW' (fun hf => ?_) (fun F2 A2 q' Dm' hW2 g1 g2 g3 => ?_)
  · rw [hQ]
    exact hi (h3 hf) _ _ _ (h4 hf)
  · exact K F2 A2 q' sn' fn' Dm' hW2 (fun j a b c d => (g1 j a d).trans (h1 j b c d)) (fun j hj => (g2 j (by omega)).trans (h2 j (by omega))) (fun hf => h3 (g3 hf))
theorem xc_guard {post : SX → Prop} {op b : Int32} {pc y : Nat} {lp : Nat → Nat} {D' : dd_D} (he : e ≤ 1) (hW : cc_W P Z U c cn q sn fn qh qt Dm D e F A) (hl : cc_lv L lv F A) (hcr : cc_CR A U L c lp lv) (hpc : lp L = pc) (hok : dd_ok P (L, lp, lv, (A 36), (A 37), y, 0))
    (hi : (F 32) = 0 → ∀ (SR TJ : Int32 → dd_D → Prop) (s : Int32), SR s (L, lp, lv, (A 36), (A 37), y, 0) → cc_I P (cc_Q A U) SR TJ D D' op 0 0 b 3 s)
    (K : ∀ (F' : Nat → Int32) (A' : Nat → Nat → Int32) (q' sn' fn' : Nat) (Dm' : Nat → dd_D), cc_W P Z U c cn q' sn' fn' qh qt Dm' D' 0 F' A' → (∀ j, j ≠ 25 → j ≠ 26 → j ≠ 27 → j ≠ 32 → F' j = F j) → (∀ j, ¬ (18 ≤ j ∧ j ≤ 31) → A' j = A j) → ((F' 32) = 0 → (F 32) = 0) → post (tw_t F' A')) : wpX_guard post (tw_t F A) op (nI pc) b :=
  xc_guardS (fun z => z = D') he hW hl hcr hpc hok (fun hf SR TJ s h D2 e2 => by rw [e2]; exact hi hf SR TJ s h) (fun F' A' q' sn' fn' Dm' h => K F' A' q' sn' fn' Dm' (h D' rfl))
end
end
section
/-! the compiler: moves -/
theorem ci_move {P : pp_P} {Q : (Nat → Int32) → Prop} {SR TJ : Int32 → dd_D → Prop} {D : dd_D} {t y : Nat} {v md s : Int32} (hok : dd_ok P D) (ht : t < 36) (hy : dd_y D ≤ y)
    (hk : (dd_k D t = 1 ∧ md = 1 ∧ v = dd_v D t) ∨ (dd_k D t = 2 ∧ md = 0 ∧ ∃ r, r < 36 ∧ v = nI r ∧ dd_v D t = nI r))
    (nr : ∀ t', dd_lv (dd_L D) (dd_h D) t' → t' ≠ t → ¬ dd_k D t' = 0 → ¬ dd_k D t' = 1 → (dd_v D t').toNatClampNeg ≠ t) :
    cc_I P Q SR TJ D (dd_L D, dd_p D, dd_h D, upd (dd_k D) t 0, dd_v D, y, dd_f D) 15 (nI t) v 0 md s := by
  refine ⟨fun z => ?_, fun _ => ⟨0, by omega, rfl⟩, Or.inl ⟨rfl, hy, t, ht, rfl, fun x m q hm qx => ⟨m, mm_Ss0, cc_move hm ?_ nr (fun l hl => (hok.2.1 l hl).1)⟩⟩⟩
  · rcases hk with ⟨_, e, _⟩ | ⟨_, _, r, r1, r2, _⟩
    · rw [e] at z; exact absurd z (by decide)
    · exact ⟨r, r1, r2⟩
  · unfold cc_oa
    rcases hk with ⟨k1, e, ev⟩ | ⟨k1, e, r, r1, r2, r3⟩
    · rw [e, if_neg (by decide), dd_e1 k1, ev]
    · rw [e, if_pos (by decide), r2, nI_clamp (by omega), dd_e2 k1 r3 (by omega)]
/-- a live slot that is not home: nobody copies it -/
theorem dd_nr {P : pp_P} {D : dd_D} {t : Nat} (hok : dd_ok P D) (hl : dd_lv (dd_L D) (dd_h D) t) (hk : ¬ dd_k D t = 0) :
    ∀ t', dd_lv (dd_L D) (dd_h D) t' → t' ≠ t → ¬ dd_k D t' = 0 → ¬ dd_k D t' = 1 → (dd_v D t').toNatClampNeg ≠ t := by
  intro t' h1 h2 h3 h4 e
  rcases hok.2.2.2 t' h1 h3 with z | ⟨_, r, r1, r2, r3⟩
  · exact h4 z
  · have t36 := dd_lv36 hok.1 h1
    rw [r2, nI_clamp (by omega)] at e
    subst e
    exact hk (r3 hl)
theorem dd_okh {P : pp_P} {D : dd_D} {t y f : Nat} (hok : dd_ok P D) : dd_ok P (dd_L D, dd_p D, dd_h D, upd (dd_k D) t 0, dd_v D, y, f) := by
  obtain ⟨a, b, c, d⟩ := hok
  refine ⟨a, b, c, fun t' h1 h2 => ?_⟩
  have h2' : ¬ upd (dd_k D) t 0 t' = 0 := h2
  show upd (dd_k D) t 0 t' = 1 ∨ (upd (dd_k D) t 0 t' = 2 ∧ ∃ r, r < t' ∧ dd_v D t' = nI r ∧ (dd_lv (dd_L D) (dd_h D) r → upd (dd_k D) t 0 r = 0))
  by_cases e : t' = t
  · rw [tw_ue e] at h2'; exact absurd rfl h2'
  · rw [pk_un e] at h2' ⊢
    rcases d t' h1 h2' with z | ⟨z, r, r1, r2, r3⟩
    · exact Or.inl z
    · refine Or.inr ⟨z, r, r1, r2, fun hr => ?_⟩
      by_cases e2 : r = t
      · rw [tw_ue e2]
      · rw [pk_un e2]; exact r3 hr
/-- scratch: kinds, values, heights; level, pc, ended -/
theorem cc_Wf {P : pp_P} {Z : (Nat → Int32) × (Nat → Nat → Int32)} {U c cn q sn fn qh qt e : Nat} {Dm : Nat → dd_D} {D : dd_D} {F F' : Nat → Int32} {A A' : Nat → Nat → Int32} (hW : cc_W P Z U c cn q sn fn qh qt Dm D e F A)
    (hF : ∀ j, j ≠ 23 → j ≠ 24 → j ≠ 31 → F' j = F j) (hA : ∀ j, j ≠ 36 → j ≠ 37 → j ≠ 38 → A' j = A j) : cc_W P Z U c cn q sn fn qh qt Dm D e F' A' := by
  obtain ⟨w0, w1, w2, w3, w4, w5, w6⟩ := hW
  have hxx : ∀ j, 32 ≤ j → j ≤ 35 → ∀ i, i < 8 * U + cn → A' j i = A j i := fun j a b i _ => congrFun (hA j (by omega) (by omega) (by omega)) i
  refine ⟨w0, ?_, ?_, ?_, ?_, fun hf => ?_, ?_⟩
  · obtain ⟨q1, q2, q3, q4, q5, q6, q7, q8, q9⟩ := w1
    exact ⟨(hF _ (by decide) (by decide) (by decide)).trans q1, (hF _ (by decide) (by decide) (by decide)).trans q2, (hF _ (by decide) (by decide) (by decide)).trans q3, (hF _ (by decide) (by decide) (by decide)).trans q4, (hA 0 (by decide) (by decide) (by decide)).trans q5, (hA 1 (by decide) (by decide) (by decide)).trans q6, (hA 2 (by decide) (by decide) (by decide)).trans q7, fun f hf => (congrFun (hA 3 (by decide) (by decide) (by decide)) f).trans (q8 f hf), fun f hf => (congrFun (hA 4 (by decide) (by decide) (by decide)) f).trans (q9 f hf)⟩
  · obtain ⟨b1, b2, b3, b4, b5, b6, b7⟩ := w2
    refine ⟨b1, (hF _ (by decide) (by decide) (by decide)).trans b2, (hF _ (by decide) (by decide) (by decide)).trans b3, b4, b5, (hF _ (by decide) (by decide) (by decide)).trans b6, fun c' hc' => ?_⟩
    obtain ⟨L', lp', lh', x1, x2⟩ := b7 c' hc'
    exact ⟨L', lp', lh', cc_CRm hxx _ _ _ _ hc' x1, x2⟩
  · obtain ⟨c1, c2, c3, c4, c5, c6, c7, c8, c9, c10⟩ := w3
    refine ⟨(hF _ (by decide) (by decide) (by decide)).trans c1, c2, c3, (hF _ (by decide) (by decide) (by decide)).trans c4, c5, c6, (hF _ (by decide) (by decide) (by decide)).trans c7, c8, c9, ?_⟩
    rw [hF 32 (by decide) (by decide) (by decide)]
    exact c10
  · obtain ⟨q1, q2, q3, q4, q5, q6⟩ := w4
    unfold cc_B3
    rw [hA 40 (by decide) (by decide) (by decide), hA 41 (by decide) (by decide) (by decide)]
    exact ⟨(hF _ (by decide) (by decide) (by decide)).trans q1, (hF _ (by decide) (by decide) (by decide)).trans q2, q3, q4, q5, q6⟩
  · rw [hF 32 (by decide) (by decide) (by decide)] at hf
    refine cc_Hgrow (fun j a b i _ => congrFun (hA j (by omega) (by omega) (by omega)) i) (fun j a b i _ => congrFun (hA j (by omega) (by omega) (by omega)) i) (fun j a b i _ => congrFun (hA j (by omega) (by omega) (by omega)) i) hxx (hA _ (by decide) (by decide) (by decide)) (hA _ (by decide) (by decide) (by decide)) (hA _ (by decide) (by decide) (by decide)) (fun gl hg => ?_) (Nat.le_refl _) (Nat.le_refl _) (Nat.le_refl _) (w5 hf)
    unfold cc_Q at hg ⊢
    rw [hA 14 (by decide) (by decide) (by decide), hA 10 (by decide) (by decide) (by decide)] at hg
    exact hg
  · obtain ⟨z1, z2, z3, z4, z5, z6, z7⟩ := w6
    exact ⟨fun j hj => (hF j (by omega) (by omega) (by omega)).trans (z1 j hj), fun j hj h14 => (hA j (by omega) (by omega) (by omega)).trans (z2 j hj h14), fun V hV => (congrFun (hA 14 (by decide) (by decide) (by decide)) V).trans (z3 V hV), fun j j1 j2 i hi => (congrFun (hA j (by omega) (by omega) (by omega)) i).trans (z4 j j1 j2 i hi), fun j j1 j2 i hi => (congrFun (hA j (by omega) (by omega) (by omega)) i).trans (z5 j j1 j2 i hi), fun j j1 j2 i hi => (congrFun (hA j (by omega) (by omega) (by omega)) i).trans (z6 j j1 j2 i hi), fun j j1 j2 i hi => (congrFun (hA j (by omega) (by omega) (by omega)) i).trans (z7 j j1 j2 i hi)⟩
theorem cc_We {P : pp_P} {Z : (Nat → Int32) × (Nat → Nat → Int32)} {U c cn q sn fn qh qt e : Nat} {Dm : Nat → dd_D} {D : dd_D} {F : Nat → Int32} {A : Nat → Nat → Int32} (hW : cc_W P Z U c cn q sn fn qh qt Dm D 0 F A) : cc_W P Z U c cn q sn fn qh qt Dm D e F A := by
  obtain ⟨w0, w1, w2, w3, w4, w5, w6⟩ := hW
  exact ⟨w0, w1, w2, w3, w4, fun hf => cc_He (w5 hf), w6⟩
/-- the plain machine goes on, nothing is emitted -/
theorem cc_Ws {P : pp_P} {Z : (Nat → Int32) × (Nat → Nat → Int32)} {U c cn q sn fn qh qt e : Nat} {Dm : Nat → dd_D} {D D' : dd_D} {F : Nat → Int32} {A : Nat → Nat → Int32} (hW : cc_W P Z U c cn q sn fn qh qt Dm D e F A) (hs : cc_S P (cc_Q A U) D D') : cc_W P Z U c cn q sn fn qh qt Dm D' e F A := by
  obtain ⟨w0, w1, w2, w3, w4, w5, w6⟩ := hW
  exact ⟨w0, w1, w2, w3, w4, fun hf => cc_Hsil hs (w5 hf), w6⟩
section
variable {P : pp_P} {Z : (Nat → Int32) × (Nat → Nat → Int32)} {U c cn sn fn qh qt L y f : Nat} {lp lh lv : Nat → Nat}
theorem xc_flushL {post : SX → Prop} (hlh : ∀ l, l ≤ L → lv l ≤ lh l) :
    ∀ (k t n : Nat) (F : Nat → Int32) (A : Nat → Nat → Int32) (q : Nat) (Dm : Nat → dd_D), t + k = 12 * (L + 1) → k < n → cc_W P Z U c cn q sn fn qh qt Dm (L, lp, lh, (A 36), (A 37), y, f) 1 F A → cc_lv L lv F A → dd_ok P (L, lp, lh, (A 36), (A 37), y, f) → (∀ t', t' < t → dd_lv L lv t' → (A 36) t' = 0) →
    (∀ (F' : Nat → Int32) (A' : Nat → Nat → Int32) (q' : Nat) (Dm' : Nat → dd_D), cc_W P Z U c cn q' sn fn qh qt Dm' (L, lp, lh, (A' 36), (A' 37), y, f) 1 F' A' → (∀ j, j ≠ 25 → j ≠ 32 → F' j = F j) → (∀ j, ¬ (18 ≤ j ∧ j ≤ 23) → j ≠ 36 → A' j = A j) → ((F' 32) = 0 → (F 32) = 0) → dd_ok P (L, lp, lh, (A' 36), (A' 37), y, f) → (∀ t', dd_lv L lv t' → (A' 36) t' = 0) → (∀ t', ¬ dd_lv L lv t' → (A' 36) t' = (A 36) t') → post (tw_t F' A')) →
    wX_flush_2 post n (nI t) (F 0) (F 1) (F 2) (F 3) (F 4) (F 5) (F 6) (F 7) (F 8) (F 9) (F 10) (F 11) (F 12) (F 13) (F 14) (F 15) (F 16) (F 17) (F 18) (F 19) (F 20) (F 21) (F 22) (F 23) (F 24) (F 25) (F 26) (F 27) (F 28) (F 29) (F 30) (F 31) (F 32) (A 0) (A 1) (A 2) (A 3) (A 4) (A 5) (A 6) (A 7) (A 8) (A 9) (A 10) (A 11) (A 12) (A 13) (A 14) (A 15) (A 16) (A 17) (A 18) (A 19) (A 20) (A 21) (A 22) (A 23) (A 24) (A 25) (A 26) (A 27) (A 28) (A 29) (A 30) (A 31) (A 32) (A 33) (A 34) (A 35) (A 36) (A 37) (A 38) (A 39) (A 40) (A 41)
  | 0, t, n, F, A, q, Dm, ht, hn, hW, hl, hok, hz, K => by
    obtain ⟨n, rfl⟩ : ∃ n', n = n' + 1 := ⟨n - 1, by omega⟩
    have e1 : (F 23) * 12 + 12 = nI (12 * L + 12) := by rw [hl.1, tw_m12', tw_p12]
    have l2 : L ≤ 2 := hl.2.1
    unfold wX_flush_2
    exact br_t (by rw [e1]; exact nI_le (by omega) (by omega)) (K F A q Dm hW (fun _ _ _ => rfl) (fun _ _ _ => rfl) (fun h => h) hok (fun t' h => hz t' (by have := (dd_lv36 l2 h).1; omega) h) (fun _ _ => rfl))
  | k + 1, t, n, F, A, q, Dm, ht, hn, hW, hl, hok, hz, K => by
    obtain ⟨n, rfl⟩ : ∃ n', n = n' + 1 := ⟨n - 1, by omega⟩
    have e1 : (F 23) * 12 + 12 = nI (12 * L + 12) := by rw [hl.1, tw_m12', tw_p12]
    have l2 : L ≤ 2 := hl.2.1
    have t36 : t < 36 := by omega
    have v36 : vp_in (nI t) 36 := vp_in_nI t36 (by omega)
    unfold wX_flush_2
    refine br_f (by rw [e1]; exact nI_ge (by omega) (by omega)) (And.intro v36 ?_)
    rw [nI_clamp (by omega), nI_1]
    refine br_c (fun z => nm_e ?_) (fun z => ?_)
    · refine xc_flushL hlh k (t + 1) n F A q Dm (by omega) (by omega) hW hl hok (fun t' h1 h2 => ?_) K
      by_cases e : t' = t
      · rw [e]; exact z
      · exact hz t' (by omega) h2
    · refine xc_live (F := F) (A := A) t36 hl (fun z2 => br_f (by decide) (And.intro v36 (And.intro v36 ?_))) (fun z2 => br_t rfl (nm_e ?_))
      · have zl : dd_lv L lh t := dd_lvm hlh z2
        have fin : ∀ md : Int32, ((((A 36) t = 1 ∧ md = 1) ∨ ((A 36) t = 2 ∧ md = 0)) → wX_flush_59 post (wX_flush_2 post n) (nI t) md 0 ((A 37) t) (nI t) 15 (F 0) (F 1) (F 2) (F 3) (F 4) (F 5) (F 6) (F 7) (F 8) (F 9) (F 10) (F 11) (F 12) (F 13) (F 14) (F 15) (F 16) (F 17) (F 18) (F 19) (F 20) (F 21) (F 22) (F 23) (F 24) (F 25) (F 26) (F 27) (F 28) (F 29) (F 30) (F 31) (F 32) (A 0) (A 1) (A 2) (A 3) (A 4) (A 5) (A 6) (A 7) (A 8) (A 9) (A 10) (A 11) (A 12) (A 13) (A 14) (A 15) (A 16) (A 17) (A 18) (A 19) (A 20) (A 21) (A 22) (A 23) (A 24) (A 25) (A 26) (A 27) (A 28) (A 29) (A 30) (A 31) (A 32) (A 33) (A 34) (A 35) (A 36) (A 37) (A 38) (A 39) (A 40) (A 41)) := by
          intro md hmd
          unfold wX_flush_59
          refine xc_emit (F := F) (A := A) (D' := (L, lp, lh, upd (A 36) t 0, (A 37), y, f)) (Nat.le_refl 1) hW (fun hf => ?_) (fun F' A' q' Dm' hW' h1 h2 h3 => ?_)
          · refine ci_move (D := (L, lp, lh, (A 36), (A 37), y, f)) hok t36 (Nat.le_refl _) ?_ (dd_nr hok zl z)
            rcases hok.2.2.2 t zl z with k1 | ⟨k1, r, r1, r2, _⟩
            · rcases hmd with ⟨_, e⟩ | ⟨k2, _⟩
              · exact Or.inl ⟨k1, e, rfl⟩
              · have k1' : (A 36) t = 1 := k1
                rw [k1'] at k2; exact absurd k2 (by decide)
            · rcases hmd with ⟨k2, _⟩ | ⟨_, e⟩
              · have k1' : (A 36) t = 2 := k1
                rw [k1'] at k2; exact absurd k2 (by decide)
              · exact Or.inr ⟨k1, e, r, by omega, r2, r2⟩
          · show vp_in (nI t) 36 ∧ _
            refine And.intro v36 ?_
            rw [nI_clamp (by omega), nI_1]
            refine nm_e (nm_e ?_)
            have ek : A' 36 = (A 36) := h2 _ (by decide)
            have ev : A' 37 = (A 37) := h2 _ (by decide)
            have hW2 : cc_W P Z U c cn q' sn fn qh qt Dm' (L, lp, lh, upd (A' 36) t 0, (A' 37), y, f) 1 F' (tw_s A' 36 (upd (A' 36) t 0)) := by
              rw [ek, ev]
              exact cc_We (cc_Wf hW' (fun _ _ _ _ => rfl) (fun j a _ _ => tw_sn a))
            have hl2 : cc_lv L lv F' (tw_s A' 36 (upd (A' 36) t 0)) := by
              obtain ⟨l1, l2, l3⟩ := hl
              refine ⟨(h1 _ (by decide) (by decide)).trans l1, l2, fun l hl => ?_⟩
              have e38 : A' 38 = (A 38) := h2 _ (by decide)
              exact ⟨(congrFun e38 l).trans (l3 l hl).1, (l3 l hl).2⟩
            have hok2 : dd_ok P (L, lp, lh, upd (A' 36) t 0, (A' 37), y, f) := by
              rw [ek, ev]; exact dd_okh hok
            refine xc_flushL hlh k (t + 1) n F' (tw_s A' 36 (upd (A' 36) t 0)) q' Dm' (by omega) (by omega) hW2 hl2 hok2 (fun t' g1 g2 => ?_) (fun F2 A2 q2 Dm2 k1 k2 k3 k4 k5 k6 k7 => ?_)
            · show upd (A' 36) t 0 t' = 0
              by_cases e : t' = t
              · rw [tw_ue e]
              · rw [pk_un e, ek]; exact hz t' (by omega) g2
            · refine K F2 A2 q2 Dm2 k1 (fun j a b => (k2 j a b).trans (h1 j a b)) (fun j a b => ((k3 j a b).trans (tw_sn b)).trans (h2 j a)) (fun hf => h3 (k4 hf)) k5 k6 (fun t' g => (k7 t' g).trans ?_)
              show upd (A' 36) t 0 t' = (A 36) t'
              by_cases e : t' = t
              · rw [e] at g; exact absurd z2 g
              · rw [pk_un e, ek]
        refine br_c (fun y1 => fin 1 (Or.inl ⟨y1, rfl⟩)) (fun y1 => fin 0 (Or.inr ⟨?_, rfl⟩))
        rcases hok.2.2.2 t zl z with k1 | ⟨k1, _⟩
        · exact absurd k1 y1
        · exact k1
      · refine xc_flushL hlh k (t + 1) n F A q Dm (by omega) (by omega) hW hl hok (fun t' h1 h2 => ?_) K
        by_cases e : t' = t
        · rw [e] at h2; exact absurd h2 z2
        · exact hz t' (by omega) h2
theorem xc_flush {post : SX → Prop} {F : Nat → Int32} {A : Nat → Nat → Int32} {q : Nat} {Dm : Nat → dd_D} (hlh : ∀ l, l ≤ L → lv l ≤ lh l) (hW : cc_W P Z U c cn q sn fn qh qt Dm (L, lp, lh, (A 36), (A 37), y, f) 1 F A) (hl : cc_lv L lv F A) (hok : dd_ok P (L, lp, lh, (A 36), (A 37), y, f))
    (K : ∀ (F' : Nat → Int32) (A' : Nat → Nat → Int32) (q' : Nat) (Dm' : Nat → dd_D), cc_W P Z U c cn q' sn fn qh qt Dm' (L, lp, lh, (A' 36), (A' 37), y, f) 1 F' A' → (∀ j, j ≠ 25 → j ≠ 32 → F' j = F j) → (∀ j, ¬ (18 ≤ j ∧ j ≤ 23) → j ≠ 36 → A' j = A j) → ((F' 32) = 0 → (F 32) = 0) → dd_ok P (L, lp, lh, (A' 36), (A' 37), y, f) → (∀ t', dd_lv L lv t' → (A' 36) t' = 0) → (∀ t', ¬ dd_lv L lv t' → (A' 36) t' = (A 36) t') → post (tw_t F' A')) : wpX_flush post (tw_t F A) := by
  show ∃ n2 : Nat, wX_flush_2 post n2 (nI 0) (F 0) (F 1) (F 2) (F 3) (F 4) (F 5) (F 6) (F 7) (F 8) (F 9) (F 10) (F 11) (F 12) (F 13) (F 14) (F 15) (F 16) (F 17) (F 18) (F 19) (F 20) (F 21) (F 22) (F 23) (F 24) (F 25) (F 26) (F 27) (F 28) (F 29) (F 30) (F 31) (F 32) (A 0) (A 1) (A 2) (A 3) (A 4) (A 5) (A 6) (A 7) (A 8) (A 9) (A 10) (A 11) (A 12) (A 13) (A 14) (A 15) (A 16) (A 17) (A 18) (A 19) (A 20) (A 21) (A 22) (A 23) (A 24) (A 25) (A 26) (A 27) (A 28) (A 29) (A 30) (A 31) (A 32) (A 33) (A 34) (A 35) (A 36) (A 37) (A 38) (A 39) (A 40) (A 41)
  exact ⟨12 * (L + 1) + 1, xc_flushL hlh (12 * (L + 1)) 0 _ F A q Dm (by omega) (by omega) hW hl hok (fun t' h => absurd h (by omega)) K⟩
end
end
section
/-! the compiler: saving copies, placing a value -/
section
variable {P : pp_P} {Z : (Nat → Int32) × (Nat → Nat → Int32)} {U c cn sn fn qh qt L y f r : Nat} {lp lh lv : Nat → Nat}
theorem xc_saveL {post : SX → Prop} (hlh : ∀ l, l ≤ L → lv l ≤ lh l) (hr : r < 36) :
    ∀ (k t n : Nat) (F : Nat → Int32) (A : Nat → Nat → Int32) (q : Nat) (Dm : Nat → dd_D), t + k = 12 * (L + 1) → k < n → cc_W P Z U c cn q sn fn qh qt Dm (L, lp, lh, (A 36), (A 37), y, f) 1 F A → cc_lv L lv F A → dd_ok P (L, lp, lh, (A 36), (A 37), y, f) → (∀ t', t' < t → dd_lv L lv t' → (A 36) t' = 2 → ¬ (A 37) t' = nI r) →
    (∀ (F' : Nat → Int32) (A' : Nat → Nat → Int32) (q' : Nat) (Dm' : Nat → dd_D), cc_W P Z U c cn q' sn fn qh qt Dm' (L, lp, lh, (A' 36), (A' 37), y, f) 1 F' A' → (∀ j, j ≠ 25 → j ≠ 32 → F' j = F j) → (∀ j, ¬ (18 ≤ j ∧ j ≤ 23) → j ≠ 36 → A' j = A j) → ((F' 32) = 0 → (F 32) = 0) → dd_ok P (L, lp, lh, (A' 36), (A' 37), y, f) → (∀ t', dd_lv L lv t' → (A' 36) t' = 2 → ¬ (A 37) t' = nI r) → (∀ t', ¬ dd_lv L lv t' → (A' 36) t' = (A 36) t') → (∀ t', (A' 36) t' = (A 36) t' ∨ (A' 36) t' = 0) → post (tw_t F' A')) →
    wX_saveRefs_4 post (nI r) n (nI t) (F 0) (F 1) (F 2) (F 3) (F 4) (F 5) (F 6) (F 7) (F 8) (F 9) (F 10) (F 11) (F 12) (F 13) (F 14) (F 15) (F 16) (F 17) (F 18) (F 19) (F 20) (F 21) (F 22) (F 23) (F 24) (F 25) (F 26) (F 27) (F 28) (F 29) (F 30) (F 31) (F 32) (A 0) (A 1) (A 2) (A 3) (A 4) (A 5) (A 6) (A 7) (A 8) (A 9) (A 10) (A 11) (A 12) (A 13) (A 14) (A 15) (A 16) (A 17) (A 18) (A 19) (A 20) (A 21) (A 22) (A 23) (A 24) (A 25) (A 26) (A 27) (A 28) (A 29) (A 30) (A 31) (A 32) (A 33) (A 34) (A 35) (A 36) (A 37) (A 38) (A 39) (A 40) (A 41)
  | 0, t, n, F, A, q, Dm, ht, hn, hW, hl, hok, hz, K => by
    obtain ⟨n, rfl⟩ : ∃ n', n = n' + 1 := ⟨n - 1, by omega⟩
    have e1 : (F 23) * 12 + 12 = nI (12 * L + 12) := by rw [hl.1, tw_m12', tw_p12]
    have l2 : L ≤ 2 := hl.2.1
    unfold wX_saveRefs_4
    exact br_t (by rw [e1]; exact nI_le (by omega) (by omega)) (K F A q Dm hW (fun _ _ _ => rfl) (fun _ _ _ => rfl) (fun h => h) hok (fun t' h => hz t' (by have := (dd_lv36 l2 h).1; omega) h) (fun _ _ => rfl) (fun _ => Or.inl rfl))
  | k + 1, t, n, F, A, q, Dm, ht, hn, hW, hl, hok, hz, K => by
    obtain ⟨n, rfl⟩ : ∃ n', n = n' + 1 := ⟨n - 1, by omega⟩
    have e1 : (F 23) * 12 + 12 = nI (12 * L + 12) := by rw [hl.1, tw_m12', tw_p12]
    have l2 : L ≤ 2 := hl.2.1
    have t36 : t < 36 := by omega
    have v36 : vp_in (nI t) 36 := vp_in_nI t36 (by omega)
    have go : (dd_lv L lv t → (A 36) t = 2 → ¬ (A 37) t = nI r) → wX_saveRefs_4 post (nI r) n (nI (t + 1)) (F 0) (F 1) (F 2) (F 3) (F 4) (F 5) (F 6) (F 7) (F 8) (F 9) (F 10) (F 11) (F 12) (F 13) (F 14) (F 15) (F 16) (F 17) (F 18) (F 19) (F 20) (F 21) (F 22) (F 23) (F 24) (F 25) (F 26) (F 27) (F 28) (F 29) (F 30) (F 31) (F 32) (A 0) (A 1) (A 2) (A 3) (A 4) (A 5) (A 6) (A 7) (A 8) (A 9) (A 10) (A 11) (A 12) (A 13) (A 14) (A 15) (A 16) (A 17) (A 18) (A 19) (A 20) (A 21) (A 22) (A 23) (A 24) (A 25) (A 26) (A 27) (A 28) (A 29) (A 30) (A 31) (A 32) (A 33) (A 34) (A 35) (A 36) (A 37) (A 38) (A 39) (A 40) (A 41) := by
      intro hh
      refine xc_saveL hlh hr k (t + 1) n F A q Dm (by omega) (by omega) hW hl hok (fun t' h1 h2 => ?_) K
      by_cases e : t' = t
      · rw [e] at h2 ⊢; exact hh h2
      · exact hz t' (by omega) h2
    unfold wX_saveRefs_4
    refine br_f (by rw [e1]; exact nI_ge (by omega) (by omega)) (And.intro v36 ?_)
    rw [nI_clamp (by omega), nI_1]
    refine br_c (fun z => And.intro v36 (br_c (fun zv => ?_) (fun zv => nm_e (go (fun _ _ => zv))))) (fun z => nm_e (go (fun _ h => absurd h z)))
    refine xc_live (F := F) (A := A) t36 hl (fun z2 => br_f (by decide) ?_) (fun z2 => br_t rfl (nm_e (go (fun h => absurd h z2))))
    have zl : dd_lv L lh t := dd_lvm hlh z2
    have nz : ¬ (A 36) t = 0 := by rw [z]; decide
    refine xc_emit (F := F) (A := A) (D' := (L, lp, lh, upd (A 36) t 0, (A 37), y, f)) (Nat.le_refl 1) hW (fun hf => ?_) (fun F' A' q' Dm' hW' h1 h2 h3 => ?_)
    · exact ci_move (D := (L, lp, lh, (A 36), (A 37), y, f)) hok t36 (Nat.le_refl _) (Or.inr ⟨z, rfl, r, hr, rfl, zv⟩) (dd_nr hok zl nz)
    · show vp_in (nI t) 36 ∧ _
      refine And.intro v36 ?_
      refine nm_e (nm_e ?_)
      have ek : A' 36 = (A 36) := h2 _ (by decide)
      have ev : A' 37 = (A 37) := h2 _ (by decide)
      have hW2 : cc_W P Z U c cn q' sn fn qh qt Dm' (L, lp, lh, upd (A' 36) t 0, (A' 37), y, f) 1 F' (tw_s A' 36 (upd (A' 36) t 0)) := by
        rw [ek, ev]
        exact cc_We (cc_Wf hW' (fun _ _ _ _ => rfl) (fun j a _ _ => tw_sn a))
      have hl2 : cc_lv L lv F' (tw_s A' 36 (upd (A' 36) t 0)) := by
        obtain ⟨l1, l2, l3⟩ := hl
        refine ⟨(h1 _ (by decide) (by decide)).trans l1, l2, fun l hl => ?_⟩
        have e38 : A' 38 = (A 38) := h2 _ (by decide)
        exact ⟨(congrFun e38 l).trans (l3 l hl).1, (l3 l hl).2⟩
      have hok2 : dd_ok P (L, lp, lh, upd (A' 36) t 0, (A' 37), y, f) := by
        rw [ek, ev]; exact dd_okh hok
      refine xc_saveL hlh hr k (t + 1) n F' (tw_s A' 36 (upd (A' 36) t 0)) q' Dm' (by omega) (by omega) hW2 hl2 hok2 (fun t' g1 g2 => ?_) (fun F2 A2 q2 Dm2 k1 k2 k3 k4 k5 k6 k7 k8 => ?_)
      · show upd (A' 36) t 0 t' = 2 → ¬ (A' 37) t' = nI r
        by_cases e : t' = t
        · rw [tw_ue e]; intro h; exact absurd h (by decide)
        · rw [pk_un e, ek, ev]; exact hz t' (by omega) g2
      · refine K F2 A2 q2 Dm2 k1 (fun j a b => (k2 j a b).trans (h1 j a b)) (fun j a b => ((k3 j a b).trans (tw_sn b)).trans (h2 j a)) (fun hf => h3 (k4 hf)) k5 (fun t' g => ?_) (fun t' g => (k7 t' g).trans ?_) (fun t' => ?_)
        · have q1 := k6 t' g
          intro h
          have q2 := q1 h
          have q3 : ¬ (A' 37) t' = nI r := q2
          rw [ev] at q3
          exact q3
        · show upd (A' 36) t 0 t' = (A 36) t'
          by_cases e : t' = t
          · rw [e] at g; exact absurd z2 g
          · rw [pk_un e, ek]
        · rcases k8 t' with g | g
          · have g' : (A2 36) t' = upd (A' 36) t 0 t' := g
            by_cases e : t' = t
            · rw [tw_ue e] at g'; exact Or.inr g'
            · rw [pk_un e, ek] at g'; exact Or.inl g'
          · exact Or.inr g
theorem xc_save {post : SX → Prop} {F : Nat → Int32} {A : Nat → Nat → Int32} {q : Nat} {Dm : Nat → dd_D} (hlh : ∀ l, l ≤ L → lv l ≤ lh l) (hr : r < 12 * (L + 1)) (hW : cc_W P Z U c cn q sn fn qh qt Dm (L, lp, lh, (A 36), (A 37), y, f) 1 F A) (hl : cc_lv L lv F A) (hok : dd_ok P (L, lp, lh, (A 36), (A 37), y, f))
    (K : ∀ (F' : Nat → Int32) (A' : Nat → Nat → Int32) (q' : Nat) (Dm' : Nat → dd_D), cc_W P Z U c cn q' sn fn qh qt Dm' (L, lp, lh, (A' 36), (A' 37), y, f) 1 F' A' → (∀ j, j ≠ 25 → j ≠ 32 → F' j = F j) → (∀ j, ¬ (18 ≤ j ∧ j ≤ 23) → j ≠ 36 → A' j = A j) → ((F' 32) = 0 → (F 32) = 0) → dd_ok P (L, lp, lh, (A' 36), (A' 37), y, f) → (∀ t', dd_lv L lv t' → (A' 36) t' = 2 → ¬ (A 37) t' = nI r) → (∀ t', ¬ dd_lv L lv t' → (A' 36) t' = (A 36) t') → (∀ t', (A' 36) t' = (A 36) t' ∨ (A' 36) t' = 0) → post (tw_t F' A')) : wpX_saveRefs post (tw_t F A) (nI r) := by
  have l2 : L ≤ 2 := hl.2.1
  unfold wpX_saveRefs
  refine nm_r (nI_1 r) ⟨12 * (L + 1) + 1, ?_⟩
  refine xc_saveL hlh (by omega) (12 * (L + 1) - (r + 1)) (r + 1) _ F A q Dm (by omega) (by omega) hW hl hok (fun t' h1 h2 h3 e => ?_) K
  rcases hok.2.2.2 t' (dd_lvm hlh h2) (by show ¬ (A 36) t' = 0; rw [h3]; decide) with k1 | ⟨_, r', r1, r2, _⟩
  · have k1' : (A 36) t' = 1 := k1
    rw [k1'] at h3; exact absurd h3 (by decide)
  · have := tw_ni r2 e rfl (by omega) (by omega)
    omega
/-- slot t gets the value of kind k at v: the certificate's descriptor holds it already as a constant or a copy -/
theorem xc_place {post : SX → Prop} {F : Nat → Int32} {A : Nat → Nat → Int32} {q t : Nat} {Dm : Nat → dd_D} {k v : Int32} (ht : t < 36)
    (hk : k = 1 ∨ ((k = 0 ∨ k = 2) ∧ ∃ r, r < 36 ∧ v = nI r))
    (hW : cc_W P Z U c cn q sn fn qh qt Dm (L, lp, lh, upd (A 36) t (if k = 1 then 1 else 2), upd (A 37) t v, y, f) 1 F A)
    (h0 : k = 0 → ∃ r, r < 36 ∧ v = nI r ∧ t < r)
    (hL : L ≤ 2) (hh : ∀ l, l ≤ L → lh l ≤ 8 ∧ lp l < pp_nc P) (hh7 : ∀ l, l < L → lh l ≤ 7)
    (hd : ∀ t', dd_lv L lh t' → t' ≠ t → ¬ (A 36) t' = 0 → (A 36) t' = 1 ∨ ((A 36) t' = 2 ∧ ∃ r, r < t' ∧ (A 37) t' = nI r ∧ r ≠ t ∧ (dd_lv L lh r → (A 36) r = 0)))
    (hd2 : k = 2 → ∀ r, r < 36 → v = nI r → dd_lv L lh r → r ≠ t → (A 36) r = 0)
    (K : ∀ (F' : Nat → Int32) (A' : Nat → Nat → Int32) (q' : Nat) (Dm' : Nat → dd_D), cc_W P Z U c cn q' sn fn qh qt Dm' (L, lp, lh, (A' 36), (A' 37), y, f) 1 F' A' → (∀ j, j ≠ 25 → j ≠ 32 → F' j = F j) → (∀ j, ¬ (18 ≤ j ∧ j ≤ 23) → j ≠ 36 → j ≠ 37 → A' j = A j) → ((F' 32) = 0 → (F 32) = 0) → dd_ok P (L, lp, lh, (A' 36), (A' 37), y, f) → post (tw_t F' A')) : wpX_place post (tw_t F A) (nI t) k v := by
  have v36 : vp_in (nI t) 36 := vp_in_nI ht (by omega)
  have ct : (nI t).toNatClampNeg = t := nI_clamp (by omega)
  -- kept as a constant or a copy
  have keep : (k = 1 ∨ (k = 2 ∧ ∃ r, r < t ∧ v = nI r)) → wX_place_15 post (nI t) k v (F 0) (F 1) (F 2) (F 3) (F 4) (F 5) (F 6) (F 7) (F 8) (F 9) (F 10) (F 11) (F 12) (F 13) (F 14) (F 15) (F 16) (F 17) (F 18) (F 19) (F 20) (F 21) (F 22) (F 23) (F 24) (F 25) (F 26) (F 27) (F 28) (F 29) (F 30) (F 31) (F 32) (A 0) (A 1) (A 2) (A 3) (A 4) (A 5) (A 6) (A 7) (A 8) (A 9) (A 10) (A 11) (A 12) (A 13) (A 14) (A 15) (A 16) (A 17) (A 18) (A 19) (A 20) (A 21) (A 22) (A 23) (A 24) (A 25) (A 26) (A 27) (A 28) (A 29) (A 30) (A 31) (A 32) (A 33) (A 34) (A 35) (A 36) (A 37) (A 38) (A 39) (A 40) (A 41) := by
    intro hk2
    have ek : (if k = 1 then (1 : Int32) else 2) = k := by
      rcases hk2 with e | ⟨e, _⟩
      · rw [if_pos e, e]
      · rw [e]; rfl
    rw [ek] at hW
    unfold wX_place_15
    rw [ct]
    refine And.intro v36 (nm_e (And.intro v36 (nm_e ?_)))
    refine K F (tw_s (tw_s A 36 (upd (A 36) t k)) 37 (upd (A 37) t v)) q Dm (cc_Wf hW (fun _ _ _ _ => rfl) (fun j a b _ => (tw_sn b).trans (tw_sn a))) (fun _ _ _ => rfl) (fun j _ a b => (tw_sn b).trans (tw_sn a)) (fun h => h) ⟨hL, hh, hh7, fun t' g1 g2 => ?_⟩
    have g2' : ¬ upd (A 36) t k t' = 0 := g2
    show upd (A 36) t k t' = 1 ∨ (upd (A 36) t k t' = 2 ∧ ∃ r, r < t' ∧ upd (A 37) t v t' = nI r ∧ (dd_lv L lh r → upd (A 36) t k r = 0))
    by_cases e : t' = t
    · subst e
      rw [pk_us, pk_us]
      rcases hk2 with z | ⟨z, r, r1, r2⟩
      · exact Or.inl z
      · refine Or.inr ⟨z, r, r1, r2, fun hr => ?_⟩
        rw [pk_un (by omega)]
        exact hd2 z r (by omega) r2 hr (by omega)
    · rw [pk_un e] at g2' ⊢
      rw [pk_un e]
      rcases hd t' g1 e g2' with z | ⟨z, r, r1, r2, r3, r4⟩
      · exact Or.inl z
      · exact Or.inr ⟨z, r, r1, r2, fun hr => by rw [pk_un r3]; exact r4 hr⟩
  have okh : dd_ok P (L, lp, lh, upd (A 36) t 0, (A 37), y, f) := by
    refine ⟨hL, hh, hh7, fun t' g1 g2 => ?_⟩
    have g2' : ¬ upd (A 36) t 0 t' = 0 := g2
    show upd (A 36) t 0 t' = 1 ∨ (upd (A 36) t 0 t' = 2 ∧ ∃ r, r < t' ∧ (A 37) t' = nI r ∧ (dd_lv L lh r → upd (A 36) t 0 r = 0))
    by_cases e : t' = t
    · rw [tw_ue e] at g2'; exact absurd rfl g2'
    · rw [pk_un e] at g2' ⊢
      rcases hd t' g1 e g2' with z | ⟨z, r, r1, r2, r3, r4⟩
      · exact Or.inl z
      · exact Or.inr ⟨z, r, r1, r2, fun hr => by rw [pk_un r3]; exact r4 hr⟩
  -- moved into its home
  have move : (k = 0 ∨ k = 2) → (∃ r, r < 36 ∧ v = nI r ∧ t ≤ r) → wX_place_30 post (nI t) v (F 0) (F 1) (F 2) (F 3) (F 4) (F 5) (F 6) (F 7) (F 8) (F 9) (F 10) (F 11) (F 12) (F 13) (F 14) (F 15) (F 16) (F 17) (F 18) (F 19) (F 20) (F 21) (F 22) (F 23) (F 24) (F 25) (F 26) (F 27) (F 28) (F 29) (F 30) (F 31) (F 32) (A 0) (A 1) (A 2) (A 3) (A 4) (A 5) (A 6) (A 7) (A 8) (A 9) (A 10) (A 11) (A 12) (A 13) (A 14) (A 15) (A 16) (A 17) (A 18) (A 19) (A 20) (A 21) (A 22) (A 23) (A 24) (A 25) (A 26) (A 27) (A 28) (A 29) (A 30) (A 31) (A 32) (A 33) (A 34) (A 35) (A 36) (A 37) (A 38) (A 39) (A 40) (A 41) := by
    intro hk2 ⟨r, r1, r2, r3⟩
    have ek : (if k = 1 then (1 : Int32) else 2) = 2 := by
      rcases hk2 with e | e <;> rw [e] <;> rfl
    rw [ek] at hW
    unfold wX_place_30
    rw [r2]
    refine pk_eq r t (fun z => And.intro v36 ?_) (fun z => ?_) (ha := by omega) (hb := by omega)
    · rw [ct]
      refine nm_e (K F (tw_s A 36 (upd (A 36) t 0)) q Dm ?_ (fun _ _ _ => rfl) (fun j _ a b => tw_sn a) (fun h => h) okh)
      refine cc_Wf (cc_Ws hW ⟨Nat.le_refl _, fun x m _ H => ⟨m, mm_Ss0, cc_Mc H rfl (fun _ _ => rfl) (fun _ _ => rfl) rfl (fun l o hl ho => ?_)⟩⟩) (fun _ _ _ _ => rfl) (fun j a _ _ => tw_sn a)
      show dd_e (upd (A 36) t 0) (A 37) (mm_s x) (12 * (mm_d x - 1)) (12 * l + o) = dd_e (upd (A 36) t 2) (upd (A 37) t v) (mm_s x) (12 * (mm_d x - 1)) (12 * l + o)
      by_cases e : 12 * l + o = t
      · rw [e, dd_e0 (tw_ue rfl), dd_e2 (r := t) (tw_ue rfl) (by rw [pk_us, r2, z]) (by omega)]
      · exact dd_ec (by rw [pk_un e, pk_un e]) (fun _ => (pk_un e).symm)
    · refine xc_emit (F := F) (A := A) (D' := (L, lp, lh, upd (A 36) t 0, (A 37), y, f)) (Nat.le_refl 1) hW (fun hf => ?_) (fun F' A' q' Dm' hW' h1 h2 h3 => ?_)
      · refine ⟨fun _ => ⟨r, r1, rfl⟩, fun _ => ⟨0, by omega, rfl⟩, Or.inl ⟨rfl, Nat.le_refl _, t, ht, rfl, fun x m q hm qx => ⟨m, mm_Ss0, ?_⟩⟩⟩
        have w : cc_oa 0 (nI r) x = dd_e (upd (A 36) t 2) (upd (A 37) t v) (mm_s x) (12 * (mm_d x - 1)) t := by
          unfold cc_oa
          rw [if_pos (by decide), nI_clamp (by omega), dd_e2 (r := r) (tw_ue rfl) (by rw [pk_us, r2]) (by omega)]
        have mv := cc_move (y := y) hm w (fun t' g1 g2 g3 g4 => ?_) (fun l hl => (hh l hl).1)
        · refine cc_Mc mv rfl (fun _ _ => rfl) (fun _ _ => rfl) rfl (fun l o hl ho => ?_)
          show dd_e (upd (A 36) t 0) (A 37) _ _ (12 * l + o) = dd_e (upd (upd (A 36) t 2) t 0) (upd (A 37) t v) _ _ (12 * l + o)
          by_cases e : 12 * l + o = t
          · rw [e, dd_e0 (tw_ue rfl), dd_e0 (tw_ue rfl)]
          · exact dd_ec (by rw [pk_un e, pk_un e, pk_un e]) (fun _ => (pk_un e).symm)
        · have g3' : ¬ upd (A 36) t 2 t' = 0 := g3
          have g4' : ¬ upd (A 36) t 2 t' = 1 := g4
          rw [pk_un g2] at g3' g4'
          show (upd (A 37) t v t').toNatClampNeg ≠ t
          rw [pk_un g2]
          rcases hd t' g1 g2 g3' with z2 | ⟨z2, r', y1, y2, y3, y4⟩
          · exact absurd z2 g4'
          · have := dd_lv36 hL g1
            rw [y2, nI_clamp (by omega)]; exact y3
      · show vp_in (nI t) 36 ∧ _
        refine And.intro v36 ?_
        rw [ct]
        refine nm_e ?_
        have ek2 : A' 36 = (A 36) := h2 _ (by decide)
        have ev2 : A' 37 = (A 37) := h2 _ (by decide)
        refine K F' (tw_s A' 36 (upd (A' 36) t 0)) q' Dm' ?_ h1 (fun j a b c => (tw_sn b).trans (h2 j a)) h3 ?_
        · show cc_W P Z U c cn q' sn fn qh qt Dm' (L, lp, lh, upd (A' 36) t 0, (A' 37), y, f) 1 F' (tw_s A' 36 (upd (A' 36) t 0))
          rw [ek2, ev2]
          exact cc_We (cc_Wf hW' (fun _ _ _ _ => rfl) (fun j a _ _ => tw_sn a))
        · show dd_ok P (L, lp, lh, upd (A' 36) t 0, (A' 37), y, f)
          rw [ek2, ev2]; exact okh
  unfold wpX_place
  refine br_c (fun z => keep (Or.inl z)) (fun z => ?_)
  rcases hk with z1 | ⟨hk2, r, r1, r2⟩
  · exact absurd z1 z
  refine br_c (fun z2 => ?_) (fun z2 => ?_)
  · refine pk_le t r (fun z3 => move hk2 ⟨r, r1, r2, z3⟩) (fun z3 => keep (Or.inr ⟨z2, r, z3, r2⟩)) (hy := r2) (ha := by omega) (hb := by omega)
  · have k0 : k = 0 := by
      rcases hk2 with e | e
      · exact e
      · exact absurd e z2
    obtain ⟨r', y1, y2, y3⟩ := h0 k0
    exact move (Or.inl k0) ⟨r', y1, y2, by omega⟩
end
end
section
/-! the compiler: leaving, labels, jumps -/
section
variable {P : pp_P} {Z : (Nat → Int32) × (Nat → Nat → Int32)} {U c cn q sn fn qh qt e L y : Nat} {Dm : Nat → dd_D} {D : dd_D} {F : Nat → Int32} {A : Nat → Nat → Int32} {lp lv : Nat → Nat}
theorem xc_exitAt {post : SX → Prop} {pc : Nat} (he : e ≤ 1) (hW : cc_W P Z U c cn q sn fn qh qt Dm (L, lp, lv, (A 36), (A 37), y, 0) e F A) (hl : cc_lv L lv F A) (hcr : cc_CR A U L c lp lv) (hpc : lp L = pc) (hok : dd_ok P (L, lp, lv, (A 36), (A 37), y, 0))
    (K : ∀ (F' : Nat → Int32) (A' : Nat → Nat → Int32) (q' sn' fn' : Nat) (Dm' : Nat → dd_D), (∀ D', cc_W P Z U c cn q' sn' fn' qh qt Dm' D' 0 F' A') → (F' 31) = 1 → (∀ j, j ≠ 25 → j ≠ 26 → j ≠ 27 → j ≠ 32 → j ≠ 31 → F' j = F j) → (∀ j, ¬ (18 ≤ j ∧ j ≤ 31) → A' j = A j) → ((F' 32) = 0 → (F 32) = 0) → post (tw_t F' A')) : wpX_exitAt post (tw_t F A) (nI pc) := by
  unfold wpX_exitAt
  refine xc_guardS (F := F) (A := A) (fun _ => True) he hW hl hcr hpc hok (fun hf SR TJ s hs D' _ => ?_) (fun F' A' q' sn' fn' Dm' hW' h1 h2 h3 => ?_)
  · refine ⟨fun z => absurd z (by decide), fun z => absurd z (by decide), Or.inr (Or.inr (Or.inr (Or.inr (Or.inr (Or.inr (Or.inr (Or.inr (Or.inr (Or.inl ⟨rfl, fun x m _ hm => ⟨m, _, mm_Ss0, hm, rfl, hs⟩⟩)))))))))⟩
  · exact K (tw_s F' 31 1) A' q' sn' fn' Dm' (fun D' => cc_Wf (hW' D' trivial) (fun j _ _ a => tw_sn a) (fun _ _ _ _ => rfl)) rfl (fun j a b c d g => (tw_sn g).trans (h1 j a b c d)) h2 h3
theorem xc_claimS {post : Int32 → SX → Prop} {p : Nat} (S : dd_D → Prop) (hS : S D) (hWS : ∀ D', S D' → cc_W P Z U c cn q sn fn qh qt Dm D' e F A) (hl : cc_lv L lv F A) (hp : p < pp_nc P)
    (K1 : ∀ (F' : Nat → Int32) (A' : Nat → Nat → Int32) (qt' : Nat), (∀ D', S D' → cc_W P Z U c cn q sn fn qh qt' Dm D' e F' A') → (∀ j, j ≠ 30 → F' j = F j) → (∀ j, j ≠ 40 → j ≠ 41 → A' j = A j) → (A' 40) (64 * c + p) = nI (lv L) → post 1 (tw_t F' A'))
    (K0 : post 0 (tw_t F A)) : wpX_claim post (tw_t F A) (nI p) := by
  have hW' := hWS D hS
  obtain ⟨w0, w1, w2, w3, w4, _, w6⟩ := hW'
  have w2' := w2
  obtain ⟨b1, b2, b3, b4, b5, b6, b7⟩ := w2'
  have w4' := w4
  obtain ⟨d1, d2, d3, d4, d5, d6⟩ := w4'
  obtain ⟨l1, l2, l3⟩ := hl
  have nc := w0.1
  have k512 : 64 * c + p < 512 := by omega
  have vk : vp_in (nI (64 * c + p)) 512 := vp_in_nI k512 (by omega)
  have vl : vp_in (F 23) 3 := tw_in l1 (by omega) (by omega)
  have eh : (A 38) ((F 23)).toNatClampNeg = nI (lv L) := by rw [l1, nI_clamp (by omega)]; exact (l3 L (Nat.le_refl _)).1
  have hv := (l3 L (Nat.le_refl _)).2
  unfold wpX_claim
  refine xc_key (F := F) (A := A) b2 b3 (And.intro vk ?_)
  rw [nI_clamp (by omega), eh]
  rcases d4 _ k512 with z | ⟨h, h8, z, _, _⟩
  · have un := cc_unu z (tw_nm1 (n := lv L) (by omega)) 512 k512
    refine br_t (by rw [z]; decide) (And.intro vl (And.intro vk (nm_e ?_)))
    refine And.intro (tw_in d2 (by omega) (by omega)) (nm_r (e' := upd (A 41) qt (nI (64 * c + p))) (by rw [tw_cl d2 (by omega)]) (nm_r (e' := nI (qt + 1)) (by rw [d2, nI_1]) ?_))
    have hf : ∀ j, j ≠ 40 → j ≠ 41 → tw_s (tw_s A 40 (upd (A 40) (64 * c + p) (nI (lv L)))) 41 (upd (A 41) qt (nI (64 * c + p))) j = A j := fun j a b => (tw_sn b).trans (tw_sn a)
    refine K1 (tw_s F 30 (nI (qt + 1))) (tw_s (tw_s A 40 (upd (A 40) (64 * c + p) (nI (lv L)))) 41 (upd (A 41) qt (nI (64 * c + p)))) (qt + 1) (fun D' hD' => ⟨w0, w1, ?_, w3, ⟨d1, rfl, by omega, ?_, ?_, ?_⟩, fun hf => ?_, ?_⟩) (fun j a => tw_sn a) hf pk_us
    · refine ⟨b1, b2, b3, b4, b5, b6, fun c' hc' => ?_⟩
      obtain ⟨L', lp', lh', x1, x2⟩ := b7 c' hc'
      exact ⟨L', lp', lh', cc_CRm (fun j a b i _ => congrFun (hf j (by omega) (by omega)) i) _ _ _ _ hc' x1, x2⟩
    · intro k hk
      show upd (A 40) (64 * c + p) (nI (lv L)) k = -1 ∨ ∃ h, h ≤ 8 ∧ upd (A 40) (64 * c + p) (nI (lv L)) k = nI h ∧ _
      by_cases z2 : k = 64 * c + p
      · rw [tw_ue z2]
        exact Or.inr ⟨lv L, hv, rfl, by omega, by omega⟩
      · rw [pk_un z2]; exact d4 k hk
    · show qt + 1 + cc_un (upd (A 40) (64 * c + p) (nI (lv L))) 512 ≤ 512
      omega
    · intro j j1 j2
      show ∃ k, k < 512 ∧ upd (A 41) qt (nI (64 * c + p)) j = nI k ∧ ¬ upd (A 40) (64 * c + p) (nI (lv L)) k = -1
      by_cases z2 : j = qt
      · rw [tw_ue z2]
        exact ⟨_, k512, rfl, by rw [pk_us]; exact tw_nm1 (by omega)⟩
      · rw [pk_un z2]
        obtain ⟨k, y1, y2, y3⟩ := d6 j j1 (by omega)
        refine ⟨k, y1, y2, ?_⟩
        by_cases z3 : k = 64 * c + p
        · rw [tw_ue z3]; exact tw_nm1 (by omega)
        · rw [pk_un z3]; exact y3
    · exact cc_Hclaim k512 ((hWS D' hD').2.2.2.2.2.1 hf) z rfl rfl d3 (fun j a b => (tw_sn b).trans (tw_sn a))
    · obtain ⟨z1, z2, z3, z4, z5, z6, z7⟩ := w6
      exact ⟨fun j hj => (tw_sn (by omega)).trans (z1 j hj), fun j hj h14 => (hf j (by omega) (by omega)).trans (z2 j hj h14), fun V hV => z3 V hV, fun j j1 j2 i hi => (congrFun (hf j (by omega) (by omega)) i).trans (z4 j j1 j2 i hi), fun j j1 j2 i hi => (congrFun (hf j (by omega) (by omega)) i).trans (z5 j j1 j2 i hi), fun j j1 j2 i hi => (congrFun (hf j (by omega) (by omega)) i).trans (z6 j j1 j2 i hi), fun j j1 j2 i hi => (congrFun (hf j (by omega) (by omega)) i).trans (z7 j j1 j2 i hi)⟩
  · refine br_f (by rw [z]; exact nI_pos (by omega)) (And.intro vk (And.intro vl ?_))
    rw [z]
    refine pk_eq h (lv L) (fun y1 => ?_) (fun _ => K0) (ha := by omega) (hb := by omega)
    exact K1 F A qt hWS (fun _ _ => rfl) (fun _ _ _ => rfl) (by rw [z, y1])
theorem xc_claim {post : Int32 → SX → Prop} {p : Nat} (hW : cc_W P Z U c cn q sn fn qh qt Dm D e F A) (hl : cc_lv L lv F A) (hp : p < pp_nc P)
    (K1 : ∀ (F' : Nat → Int32) (A' : Nat → Nat → Int32) (qt' : Nat), cc_W P Z U c cn q sn fn qh qt' Dm D e F' A' → (∀ j, j ≠ 30 → F' j = F j) → (∀ j, j ≠ 40 → j ≠ 41 → A' j = A j) → (A' 40) (64 * c + p) = nI (lv L) → post 1 (tw_t F' A'))
    (K0 : post 0 (tw_t F A)) : wpX_claim post (tw_t F A) (nI p) :=
  xc_claimS (fun z => z = D) rfl (fun D' e' => by rw [e']; exact hW) hl hp (fun F' A' qt' h => K1 F' A' qt' (h D rfl)) K0
/-- a jump to pc, everything at home -/
theorem xc_jumpTo {post : SX → Prop} {pc : Nat} (he : e ≤ 1) (hW : cc_W P Z U c cn q sn fn qh qt Dm (L, lp, lv, (A 36), (A 37), y, 0) e F A) (hl : cc_lv L lv F A) (hcr : cc_CR A U L c lp lv) (hpc : lp L = pc) (hok : dd_ok P (L, lp, lv, (A 36), (A 37), y, 0)) (hy : y ≤ 2 * pc) (hz : ∀ t, dd_lv L lv t → (A 36) t = 0)
    (K : ∀ (F' : Nat → Int32) (A' : Nat → Nat → Int32) (q' sn' fn' qt' : Nat) (Dm' : Nat → dd_D), (∀ D', cc_W P Z U c cn q' sn' fn' qh qt' Dm' D' 0 F' A') → (F' 31) = 1 → (∀ j, j ≠ 25 → j ≠ 26 → j ≠ 27 → j ≠ 32 → j ≠ 31 → j ≠ 30 → F' j = F j) → (∀ j, ¬ (18 ≤ j ∧ j ≤ 31) → j ≠ 40 → j ≠ 41 → A' j = A j) → ((F' 32) = 0 → (F 32) = 0) → post (tw_t F' A')) : wpX_jumpTo post (tw_t F A) (nI pc) := by
  have b2 := hW.2.2.1.2.1
  have b3 := hW.2.2.1.2.2.1
  have b4 := hW.2.2.1.2.2.2.1
  have b5 := hW.2.2.1.2.2.2.2.1
  have nc := hW.1.1
  have hp : pc < pp_nc P := by rw [← hpc]; exact (hok.2.1 L (Nat.le_refl _)).2
  unfold wpX_jumpTo
  refine xc_key (F := F) (A := A) b2 b3 ?_
  refine xc_claim (F := F) (A := A) hW hl hp (fun F' A' qt' hW' h1 h2 h3 => ?_) ?_
  · refine br_f (by decide) ?_
    have ek : A' 36 = (A 36) := h2 _ (by decide) (by decide)
    have ev : A' 37 = (A 37) := h2 _ (by decide) (by decide)
    refine xc_emitS (F := F') (A := A') (fun _ => True) he hW' (fun hf D' _ => ?_) (fun F2 A2 q' Dm' hW2 g1 g2 g3 => ?_)
    · refine ⟨fun z => absurd z (by decide), fun z => absurd z (by decide), Or.inr (Or.inr (Or.inr (Or.inr (Or.inr (Or.inl ⟨rfl, (L, lp, lv, fun _ => 0, fun _ => 0, 2 * pc + 1, 0), ⟨64 * c + pc, by omega, rfl, c, b4, by show _ = 64 * c + lp L; rw [hpc], by show lp L < 64; omega, ?_, ?_, ?_, fun _ => rfl, by show _ = 2 * lp L + 1; rw [hpc], rfl⟩, by show y < 2 * pc + 1; omega, fun x m _ hm => ⟨m, mm_Ss0, ?_⟩⟩)))))⟩
      · exact h3
      · exact (hl.2.2 L (Nat.le_refl _)).2
      · exact cc_CRm (fun j a b i _ => congrFun (h2 j (by omega) (by omega)) i) _ _ _ _ b4 hcr
      · refine cc_Mc hm rfl (fun _ _ => rfl) (fun _ _ => rfl) rfl (fun l o hl2 ho => ?_)
        have h8 : lv l ≤ 8 := (hl.2.2 l hl2).2
        have ho' : o < 4 + lv l := ho
        have hk0 : (A 36) (12 * l + o) = 0 := hz _ ⟨l, o, rfl, hl2, by omega, ho'⟩
        exact dd_ec hk0.symm (fun z => absurd hk0 z)
    · exact K (tw_s F2 31 1) A2 q' sn fn qt' Dm' (fun D' => cc_Wf (hW2 D' trivial) (fun j _ _ a => tw_sn a) (fun _ _ _ _ => rfl)) rfl (fun j a _ _ b g d => ((tw_sn g).trans (g1 j a b)).trans (h1 j d)) (fun j a b d => (g2 j (by omega)).trans (h2 j b d)) (fun hf => by have := g3 hf; rw [h1 _ (by decide)] at this; exact this)
  · refine br_t rfl ?_
    refine xc_exitAt (F := F) (A := A) he hW hl hcr hpc hok (fun F' A' q' sn' fn' Dm' hW' h0 h1 h2 h3 => ?_)
    exact K (tw_s F' 31 1) A' q' sn' fn' qt Dm' (fun D' => cc_Wf (hW' D') (fun j _ _ a => tw_sn a) (fun _ _ _ _ => rfl)) rfl (fun j a b c d g _ => (tw_sn g).trans (h1 j a b c d g)) (fun j a _ _ => h2 j a) h3
end
end
section
/-! cells against the certificate: nothing emitted (cs_), one instruction (ci_) -/
abbrev dd_t0 (D : dd_D) : Nat := 12 * dd_L D + 4 + dd_h D (dd_L D)
abbrev dd_pu (D : dd_D) (k v : Int32) (y : Nat) : dd_D := (dd_L D, tw_s (dd_p D) (dd_L D) (dd_p D (dd_L D) + 1), tw_s (dd_h D) (dd_L D) (dd_h D (dd_L D) + 1), upd (dd_k D) (dd_t0 D) k, upd (dd_v D) (dd_t0 D) v, y, 0)
abbrev dd_po (D : dd_D) (q : Nat) (kd vl : Nat → Int32) (y : Nat) : dd_D := (dd_L D, tw_s (dd_p D) (dd_L D) q, tw_s (dd_h D) (dd_L D) (dd_h D (dd_L D) - 1), kd, vl, y, 0)
section
variable {P : pp_P} {Q : (Nat → Int32) → Prop} {SR TJ : Int32 → dd_D → Prop} {D Dn : dd_D} {y : Nat}
/-- liveness after a push -/
theorem dd_lvp {t : Nat} (h : dd_lv (dd_L D) (tw_s (dd_h D) (dd_L D) (dd_h D (dd_L D) + 1)) t) (ht : t ≠ dd_t0 D) : dd_lv (dd_L D) (dd_h D) t := by
  obtain ⟨l, o, e, a, b, d⟩ := h
  refine ⟨l, o, e, a, b, ?_⟩
  by_cases z : l = dd_L D
  · subst z; rw [tw_ss] at d
    have ht' : t ≠ 12 * dd_L D + 4 + dd_h D (dd_L D) := ht
    omega
  · rw [tw_sn z] at d; exact d
theorem dd_lvq {t : Nat} (h : dd_lv (dd_L D) (tw_s (dd_h D) (dd_L D) (dd_h D (dd_L D) - 1)) t) : dd_lv (dd_L D) (dd_h D) t := by
  refine dd_lvm (fun l hl => ?_) h
  by_cases z : l = dd_L D
  · subst z; rw [tw_ss]; omega
  · rw [tw_sn z]; exact Nat.le_refl _
/-- live slots lie below the next one of the innermost level -/
theorem dd_lvt (hL : dd_L D ≤ 2) (hh : ∀ l, l ≤ dd_L D → dd_h D l ≤ 8) {t : Nat} (h : dd_lv (dd_L D) (dd_h D) t) : t < dd_t0 D := by
  obtain ⟨l, o, e, a, b, d⟩ := h
  show t < 12 * dd_L D + 4 + dd_h D (dd_L D)
  by_cases z : l = dd_L D
  · subst z; omega
  · omega
theorem dd_okp {k v : Int32} (hok : dd_ok P D) (h8 : dd_h D (dd_L D) < 8) (hp : dd_p D (dd_L D) + 1 < pp_nc P)
    (hk : k = 0 ∨ k = 1 ∨ (k = 2 ∧ ∃ r, r < dd_t0 D ∧ v = nI r ∧ (dd_lv (dd_L D) (dd_h D) r → dd_k D r = 0))) : dd_ok P (dd_pu D k v y) := by
  obtain ⟨a, b, c, d⟩ := hok
  refine ⟨a, fun l hl => ?_, fun l hl => ?_, fun t h1 h2 => ?_⟩
  · have hl' : l ≤ dd_L D := hl
    show tw_s (dd_h D) (dd_L D) (dd_h D (dd_L D) + 1) l ≤ 8 ∧ tw_s (dd_p D) (dd_L D) (dd_p D (dd_L D) + 1) l < pp_nc P
    by_cases z : l = dd_L D
    · rw [tw_se z, tw_se z]; exact ⟨by omega, hp⟩
    · rw [tw_sn z, tw_sn z]; exact b l hl'
  · have hl' : l < dd_L D := hl
    show tw_s (dd_h D) (dd_L D) (dd_h D (dd_L D) + 1) l ≤ 7
    rw [tw_sn (by omega)]; exact c l hl'
  · have h2' : ¬ upd (dd_k D) (dd_t0 D) k t = 0 := h2
    show upd (dd_k D) (dd_t0 D) k t = 1 ∨ (upd (dd_k D) (dd_t0 D) k t = 2 ∧ ∃ r, r < t ∧ upd (dd_v D) (dd_t0 D) v t = nI r ∧ (dd_lv (dd_L D) (tw_s (dd_h D) (dd_L D) (dd_h D (dd_L D) + 1)) r → upd (dd_k D) (dd_t0 D) k r = 0))
    by_cases z : t = dd_t0 D
    · subst z
      rw [pk_us] at h2' ⊢
      rw [pk_us]
      rcases hk with z | z | ⟨z, r, r1, r2, r3⟩
      · exact absurd z h2'
      · exact Or.inl z
      · refine Or.inr ⟨z, r, r1, r2, fun hr => ?_⟩
        rw [pk_un (by omega)]
        exact r3 (dd_lvp hr (by omega))
    · rw [pk_un z] at h2' ⊢
      rw [pk_un z]
      have ht := dd_lvp h1 z
      rcases d t ht h2' with e | ⟨e, r, r1, r2, r3⟩
      · exact Or.inl e
      · have := dd_lvt a (fun l hl => (b l hl).1) ht
        refine Or.inr ⟨e, r, r1, r2, fun hr => ?_⟩
        rw [pk_un (by omega)]
        exact r3 (dd_lvp hr (by omega))
theorem dd_okq {q : Nat} (hok : dd_ok P D) (hp : q < pp_nc P) : dd_ok P (dd_po D q (dd_k D) (dd_v D) y) := by
  obtain ⟨a, b, c, d⟩ := hok
  refine ⟨a, fun l hl => ?_, fun l hl => ?_, fun t h1 h2 => ?_⟩
  · have hl' : l ≤ dd_L D := hl
    show tw_s (dd_h D) (dd_L D) (dd_h D (dd_L D) - 1) l ≤ 8 ∧ tw_s (dd_p D) (dd_L D) q l < pp_nc P
    by_cases z : l = dd_L D
    · rw [tw_se z, tw_se z]
      have := (b _ (Nat.le_refl (dd_L D))).1
      exact ⟨by omega, hp⟩
    · rw [tw_sn z, tw_sn z]; exact b l hl'
  · have hl' : l < dd_L D := hl
    show tw_s (dd_h D) (dd_L D) (dd_h D (dd_L D) - 1) l ≤ 7
    rw [tw_sn (by omega)]; exact c l hl'
  · rcases d t (dd_lvq h1) h2 with e | ⟨e, r, r1, r2, r3⟩
    · exact Or.inl e
    · exact Or.inr ⟨e, r, r1, r2, fun hr => r3 (dd_lvq hr)⟩
theorem dd_hh (hok : dd_ok P D) : ∀ l, l ≤ dd_L D → dd_h D l ≤ 8 := fun l hl => (hok.2.1 l hl).1
theorem cs_const (hok : dd_ok P D) (hf : dd_f D = 0) (o : pp_op P (dd_p D (dd_L D)) = 0) (h8 : dd_h D (dd_L D) < 8) (hy : dd_y D ≤ y) : cc_S P Q D (dd_pu D 1 (pp_ar P (dd_p D (dd_L D))) y) := by
  refine ⟨hy, fun x m q H => ⟨_, mm_Ss1 (m' := mm_push m (pp_ar P (dd_p D (dd_L D)))) ?_, cc_push H hf (dd_hh hok) h8 (by rw [dd_e1 pk_us, pk_us])⟩⟩
  obtain ⟨ed, epc, eht⟩ := cc_pc H
  exact ⟨H.2.2.2.2.2.2.2.2.1, Or.inl ⟨by rw [epc]; exact o, by rw [eht]; exact h8, by rw [epc]⟩⟩
theorem cs_load {a : Nat} (hok : dd_ok P D) (hf : dd_f D = 0) (o : pp_op P (dd_p D (dd_L D)) = 1) (ha : pp_an P (dd_p D (dd_L D)) = a) (ha4 : a < 4) (h8 : dd_h D (dd_L D) < 8) (hy : dd_y D ≤ y) {k v : Int32}
    (hk : (dd_k D (12 * dd_L D + a) = 0 ∧ k = 2 ∧ v = nI (12 * dd_L D + a)) ∨ (¬ dd_k D (12 * dd_L D + a) = 0 ∧ k = dd_k D (12 * dd_L D + a) ∧ v = dd_v D (12 * dd_L D + a))) : cc_S P Q D (dd_pu D k v y) := by
  have hL := hok.1
  refine ⟨hy, fun x m q H => ⟨_, mm_Ss1 (m' := mm_push m (mm_s m (12 * (mm_d m - 1) + a))) ?_, cc_push H hf (dd_hh hok) h8 ?_⟩⟩
  · obtain ⟨ed, epc, eht⟩ := cc_pc H
    exact ⟨H.2.2.2.2.2.2.2.2.1, Or.inr (Or.inl ⟨by rw [epc]; exact o, by rw [eht]; exact h8, by rw [epc, ha]⟩)⟩
  · obtain ⟨ed, epc, eht⟩ := cc_pc H
    rw [ed, H.2.2.2.1 (dd_L D) a (Nat.le_refl _) (by omega)]
    rcases hk with ⟨k1, k2, k3⟩ | ⟨k1, k2, k3⟩
    · rw [dd_e0 k1, dd_e2 (r := 12 * dd_L D + a) (by rw [pk_us]; exact k2) (by rw [pk_us]; exact k3) (by omega)]
    · unfold dd_e
      rw [pk_us, pk_us, if_neg k1, if_neg (by rw [k2]; exact k1), k2, k3]
theorem cs_gload {g : Nat} {v : Int32} (hok : dd_ok P D) (hf : dd_f D = 0) (o : pp_op P (dd_p D (dd_L D)) = 3) (ha : pp_an P (dd_p D (dd_L D)) = g) (h8 : dd_h D (dd_L D) < 8) (hy : dd_y D ≤ y)
    (hv : ∀ gl, Q gl → gl g = v) : cc_S P Q D (dd_pu D 1 v y) := by
  refine ⟨hy, fun x m q H => ⟨_, mm_Ss1 (m' := mm_push m v) ?_, cc_push H hf (dd_hh hok) h8 (by rw [dd_e1 pk_us, pk_us])⟩⟩
  obtain ⟨ed, epc, eht⟩ := cc_pc H
  refine ⟨H.2.2.2.2.2.2.2.2.1, Or.inr (Or.inr (Or.inl ⟨by rw [epc]; exact o, by rw [eht]; exact h8, ?_⟩))⟩
  rw [epc, ha, H.2.2.2.2.2.1, hv _ q]
theorem ci_gload {g : Nat} (hok : dd_ok P D) (hf : dd_f D = 0) (o : pp_op P (dd_p D (dd_L D)) = 3) (ha : pp_an P (dd_p D (dd_L D)) = g) (hg : g < 8) (h8 : dd_h D (dd_L D) < 8) (hy : dd_y D ≤ y) {s v : Int32} :
    cc_I P Q SR TJ D (dd_pu D 0 v y) 3 (nI (dd_t0 D)) 0 (nI g) 3 s := by
  have hL := hok.1
  refine ⟨fun z => absurd z (by decide), fun z => absurd z (by decide), Or.inr (Or.inr (Or.inl ⟨rfl, hy, dd_t0 D, g, ?_, rfl, hg, rfl, rfl, fun x m q H qx => ⟨_, mm_Ss1 (m' := mm_push m (mm_g x g)) ?_, cc_pushW H hf (dd_hh hok) h8 (fun t h1 h2 h3 => ?_)⟩⟩))⟩
  · show 12 * dd_L D + 4 + dd_h D (dd_L D) < 36
    omega
  · obtain ⟨ed, epc, eht⟩ := cc_pc H
    refine ⟨H.2.2.2.2.2.2.2.2.1, Or.inr (Or.inr (Or.inl ⟨by rw [epc]; exact o, by rw [eht]; exact h8, ?_⟩))⟩
    rw [epc, ha, H.2.2.2.2.2.1]
  · have ht := dd_lvt hok.1 (dd_hh hok) h1
    have h36 := dd_lv36 hok.1 h1
    rcases hok.2.2.2 t h1 h2 with e | ⟨e, r, r1, r2, r3⟩
    · exact absurd e h3
    · have ht' : t < 12 * dd_L D + 4 + dd_h D (dd_L D) := ht
      rw [r2, nI_clamp (by omega)]
      omega
/-- the local takes the top's place: k = 1 a constant, k = 2 a copy -/
theorem cs_store {a : Nat} {k v : Int32} (hok : dd_ok P D) (hf : dd_f D = 0) (o : pp_op P (dd_p D (dd_L D)) = 2) (ha : pp_an P (dd_p D (dd_L D)) = a) (ha4 : a < 4) (h0 : 0 < dd_h D (dd_L D)) (hy : dd_y D ≤ y)
    (hk : (dd_k D (12 * dd_L D + 3 + dd_h D (dd_L D)) = 1 ∧ k = 1 ∧ v = dd_v D (12 * dd_L D + 3 + dd_h D (dd_L D))) ∨ (k = 2 ∧ ∃ r, r < 36 ∧ v = nI r ∧ ((dd_k D (12 * dd_L D + 3 + dd_h D (dd_L D)) = 0 ∧ r = 12 * dd_L D + 3 + dd_h D (dd_L D)) ∨ (dd_k D (12 * dd_L D + 3 + dd_h D (dd_L D)) = 2 ∧ dd_v D (12 * dd_L D + 3 + dd_h D (dd_L D)) = nI r)))) :
    cc_S P Q D (dd_po D (dd_p D (dd_L D) + 1) (upd (dd_k D) (12 * dd_L D + a) k) (upd (dd_v D) (12 * dd_L D + a) v) y) := by
  refine ⟨hy, fun x m q H => ?_⟩
  obtain ⟨ed, epc, eht⟩ := cc_pc H
  refine ⟨_, mm_Ss1 (m' := mm_fr m (mm_pc m + 1) (mm_ht m - 1) (upd (mm_s m) (12 * (mm_d m - 1) + a) (mm_top m)) (mm_g m) (mm_o m) (mm_n m) (mm_f m)) ?_, cc_store H hf (dd_hh hok) h0 ha4 ?_⟩
  · exact ⟨H.2.2.2.2.2.2.2.2.1, Or.inr (Or.inr (Or.inr (Or.inl ⟨by rw [epc]; exact o, by rw [eht]; exact h0, by rw [epc, ha]⟩)))⟩
  · rcases hk with ⟨k1, k2, k3⟩ | ⟨k2, r, r1, r2, k3⟩
    · rw [dd_e1 k1, dd_e1 (by rw [pk_us]; exact k2), pk_us, k3]
    · rw [dd_e2 (r := r) (by rw [pk_us]; exact k2) (by rw [pk_us]; exact r2) (by omega)]
      rcases k3 with ⟨k4, k5⟩ | ⟨k4, k5⟩
      · rw [dd_e0 k4, k5]
      · rw [dd_e2 k4 k5 (by omega)]
/-- the top is a copy of the local it is stored to -/
theorem cs_store0 {a : Nat} (hok : dd_ok P D) (hf : dd_f D = 0) (o : pp_op P (dd_p D (dd_L D)) = 2) (ha : pp_an P (dd_p D (dd_L D)) = a) (ha4 : a < 4) (h0 : 0 < dd_h D (dd_L D)) (hy : dd_y D ≤ y)
    (hk : dd_k D (12 * dd_L D + 3 + dd_h D (dd_L D)) = 2) (hv : dd_v D (12 * dd_L D + 3 + dd_h D (dd_L D)) = nI (12 * dd_L D + a)) :
    cc_S P Q D (dd_po D (dd_p D (dd_L D) + 1) (dd_k D) (dd_v D) y) := by
  have hL := hok.1
  have htop : dd_lv (dd_L D) (dd_h D) (12 * dd_L D + 3 + dd_h D (dd_L D)) := ⟨dd_L D, 3 + dd_h D (dd_L D), by omega, Nat.le_refl _, by have := dd_hh hok _ (Nat.le_refl _); omega, by omega⟩
  have hlo : dd_lv (dd_L D) (dd_h D) (12 * dd_L D + a) := ⟨dd_L D, a, rfl, Nat.le_refl _, by omega, by omega⟩
  have hk0 : dd_k D (12 * dd_L D + a) = 0 := by
    rcases hok.2.2.2 _ htop (by rw [hk]; decide) with e | ⟨_, r, r1, r2, r3⟩
    · rw [hk] at e; exact absurd e (by decide)
    · have h36 := (dd_lv36 hok.1 htop).2
      have er : r = 12 * dd_L D + a := tw_ni r2 hv rfl (by omega) (by omega)
      subst er
      exact r3 hlo
  have s := cs_store (Q := Q) (y := y) hok hf o ha ha4 h0 hy (Or.inr ⟨(rfl : (2 : Int32) = 2), 12 * dd_L D + a, by omega, rfl, Or.inr ⟨hk, hv⟩⟩)
  refine cc_ST s ⟨Nat.le_refl _, fun x m _ H => ⟨m, mm_Ss0, cc_Mc H rfl (fun _ _ => rfl) (fun _ _ => rfl) rfl (fun l o hl ho => ?_)⟩⟩
  show dd_e (dd_k D) (dd_v D) _ _ (12 * l + o) = dd_e (upd (dd_k D) (12 * dd_L D + a) 2) (upd (dd_v D) (12 * dd_L D + a) (nI (12 * dd_L D + a))) _ _ (12 * l + o)
  by_cases e : 12 * l + o = 12 * dd_L D + a
  · rw [e, dd_e0 hk0, dd_e2 (r := 12 * dd_L D + a) pk_us pk_us (by omega)]
  · exact (dd_eu e).symm
/-- the two operands' values -/
theorem cc_ops {x m : mm_S} (hok : dd_ok P D) (H : cc_M D x m) (h2 : 2 ≤ dd_h D (dd_L D)) : mm_top m = dd_e (dd_k D) (dd_v D) (mm_s x) (12 * (mm_d x - 1)) (12 * dd_L D + 3 + dd_h D (dd_L D)) ∧ mm_nxt m = dd_e (dd_k D) (dd_v D) (mm_s x) (12 * (mm_d x - 1)) (12 * dd_L D + 2 + dd_h D (dd_L D)) := by
  obtain ⟨ed, epc, eht⟩ := cc_pc H
  constructor
  · show mm_s m (12 * (mm_d m - 1) + 3 + mm_ht m) = _
    rw [ed, eht, Nat.add_assoc, H.2.2.2.1 _ _ (Nat.le_refl _) (by omega), Nat.add_assoc]
  · show mm_s m (12 * (mm_d m - 1) + 2 + mm_ht m) = _
    rw [ed, eht, Nat.add_assoc, H.2.2.2.1 _ _ (Nat.le_refl _) (by omega), Nat.add_assoc]
theorem cc_top {x m : mm_S} (H : cc_M D x m) (h2 : 0 < dd_h D (dd_L D)) : mm_top m = dd_e (dd_k D) (dd_v D) (mm_s x) (12 * (mm_d x - 1)) (12 * dd_L D + 3 + dd_h D (dd_L D)) := by
  obtain ⟨ed, epc, eht⟩ := cc_pc H
  show mm_s m (12 * (mm_d m - 1) + 3 + mm_ht m) = _
  rw [ed, eht, Nat.add_assoc, H.2.2.2.1 _ _ (Nat.le_refl _) (by omega), Nat.add_assoc]
theorem cs_fold {k : Nat} (hok : dd_ok P D) (hf : dd_f D = 0) (k1 : 5 ≤ k) (k2 : k ≤ 9) (o : pp_op P (dd_p D (dd_L D)) = nI k) (h2 : 2 ≤ dd_h D (dd_L D)) (hy : dd_y D ≤ y)
    (kx : dd_k D (12 * dd_L D + 2 + dd_h D (dd_L D)) = 1) (ky : dd_k D (12 * dd_L D + 3 + dd_h D (dd_L D)) = 1) (hz : nI k = 8 → ¬ dd_v D (12 * dd_L D + 3 + dd_h D (dd_L D)) = 0) :
    cc_S P Q D (dd_po D (dd_p D (dd_L D) + 1) (dd_k D) (upd (dd_v D) (12 * dd_L D + 2 + dd_h D (dd_L D)) (mm_ari (nI k) (dd_v D (12 * dd_L D + 2 + dd_h D (dd_L D))) (dd_v D (12 * dd_L D + 3 + dd_h D (dd_L D))))) y) := by
  refine ⟨hy, fun x m q H => ?_⟩
  obtain ⟨ed, epc, eht⟩ := cc_pc H
  obtain ⟨t1, t2⟩ := cc_ops hok H h2
  rw [dd_e1 ky] at t1
  rw [dd_e1 kx] at t2
  refine ⟨_, mm_Ss1 ⟨H.2.2.2.2.2.2.2.2.1, Or.inr (Or.inr (Or.inr (Or.inr (Or.inr (Or.inr (Or.inl ⟨⟨k, k1, k2, by rw [epc]; exact o⟩, by rw [eht]; exact h2, fun z => ?_, rfl⟩))))))⟩, ?_⟩
  · rw [t1]; exact hz (by rw [epc, o] at z; exact z)
  · have c := cc_fold (op := pp_op P (mm_pc m)) (y := y) (w := mm_ari (nI k) (dd_v D (12 * dd_L D + 2 + dd_h D (dd_L D))) (dd_v D (12 * dd_L D + 3 + dd_h D (dd_L D)))) H hf (dd_hh hok) h2 (by rw [t1, t2, epc, o]) kx
    exact c
theorem ci_bin {k : Nat} {a b md s : Int32} (hok : dd_ok P D) (hf : dd_f D = 0) (k1 : 5 ≤ k) (k2 : k ≤ 9) (o : pp_op P (dd_p D (dd_L D)) = nI k) (h2 : 2 ≤ dd_h D (dd_L D)) (hy : dd_y D ≤ y)
    (ha : md &&& 1 = 0 → ∃ r, r < 36 ∧ a = nI r) (hb : md &&& 2 = 0 → ∃ r, r < 36 ∧ b = nI r)
    (oa : ∀ x : mm_S, cc_oa md a x = dd_e (dd_k D) (dd_v D) (mm_s x) (12 * (mm_d x - 1)) (12 * dd_L D + 2 + dd_h D (dd_L D)))
    (ob : ∀ x : mm_S, cc_ob md b x = dd_e (dd_k D) (dd_v D) (mm_s x) (12 * (mm_d x - 1)) (12 * dd_L D + 3 + dd_h D (dd_L D)))
    (hs : nI k = 8 → SR s D) :
    cc_I P Q SR TJ D (dd_po D (dd_p D (dd_L D) + 1) (upd (dd_k D) (12 * dd_L D + 2 + dd_h D (dd_L D)) 0) (dd_v D) y) (nI k) (nI (12 * dd_L D + 2 + dd_h D (dd_L D))) a b md s := by
  have hL := hok.1
  have h8 := dd_hh hok _ (Nat.le_refl (dd_L D))
  refine ⟨ha, hb, Or.inr (Or.inl ⟨⟨k, k1, k2, rfl⟩, hy, 12 * dd_L D + 2 + dd_h D (dd_L D), by omega, rfl, fun x m q H => ⟨fun z1 z2 => ⟨m, D, mm_Ss0, H, hf, hs z1⟩, fun z qx => ?_⟩⟩)⟩
  obtain ⟨ed, epc, eht⟩ := cc_pc H
  obtain ⟨t1, t2⟩ := cc_ops hok H h2
  refine ⟨_, mm_Ss1 ⟨H.2.2.2.2.2.2.2.2.1, Or.inr (Or.inr (Or.inr (Or.inr (Or.inr (Or.inr (Or.inl ⟨⟨k, k1, k2, by rw [epc]; exact o⟩, by rw [eht]; exact h2, fun z3 => ?_, rfl⟩))))))⟩, ?_⟩
  · rw [t1, ← ob x]; exact z (by rw [epc, o] at z3; exact z3)
  · refine cc_bin (op := pp_op P (mm_pc m)) H hf (dd_hh hok) h2 (by rw [t1, t2, epc, o, oa x, ob x]) (fun t g1 g2 g3 g4 => ?_)
    have g1' := dd_lvq g1
    have h36 := (dd_lv36 hok.1 g1').2
    rcases hok.2.2.2 t g1' g3 with e | ⟨e, r, r1, r2, r3⟩
    · exact absurd e g4
    · rw [r2, nI_clamp (by omega)]
      obtain ⟨l, oo, e1, e2, e3, e4⟩ := g1
      by_cases zl : l = dd_L D
      · subst zl; rw [tw_ss] at e4; omega
      · omega
end
end
section
/-! cells against the certificate: sinks, jumps, branches, calls, returns -/
section
variable {P : pp_P} {Q : (Nat → Int32) → Prop} {SR TJ : Int32 → dd_D → Prop} {D Dn : dd_D} {y : Nat}
theorem ci_gstore {g ys : Nat} {a md s : Int32} (hok : dd_ok P D) (hf : dd_f D = 0) (o : pp_op P (dd_p D (dd_L D)) = 4) (hg : pp_an P (dd_p D (dd_L D)) = g) (hg8 : g < 8) (h0 : 0 < dd_h D (dd_L D)) (hy : dd_y D ≤ y)
    (ha : md &&& 1 = 0 → ∃ r, r < 36 ∧ a = nI r)
    (oa : ∀ x : mm_S, cc_oa md a x = dd_e (dd_k D) (dd_v D) (mm_s x) (12 * (mm_d x - 1)) (12 * dd_L D + 3 + dd_h D (dd_L D)))
    (hs : SR s (dd_po D (dd_p D (dd_L D) + 1) (dd_k D) (dd_v D) ys)) :
    cc_I P Q SR TJ D (dd_po D (dd_p D (dd_L D) + 1) (dd_k D) (dd_v D) y) 4 (nI g) a 0 md s := by
  have key : ∀ (x m : mm_S) (y' : Nat), cc_M D x m → ∃ m', mm_Ss P m m' ∧ cc_M (dd_po D (dd_p D (dd_L D) + 1) (dd_k D) (dd_v D) y') (mm_wg x g (cc_oa md a x)) m' := by
    intro x m y' H
    obtain ⟨ed, epc, eht⟩ := cc_pc H
    have t1 := cc_top H h0
    have H' := H
    obtain ⟨h1, h2, h3, h4, h5, h6, h7, h8, h9, h10, h11, h12⟩ := H'
    refine ⟨_, mm_Ss1 ⟨h9, Or.inr (Or.inr (Or.inr (Or.inr (Or.inl ⟨by rw [epc]; exact o, by rw [eht]; exact h0, rfl⟩))))⟩, ?_⟩
    rw [epc, hg, oa x, ← t1]
    exact cc_pop H ⟨rfl, rfl, rfl, rfl, rfl, h10⟩ (by rw [h6]; rfl) h7 h8 (by rw [h12, hf]; rfl)
  exact ⟨ha, fun _ => ⟨0, by omega, rfl⟩, Or.inr (Or.inr (Or.inr (Or.inl ⟨rfl, hy, g, hg8, rfl, fun x m q H => ⟨fun _ => key x m y H, by
    obtain ⟨m', e1, e2⟩ := key x m ys H
    exact ⟨m', _, e1, e2, rfl, hs⟩⟩⟩)))⟩
theorem ci_out {a md s : Int32} (hok : dd_ok P D) (hf : dd_f D = 0) (o : pp_op P (dd_p D (dd_L D)) = 14) (h0 : 0 < dd_h D (dd_L D)) (hy : dd_y D ≤ y)
    (ha : md &&& 1 = 0 → ∃ r, r < 36 ∧ a = nI r)
    (oa : ∀ x : mm_S, cc_oa md a x = dd_e (dd_k D) (dd_v D) (mm_s x) (12 * (mm_d x - 1)) (12 * dd_L D + 3 + dd_h D (dd_L D)))
    (hs : SR s D) :
    cc_I P Q SR TJ D (dd_po D (dd_p D (dd_L D) + 1) (dd_k D) (dd_v D) y) 14 0 a 0 md s := by
  refine ⟨ha, fun _ => ⟨0, by omega, rfl⟩, Or.inr (Or.inr (Or.inr (Or.inr (Or.inl ⟨rfl, hy, fun x m q H => ⟨fun hn _ => ?_, fun _ => ⟨m, D, mm_Ss0, H, hf, hs⟩⟩⟩))))⟩
  obtain ⟨ed, epc, eht⟩ := cc_pc H
  have t1 := cc_top H h0
  have H' := H
  obtain ⟨h1, h2, h3, h4, h5, h6, h7, h8, h9, h10, h11, h12⟩ := H'
  refine ⟨_, mm_Ss1 ⟨h9, Or.inr (Or.inr (Or.inr (Or.inr (Or.inr (Or.inl ⟨by rw [epc]; exact o, by rw [eht]; exact h0, by rw [h8]; exact hn, rfl⟩)))))⟩, ?_⟩
  rw [epc, oa x, ← t1]
  exact cc_pop H ⟨rfl, rfl, rfl, rfl, rfl, h10⟩ h6 (by rw [h7, h8]; rfl) (by rw [h8]; rfl) (by rw [h12, hf]; rfl)
theorem cs_jump {a : Nat} (hf : dd_f D = 0) (o : pp_op P (dd_p D (dd_L D)) = 10) (ha : pp_an P (dd_p D (dd_L D)) = a) (hp : dd_p D (dd_L D) < a) (hy : dd_y D ≤ y) :
    cc_S P Q D (dd_L D, tw_s (dd_p D) (dd_L D) a, dd_h D, dd_k D, dd_v D, y, 0) := by
  refine ⟨hy, fun x m q H => ?_⟩
  obtain ⟨ed, epc, eht⟩ := cc_pc H
  have H' := H
  obtain ⟨h1, h2, h3, h4, h5, h6, h7, h8, h9, h10, h11, h12⟩ := H'
  refine ⟨_, mm_Ss1 ⟨h9, Or.inr (Or.inr (Or.inr (Or.inr (Or.inr (Or.inr (Or.inr (Or.inl ⟨by rw [epc]; exact o, by rw [epc, ha]; omega, rfl⟩)))))))⟩, ?_⟩
  have ej : mm_jf P (mm_pc m) (mm_f m) = mm_f m := by unfold mm_jf; rw [epc, ha, if_neg (by omega)]
  rw [ej, epc, ha]
  exact cc_jump H ⟨rfl, rfl, rfl, rfl, rfl, h10⟩ h6 h7 h8 (by rw [h12, hf])
theorem ci_tickJ {a : Nat} {s b : Int32} (hf : dd_f D = 0) (o : pp_op P (dd_p D (dd_L D)) = 10) (ha : pp_an P (dd_p D (dd_L D)) = a) (hp : a ≤ dd_p D (dd_L D)) (hs : SR s D) :
    cc_I P Q SR TJ D (dd_L D, tw_s (dd_p D) (dd_L D) a, dd_h D, dd_k D, dd_v D, y, 0) 16 0 0 b 3 s := by
  refine ⟨fun z => absurd z (by decide), fun z => absurd z (by decide), Or.inr (Or.inr (Or.inr (Or.inr (Or.inr (Or.inr (Or.inr (Or.inl ⟨rfl, fun x m q H => ⟨fun _ => ⟨m, D, mm_Ss0, H, hf, hs⟩, fun f0 _ => ?_⟩⟩)))))))⟩
  obtain ⟨ed, epc, eht⟩ := cc_pc H
  have H' := H
  obtain ⟨h1, h2, h3, h4, h5, h6, h7, h8, h9, h10, h11, h12⟩ := H'
  refine ⟨_, mm_Ss1 ⟨h9, Or.inr (Or.inr (Or.inr (Or.inr (Or.inr (Or.inr (Or.inr (Or.inl ⟨by rw [epc]; exact o, fun _ => by omega, rfl⟩)))))))⟩, ?_⟩
  have ej : mm_jf P (mm_pc m) (mm_f m) = mm_f m - 1 := by unfold mm_jf; rw [epc, ha, if_pos hp]
  rw [ej, epc, ha]
  exact cc_jump H ⟨rfl, rfl, rfl, rfl, rfl, h10⟩ h6 h7 h8 (by rw [h12, hf]; rfl)
theorem cs_brK {a q : Nat} (hok : dd_ok P D) (hf : dd_f D = 0) (o : pp_op P (dd_p D (dd_L D)) = 11) (ha : pp_an P (dd_p D (dd_L D)) = a) (hp : dd_p D (dd_L D) < a) (h0 : 0 < dd_h D (dd_L D)) (hy : dd_y D ≤ y)
    (hk : dd_k D (12 * dd_L D + 3 + dd_h D (dd_L D)) = 1) (hq : q = if dd_v D (12 * dd_L D + 3 + dd_h D (dd_L D)) = 0 then a else dd_p D (dd_L D) + 1) :
    cc_S P Q D (dd_po D q (dd_k D) (dd_v D) y) := by
  refine ⟨hy, fun x m _ H => ?_⟩
  obtain ⟨ed, epc, eht⟩ := cc_pc H
  have t1 := cc_top H h0
  rw [dd_e1 hk] at t1
  have H' := H
  obtain ⟨h1, h2, h3, h4, h5, h6, h7, h8, h9, h10, h11, h12⟩ := H'
  refine ⟨_, mm_Ss1 ⟨h9, Or.inr (Or.inr (Or.inr (Or.inr (Or.inr (Or.inr (Or.inr (Or.inr (Or.inl ⟨by rw [epc]; exact o, by rw [eht]; exact h0, by rw [epc, ha]; omega, rfl⟩))))))))⟩, ?_⟩
  have ej : mm_jf P (mm_pc m) (mm_f m) = mm_f m := by unfold mm_jf; rw [epc, ha, if_neg (by omega)]
  rw [ej, t1, epc, ha, ← hq]
  exact cc_pop H ⟨rfl, rfl, rfl, rfl, rfl, h10⟩ h6 h7 h8 (by rw [h12, hf])
theorem ci_tickK {a q : Nat} {s b : Int32} (hok : dd_ok P D) (hf : dd_f D = 0) (o : pp_op P (dd_p D (dd_L D)) = 11) (ha : pp_an P (dd_p D (dd_L D)) = a) (hp : a ≤ dd_p D (dd_L D)) (h0 : 0 < dd_h D (dd_L D))
    (hk : dd_k D (12 * dd_L D + 3 + dd_h D (dd_L D)) = 1) (hq : q = if dd_v D (12 * dd_L D + 3 + dd_h D (dd_L D)) = 0 then a else dd_p D (dd_L D) + 1) (hs : SR s D) :
    cc_I P Q SR TJ D (dd_po D q (dd_k D) (dd_v D) y) 16 0 0 b 3 s := by
  refine ⟨fun z => absurd z (by decide), fun z => absurd z (by decide), Or.inr (Or.inr (Or.inr (Or.inr (Or.inr (Or.inr (Or.inr (Or.inl ⟨rfl, fun x m _ H => ⟨fun _ => ⟨m, D, mm_Ss0, H, hf, hs⟩, fun f0 _ => ?_⟩⟩)))))))⟩
  obtain ⟨ed, epc, eht⟩ := cc_pc H
  have t1 := cc_top H h0
  rw [dd_e1 hk] at t1
  have H' := H
  obtain ⟨h1, h2, h3, h4, h5, h6, h7, h8, h9, h10, h11, h12⟩ := H'
  refine ⟨_, mm_Ss1 ⟨h9, Or.inr (Or.inr (Or.inr (Or.inr (Or.inr (Or.inr (Or.inr (Or.inr (Or.inl ⟨by rw [epc]; exact o, by rw [eht]; exact h0, fun _ => by omega, rfl⟩))))))))⟩, ?_⟩
  have ej : mm_jf P (mm_pc m) (mm_f m) = mm_f m - 1 := by unfold mm_jf; rw [epc, ha, if_pos hp]
  rw [ej, t1, epc, ha, ← hq]
  exact cc_pop H ⟨rfl, rfl, rfl, rfl, rfl, h10⟩ h6 h7 h8 (by rw [h12, hf]; rfl)
/-- a charge paid ahead -/
theorem ci_tickD {s b : Int32} (hf : dd_f D = 0) (hs : SR s D) : cc_I P Q SR TJ D (dd_L D, dd_p D, dd_h D, dd_k D, dd_v D, y, 1) 16 0 0 b 3 s := by
  refine ⟨fun z => absurd z (by decide), fun z => absurd z (by decide), Or.inr (Or.inr (Or.inr (Or.inr (Or.inr (Or.inr (Or.inr (Or.inl ⟨rfl, fun x m _ H => ⟨fun _ => ⟨m, D, mm_Ss0, H, hf, hs⟩, fun f0 _ => ⟨m, mm_Ss0, ?_⟩⟩⟩)))))))⟩
  obtain ⟨h1, h2, h3, h4, h5, h6, h7, h8, h9, h10, h11, h12⟩ := H
  refine ⟨h1, h2, h3, h4, h5, h6, h7, h8, h9, h10, h11, ?_⟩
  show mm_f m = mm_f x - 1 + 1
  omega
/-- the branch's own step, the value asked being w -/
theorem cc_br {x m : mm_S} {a : Nat} (hok : dd_ok P D) (hdf : (a ≤ dd_p D (dd_L D) ∧ dd_f D = 1) ∨ (dd_p D (dd_L D) < a ∧ dd_f D = 0)) (o : pp_op P (dd_p D (dd_L D)) = 11) (ha : pp_an P (dd_p D (dd_L D)) = a) (h0 : 0 < dd_h D (dd_L D)) {w : Int32}
    (H : cc_M D x m) (hw : w = dd_e (dd_k D) (dd_v D) (mm_s x) (12 * (mm_d x - 1)) (12 * dd_L D + 3 + dd_h D (dd_L D))) {q : Nat} (hq : q = if w = 0 then a else dd_p D (dd_L D) + 1) :
    ∃ m', mm_Ss P m m' ∧ cc_M (dd_po D q (dd_k D) (dd_v D) y) x m' := by
  obtain ⟨ed, epc, eht⟩ := cc_pc H
  have t1 := cc_top H h0
  rw [← hw] at t1
  have H' := H
  obtain ⟨h1, h2, h3, h4, h5, h6, h7, h8, h9, h10, h11, h12⟩ := H'
  refine ⟨_, mm_Ss1 ⟨h9, Or.inr (Or.inr (Or.inr (Or.inr (Or.inr (Or.inr (Or.inr (Or.inr (Or.inl ⟨by rw [epc]; exact o, by rw [eht]; exact h0, ?_, rfl⟩))))))))⟩, ?_⟩
  · rw [epc, ha]
    intro z
    rcases hdf with ⟨_, e⟩ | ⟨e, _⟩ <;> omega
  · have ej : mm_jf P (mm_pc m) (mm_f m) = mm_f x + 0 := by
      unfold mm_jf
      rw [epc, ha]
      rcases hdf with ⟨e1, e2⟩ | ⟨e1, e2⟩
      · rw [if_pos e1]; omega
      · rw [if_neg (by omega)]; omega
    rw [ej, t1, epc, ha, ← hq]
    exact cc_pop H ⟨rfl, rfl, rfl, rfl, rfl, h10⟩ h6 h7 h8 rfl
theorem ci_jz {a r : Nat} {d s : Int32} {Dk : dd_D} (hok : dd_ok P D) (hdf : (a ≤ dd_p D (dd_L D) ∧ dd_f D = 1) ∨ (dd_p D (dd_L D) < a ∧ dd_f D = 0)) (o : pp_op P (dd_p D (dd_L D)) = 11) (ha : pp_an P (dd_p D (dd_L D)) = a) (h0 : 0 < dd_h D (dd_L D))
    (hr : r < 36) (hw : ∀ x : mm_S, mm_s x (12 * (mm_d x - 1) + r) = dd_e (dd_k D) (dd_v D) (mm_s x) (12 * (mm_d x - 1)) (12 * dd_L D + 3 + dd_h D (dd_L D)))
    (hy : dd_y D ≤ y) (hyk : dd_y D < dd_y Dk) (htj : TJ d Dk) (hDk : ∀ x m, cc_M (dd_po D a (dd_k D) (dd_v D) 0) x m → cc_M Dk x m) :
    cc_I P Q SR TJ D (dd_po D (dd_p D (dd_L D) + 1) (dd_k D) (dd_v D) y) 11 d (nI r) 0 0 s := by
  have oa : ∀ x : mm_S, cc_oa 0 (nI r) x = mm_s x (12 * (mm_d x - 1) + r) := fun x => by unfold cc_oa; rw [if_pos (by decide), nI_clamp (by omega)]
  refine ⟨fun _ => ⟨r, hr, rfl⟩, fun _ => ⟨0, by omega, rfl⟩, Or.inr (Or.inr (Or.inr (Or.inr (Or.inr (Or.inr (Or.inl ⟨rfl, hy, Dk, htj, hyk, fun x m _ H => ⟨fun z => ?_, fun z => ?_⟩⟩))))))⟩
  · rw [oa x] at z
    obtain ⟨m', e1, e2⟩ := cc_br (y := 0) (q := a) hok hdf o ha h0 H (hw x) (by rw [if_pos z])
    exact ⟨m', e1, hDk x m' e2⟩
  · rw [oa x] at z
    exact cc_br hok hdf o ha h0 H (hw x) (by rw [if_neg z])
theorem ci_exz {a r ys : Nat} {s : Int32} (hok : dd_ok P D) (hdf : (a ≤ dd_p D (dd_L D) ∧ dd_f D = 1) ∨ (dd_p D (dd_L D) < a ∧ dd_f D = 0)) (o : pp_op P (dd_p D (dd_L D)) = 11) (ha : pp_an P (dd_p D (dd_L D)) = a) (h0 : 0 < dd_h D (dd_L D))
    (hr : r < 36) (hw : ∀ x : mm_S, mm_s x (12 * (mm_d x - 1) + r) = dd_e (dd_k D) (dd_v D) (mm_s x) (12 * (mm_d x - 1)) (12 * dd_L D + 3 + dd_h D (dd_L D)))
    (hy : dd_y D ≤ y) (hs : SR s (dd_po D a (dd_k D) (dd_v D) ys)) :
    cc_I P Q SR TJ D (dd_po D (dd_p D (dd_L D) + 1) (dd_k D) (dd_v D) y) 19 0 (nI r) 0 0 s := by
  have oa : ∀ x : mm_S, cc_oa 0 (nI r) x = mm_s x (12 * (mm_d x - 1) + r) := fun x => by unfold cc_oa; rw [if_pos (by decide), nI_clamp (by omega)]
  refine ⟨fun _ => ⟨r, hr, rfl⟩, fun _ => ⟨0, by omega, rfl⟩, Or.inr (Or.inr (Or.inr (Or.inr (Or.inr (Or.inr (Or.inr (Or.inr (Or.inr (Or.inr ⟨rfl, hy, fun x m _ H => ⟨fun z => ?_, fun z => ?_⟩⟩)))))))))⟩
  · rw [oa x] at z
    obtain ⟨m', e1, e2⟩ := cc_br (y := ys) (q := a) hok hdf o ha h0 H (hw x) (by rw [if_pos z])
    exact ⟨m', _, e1, e2, rfl, hs⟩
  · rw [oa x] at z
    exact cc_br hok hdf o ha h0 H (hw x) (by rw [if_neg z])
theorem ci_enter {fn nn st : Nat} {s : Int32} {kd vl : Nat → Int32} (hok : dd_ok P D) (hf : dd_f D = 0) (o : pp_op P (dd_p D (dd_L D)) = 12) (ha : pp_an P (dd_p D (dd_L D)) = fn) (hn : pp_fa P fn = nn) (hst : pp_fs P fn = st) (h2 : nn ≤ dd_h D (dd_L D)) (n4 : nn ≤ 4) (hz : nn = 0 → ¬ dd_h D (dd_L D) = 8)
    (hk : ∀ t, t < 12 * (dd_L D + 1) → kd t = dd_k D t ∧ vl t = dd_v D t)
    (hv : ∀ (x : mm_S) (i : Nat), i < 4 → dd_e kd vl (mm_s x) (12 * (mm_d x - 1)) (12 * (dd_L D + 1) + i) = if i < nn then dd_e (dd_k D) (dd_v D) (mm_s x) (12 * (mm_d x - 1)) (12 * dd_L D + 4 + (dd_h D (dd_L D) - nn) + i) else 0)
    (hs : SR s D) :
    cc_I P Q SR TJ D (dd_L D + 1, tw_s (tw_s (dd_p D) (dd_L D) (dd_p D (dd_L D) + 1)) (dd_L D + 1) st, tw_s (tw_s (dd_h D) (dd_L D) (dd_h D (dd_L D) - nn)) (dd_L D + 1) 0, kd, vl, y, 0) 17 0 0 (nI (dd_L D)) 3 s := by
  refine ⟨fun z => absurd z (by decide), fun z => absurd z (by decide), Or.inr (Or.inr (Or.inr (Or.inr (Or.inr (Or.inr (Or.inr (Or.inr (Or.inl ⟨rfl, dd_L D, hok.1, rfl, rfl, fun x m _ H => ⟨fun _ => ⟨m, D, mm_Ss0, H, hf, hs⟩, fun f0 hmx _ => ?_⟩⟩))))))))⟩
  obtain ⟨ed, epc, eht⟩ := cc_pc H
  have H' := H
  obtain ⟨h1, h2', h3, h4, h5, h6, h7, h8, h9, h10, h11, h12⟩ := H'
  refine ⟨mm_call P m, mm_Ss1 ⟨h9, Or.inr (Or.inr (Or.inr (Or.inr (Or.inr (Or.inr (Or.inr (Or.inr (Or.inr (Or.inl ⟨by rw [epc]; exact o, by omega, ?_, ?_, by omega, rfl⟩)))))))))⟩, ?_⟩
  · rw [epc, eht, ha, hn]; exact h2
  · rw [epc, eht, ha, hn]; exact hz
  · exact cc_call (x' := mm_wf x (mm_f x - 1)) H (by rw [h12, hf]; rfl) ⟨rfl, rfl, rfl, rfl, rfl, rfl, rfl, rfl, h10⟩ (dd_hh hok) (by rw [epc, ha]; exact hn) (by rw [epc, ha]; exact hst) (by rw [epc]) h2 n4 hk (fun i hi => hv x i hi)
theorem ci_tickR {L : Nat} {k v s b : Int32} (hok : dd_ok P D) (hf : dd_f D = 0) (eL : dd_L D = L + 1) (o : pp_op P (dd_p D (L + 1)) = 13) (h0 : 0 < dd_h D (L + 1))
    (hv : ∀ x : mm_S, dd_e (upd (dd_k D) (12 * L + 4 + dd_h D L) k) (upd (dd_v D) (12 * L + 4 + dd_h D L) v) (mm_s x) (12 * (mm_d x - 1)) (12 * L + 4 + dd_h D L) = dd_e (dd_k D) (dd_v D) (mm_s x) (12 * (mm_d x - 1)) (12 * (L + 1) + 3 + dd_h D (L + 1)))
    (hs : SR s D) :
    cc_I P Q SR TJ D (L, dd_p D, tw_s (dd_h D) L (dd_h D L + 1), upd (dd_k D) (12 * L + 4 + dd_h D L) k, upd (dd_v D) (12 * L + 4 + dd_h D L) v, y, 0) 16 0 0 b 3 s := by
  refine ⟨fun z => absurd z (by decide), fun z => absurd z (by decide), Or.inr (Or.inr (Or.inr (Or.inr (Or.inr (Or.inr (Or.inr (Or.inl ⟨rfl, fun x m _ H => ⟨fun _ => ⟨m, D, mm_Ss0, H, hf, hs⟩, fun f0 _ => ?_⟩⟩)))))))⟩
  obtain ⟨ed, epc, eht⟩ := cc_pc H
  rw [eL] at epc eht
  have H' := H
  obtain ⟨h1, h2', h3, h4, h5, h6, h7, h8, h9, h10, h11, h12⟩ := H'
  refine ⟨mm_ret m, mm_Ss1 ⟨h9, Or.inr (Or.inr (Or.inr (Or.inr (Or.inr (Or.inr (Or.inr (Or.inr (Or.inr (Or.inr (Or.inl ⟨by rw [epc]; exact o, by omega, by rw [eht]; exact h0, by omega, rfl⟩))))))))))⟩, ?_⟩
  exact cc_ret (x' := mm_wf x (mm_f x - 1)) H eL (by rw [h12, hf]; rfl) ⟨rfl, rfl, rfl, rfl, rfl, rfl, rfl, rfl, h10⟩ (dd_hh hok) (hok.2.2.1 L (by omega)) h0 (hv x)
end
end
section
/-! the compiler: plain cells -/
def cc_sm (lp : Nat → Nat) : Nat → Nat
  | 0 => 64 - lp 0
  | L + 1 => cc_sm lp L + (64 - lp (L + 1))
theorem cc_smc {lp lp' : Nat → Nat} : ∀ (L : Nat), (∀ l, l ≤ L → lp' l = lp l) → cc_sm lp' L = cc_sm lp L
  | 0, h => by show 64 - lp' 0 = 64 - lp 0; rw [h 0 (Nat.le_refl _)]
  | L + 1, h => by
    show cc_sm lp' L + (64 - lp' (L + 1)) = cc_sm lp L + (64 - lp (L + 1))
    rw [cc_smc L (fun l hl => h l (by omega)), h (L + 1) (Nat.le_refl _)]
theorem cc_smu {lp : Nat → Nat} {L p : Nat} (h : lp L < p) (h64 : lp L < 64) : cc_sm (tw_s lp L p) L < cc_sm lp L := by
  cases L with
  | zero => show 64 - tw_s lp 0 p 0 < 64 - lp 0; rw [tw_ss]; omega
  | succ L =>
    show cc_sm (tw_s lp (L + 1) p) L + (64 - tw_s lp (L + 1) p (L + 1)) < cc_sm lp L + (64 - lp (L + 1))
    rw [cc_smc (lp := lp) L (fun l hl => tw_sn (by omega)), tw_ss]
    omega
theorem cc_smle {lp : Nat → Nat} : ∀ (L : Nat), cc_sm lp L ≤ 64 * (L + 1)
  | 0 => by show 64 - lp 0 ≤ _; omega
  | L + 1 => by
    have := cc_smle (lp := lp) L
    show cc_sm lp L + (64 - lp (L + 1)) ≤ _
    omega
theorem cc_smpos {lp : Nat → Nat} {L : Nat} (h : lp L < 64) : 0 < cc_sm lp L := by
  cases L with
  | zero => show 0 < 64 - lp 0; omega
  | succ L => show 0 < cc_sm lp L + (64 - lp (L + 1)); omega
/-- a block is open: ph bounds the cells to come; its pc field is d behind -/
def cc_O (P : pp_P) (Z : (Nat → Int32) × (Nat → Nat → Int32)) (U qh ph b d : Nat) (F : Nat → Int32) (A : Nat → Nat → Int32) : Prop :=
  ∃ (c cn q sn fn qt : Nat) (Dm : Nat → dd_D) (L : Nat) (lp lv : Nat → Nat) (y p : Nat), cc_W P Z U c cn q sn fn qh qt Dm (L, lp, lv, (A 36), (A 37), y, 0) 1 F A ∧ cc_lv L lv F A ∧ cc_CR A U L c lp lv ∧ (F 24) = nI p ∧ p + d = lp L ∧ dd_ok P (L, lp, lv, (A 36), (A 37), y, 0) ∧ y ≤ 2 * lp L + b ∧ (F 31) = 0 ∧ 64 * (8 - cn) + cc_sm lp L ≤ ph
def cc_E (P : pp_P) (Z : (Nat → Int32) × (Nat → Nat → Int32)) (U qh : Nat) (F : Nat → Int32) (A : Nat → Nat → Int32) : Prop :=
  (F 31) = 1 ∧ ∃ (c cn q sn fn qt : Nat) (Dm : Nat → dd_D), ∀ D', cc_W P Z U c cn q sn fn qh qt Dm D' 0 F A
def cc_N (P : pp_P) (Z : (Nat → Int32) × (Nat → Nat → Int32)) (U qh ph d : Nat) (F : Nat → Int32) (A : Nat → Nat → Int32) : Prop :=
  cc_E P Z U qh F A ∨ ∃ ph', ph' < ph ∧ cc_O P Z U qh ph' 0 d F A
theorem cc_lvf {L : Nat} {lv : Nat → Nat} {F F' : Nat → Int32} {A A' : Nat → Nat → Int32} (h : cc_lv L lv F A) (h1 : (F' 23) = (F 23)) (h2 : (A' 38) = (A 38)) : cc_lv L lv F' A' := by
  obtain ⟨l1, l2, l3⟩ := h
  exact ⟨h1.trans l1, l2, fun l hl => ⟨by rw [h2]; exact (l3 l hl).1, (l3 l hl).2⟩⟩
theorem cc_CRe {A A' : Nat → Nat → Int32} {U L c : Nat} {lp lh : Nat → Nat} (h : ∀ j, 32 ≤ j → j ≤ 35 → A' j = A j) (H : cc_CR A U L c lp lh) : cc_CR A' U L c lp lh :=
  cc_CRm (cn := c + 1) (fun j a b i _ => congrFun (h j a b) i) L c lp lh (by omega) H
section
variable {P : pp_P} {Z : (Nat → Int32) × (Nat → Nat → Int32)} {U c cn q sn fn qh qt L y : Nat} {Dm : Nat → dd_D} {F : Nat → Int32} {A : Nat → Nat → Int32} {lp lv : Nat → Nat}
theorem xc_pushSym {post : SX → Prop} {k v : Int32} (hl : cc_lv L lv F A) (h8 : lv L < 8)
    (K : post (tw_t F (tw_s (tw_s (tw_s A 36 (upd (A 36) (12 * L + 4 + lv L) k)) 37 (upd (A 37) (12 * L + 4 + lv L) v)) 38 (upd (A 38) L (nI (lv L + 1)))))) : wpX_pushSym post (tw_t F A) k v := by
  obtain ⟨l1, l2, l3⟩ := hl
  have vl : vp_in (F 23) 3 := tw_in l1 (by omega) (by omega)
  have cl : ((F 23)).toNatClampNeg = L := tw_cl l1 (by omega)
  have eh := (l3 L (Nat.le_refl _)).1
  have v36 : vp_in (nI (12 * L + 4 + lv L)) 36 := vp_in_nI (by omega) (by omega)
  unfold wpX_pushSym
  refine And.intro vl (nm_r (e' := nI (12 * L + 4 + lv L)) (by rw [cl, eh, l1, tw_m12', tw_p4, nI_add]) ?_)
  rw [nI_clamp (by omega), cl]
  exact And.intro v36 (nm_e (And.intro v36 (nm_e (And.intro vl (And.intro vl (nm_r (e' := upd (A 38) L (nI (lv L + 1))) (by rw [eh, nI_1]) K))))))
/-- a push, the certificate being there already -/
theorem xc_pushO {post : SX → Prop} {k v : Int32} {y' ph : Nat} (hW : cc_W P Z U c cn q sn fn qh qt Dm (dd_pu (L, lp, lv, (A 36), (A 37), y, 0) k v y') 1 F A) (hl : cc_lv L lv F A) (hcr : cc_CR A U L c lp lv) (hcp : (F 24) = nI (lp L)) (hen : (F 31) = 0) (h8 : lv L < 8) (h64 : lp L < 64)
    (hok : dd_ok P (dd_pu (L, lp, lv, (A 36), (A 37), y, 0) k v y')) (hy : y' ≤ 2 * (lp L + 1)) (hph : ph = 64 * (8 - cn) + cc_sm lp L)
    (K : ∀ (F' : Nat → Int32) (A' : Nat → Nat → Int32), cc_N P Z U qh ph 1 F' A' → post (tw_t F' A')) : wpX_pushSym post (tw_t F A) k v := by
  refine xc_pushSym hl h8 (K _ _ (Or.inr ⟨64 * (8 - cn) + cc_sm (tw_s lp L (lp L + 1)) L, ?_, c, cn, q, sn, fn, qt, Dm, L, tw_s lp L (lp L + 1), tw_s lv L (lv L + 1), y', lp L, ?_, ?_, ?_, hcp, ?_, hok, ?_, hen, Nat.le_refl _⟩))
  · have := cc_smu (lp := lp) (L := L) (p := lp L + 1) (by omega) h64
    omega
  · exact cc_Wf hW (fun _ _ _ _ => rfl) (fun j a b d => ((tw_sn d).trans (tw_sn b)).trans (tw_sn a))
  · obtain ⟨l1, l2, l3⟩ := hl
    refine ⟨l1, l2, fun l hl => ?_⟩
    show upd (A 38) L (nI (lv L + 1)) l = nI (tw_s lv L (lv L + 1) l) ∧ tw_s lv L (lv L + 1) l ≤ 8
    by_cases e : l = L
    · rw [tw_ue e, tw_se e]; exact ⟨rfl, by omega⟩
    · rw [pk_un e, tw_sn e]; exact l3 l hl
  · exact cc_CRe (fun j a b => ((tw_sn (by omega)).trans (tw_sn (by omega))).trans (tw_sn (by omega))) (cc_CRc L c (fun l hl => ⟨tw_sn (by omega), tw_sn (by omega)⟩) hcr)
  · rw [tw_ss]
  · rw [tw_ss]; omega
/-- the height's fall by one: lvH as stored -/
theorem cc_lvd (hl : cc_lv L lv F A) (h0 : 0 < lv L) : ∀ (F' : Nat → Int32) (A' : Nat → Nat → Int32), (F' 23) = (F 23) → (A' 38) = upd (A 38) L (nI (lv L - 1)) → cc_lv L (tw_s lv L (lv L - 1)) F' A' := by
  intro F' A' h1 h2
  obtain ⟨l1, l2, l3⟩ := hl
  refine ⟨h1.trans l1, l2, fun l hl => ?_⟩
  rw [h2]
  have := (l3 L (Nat.le_refl _)).2
  by_cases e : l = L
  · rw [tw_ue e, tw_se e]; exact ⟨rfl, by omega⟩
  · rw [pk_un e, tw_sn e]; exact l3 l hl
/-- a pop's end: the certificate at D' of one cell on -/
theorem xc_popO {F' : Nat → Int32} {A' : Nat → Nat → Int32} {q' sn' fn' : Nat} {Dm' : Nat → dd_D} {y' ph : Nat} (hl : cc_lv L lv F A) (hcr : cc_CR A U L c lp lv) (hcp : (F 24) = nI (lp L)) (hen : (F 31) = 0) (h64 : lp L < 64) (h0 : 0 < lv L)
    (hW : cc_W P Z U c cn q' sn' fn' qh qt Dm' (L, tw_s lp L (lp L + 1), tw_s lv L (lv L - 1), (A' 36), (A' 37), y', 0) 1 F' A') (hok : dd_ok P (L, tw_s lp L (lp L + 1), tw_s lv L (lv L - 1), (A' 36), (A' 37), y', 0)) (hy : y' ≤ 2 * (lp L + 1)) (hph : ph = 64 * (8 - cn) + cc_sm lp L)
    (h1 : (F' 23) = (F 23)) (h2 : (A' 38) = upd (A 38) L (nI (lv L - 1))) (h3 : (F' 24) = (F 24)) (h4 : (F' 31) = (F 31)) (hx : ∀ j, 32 ≤ j → j ≤ 35 → A' j = A j) : cc_N P Z U qh ph 1 F' A' := by
  refine Or.inr ⟨64 * (8 - cn) + cc_sm (tw_s lp L (lp L + 1)) L, ?_, c, cn, q', sn', fn', qt, Dm', L, tw_s lp L (lp L + 1), tw_s lv L (lv L - 1), y', lp L, hW, cc_lvd hl h0 F' A' h1 h2, ?_, h3.trans hcp, ?_, hok, ?_, h4.trans hen, Nat.le_refl _⟩
  · have := cc_smu (lp := lp) (L := L) (p := lp L + 1) (by omega) h64
    omega
  · exact cc_CRe hx (cc_CRc L c (fun l hl => ⟨tw_sn (by omega), tw_sn (by omega)⟩) hcr)
  · rw [tw_ss]
  · rw [tw_ss]; omega
end
end
section
/-! the compiler: plain cells, one by one -/
section
variable {P : pp_P} {Z : (Nat → Int32) × (Nat → Nat → Int32)} {U c cn q sn fn qh qt L y ph : Nat} {Dm : Nat → dd_D} {F : Nat → Int32} {A : Nat → Nat → Int32} {lp lv : Nat → Nat}
theorem xc_genStore {post : SX → Prop} {a : Nat} (hW : cc_W P Z U c cn q sn fn qh qt Dm (L, lp, lv, (A 36), (A 37), y, 0) 1 F A) (hl : cc_lv L lv F A) (hcr : cc_CR A U L c lp lv) (hcp : (F 24) = nI (lp L)) (hen : (F 31) = 0) (hok : dd_ok P (L, lp, lv, (A 36), (A 37), y, 0)) (hy : y ≤ 2 * lp L + 1) (hph : ph = 64 * (8 - cn) + cc_sm lp L)
    (o : pp_op P (lp L) = 2) (han : pp_an P (lp L) = a) (ha4 : a < 4) (h0 : 0 < lv L) (hp : lp L + 1 < pp_nc P)
    (K : ∀ (F' : Nat → Int32) (A' : Nat → Nat → Int32), cc_N P Z U qh ph 1 F' A' → post (tw_t F' A')) : wpX_genStore post (tw_t F A) (nI (12 * L + a)) (nI (12 * L + 3 + lv L)) := by
  have hl' := hl
  obtain ⟨l1, l2, l3⟩ := hl'
  have hv8 := (l3 L (Nat.le_refl _)).2
  have eh := (l3 L (Nat.le_refl _)).1
  have h64 : lp L < 64 := by have := hW.1.1; omega
  have htop : 12 * L + 3 + lv L < 36 := by omega
  have vl : vp_in (F 23) 3 := tw_in l1 (by omega) (by omega)
  have cl : ((F 23)).toNatClampNeg = L := tw_cl l1 (by omega)
  have livet : dd_lv L lv (12 * L + 3 + lv L) := ⟨L, 3 + lv L, by omega, Nat.le_refl _, by omega, by omega⟩
  have hl1 : cc_lv L (tw_s lv L (lv L - 1)) F (tw_s A 38 (upd (A 38) L (nI (lv L - 1)))) := cc_lvd hl h0 _ _ rfl rfl
  have hW1 : cc_W P Z U c cn q sn fn qh qt Dm (L, lp, lv, (A 36), (A 37), y, 0) 1 F (tw_s A 38 (upd (A 38) L (nI (lv L - 1)))) := cc_Wf hW (fun _ _ _ _ => rfl) (fun j _ _ b => tw_sn b)
  have hlh : ∀ l, l ≤ L → tw_s lv L (lv L - 1) l ≤ lv l := by
    intro l hl
    by_cases e : l = L
    · subst e; rw [tw_ss]; omega
    · rw [tw_sn e]; exact Nat.le_refl _
  have ntop : ¬ dd_lv L (tw_s lv L (lv L - 1)) (12 * L + 3 + lv L) := by
    intro h
    have := dd_lvI.mp h
    have e1 : (12 * L + 3 + lv L) / 12 = L := by omega
    rw [e1, tw_ss] at this
    omega
  have gen : ¬ ((A 36) (12 * L + 3 + lv L) = 2 ∧ (A 37) (12 * L + 3 + lv L) = nI (12 * L + a)) → wX_genStore_39 post (nI (12 * L + a)) ((A 36) (12 * L + 3 + lv L)) (if (A 36) (12 * L + 3 + lv L) = 0 then nI (12 * L + 3 + lv L) else (A 37) (12 * L + 3 + lv L)) (F 0) (F 1) (F 2) (F 3) (F 4) (F 5) (F 6) (F 7) (F 8) (F 9) (F 10) (F 11) (F 12) (F 13) (F 14) (F 15) (F 16) (F 17) (F 18) (F 19) (F 20) (F 21) (F 22) (F 23) (F 24) (F 25) (F 26) (F 27) (F 28) (F 29) (F 30) (F 31) (F 32) (A 0) (A 1) (A 2) (A 3) (A 4) (A 5) (A 6) (A 7) (A 8) (A 9) (A 10) (A 11) (A 12) (A 13) (A 14) (A 15) (A 16) (A 17) (A 18) (A 19) (A 20) (A 21) (A 22) (A 23) (A 24) (A 25) (A 26) (A 27) (A 28) (A 29) (A 30) (A 31) (A 32) (A 33) (A 34) (A 35) (A 36) (A 37) (upd (A 38) L (nI (lv L - 1))) (A 39) (A 40) (A 41) := by
    intro hne
    unfold wX_genStore_39
    refine xc_save (F := F) (A := tw_s A 38 (upd (A 38) L (nI (lv L - 1)))) (lv := tw_s lv L (lv L - 1)) (lh := lv) hlh (by omega) hW1 hl1 hok (fun F2 A2 q2 Dm2 hW2 g1 g2 g3 g4 g5 g6 g7 => ?_)
    have ev : (A2 37) = (A 37) := g2 _ (by decide) (by decide)
    have kt : (A2 36) (12 * L + 3 + lv L) = (A 36) (12 * L + 3 + lv L) := g6 _ ntop
    have vt : (A2 37) (12 * L + 3 + lv L) = (A 37) (12 * L + 3 + lv L) := congrFun ev _
    have cases3 : (A 36) (12 * L + 3 + lv L) = 0 ∨ (A 36) (12 * L + 3 + lv L) = 1 ∨ ((A 36) (12 * L + 3 + lv L) = 2 ∧ ∃ r, r < 12 * L + 3 + lv L ∧ (A 37) (12 * L + 3 + lv L) = nI r ∧ (dd_lv L lv r → (A2 36) r = 0)) := by
      by_cases z : (A 36) (12 * L + 3 + lv L) = 0
      · exact Or.inl z
      · have nz : ¬ (A2 36) (12 * L + 3 + lv L) = 0 := by rw [kt]; exact z
        rcases g4.2.2.2 _ livet nz with e | ⟨e, r, r1, r2, r3⟩
        · exact Or.inr (Or.inl (kt.symm.trans e))
        · exact Or.inr (Or.inr ⟨kt.symm.trans e, r, r1, vt.symm.trans r2, r3⟩)
    have ks : cc_S P (cc_Q A2 U) (L, lp, lv, (A2 36), (A2 37), y, 0) (dd_po (L, lp, lv, (A2 36), (A2 37), y, 0) (lp L + 1) (upd (A2 36) (12 * L + a) (if (A 36) (12 * L + 3 + lv L) = 1 then 1 else 2)) (upd (A2 37) (12 * L + a) (if (A 36) (12 * L + 3 + lv L) = 0 then nI (12 * L + 3 + lv L) else (A 37) (12 * L + 3 + lv L))) (2 * (lp L + 1))) := by
      refine cs_store (D := (L, lp, lv, (A2 36), (A2 37), y, 0)) g4 rfl o han ha4 h0 (by show y ≤ _; omega) ?_
      rcases cases3 with z | z | ⟨z, r, r1, r2, r3⟩
      · refine Or.inr ⟨by rw [z]; rfl, 12 * L + 3 + lv L, htop, by rw [if_pos z], Or.inl ⟨kt.trans z, rfl⟩⟩
      · refine Or.inl ⟨kt.trans z, by rw [if_pos z], ?_⟩
        rw [if_neg (by rw [z]; decide)]; exact vt.symm
      · refine Or.inr ⟨by rw [z]; rfl, r, by omega, by rw [if_neg (by rw [z]; decide)]; exact r2, Or.inr ⟨kt.trans z, vt.trans r2⟩⟩
    refine xc_place (F := F2) (A := A2) (lp := tw_s lp L (lp L + 1)) (lh := tw_s lv L (lv L - 1)) (y := 2 * (lp L + 1)) (f := 0) (by omega) ?_ (cc_Ws hW2 ks) ?_ l2 ?_ ?_ ?_ ?_ (fun F3 A3 q3 Dm3 hW3 k1 k2 k3 k4 => ?_)
    · rcases cases3 with z | z | ⟨z, r, r1, r2, r3⟩
      · exact Or.inr ⟨Or.inl z, _, htop, by rw [if_pos z]⟩
      · exact Or.inl z
      · exact Or.inr ⟨Or.inr z, r, by omega, by rw [if_neg (by rw [z]; decide)]; exact r2⟩
    · intro z
      exact ⟨12 * L + 3 + lv L, htop, by rw [if_pos z], by omega⟩
    · intro l hl2
      by_cases e : l = L
      · rw [tw_se e, tw_se e]; exact ⟨by omega, hp⟩
      · rw [tw_sn e, tw_sn e]; exact hok.2.1 l hl2
    · intro l hl2
      rw [tw_sn (Nat.ne_of_lt hl2)]; exact hok.2.2.1 l hl2
    · intro t' h1 h2 h3
      rcases g4.2.2.2 t' (dd_lvm hlh h1) h3 with e | ⟨e, r, r1, r2, r3⟩
      · exact Or.inl e
      · refine Or.inr ⟨e, r, r1, r2, fun er => ?_, fun hr => r3 (dd_lvm hlh hr)⟩
        subst er
        have r2' : (A2 37) t' = nI (12 * L + a) := r2
        rw [ev] at r2'
        exact g5 t' h1 e r2'
    · intro z r r36 rv hr _
      rcases cases3 with z2 | z2 | ⟨z2, r', r1, r2, r3⟩
      · rw [z2] at z; exact absurd z (by decide)
      · rw [z2] at z; exact absurd z (by decide)
      · rw [if_neg (by rw [z2]; decide), r2] at rv
        have := (nI_eq (by omega) (by omega)).mp rv
        subst this
        exact r3 (dd_lvm hlh hr)
    · refine K F3 A3 (xc_popO (F := F) (A := A) hl hcr hcp hen h64 h0 hW3 k4 (Nat.le_refl _) hph ?_ ?_ ?_ ?_ ?_)
      · exact (k1 _ (by decide) (by decide)).trans (g1 _ (by decide) (by decide))
      · exact (k2 _ (by decide) (by decide) (by decide)).trans (g2 _ (by decide) (by decide))
      · exact (k1 _ (by decide) (by decide)).trans (g1 _ (by decide) (by decide))
      · exact (k1 _ (by decide) (by decide)).trans (g1 _ (by decide) (by decide))
      · intro j j1 j2
        exact ((k2 j (by omega) (by omega) (by omega)).trans (g2 j (by omega) (by omega))).trans (tw_sn (by omega))
  unfold wpX_genStore
  refine And.intro (vp_in_nI htop (by omega)) (nm_e ?_)
  rw [nI_clamp (by omega)]
  refine xc_source (F := F) (A := A) htop ?_
  show vp_in (F 23) 3 ∧ _
  refine And.intro vl (And.intro vl ?_)
  rw [cl, eh, tw_d1 h0]
  refine nm_e (br_c (fun z => ?_) (fun z => gen (fun h => z h.1)))
  rw [if_neg (show ¬ (A 36) (12 * L + 3 + lv L) = 0 by rw [z]; decide)]
  refine br_c (fun z2 => ?_) (fun z2 => ?_)
  · have ks := cs_store0 (D := (L, lp, lv, (A 36), (A 37), y, 0)) (Q := cc_Q (tw_s A 38 (upd (A 38) L (nI (lv L - 1)))) U) (y := 2 * (lp L + 1)) hok rfl o han ha4 h0 (by show y ≤ _; omega) z z2
    have hok2 : dd_ok P (L, tw_s lp L (lp L + 1), tw_s lv L (lv L - 1), (A 36), (A 37), 2 * (lp L + 1), 0) := dd_okq (D := (L, lp, lv, (A 36), (A 37), y, 0)) hok hp
    exact K F (tw_s A 38 (upd (A 38) L (nI (lv L - 1)))) (xc_popO (F := F) (A := A) hl hcr hcp hen h64 h0 (cc_Ws hW1 ks) hok2 (Nat.le_refl _) hph rfl rfl rfl rfl (fun j j1 j2 => tw_sn (by omega)))
  · have g := gen (fun h => z2 h.2)
    rw [if_neg (show ¬ (A 36) (12 * L + 3 + lv L) = 0 by rw [z]; decide)] at g
    exact g
/-- a dependence more -/
theorem cc_Wdep {D : dd_D} {e g : Nat} (hg : g < 8) (hW : cc_W P Z U c cn q sn fn qh qt Dm D e F A) : cc_W P Z U c cn q sn fn qh qt Dm D e F (tw_s A 14 (upd (A 14) U ((A 14) U ||| ((1 : Int32) <<< (nI g &&& 31))))) ∧ (∀ gl, cc_Q (tw_s A 14 (upd (A 14) U ((A 14) U ||| ((1 : Int32) <<< (nI g &&& 31))))) U gl → gl g = (A 10) g) := by
  have b1 : ∀ i, i < 32 → bt 1 i = decide (i = 0) := by decide +kernel
  obtain ⟨w0, w1, w2, w3, w4, w5, w6⟩ := hW
  have hA : ∀ j, j ≠ 14 → tw_s A 14 (upd (A 14) U ((A 14) U ||| ((1 : Int32) <<< (nI g &&& 31)))) j = A j := fun j h => tw_sn h
  refine ⟨⟨w0, w1, cc_B1m w2 rfl rfl rfl (fun j _ _ i _ => congrFun (hA j (by omega)) i), w3, w4, fun hf => ?_, ?_⟩, fun gl hq => ?_⟩
  · refine cc_Hgrow (fun j a b i _ => congrFun (hA j (by omega)) i) (fun j a b i _ => congrFun (hA j (by omega)) i) (fun j a b i _ => congrFun (hA j (by omega)) i) (fun j a b i _ => congrFun (hA j (by omega)) i) rfl rfl rfl (fun gl hq k hk hb => ?_) (Nat.le_refl _) (Nat.le_refl _) (Nat.le_refl _) (w5 hf)
    refine hq k hk ?_
    show bt (upd (A 14) U ((A 14) U ||| ((1 : Int32) <<< (nI g &&& 31))) U) k = true
    rw [pk_us, b_or, hb]
    rfl
  · obtain ⟨z1, z2, z3, z4, z5, z6, z7⟩ := w6
    refine ⟨z1, fun j hj h14 => (hA j h14).trans (z2 j hj h14), fun V hV => ?_, fun j j1 j2 i hi => (congrFun (hA j (by omega)) i).trans (z4 j j1 j2 i hi), fun j j1 j2 i hi => (congrFun (hA j (by omega)) i).trans (z5 j j1 j2 i hi), fun j j1 j2 i hi => (congrFun (hA j (by omega)) i).trans (z6 j j1 j2 i hi), fun j j1 j2 i hi => (congrFun (hA j (by omega)) i).trans (z7 j j1 j2 i hi)⟩
    show upd (A 14) U _ V = _
    rw [pk_un hV]; exact z3 V hV
  · refine hq g hg ?_
    show bt (upd (A 14) U ((A 14) U ||| ((1 : Int32) <<< (nI g &&& 31))) U) g = true
    rw [pk_us, b_or, b_shl g (by omega) 1 (by omega), Nat.sub_self, b1 0 (by omega)]
    simp
theorem xc_genGload {post : SX → Prop} {g : Nat} (hW : cc_W P Z U c cn q sn fn qh qt Dm (L, lp, lv, (A 36), (A 37), y, 0) 1 F A) (hl : cc_lv L lv F A) (hcr : cc_CR A U L c lp lv) (hcp : (F 24) = nI (lp L)) (hen : (F 31) = 0) (hok : dd_ok P (L, lp, lv, (A 36), (A 37), y, 0)) (hy : y ≤ 2 * lp L + 1) (hph : ph = 64 * (8 - cn) + cc_sm lp L)
    (o : pp_op P (lp L) = 3) (han : pp_an P (lp L) = g) (hg : g < 8) (h8 : lv L < 8) (hp : lp L + 1 < pp_nc P)
    (K : ∀ (F' : Nat → Int32) (A' : Nat → Nat → Int32), cc_N P Z U qh ph 1 F' A' → post (tw_t F' A')) : wpX_genGload post (tw_t F A) (nI g) (nI (12 * L + 4 + lv L)) := by
  have h64 : lp L < 64 := by have := hW.1.1; omega
  have vg : vp_in (nI g) 8 := vp_in_nI hg (by omega)
  have cg : (nI g).toNatClampNeg = g := nI_clamp (by omega)
  have hU := hW.2.2.1.1
  have eu := hW.2.2.1.2.1
  have vu : vp_in (F 21) 8 := tw_in eu hU (by omega)
  have cu : ((F 21)).toNatClampNeg = U := tw_cl eu (by omega)
  unfold wpX_genGload
  refine And.intro vg ?_
  rw [cg, cu]
  refine br_c (fun _ => ?_) (fun _ => And.intro vu (And.intro vu (nm_e (And.intro vg ?_))))
  · refine xc_emit (F := F) (A := A) (D' := dd_pu (L, lp, lv, (A 36), (A 37), y, 0) 0 0 (2 * (lp L + 1))) (Nat.le_refl 1) hW (fun hf => ci_gload (D := (L, lp, lv, (A 36), (A 37), y, 0)) hok rfl o han hg h8 (by show y ≤ _; omega)) (fun F' A' q' Dm' hW' h1 h2 h3 => ?_)
    have ek : (A' 36) = (A 36) := h2 _ (by decide)
    have ev : (A' 37) = (A 37) := h2 _ (by decide)
    have hok2 : dd_ok P (dd_pu (L, lp, lv, (A 36), (A 37), y, 0) 0 0 (2 * (lp L + 1))) := dd_okp (D := (L, lp, lv, (A 36), (A 37), y, 0)) hok h8 hp (Or.inl rfl)
    rw [← ek, ← ev] at hok2
    have hW2 := cc_We (e := 1) hW'
    rw [← ek, ← ev] at hW2
    exact xc_pushO (F := F') (A := A') hW2 (cc_lvf hl (h1 _ (by decide) (by decide)) (h2 _ (by decide))) (cc_CRe (fun j a b => h2 j (by omega)) hcr) ((h1 _ (by decide) (by decide)).trans hcp) ((h1 _ (by decide) (by decide)).trans hen) h8 h64 hok2 (Nat.le_refl _) hph K
  · obtain ⟨hW2, hq⟩ := cc_Wdep hg hW
    have ks := cs_gload (D := (L, lp, lv, (A 36), (A 37), y, 0)) (y := 2 * (lp L + 1)) hok rfl o han h8 (by show y ≤ _; omega) hq
    have hok2 : dd_ok P (dd_pu (L, lp, lv, (A 36), (A 37), y, 0) 1 ((A 10) g) (2 * (lp L + 1))) := dd_okp (D := (L, lp, lv, (A 36), (A 37), y, 0)) hok h8 hp (Or.inr (Or.inl rfl))
    exact xc_pushO (F := F) (A := tw_s A 14 (upd (A 14) U ((A 14) U ||| ((1 : Int32) <<< (nI g &&& 31))))) (cc_Ws hW2 ks) (cc_lvf hl rfl rfl) (cc_CRe (fun j a b => tw_sn (by omega)) hcr) hcp hen h8 h64 hok2 (Nat.le_refl _) hph K
end
end
section
/-! the compiler: sinks, operations, plain -/
/-- an operand as the compiler writes it -/
theorem co_a {P : pp_P} {D : dd_D} {t : Nat} {md : Int32} (hok : dd_ok P D) (hlt : dd_lv (dd_L D) (dd_h D) t) (hm : md &&& 1 = (if dd_k D t = 1 then 1 else 0)) :
    (md &&& 1 = 0 → ∃ r, r < 36 ∧ (if dd_k D t = 0 then nI t else dd_v D t) = nI r) ∧ ∀ x : mm_S, cc_oa md (if dd_k D t = 0 then nI t else dd_v D t) x = dd_e (dd_k D) (dd_v D) (mm_s x) (12 * (mm_d x - 1)) t := by
  have t36 := (dd_lv36 hok.1 hlt).2
  by_cases z : dd_k D t = 0
  · rw [if_pos z]
    have m0 : md &&& 1 = 0 := by rw [hm, z]; rfl
    refine ⟨fun _ => ⟨t, t36, rfl⟩, fun x => ?_⟩
    unfold cc_oa
    rw [if_pos m0, dd_e0 z, nI_clamp (by omega)]
  · rw [if_neg z]
    rcases hok.2.2.2 t hlt z with e | ⟨e, r, r1, r2, r3⟩
    · have m1 : ¬ md &&& 1 = 0 := by rw [hm, e]; decide
      refine ⟨fun h => absurd h m1, fun x => ?_⟩
      unfold cc_oa
      rw [if_neg m1, dd_e1 e]
    · have m0 : md &&& 1 = 0 := by rw [hm, e]; rfl
      refine ⟨fun _ => ⟨r, by omega, r2⟩, fun x => ?_⟩
      unfold cc_oa
      rw [if_pos m0, dd_e2 e r2 (by omega), r2, nI_clamp (by omega)]
theorem co_b {P : pp_P} {D : dd_D} {t : Nat} {md : Int32} (hok : dd_ok P D) (hlt : dd_lv (dd_L D) (dd_h D) t) (hm : md &&& 2 = (if dd_k D t = 1 then 2 else 0)) :
    (md &&& 2 = 0 → ∃ r, r < 36 ∧ (if dd_k D t = 0 then nI t else dd_v D t) = nI r) ∧ ∀ x : mm_S, cc_ob md (if dd_k D t = 0 then nI t else dd_v D t) x = dd_e (dd_k D) (dd_v D) (mm_s x) (12 * (mm_d x - 1)) t := by
  have t36 := (dd_lv36 hok.1 hlt).2
  by_cases z : dd_k D t = 0
  · rw [if_pos z]
    have m0 : md &&& 2 = 0 := by rw [hm, z]; rfl
    refine ⟨fun _ => ⟨t, t36, rfl⟩, fun x => ?_⟩
    unfold cc_ob
    rw [if_pos m0, dd_e0 z, nI_clamp (by omega)]
  · rw [if_neg z]
    rcases hok.2.2.2 t hlt z with e | ⟨e, r, r1, r2, r3⟩
    · have m1 : ¬ md &&& 2 = 0 := by rw [hm, e]; decide
      refine ⟨fun h => absurd h m1, fun x => ?_⟩
      unfold cc_ob
      rw [if_neg m1, dd_e1 e]
    · have m0 : md &&& 2 = 0 := by rw [hm, e]; rfl
      refine ⟨fun _ => ⟨r, by omega, r2⟩, fun x => ?_⟩
      unfold cc_ob
      rw [if_pos m0, dd_e2 e r2 (by omega), r2, nI_clamp (by omega)]
section
variable {P : pp_P} {Z : (Nat → Int32) × (Nat → Nat → Int32)} {U c cn q sn fn qh qt L y ph : Nat} {Dm : Nat → dd_D} {F : Nat → Int32} {A : Nat → Nat → Int32} {lp lv : Nat → Nat}
theorem xc_gstore {post : SX → Prop} {g : Nat} (hW : cc_W P Z U c cn q sn fn qh qt Dm (L, lp, lv, (A 36), (A 37), y, 0) 1 F A) (hl : cc_lv L lv F A) (hcr : cc_CR A U L c lp lv) (hcp : (F 24) = nI (lp L)) (hen : (F 31) = 0) (hok : dd_ok P (L, lp, lv, (A 36), (A 37), y, 0)) (hy : y ≤ 2 * lp L + 1) (hph : ph = 64 * (8 - cn) + cc_sm lp L)
    (o : pp_op P (lp L) = 4) (han : pp_an P (lp L) = g) (hg : g < 8) (h0 : 0 < lv L) (hp : lp L + 1 < pp_nc P)
    (K : ∀ (F' : Nat → Int32) (A' : Nat → Nat → Int32), cc_N P Z U qh ph 1 F' A' → post (tw_t F' A')) : wpX_genSink post (tw_t F A) 4 (nI g) (nI (12 * L + 3 + lv L)) := by
  have hl' := hl
  obtain ⟨l1, l2, l3⟩ := hl'
  have hv8 := (l3 L (Nat.le_refl _)).2
  have eh := (l3 L (Nat.le_refl _)).1
  have h64 : lp L < 64 := by have := hW.1.1; omega
  have htop : 12 * L + 3 + lv L < 36 := by omega
  have vl : vp_in (F 23) 3 := tw_in l1 (by omega) (by omega)
  have cl : ((F 23)).toNatClampNeg = L := tw_cl l1 (by omega)
  have livet : dd_lv L lv (12 * L + 3 + lv L) := ⟨L, 3 + lv L, by omega, Nat.le_refl _, by omega, by omega⟩
  have hl1 : cc_lv L (tw_s lv L (lv L - 1)) F (tw_s A 38 (upd (A 38) L (nI (lv L - 1)))) := cc_lvd hl h0 _ _ rfl rfl
  have hW1 : cc_W P Z U c cn q sn fn qh qt Dm (L, lp, lv, (A 36), (A 37), y, 0) 1 F (tw_s A 38 (upd (A 38) L (nI (lv L - 1)))) := cc_Wf hW (fun _ _ _ _ => rfl) (fun j _ _ b => tw_sn b)
  have hcr1 : cc_CR (tw_s A 38 (upd (A 38) L (nI (lv L - 1)))) U L c (tw_s lp L (lp L + 1)) (tw_s lv L (lv L - 1)) := cc_CRe (fun j a b => tw_sn (by omega)) (cc_CRc L c (fun l hl => ⟨tw_sn (by omega), tw_sn (by omega)⟩) hcr)
  have hok1 : ∀ y', dd_ok P (L, tw_s lp L (lp L + 1), tw_s lv L (lv L - 1), (A 36), (A 37), y', 0) := fun y' => dd_okq (D := (L, lp, lv, (A 36), (A 37), y, 0)) hok hp
  have go : ∀ md : Int32, md &&& 1 = (if (A 36) (12 * L + 3 + lv L) = 1 then 1 else 0) → wX_genSink_22 post 4 (nI g) (if (A 36) (12 * L + 3 + lv L) = 0 then nI (12 * L + 3 + lv L) else (A 37) (12 * L + 3 + lv L)) md (F 0) (F 1) (F 2) (F 3) (F 4) (F 5) (F 6) (F 7) (F 8) (F 9) (F 10) (F 11) (F 12) (F 13) (F 14) (F 15) (F 16) (F 17) (F 18) (F 19) (F 20) (F 21) (F 22) (F 23) (F 24) (F 25) (F 26) (F 27) (F 28) (F 29) (F 30) (F 31) (F 32) (A 0) (A 1) (A 2) (A 3) (A 4) (A 5) (A 6) (A 7) (A 8) (A 9) (A 10) (A 11) (A 12) (A 13) (A 14) (A 15) (A 16) (A 17) (A 18) (A 19) (A 20) (A 21) (A 22) (A 23) (A 24) (A 25) (A 26) (A 27) (A 28) (A 29) (A 30) (A 31) (A 32) (A 33) (A 34) (A 35) (A 36) (A 37) (A 38) (A 39) (A 40) (A 41) := by
    intro md hmd
    obtain ⟨oa1, oa2⟩ := co_a (D := (L, lp, lv, (A 36), (A 37), y, 0)) hok livet hmd
    unfold wX_genSink_22
    refine br_t rfl (And.intro vl (And.intro vl ?_))
    rw [cl, eh, tw_d1 h0]
    refine nm_e (nm_r (e' := nI (lp L + 1)) (by rw [hcp, nI_1]) ?_)
    unfold wX_genSink_51
    refine xc_snapshot (F := F) (A := tw_s A 38 (upd (A 38) L (nI (lv L - 1)))) (lp := tw_s lp L (lp L + 1)) (lv := tw_s lv L (lv L - 1)) (y := 0) hW1 hl1 hcr1 tw_ss (hok1 0) (fun s F' A' sn' fn' hW' h1 h2 h3 h4 => ?_)
    have hQ : cc_Q A' U = cc_Q A U := by unfold cc_Q; rw [h2 14 (by decide), h2 10 (by decide)]; rfl
    refine xc_emit (F := F') (A := A') (D' := dd_po (L, lp, lv, (A 36), (A 37), y, 0) (lp L + 1) (A 36) (A 37) (2 * (lp L + 1))) (Nat.le_refl 1) hW' (fun hf => ?_) (fun F2 A2 q' Dm' hW2 g1 g2 g3 => ?_)
    · exact ci_gstore (D := (L, lp, lv, (A 36), (A 37), y, 0)) (ys := 0) hok rfl o han hg h0 (by show y ≤ _; omega) oa1 oa2 (h4 hf)
    · refine br_f (by decide) ?_
      have ek : (A2 36) = (A 36) := (g2 _ (by decide)).trans (h2 _ (by decide))
      have ev : (A2 37) = (A 37) := (g2 _ (by decide)).trans (h2 _ (by decide))
      have hW3 := cc_We (e := 1) hW2
      refine K F2 A2 (xc_popO (F := F) (A := A) (y' := 2 * (lp L + 1)) hl hcr hcp hen h64 h0 (by rw [ek, ev]; exact hW3) (by rw [ek, ev]; exact hok1 _) (Nat.le_refl _) hph ?_ ?_ ?_ ?_ ?_)
      · exact (g1 _ (by decide) (by decide)).trans (h1 _ (by decide) (by decide) (by decide))
      · exact (g2 _ (by decide)).trans (h2 _ (by decide))
      · exact (g1 _ (by decide) (by decide)).trans (h1 _ (by decide) (by decide) (by decide))
      · exact (g1 _ (by decide) (by decide)).trans (h1 _ (by decide) (by decide) (by decide))
      · intro j j1 j2
        exact ((g2 j (by omega)).trans (h2 j (by omega))).trans (tw_sn (by omega))
  unfold wpX_genSink
  refine xc_source (F := F) (A := A) htop ?_
  show vp_in (nI (12 * L + 3 + lv L)) 36 ∧ _
  refine And.intro (vp_in_nI htop (by omega)) ?_
  rw [nI_clamp (by omega)]
  exact br_c (fun z => go 1 (by rw [if_pos z]; rfl)) (fun z => go 0 (by rw [if_neg z]; rfl))
theorem xc_out {post : SX → Prop} (hW : cc_W P Z U c cn q sn fn qh qt Dm (L, lp, lv, (A 36), (A 37), y, 0) 1 F A) (hl : cc_lv L lv F A) (hcr : cc_CR A U L c lp lv) (hcp : (F 24) = nI (lp L)) (hen : (F 31) = 0) (hok : dd_ok P (L, lp, lv, (A 36), (A 37), y, 0)) (hy : y ≤ 2 * lp L + 1) (hph : ph = 64 * (8 - cn) + cc_sm lp L)
    (o : pp_op P (lp L) = 14) (h0 : 0 < lv L) (hp : lp L + 1 < pp_nc P)
    (K : ∀ (F' : Nat → Int32) (A' : Nat → Nat → Int32), cc_N P Z U qh ph 1 F' A' → post (tw_t F' A')) : wpX_genSink post (tw_t F A) 14 0 (nI (12 * L + 3 + lv L)) := by
  have hl' := hl
  obtain ⟨l1, l2, l3⟩ := hl'
  have hv8 := (l3 L (Nat.le_refl _)).2
  have eh := (l3 L (Nat.le_refl _)).1
  have h64 : lp L < 64 := by have := hW.1.1; omega
  have htop : 12 * L + 3 + lv L < 36 := by omega
  have livet : dd_lv L lv (12 * L + 3 + lv L) := ⟨L, 3 + lv L, by omega, Nat.le_refl _, by omega, by omega⟩
  have hok1 : ∀ y', dd_ok P (L, tw_s lp L (lp L + 1), tw_s lv L (lv L - 1), (A 36), (A 37), y', 0) := fun y' => dd_okq (D := (L, lp, lv, (A 36), (A 37), y, 0)) hok hp
  have go : ∀ md : Int32, md &&& 1 = (if (A 36) (12 * L + 3 + lv L) = 1 then 1 else 0) → wX_genSink_22 post 14 0 (if (A 36) (12 * L + 3 + lv L) = 0 then nI (12 * L + 3 + lv L) else (A 37) (12 * L + 3 + lv L)) md (F 0) (F 1) (F 2) (F 3) (F 4) (F 5) (F 6) (F 7) (F 8) (F 9) (F 10) (F 11) (F 12) (F 13) (F 14) (F 15) (F 16) (F 17) (F 18) (F 19) (F 20) (F 21) (F 22) (F 23) (F 24) (F 25) (F 26) (F 27) (F 28) (F 29) (F 30) (F 31) (F 32) (A 0) (A 1) (A 2) (A 3) (A 4) (A 5) (A 6) (A 7) (A 8) (A 9) (A 10) (A 11) (A 12) (A 13) (A 14) (A 15) (A 16) (A 17) (A 18) (A 19) (A 20) (A 21) (A 22) (A 23) (A 24) (A 25) (A 26) (A 27) (A 28) (A 29) (A 30) (A 31) (A 32) (A 33) (A 34) (A 35) (A 36) (A 37) (A 38) (A 39) (A 40) (A 41) := by
    intro md hmd
    obtain ⟨oa1, oa2⟩ := co_a (D := (L, lp, lv, (A 36), (A 37), y, 0)) hok livet hmd
    unfold wX_genSink_22
    refine br_f (by decide) ?_
    unfold wX_genSink_51
    show wpX_snapshot _ (tw_t F A) (F 24)
    rw [hcp]
    refine xc_snapshot (F := F) (A := A) (lp := lp) (lv := lv) (y := y) hW hl hcr rfl hok (fun s F' A' sn' fn' hW' h1 h2 h3 h4 => ?_)
    refine xc_emit (F := F') (A := A') (D' := dd_po (L, lp, lv, (A 36), (A 37), y, 0) (lp L + 1) (A 36) (A 37) (2 * (lp L + 1))) (Nat.le_refl 1) hW' (fun hf => ?_) (fun F2 A2 q' Dm' hW2 g1 g2 g3 => ?_)
    · exact ci_out (D := (L, lp, lv, (A 36), (A 37), y, 0)) hok rfl o h0 (by show y ≤ _; omega) oa1 oa2 (h4 hf)
    · refine br_t rfl ?_
      have e23 : (F2 23) = (F 23) := (g1 _ (by decide) (by decide)).trans (h1 _ (by decide) (by decide) (by decide))
      have e38 : (A2 38) = (A 38) := (g2 _ (by decide)).trans (h2 _ (by decide))
      have vl : vp_in (F2 23) 3 := tw_in (e23.trans l1) (by omega) (by omega)
      have cl : ((F2 23)).toNatClampNeg = L := tw_cl (e23.trans l1) (by omega)
      refine And.intro vl (And.intro vl (nm_r (e' := upd (A2 38) L (nI (lv L - 1))) (by rw [cl, e38, eh, tw_d1 h0]) ?_))
      have ek : (A2 36) = (A 36) := (g2 _ (by decide)).trans (h2 _ (by decide))
      have ev : (A2 37) = (A 37) := (g2 _ (by decide)).trans (h2 _ (by decide))
      have hW3 := cc_Wf (cc_We (e := 1) hW2) (fun _ _ _ _ => rfl) (A' := tw_s A2 38 (upd (A2 38) L (nI (lv L - 1)))) (fun j _ _ a => tw_sn a)
      refine K F2 (tw_s A2 38 (upd (A2 38) L (nI (lv L - 1)))) (xc_popO (F := F) (A := A) (q' := q') (sn' := sn') (fn' := fn') (Dm' := Dm') (qt := qt) (y' := 2 * (lp L + 1)) hl hcr hcp hen h64 h0 ?_ ?_ (Nat.le_refl _) hph ?_ ?_ ?_ ?_ ?_)
      · show cc_W P Z U c cn q' sn' fn' qh qt Dm' (L, tw_s lp L (lp L + 1), tw_s lv L (lv L - 1), (A2 36), (A2 37), 2 * (lp L + 1), 0) 1 F2 (tw_s A2 38 (upd (A2 38) L (nI (lv L - 1))))
        rw [ek, ev]; exact hW3
      · show dd_ok P (L, tw_s lp L (lp L + 1), tw_s lv L (lv L - 1), (A2 36), (A2 37), 2 * (lp L + 1), 0)
        rw [ek, ev]; exact hok1 _
      · exact e23
      · show upd (A2 38) L (nI (lv L - 1)) = _
        rw [e38]
      · exact (g1 _ (by decide) (by decide)).trans (h1 _ (by decide) (by decide) (by decide))
      · exact (g1 _ (by decide) (by decide)).trans (h1 _ (by decide) (by decide) (by decide))
      · intro j j1 j2
        exact ((tw_sn (by omega)).trans (g2 j (by omega))).trans (h2 j (by omega))
  unfold wpX_genSink
  refine xc_source (F := F) (A := A) htop ?_
  show vp_in (nI (12 * L + 3 + lv L)) 36 ∧ _
  refine And.intro (vp_in_nI htop (by omega)) ?_
  rw [nI_clamp (by omega)]
  exact br_c (fun z => go 1 (by rw [if_pos z]; rfl)) (fun z => go 0 (by rw [if_neg z]; rfl))
end
end
section
/-! the compiler: operations -/
section
variable {P : pp_P} {Z : (Nat → Int32) × (Nat → Nat → Int32)} {U c cn q sn fn qh qt L y ph : Nat} {Dm : Nat → dd_D} {F : Nat → Int32} {A : Nat → Nat → Int32} {lp lv : Nat → Nat}
/-- the last row: the height falls -/
theorem xc_b177 {post : SX → Prop} {F' : Nat → Int32} {A' : Nat → Nat → Int32} {q' sn' fn' : Nat} {Dm' : Nat → dd_D} (hl : cc_lv L lv F A) (hcr : cc_CR A U L c lp lv) (hcp : (F 24) = nI (lp L)) (hen : (F 31) = 0) (h64 : lp L < 64) (h0 : 0 < lv L) (hph : ph = 64 * (8 - cn) + cc_sm lp L)
    (hW : cc_W P Z U c cn q' sn' fn' qh qt Dm' (L, tw_s lp L (lp L + 1), tw_s lv L (lv L - 1), (A' 36), (A' 37), 2 * (lp L + 1), 0) 1 F' A') (hok : dd_ok P (L, tw_s lp L (lp L + 1), tw_s lv L (lv L - 1), (A' 36), (A' 37), 2 * (lp L + 1), 0))
    (h1 : (F' 23) = (F 23)) (h2 : (A' 38) = (A 38)) (h3 : (F' 24) = (F 24)) (h4 : (F' 31) = (F 31)) (hx : ∀ j, 32 ≤ j → j ≤ 35 → A' j = A j)
    (K : ∀ (F' : Nat → Int32) (A' : Nat → Nat → Int32), cc_N P Z U qh ph 1 F' A' → post (tw_t F' A')) : wX_genBinary_177 post (F' 0) (F' 1) (F' 2) (F' 3) (F' 4) (F' 5) (F' 6) (F' 7) (F' 8) (F' 9) (F' 10) (F' 11) (F' 12) (F' 13) (F' 14) (F' 15) (F' 16) (F' 17) (F' 18) (F' 19) (F' 20) (F' 21) (F' 22) (F' 23) (F' 24) (F' 25) (F' 26) (F' 27) (F' 28) (F' 29) (F' 30) (F' 31) (F' 32) (A' 0) (A' 1) (A' 2) (A' 3) (A' 4) (A' 5) (A' 6) (A' 7) (A' 8) (A' 9) (A' 10) (A' 11) (A' 12) (A' 13) (A' 14) (A' 15) (A' 16) (A' 17) (A' 18) (A' 19) (A' 20) (A' 21) (A' 22) (A' 23) (A' 24) (A' 25) (A' 26) (A' 27) (A' 28) (A' 29) (A' 30) (A' 31) (A' 32) (A' 33) (A' 34) (A' 35) (A' 36) (A' 37) (A' 38) (A' 39) (A' 40) (A' 41) := by
  have hl' := hl
  obtain ⟨l1, l2, l3⟩ := hl'
  have eh := (l3 L (Nat.le_refl _)).1
  have vl : vp_in (F' 23) 3 := tw_in (h1.trans l1) (by omega) (by omega)
  have cl : ((F' 23)).toNatClampNeg = L := tw_cl (h1.trans l1) (by omega)
  unfold wX_genBinary_177
  refine And.intro vl (And.intro vl (nm_r (e' := upd (A' 38) L (nI (lv L - 1))) (by rw [cl, h2, eh, tw_d1 h0]) ?_))
  exact K F' (tw_s A' 38 (upd (A' 38) L (nI (lv L - 1)))) (xc_popO (F := F) (A := A) (q' := q') (sn' := sn') (fn' := fn') (Dm' := Dm') (qt := qt) (y' := 2 * (lp L + 1)) hl hcr hcp hen h64 h0 (cc_Wf hW (fun _ _ _ _ => rfl) (fun j _ _ a => tw_sn a)) hok (Nat.le_refl _) hph h1 (by show upd (A' 38) L (nI (lv L - 1)) = _; rw [h2]) h3 h4 (fun j j1 j2 => (tw_sn (by omega)).trans (hx j j1 j2)))
theorem dd_okb {D : dd_D} {t y' : Nat} {q' : Nat} (hok : dd_ok P D) (hq : q' < pp_nc P) : dd_ok P (dd_po D q' (upd (dd_k D) t 0) (dd_v D) y') :=
  dd_okh (D := dd_po D q' (dd_k D) (dd_v D) y') (dd_okq hok hq)
theorem dd_okv {D : dd_D} {t : Nat} {w : Int32} (hok : dd_ok P D) (hk : dd_k D t = 1) : dd_ok P (dd_L D, dd_p D, dd_h D, dd_k D, upd (dd_v D) t w, dd_y D, dd_f D) := by
  obtain ⟨a, b, c, d⟩ := hok
  refine ⟨a, b, c, fun t' h1 h2 => ?_⟩
  have h2' : ¬ dd_k D t' = 0 := h2
  show dd_k D t' = 1 ∨ (dd_k D t' = 2 ∧ ∃ r, r < t' ∧ upd (dd_v D) t w t' = nI r ∧ (dd_lv (dd_L D) (dd_h D) r → dd_k D r = 0))
  rcases d t' h1 h2' with e | ⟨e, r, r1, r2, r3⟩
  · exact Or.inl e
  · refine Or.inr ⟨e, r, r1, ?_, r3⟩
    rw [pk_un (fun z => by rw [z, hk] at e; exact absurd e (by decide))]
    exact r2
theorem xc_genBinary {post : SX → Prop} {k : Nat} (hW : cc_W P Z U c cn q sn fn qh qt Dm (L, lp, lv, (A 36), (A 37), y, 0) 1 F A) (hl : cc_lv L lv F A) (hcr : cc_CR A U L c lp lv) (hcp : (F 24) = nI (lp L)) (hen : (F 31) = 0) (hok : dd_ok P (L, lp, lv, (A 36), (A 37), y, 0)) (hy : y ≤ 2 * lp L + 1) (hph : ph = 64 * (8 - cn) + cc_sm lp L)
    (k1 : 5 ≤ k) (k2 : k ≤ 9) (o : pp_op P (lp L) = nI k) (h2 : 2 ≤ lv L) (hp : lp L + 1 < pp_nc P)
    (K : ∀ (F' : Nat → Int32) (A' : Nat → Nat → Int32), cc_N P Z U qh ph 1 F' A' → post (tw_t F' A')) : wpX_genBinary post (tw_t F A) (nI k) (nI (12 * L + 3 + lv L)) := by
  have hl' := hl
  obtain ⟨l1, l2, l3⟩ := hl'
  have hv8 := (l3 L (Nat.le_refl _)).2
  have h64 : lp L < 64 := by have := hW.1.1; omega
  have htop : 12 * L + 3 + lv L < 36 := by omega
  have hx36 : 12 * L + 2 + lv L < 36 := by omega
  have livet : dd_lv L lv (12 * L + 3 + lv L) := ⟨L, 3 + lv L, by omega, Nat.le_refl _, by omega, by omega⟩
  have livex : dd_lv L lv (12 * L + 2 + lv L) := ⟨L, 2 + lv L, by omega, Nat.le_refl _, by omega, by omega⟩
  have vt : vp_in (nI (12 * L + 3 + lv L)) 36 := vp_in_nI htop (by omega)
  have vx : vp_in (nI (12 * L + 2 + lv L)) 36 := vp_in_nI hx36 (by omega)
  have ct : (nI (12 * L + 3 + lv L)).toNatClampNeg = 12 * L + 3 + lv L := nI_clamp (by omega)
  have cx : (nI (12 * L + 2 + lv L)).toNatClampNeg = 12 * L + 2 + lv L := nI_clamp (by omega)
  -- the emitted operation, behind the frame state
  have em : ∀ (F' : Nat → Int32) (A' : Nat → Nat → Int32) (sn' fn' : Nat) (s kx ky : Int32), cc_W P Z U c cn q sn' fn' qh qt Dm (L, lp, lv, (A 36), (A 37), y, 0) 1 F' A' → (∀ j, j ≠ 26 → j ≠ 27 → j ≠ 32 → F' j = F j) → (∀ j, ¬ (24 ≤ j ∧ j ≤ 31) → A' j = A j) → (nI k = 8 → (F' 32) = 0 → cc_SR P A' U sn' fn' cn s (L, lp, lv, (A 36), (A 37), y, 0)) →
      kx = (if (A 36) (12 * L + 2 + lv L) = 1 then 1 else 0) → ky = (if (A 36) (12 * L + 3 + lv L) = 1 then 1 else 0) → wX_genBinary_121 post (nI k) (nI (12 * L + 3 + lv L)) (nI (12 * L + 2 + lv L)) kx ky s (F' 0) (F' 1) (F' 2) (F' 3) (F' 4) (F' 5) (F' 6) (F' 7) (F' 8) (F' 9) (F' 10) (F' 11) (F' 12) (F' 13) (F' 14) (F' 15) (F' 16) (F' 17) (F' 18) (F' 19) (F' 20) (F' 21) (F' 22) (F' 23) (F' 24) (F' 25) (F' 26) (F' 27) (F' 28) (F' 29) (F' 30) (F' 31) (F' 32) (A' 0) (A' 1) (A' 2) (A' 3) (A' 4) (A' 5) (A' 6) (A' 7) (A' 8) (A' 9) (A' 10) (A' 11) (A' 12) (A' 13) (A' 14) (A' 15) (A' 16) (A' 17) (A' 18) (A' 19) (A' 20) (A' 21) (A' 22) (A' 23) (A' 24) (A' 25) (A' 26) (A' 27) (A' 28) (A' 29) (A' 30) (A' 31) (A' 32) (A' 33) (A' 34) (A' 35) (A' 36) (A' 37) (A' 38) (A' 39) (A' 40) (A' 41) := by
    intro F' A' sn' fn' s kx ky hW' h1 h2' h4 ekx eky
    have ek : (A' 36) = (A 36) := h2' _ (by decide)
    have ev : (A' 37) = (A 37) := h2' _ (by decide)
    have fin : ∀ (z0 z1 : Int32), (z1 ||| z0) &&& 1 = (if (A 36) (12 * L + 2 + lv L) = 1 then 1 else 0) → (z1 ||| z0) &&& 2 = (if (A 36) (12 * L + 3 + lv L) = 1 then 2 else 0) →
        wX_genBinary_164 post (nI (12 * L + 2 + lv L)) s z0 z1 (if (A 36) (12 * L + 3 + lv L) = 0 then nI (12 * L + 3 + lv L) else (A 37) (12 * L + 3 + lv L)) (if (A 36) (12 * L + 2 + lv L) = 0 then nI (12 * L + 2 + lv L) else (A 37) (12 * L + 2 + lv L)) (nI (12 * L + 2 + lv L)) (nI k) (F' 0) (F' 1) (F' 2) (F' 3) (F' 4) (F' 5) (F' 6) (F' 7) (F' 8) (F' 9) (F' 10) (F' 11) (F' 12) (F' 13) (F' 14) (F' 15) (F' 16) (F' 17) (F' 18) (F' 19) (F' 20) (F' 21) (F' 22) (F' 23) (F' 24) (F' 25) (F' 26) (F' 27) (F' 28) (F' 29) (F' 30) (F' 31) (F' 32) (A' 0) (A' 1) (A' 2) (A' 3) (A' 4) (A' 5) (A' 6) (A' 7) (A' 8) (A' 9) (A' 10) (A' 11) (A' 12) (A' 13) (A' 14) (A' 15) (A' 16) (A' 17) (A' 18) (A' 19) (A' 20) (A' 21) (A' 22) (A' 23) (A' 24) (A' 25) (A' 26) (A' 27) (A' 28) (A' 29) (A' 30) (A' 31) (A' 32) (A' 33) (A' 34) (A' 35) (A' 36) (A' 37) (A' 38) (A' 39) (A' 40) (A' 41) := by
      intro z0 z1 hm1 hm2
      obtain ⟨oa1, oa2⟩ := co_a (D := (L, lp, lv, (A 36), (A 37), y, 0)) hok livex hm1
      obtain ⟨ob1, ob2⟩ := co_b (D := (L, lp, lv, (A 36), (A 37), y, 0)) hok livet hm2
      unfold wX_genBinary_164
      refine xc_emit (F := F') (A := A') (D' := dd_po (L, lp, lv, (A 36), (A 37), y, 0) (lp L + 1) (upd (A 36) (12 * L + 2 + lv L) 0) (A 37) (2 * (lp L + 1))) (Nat.le_refl 1) hW' (fun hf => ?_) (fun F2 A2 q' Dm' hW2 g1 g2 g3 => ?_)
      · exact ci_bin (D := (L, lp, lv, (A 36), (A 37), y, 0)) hok rfl k1 k2 o h2 (by show y ≤ _; omega) oa1 ob1 oa2 ob2 (fun z => h4 z hf)
      · show vp_in (nI (12 * L + 2 + lv L)) 36 ∧ _
        refine And.intro vx ?_
        rw [cx]
        refine nm_e ?_
        have ek2 : (A2 36) = (A 36) := (g2 _ (by decide)).trans ek
        have ev2 : (A2 37) = (A 37) := (g2 _ (by decide)).trans ev
        refine xc_b177 (F := F) (A := A) (F' := F2) (A' := tw_s A2 36 (upd (A2 36) (12 * L + 2 + lv L) 0)) (q' := q') (sn' := sn') (fn' := fn') (Dm' := Dm') (qt := qt) hl hcr hcp hen h64 (by omega) hph ?_ ?_ ?_ ?_ ?_ ?_ ?_ K
        · show cc_W P Z U c cn q' sn' fn' qh qt Dm' (L, tw_s lp L (lp L + 1), tw_s lv L (lv L - 1), upd (A2 36) (12 * L + 2 + lv L) 0, (A2 37), 2 * (lp L + 1), 0) 1 F2 (tw_s A2 36 (upd (A2 36) (12 * L + 2 + lv L) 0))
          rw [ek2, ev2]
          exact cc_Wf (cc_We hW2) (fun _ _ _ _ => rfl) (fun j a _ _ => tw_sn a)
        · show dd_ok P (L, tw_s lp L (lp L + 1), tw_s lv L (lv L - 1), upd (A2 36) (12 * L + 2 + lv L) 0, (A2 37), 2 * (lp L + 1), 0)
          rw [ek2, ev2]
          exact dd_okb (D := (L, lp, lv, (A 36), (A 37), y, 0)) hok hp
        · exact (g1 _ (by decide) (by decide)).trans (h1 _ (by decide) (by decide) (by decide))
        · exact (g2 _ (by decide)).trans (h2' _ (by decide))
        · exact (g1 _ (by decide) (by decide)).trans (h1 _ (by decide) (by decide) (by decide))
        · exact (g1 _ (by decide) (by decide)).trans (h1 _ (by decide) (by decide) (by decide))
        · intro j j1 j2
          exact ((tw_sn (by omega)).trans (g2 j (by omega))).trans (h2' j (by omega))
    have f154 : ∀ z0 : Int32, (z0 = (if (A 36) (12 * L + 2 + lv L) = 1 then 1 else 0)) → wX_genBinary_154 post (nI (12 * L + 2 + lv L)) ky s z0 (if (A 36) (12 * L + 3 + lv L) = 0 then nI (12 * L + 3 + lv L) else (A 37) (12 * L + 3 + lv L)) (if (A 36) (12 * L + 2 + lv L) = 0 then nI (12 * L + 2 + lv L) else (A 37) (12 * L + 2 + lv L)) (nI (12 * L + 2 + lv L)) (nI k) (F' 0) (F' 1) (F' 2) (F' 3) (F' 4) (F' 5) (F' 6) (F' 7) (F' 8) (F' 9) (F' 10) (F' 11) (F' 12) (F' 13) (F' 14) (F' 15) (F' 16) (F' 17) (F' 18) (F' 19) (F' 20) (F' 21) (F' 22) (F' 23) (F' 24) (F' 25) (F' 26) (F' 27) (F' 28) (F' 29) (F' 30) (F' 31) (F' 32) (A' 0) (A' 1) (A' 2) (A' 3) (A' 4) (A' 5) (A' 6) (A' 7) (A' 8) (A' 9) (A' 10) (A' 11) (A' 12) (A' 13) (A' 14) (A' 15) (A' 16) (A' 17) (A' 18) (A' 19) (A' 20) (A' 21) (A' 22) (A' 23) (A' 24) (A' 25) (A' 26) (A' 27) (A' 28) (A' 29) (A' 30) (A' 31) (A' 32) (A' 33) (A' 34) (A' 35) (A' 36) (A' 37) (A' 38) (A' 39) (A' 40) (A' 41) := by
      intro z0 ez
      unfold wX_genBinary_154
      refine br_c (fun z => fin 0 z0 ?_ ?_) (fun z => fin 2 z0 ?_ ?_)
      · rw [ez]; split <;> decide
      · have : ¬ (A 36) (12 * L + 3 + lv L) = 1 := by
          intro e; rw [eky, if_pos e] at z; exact absurd z (by decide)
        rw [if_neg this, ez]; split <;> decide
      · rw [ez]; split <;> decide
      · have : (A 36) (12 * L + 3 + lv L) = 1 := by
          by_cases e : (A 36) (12 * L + 3 + lv L) = 1
          · exact e
          · rw [eky, if_neg e] at z; exact absurd rfl z
        rw [if_pos this, ez]; split <;> decide
    unfold wX_genBinary_121
    refine xc_source (F := F') (A := A') hx36 ?_
    refine xc_source (F := F') (A := A') htop ?_
    rw [congrFun ek (12 * L + 2 + lv L), congrFun ek (12 * L + 3 + lv L), congrFun ev (12 * L + 2 + lv L), congrFun ev (12 * L + 3 + lv L)]
    refine br_c (fun z => f154 0 ?_) (fun z => f154 1 ?_)
    · rw [← ekx, z]
    · by_cases e : (A 36) (12 * L + 2 + lv L) = 1
      · rw [if_pos e]
      · rw [ekx, if_neg e] at z; exact absurd rfl z
  have f103 : ∀ kx ky : Int32, kx = (if (A 36) (12 * L + 2 + lv L) = 1 then 1 else 0) → ky = (if (A 36) (12 * L + 3 + lv L) = 1 then 1 else 0) → wX_genBinary_103 post (nI k) (nI (12 * L + 3 + lv L)) (nI (12 * L + 2 + lv L)) kx ky (F 0) (F 1) (F 2) (F 3) (F 4) (F 5) (F 6) (F 7) (F 8) (F 9) (F 10) (F 11) (F 12) (F 13) (F 14) (F 15) (F 16) (F 17) (F 18) (F 19) (F 20) (F 21) (F 22) (F 23) (F 24) (F 25) (F 26) (F 27) (F 28) (F 29) (F 30) (F 31) (F 32) (A 0) (A 1) (A 2) (A 3) (A 4) (A 5) (A 6) (A 7) (A 8) (A 9) (A 10) (A 11) (A 12) (A 13) (A 14) (A 15) (A 16) (A 17) (A 18) (A 19) (A 20) (A 21) (A 22) (A 23) (A 24) (A 25) (A 26) (A 27) (A 28) (A 29) (A 30) (A 31) (A 32) (A 33) (A 34) (A 35) (A 36) (A 37) (A 38) (A 39) (A 40) (A 41) := by
    intro kx ky ekx eky
    unfold wX_genBinary_103
    refine br_c (fun z => ?_) (fun z => ?_)
    · show wpX_snapshot _ (tw_t F A) (F 24)
      rw [hcp]
      refine xc_snapshot (F := F) (A := A) (lp := lp) (lv := lv) (y := y) hW hl hcr rfl hok (fun s F' A' sn' fn' hW' h1 h2 h3 h4 => ?_)
      exact em F' A' sn' fn' s kx ky hW' h1 h2 (fun _ hf => h4 hf) ekx eky
    · exact em F A sn fn 0 kx ky hW (fun _ _ _ _ => rfl) (fun _ _ => rfl) (fun z2 => absurd z2 z) ekx eky
  have f67 : ∀ kx ky : Int32, kx = (if (A 36) (12 * L + 2 + lv L) = 1 then 1 else 0) → ky = (if (A 36) (12 * L + 3 + lv L) = 1 then 1 else 0) → (nI k = 8 → ¬ ky = 0 → ¬ (A 37) (12 * L + 3 + lv L) = 0) → wX_genBinary_67 post (nI k) (nI (12 * L + 3 + lv L)) (nI (12 * L + 2 + lv L)) kx ky (F 0) (F 1) (F 2) (F 3) (F 4) (F 5) (F 6) (F 7) (F 8) (F 9) (F 10) (F 11) (F 12) (F 13) (F 14) (F 15) (F 16) (F 17) (F 18) (F 19) (F 20) (F 21) (F 22) (F 23) (F 24) (F 25) (F 26) (F 27) (F 28) (F 29) (F 30) (F 31) (F 32) (A 0) (A 1) (A 2) (A 3) (A 4) (A 5) (A 6) (A 7) (A 8) (A 9) (A 10) (A 11) (A 12) (A 13) (A 14) (A 15) (A 16) (A 17) (A 18) (A 19) (A 20) (A 21) (A 22) (A 23) (A 24) (A 25) (A 26) (A 27) (A 28) (A 29) (A 30) (A 31) (A 32) (A 33) (A 34) (A 35) (A 36) (A 37) (A 38) (A 39) (A 40) (A 41) := by
    intro kx ky ekx eky hz
    unfold wX_genBinary_67
    refine br_c (fun z => f103 kx ky ekx eky) (fun z => br_c (fun z2 => f103 kx ky ekx eky) (fun z2 => And.intro vx (And.intro vt ?_)))
    have k1x : (A 36) (12 * L + 2 + lv L) = 1 := by
      by_cases e : (A 36) (12 * L + 2 + lv L) = 1
      · exact e
      · rw [ekx, if_neg e] at z; exact absurd rfl z
    have k1t : (A 36) (12 * L + 3 + lv L) = 1 := by
      by_cases e : (A 36) (12 * L + 3 + lv L) = 1
      · exact e
      · rw [eky, if_neg e] at z2; exact absurd rfl z2
    rw [cx, ct]
    refine xx_arith (F := F) (A := A) k1 k2 (fun z3 => hz z3 z2) (And.intro vx (nm_e ?_))
    have ks := cs_fold (D := (L, lp, lv, (A 36), (A 37), y, 0)) (Q := cc_Q A U) (y := 2 * (lp L + 1)) hok rfl k1 k2 o h2 (by show y ≤ _; omega) k1x k1t (fun z3 => hz z3 z2)
    refine xc_b177 (F := F) (A := A) (F' := F) (A' := tw_s A 37 (upd (A 37) (12 * L + 2 + lv L) (mm_ari (nI k) ((A 37) (12 * L + 2 + lv L)) ((A 37) (12 * L + 3 + lv L))))) (q' := q) (sn' := sn) (fn' := fn) (Dm' := Dm) (qt := qt) hl hcr hcp hen h64 (by omega) hph ?_ ?_ rfl rfl rfl rfl (fun j j1 j2 => tw_sn (by omega)) K
    · exact cc_Wf (cc_Ws hW ks) (fun _ _ _ _ => rfl) (fun j _ a _ => tw_sn a)
    · exact dd_okv (D := (L, tw_s lp L (lp L + 1), tw_s lv L (lv L - 1), (A 36), (A 37), 2 * (lp L + 1), 0)) (dd_okq (D := (L, lp, lv, (A 36), (A 37), y, 0)) hok hp) k1x
  have f36 : ∀ kx ky : Int32, kx = (if (A 36) (12 * L + 2 + lv L) = 1 then 1 else 0) → ky = (if (A 36) (12 * L + 3 + lv L) = 1 then 1 else 0) → wX_genBinary_36 post (nI k) (nI (12 * L + 3 + lv L)) (nI (12 * L + 2 + lv L)) kx ky (F 0) (F 1) (F 2) (F 3) (F 4) (F 5) (F 6) (F 7) (F 8) (F 9) (F 10) (F 11) (F 12) (F 13) (F 14) (F 15) (F 16) (F 17) (F 18) (F 19) (F 20) (F 21) (F 22) (F 23) (F 24) (F 25) (F 26) (F 27) (F 28) (F 29) (F 30) (F 31) (F 32) (A 0) (A 1) (A 2) (A 3) (A 4) (A 5) (A 6) (A 7) (A 8) (A 9) (A 10) (A 11) (A 12) (A 13) (A 14) (A 15) (A 16) (A 17) (A 18) (A 19) (A 20) (A 21) (A 22) (A 23) (A 24) (A 25) (A 26) (A 27) (A 28) (A 29) (A 30) (A 31) (A 32) (A 33) (A 34) (A 35) (A 36) (A 37) (A 38) (A 39) (A 40) (A 41) := by
    intro kx ky ekx eky
    unfold wX_genBinary_36
    rw [ct]
    refine br_c (fun z => br_c (fun z2 => f67 kx ky ekx eky (fun _ z3 => absurd z2 z3)) (fun z2 => And.intro vt (br_c (fun z3 => ?_) (fun z3 => f67 kx ky ekx eky (fun _ _ => z3))))) (fun z => f67 kx ky ekx eky (fun z3 => absurd z3 z))
    show wpX_exitAt _ (tw_t F A) (F 24)
    rw [hcp]
    refine xc_exitAt (F := F) (A := A) (Nat.le_refl 1) hW hl hcr rfl hok (fun F' A' q' sn' fn' Dm' hW' h0 h1 h2 h3 => ?_)
    exact K F' A' (Or.inl ⟨h0, c, cn, q', sn', fn', qt, Dm', hW'⟩)
  have f19 : ∀ kx : Int32, kx = (if (A 36) (12 * L + 2 + lv L) = 1 then 1 else 0) → wX_genBinary_19 post (nI k) (nI (12 * L + 3 + lv L)) (nI (12 * L + 2 + lv L)) kx (F 0) (F 1) (F 2) (F 3) (F 4) (F 5) (F 6) (F 7) (F 8) (F 9) (F 10) (F 11) (F 12) (F 13) (F 14) (F 15) (F 16) (F 17) (F 18) (F 19) (F 20) (F 21) (F 22) (F 23) (F 24) (F 25) (F 26) (F 27) (F 28) (F 29) (F 30) (F 31) (F 32) (A 0) (A 1) (A 2) (A 3) (A 4) (A 5) (A 6) (A 7) (A 8) (A 9) (A 10) (A 11) (A 12) (A 13) (A 14) (A 15) (A 16) (A 17) (A 18) (A 19) (A 20) (A 21) (A 22) (A 23) (A 24) (A 25) (A 26) (A 27) (A 28) (A 29) (A 30) (A 31) (A 32) (A 33) (A 34) (A 35) (A 36) (A 37) (A 38) (A 39) (A 40) (A 41) := by
    intro kx ekx
    unfold wX_genBinary_19
    rw [ct]
    exact And.intro vt (br_c (fun z => f36 kx 1 ekx (by rw [if_pos z])) (fun z => f36 kx 0 ekx (by rw [if_neg z])))
  unfold wpX_genBinary
  refine nm_r (e' := nI (12 * L + 2 + lv L)) (by rw [tw_d1 (by omega)]; congr 1; omega) (And.intro vx ?_)
  rw [cx]
  exact br_c (fun z => f19 1 (by rw [if_pos z])) (fun z => f19 0 (by rw [if_neg z]))
end
end
section
/-! the compiler: plain, branches -/
section
variable {P : pp_P} {Z : (Nat → Int32) × (Nat → Nat → Int32)} {U c cn q sn fn qh qt L y ph : Nat} {Dm : Nat → dd_D} {F : Nat → Int32} {A : Nat → Nat → Int32} {lp lv : Nat → Nat}
theorem xc_plain {post : SX → Prop} (hW : cc_W P Z U c cn q sn fn qh qt Dm (L, lp, lv, (A 36), (A 37), y, 0) 1 F A) (hl : cc_lv L lv F A) (hcr : cc_CR A U L c lp lv) (hcp : (F 24) = nI (lp L)) (hen : (F 31) = 0) (hok : dd_ok P (L, lp, lv, (A 36), (A 37), y, 0)) (hy : y ≤ 2 * lp L + 1) (hph : ph = 64 * (8 - cn) + cc_sm lp L)
    (hT : ((pp_op P (lp L) = 0 ∨ pp_op P (lp L) = 1 ∨ pp_op P (lp L) = 3) ∧ lv L < 8) ∨ ((pp_op P (lp L) = 2 ∨ pp_op P (lp L) = 4 ∨ pp_op P (lp L) = 14) ∧ 0 < lv L) ∨ ((∃ k, 5 ≤ k ∧ k ≤ 9 ∧ pp_op P (lp L) = nI k) ∧ 2 ≤ lv L))
    (K : ∀ (F' : Nat → Int32) (A' : Nat → Nat → Int32), cc_N P Z U qh ph 1 F' A' → post (tw_t F' A')) : wpX_plain post (tw_t F A) (pp_op P (lp L)) (pp_ar P (lp L)) (nI (12 * L + 3 + lv L)) := by
  have hl' := hl
  obtain ⟨l1, l2, l3⟩ := hl'
  have hv8 := (l3 L (Nat.le_refl _)).2
  have pok := hW.1
  obtain ⟨p1, p2, p3, p4, p5, p6⟩ := pok
  have hpc : lp L < pp_nc P := (hok.2.1 L (Nat.le_refl _)).2
  have h64 : lp L < 64 := by omega
  obtain ⟨c1, c2, c3, c4, c5, c6, c7, c8⟩ := p5 _ hpc
  have elev : (F 23) * 12 = nI (12 * L) := by rw [l1, tw_m12']
  unfold wpX_plain
  have pushed : ∀ (k v : Int32), cc_S P (cc_Q A U) (L, lp, lv, (A 36), (A 37), y, 0) (dd_pu (L, lp, lv, (A 36), (A 37), y, 0) k v (2 * (lp L + 1))) → lv L < 8 → (k = 0 ∨ k = 1 ∨ (k = 2 ∧ ∃ r, r < 12 * L + 4 + lv L ∧ v = nI r ∧ (dd_lv L lv r → (A 36) r = 0))) → lp L + 1 < pp_nc P → wpX_pushSym post (tw_t F A) k v := by
    intro k v hs h8 hk hp
    exact xc_pushO (F := F) (A := A) (cc_Ws hW hs) hl hcr hcp hen h8 h64 (dd_okp (D := (L, lp, lv, (A 36), (A 37), y, 0)) hok h8 hp hk) (Nat.le_refl _) hph K
  rcases hT with ⟨o | o | o, h⟩ | ⟨o | o | o, h⟩ | ⟨⟨k, k1, k2, o⟩, h⟩
  · have hp := c7 (by rw [o]; decide) (by rw [o]; decide)
    have ks := cs_const (D := (L, lp, lv, (A 36), (A 37), y, 0)) (Q := cc_Q A U) (y := 2 * (lp L + 1)) hok rfl o h (by show y ≤ _; omega)
    have r := pushed 1 (pp_ar P (lp L)) ks h (Or.inr (Or.inl rfl)) hp
    rw [o]
    refine nm_e ?_
    repeat (first | refine br_f (by decide) ?_ | refine br_t (by decide) ?_)
    exact r
  · have hp := c7 (by rw [o]; decide) (by rw [o]; decide)
    have an := c2 (Or.inl o)
    have ea := c6 (by rw [o]; decide)
    have lvlo : dd_lv L lv (12 * L + pp_an P (lp L)) := ⟨L, _, rfl, Nat.le_refl _, by omega, by omega⟩
    rw [o, ea]
    refine nm_r (e' := nI (12 * L + pp_an P (lp L))) (by rw [elev, nI_add]) ?_
    repeat (first | refine br_f (by decide) ?_ | refine br_t (by decide) ?_)
    have v36 : vp_in (nI (12 * L + pp_an P (lp L))) 36 := vp_in_nI (by omega) (by omega)
    refine And.intro v36 ?_
    rw [nI_clamp (by omega)]
    refine br_c (fun z => ?_) (fun z => And.intro v36 (And.intro v36 ?_))
    · exact pushed 2 (nI (12 * L + pp_an P (lp L))) (cs_load (D := (L, lp, lv, (A 36), (A 37), y, 0)) hok rfl o rfl an h (by show y ≤ _; omega) (Or.inl ⟨z, rfl, rfl⟩)) h (Or.inr (Or.inr ⟨rfl, _, by omega, rfl, fun _ => z⟩)) hp
    · refine pushed ((A 36) (12 * L + pp_an P (lp L))) ((A 37) (12 * L + pp_an P (lp L))) (cs_load (D := (L, lp, lv, (A 36), (A 37), y, 0)) hok rfl o rfl an h (by show y ≤ _; omega) (Or.inr ⟨z, rfl, rfl⟩)) h ?_ hp
      rcases hok.2.2.2 _ lvlo z with e | ⟨e, r, r1, r2, r3⟩
      · exact Or.inr (Or.inl e)
      · exact Or.inr (Or.inr ⟨e, r, by omega, r2, r3⟩)
  · have hp := c7 (by rw [o]; decide) (by rw [o]; decide)
    have an := c3 (Or.inl o)
    have ea := c6 (by rw [o]; decide)
    have r := xc_genGload (F := F) (A := A) (post := post) hW hl hcr hcp hen hok hy hph o rfl an h hp K
    have e1 : nI (12 * L + 3 + lv L) + 1 = nI (12 * L + 4 + lv L) := by rw [nI_1]; congr 1; omega
    rw [o, ea]
    refine nm_e ?_
    repeat (first | refine br_f (by decide) ?_ | refine br_t (by decide) ?_)
    rw [e1]
    exact r
  · have hp := c7 (by rw [o]; decide) (by rw [o]; decide)
    have an := c2 (Or.inr o)
    have ea := c6 (by rw [o]; decide)
    have r := xc_genStore (F := F) (A := A) (post := post) hW hl hcr hcp hen hok hy hph o rfl an h hp K
    rw [o, ea]
    refine nm_r (e' := nI (12 * L + pp_an P (lp L))) (by rw [elev, nI_add]) ?_
    repeat (first | refine br_f (by decide) ?_ | refine br_t (by decide) ?_)
    exact r
  · have hp := c7 (by rw [o]; decide) (by rw [o]; decide)
    have an := c3 (Or.inr o)
    have ea := c6 (by rw [o]; decide)
    have r := xc_gstore (F := F) (A := A) (post := post) hW hl hcr hcp hen hok hy hph o rfl an h hp K
    rw [o, ea]
    refine nm_e ?_
    repeat (first | refine br_f (by decide) ?_ | refine br_t (by decide) ?_)
    exact r
  · have hp := c7 (by rw [o]; decide) (by rw [o]; decide)
    have r := xc_out (F := F) (A := A) (post := post) hW hl hcr hcp hen hok hy hph o h hp K
    rw [o]
    refine nm_e ?_
    repeat (first | refine br_f (by decide) ?_ | refine br_t (by decide) ?_)
    exact r
  · have hp := c7 (by rw [o]; exact tw_ne (b := 10) (by omega) (by omega) (by omega)) (by rw [o]; exact tw_ne (b := 13) (by omega) (by omega) (by omega))
    have r := xc_genBinary (F := F) (A := A) (post := post) hW hl hcr hcp hen hok hy hph k1 k2 o h hp K
    rw [o]
    refine nm_e ?_
    have cc : k = 5 ∨ k = 6 ∨ k = 7 ∨ k = 8 ∨ k = 9 := by omega
    rcases cc with rfl | rfl | rfl | rfl | rfl
    iterate 5
      · repeat (first | refine br_f (by decide) ?_ | refine br_t (by decide) ?_)
        exact r
/-- tick at a jump to a: nothing, or a frame state and TICK -/
theorem xc_tick {post : SX → Prop} {a : Nat} (D' : dd_D) (hW : cc_W P Z U c cn q sn fn qh qt Dm (L, lp, lv, (A 36), (A 37), y, 0) 1 F A) (hl : cc_lv L lv F A) (hcr : cc_CR A U L c lp lv) (hcp : (F 24) = nI (lp L)) (hok : dd_ok P (L, lp, lv, (A 36), (A 37), y, 0)) (ha : a < 64)
    (hi : a ≤ lp L → ∀ (SR TJ : Int32 → dd_D → Prop) (s : Int32), SR s (L, lp, lv, (A 36), (A 37), y, 0) → cc_I P (cc_Q A U) SR TJ (L, lp, lv, (A 36), (A 37), y, 0) D' 16 0 0 0 3 s)
    (hs : lp L < a → cc_S P (cc_Q A U) (L, lp, lv, (A 36), (A 37), y, 0) D')
    (K : ∀ (F' : Nat → Int32) (A' : Nat → Nat → Int32) (q' sn' fn' : Nat) (Dm' : Nat → dd_D), cc_W P Z U c cn q' sn' fn' qh qt Dm' D' 1 F' A' → (∀ j, j ≠ 25 → j ≠ 26 → j ≠ 27 → j ≠ 32 → F' j = F j) → (∀ j, ¬ (18 ≤ j ∧ j ≤ 31) → A' j = A j) → ((F' 32) = 0 → (F 32) = 0) → post (tw_t F' A')) : wpX_tick post (tw_t F A) (nI a) := by
  have hpc : lp L < pp_nc P := (hok.2.1 L (Nat.le_refl _)).2
  have n64 := hW.1.1
  unfold wpX_tick
  refine pk_lt (lp L) a (fun z => ?_) (fun z => ?_) (hx := hcp) (ha := by omega) (hb := by omega)
  · exact K F A q sn fn Dm (cc_Ws hW (hs z)) (fun _ _ _ _ _ => rfl) (fun _ _ => rfl) (fun h => h)
  · show wpX_guard _ (tw_t F A) 16 (F 24) 0
    rw [hcp]
    refine xc_guard (F := F) (A := A) (Nat.le_refl 1) hW hl hcr rfl hok (fun _ => hi z) (fun F' A' q' sn' fn' Dm' hW' h1 h2 h3 => ?_)
    exact K F' A' q' sn' fn' Dm' (cc_We hW') h1 h2 h3
end
end
section
/-! the compiler: calls -/
def cc_pk (kd : Nat → Int32) (to : Nat) (f : Nat → Int32) : Nat → Nat → Int32
  | 0 => kd
  | j + 1 => upd (cc_pk kd to f j) (to + j) (f j)
theorem cc_pkl {kd f : Nat → Int32} {to t : Nat} (h : t < to) : ∀ j, cc_pk kd to f j t = kd t
  | 0 => rfl
  | j + 1 => by show upd (cc_pk kd to f j) (to + j) (f j) t = kd t; rw [pk_un (by omega)]; exact cc_pkl h j
theorem cc_pka {kd f : Nat → Int32} {to i : Nat} : ∀ j, i < j → cc_pk kd to f j (to + i) = f i
  | 0, h => absurd h (by omega)
  | j + 1, h => by
    show upd (cc_pk kd to f j) (to + j) (f j) (to + i) = f i
    by_cases e : i = j
    · subst e; exact pk_us
    · rw [pk_un (by omega)]; exact cc_pka j (by omega)
def cc_ak (kd : Nat → Int32) (from' n : Nat) : Nat → Int32 := fun i => if i < n then (if kd (from' + i) = 1 then 1 else 2) else 1
def cc_av (kd vl : Nat → Int32) (from' n : Nat) : Nat → Int32 := fun i => if i < n then (if kd (from' + i) = 0 then nI (from' + i) else vl (from' + i)) else 0
theorem xc_passL {post : SX → Prop} {F : Nat → Int32} {A : Nat → Nat → Int32} {fr n to : Nat} (hn : fr + n ≤ to) (ht : to + 4 ≤ 36) (n4 : n ≤ 4)
    (K : post (tw_t F (tw_s (tw_s A 36 (cc_pk (A 36) to (cc_ak (A 36) fr n) 4)) 37 (cc_pk (A 37) to (cc_av (A 36) (A 37) fr n) 4)))) :
    ∀ (k i N : Nat), i + k = 4 → k < N → wX_passArgs_14 post (nI n) (nI fr) (nI to) (F 0) (F 1) (F 2) (F 3) (F 4) (F 5) (F 6) (F 7) (F 8) (F 9) (F 10) (F 11) (F 12) (F 13) (F 14) (F 15) (F 16) (F 17) (F 18) (F 19) (F 20) (F 21) (F 22) (F 23) (F 24) (F 25) (F 26) (F 27) (F 28) (F 29) (F 30) (F 31) (F 32) N (nI i) (A 0) (A 1) (A 2) (A 3) (A 4) (A 5) (A 6) (A 7) (A 8) (A 9) (A 10) (A 11) (A 12) (A 13) (A 14) (A 15) (A 16) (A 17) (A 18) (A 19) (A 20) (A 21) (A 22) (A 23) (A 24) (A 25) (A 26) (A 27) (A 28) (A 29) (A 30) (A 31) (A 32) (A 33) (A 34) (A 35) (cc_pk (A 36) to (cc_ak (A 36) fr n) i) (cc_pk (A 37) to (cc_av (A 36) (A 37) fr n) i) (A 38) (A 39) (A 40) (A 41)
  | 0, i, N, hi, hN => by
    obtain ⟨N, rfl⟩ : ∃ n', N = n' + 1 := ⟨N - 1, by omega⟩
    have e : i = 4 := by omega
    subst e
    unfold wX_passArgs_14
    exact br_t (by decide) K
  | k + 1, i, N, hi, hN => by
    obtain ⟨N, rfl⟩ : ∃ n', N = n' + 1 := ⟨N - 1, by omega⟩
    have ih := xc_passL hn ht n4 K k (i + 1) N (by omega) (by omega)
    have v1 : vp_in (nI (to + i)) 36 := vp_in_nI (by omega) (by omega)
    have c1 : (nI (to + i)).toNatClampNeg = to + i := nI_clamp (by omega)
    have f52 : ∀ z0 : Int32, z0 = cc_ak (A 36) fr n i → wX_passArgs_52 post (wX_passArgs_14 post (nI n) (nI fr) (nI to) (F 0) (F 1) (F 2) (F 3) (F 4) (F 5) (F 6) (F 7) (F 8) (F 9) (F 10) (F 11) (F 12) (F 13) (F 14) (F 15) (F 16) (F 17) (F 18) (F 19) (F 20) (F 21) (F 22) (F 23) (F 24) (F 25) (F 26) (F 27) (F 28) (F 29) (F 30) (F 31) (F 32) N) (nI n) (nI fr) (nI to) (nI i) z0 (nI (to + i)) (F 0) (F 1) (F 2) (F 3) (F 4) (F 5) (F 6) (F 7) (F 8) (F 9) (F 10) (F 11) (F 12) (F 13) (F 14) (F 15) (F 16) (F 17) (F 18) (F 19) (F 20) (F 21) (F 22) (F 23) (F 24) (F 25) (F 26) (F 27) (F 28) (F 29) (F 30) (F 31) (F 32) (A 0) (A 1) (A 2) (A 3) (A 4) (A 5) (A 6) (A 7) (A 8) (A 9) (A 10) (A 11) (A 12) (A 13) (A 14) (A 15) (A 16) (A 17) (A 18) (A 19) (A 20) (A 21) (A 22) (A 23) (A 24) (A 25) (A 26) (A 27) (A 28) (A 29) (A 30) (A 31) (A 32) (A 33) (A 34) (A 35) (cc_pk (A 36) to (cc_ak (A 36) fr n) i) (cc_pk (A 37) to (cc_av (A 36) (A 37) fr n) i) (A 38) (A 39) (A 40) (A 41) := by
      intro z0 ez
      unfold wX_passArgs_52
      rw [c1, ez]
      refine And.intro v1 (nm_e ?_)
      refine pk_lt i n (fun z => ?_) (fun z => ?_) (ha := by omega) (hb := by omega)
      · rw [nI_add, nI_add]
        refine xc_source (F := F) (A := tw_s (tw_s A 36 (upd (cc_pk (A 36) to (cc_ak (A 36) fr n) i) (to + i) (cc_ak (A 36) fr n i))) 37 (cc_pk (A 37) to (cc_av (A 36) (A 37) fr n) i)) (t := fr + i) (by omega) ?_
        show vp_in (nI (to + i)) 36 ∧ _
        refine And.intro v1 ?_
        rw [c1]
        have ev : (if upd (cc_pk (A 36) to (cc_ak (A 36) fr n) i) (to + i) (cc_ak (A 36) fr n i) (fr + i) = 0 then nI (fr + i) else cc_pk (A 37) to (cc_av (A 36) (A 37) fr n) i (fr + i)) = cc_av (A 36) (A 37) fr n i := by
          unfold cc_av
          rw [pk_un (by omega), cc_pkl (by omega), cc_pkl (by omega), if_pos z]
        refine nm_r (e' := upd (cc_pk (A 37) to (cc_av (A 36) (A 37) fr n) i) (to + i) (cc_av (A 36) (A 37) fr n i)) (congrArg _ ev) (nm_r (nI_1 i) ih)
      · rw [nI_add, c1]
        have ev : (0 : Int32) = cc_av (A 36) (A 37) fr n i := by unfold cc_av; rw [if_neg (by omega)]
        refine And.intro v1 (nm_r (e' := upd (cc_pk (A 37) to (cc_av (A 36) (A 37) fr n) i) (to + i) (cc_av (A 36) (A 37) fr n i)) (congrArg _ ev) (nm_r (nI_1 i) ih))
    unfold wX_passArgs_14
    refine br_f (nI_ge (b := 4) (by omega) (by decide)) ?_
    rw [nI_add, nI_add]
    refine pk_le n i (fun z => ?_) (fun z => And.intro (vp_in_nI (by omega) (by omega)) ?_) (ha := by omega) (hb := by omega)
    · exact f52 1 (by unfold cc_ak; rw [if_neg (by omega)])
    · rw [nI_clamp (by omega), cc_pkl (by omega)]
      exact br_c (fun y => f52 1 (by unfold cc_ak; rw [if_pos z, if_pos y])) (fun y => f52 2 (by unfold cc_ak; rw [if_pos z, if_neg y]))
section
variable {P : pp_P} {Z : (Nat → Int32) × (Nat → Nat → Int32)} {U c cn q sn fn qh qt L y ph : Nat} {Dm : Nat → dd_D} {F : Nat → Int32} {A : Nat → Nat → Int32} {lp lv : Nat → Nat}
/-- no inlining: leave before the call -/
theorem xc_call52 {post : SX → Prop} {rest : Nat} (hW : cc_W P Z U c cn q sn fn qh qt Dm (L, lp, lv, (A 36), (A 37), y, 0) 1 F A) (hl : cc_lv L lv F A) (hcr : cc_CR A U L c lp lv) (hcp : (F 24) = nI (lp L)) (hok : dd_ok P (L, lp, lv, (A 36), (A 37), y, 0))
    (hr : rest + 1 ≤ 8) (hp : lp L + 1 < pp_nc P)
    (K : ∀ (F' : Nat → Int32) (A' : Nat → Nat → Int32), cc_N P Z U qh ph 0 F' A' → post (tw_t F' A')) : wX_genCall_52 post (nI rest) (F 0) (F 1) (F 2) (F 3) (F 4) (F 5) (F 6) (F 7) (F 8) (F 9) (F 10) (F 11) (F 12) (F 13) (F 14) (F 15) (F 16) (F 17) (F 18) (F 19) (F 20) (F 21) (F 22) (F 23) (F 24) (F 25) (F 26) (F 27) (F 28) (F 29) (F 30) (F 31) (F 32) (A 0) (A 1) (A 2) (A 3) (A 4) (A 5) (A 6) (A 7) (A 8) (A 9) (A 10) (A 11) (A 12) (A 13) (A 14) (A 15) (A 16) (A 17) (A 18) (A 19) (A 20) (A 21) (A 22) (A 23) (A 24) (A 25) (A 26) (A 27) (A 28) (A 29) (A 30) (A 31) (A 32) (A 33) (A 34) (A 35) (A 36) (A 37) (A 38) (A 39) (A 40) (A 41) := by
  have hl' := hl
  obtain ⟨l1, l2, l3⟩ := hl'
  unfold wX_genCall_52
  show wpX_exitAt _ (tw_t F A) (F 24)
  rw [hcp]
  refine xc_exitAt (F := F) (A := A) (Nat.le_refl 1) hW hl hcr rfl hok (fun F' A' q' sn' fn' Dm' hW' h0 h1 h2 h3 => ?_)
  have e23 : (F' 23) = nI L := (h1 _ (by decide) (by decide) (by decide) (by decide) (by decide)).trans l1
  have vl : vp_in (F' 23) 3 := tw_in e23 (by omega) (by omega)
  have cl : ((F' 23)).toNatClampNeg = L := tw_cl e23 (by omega)
  refine And.intro vl (nm_r (e' := upd (A' 38) L (nI (rest + 1))) (by rw [cl, nI_1]) ?_)
  have hW2 : ∀ D', cc_W P Z U c cn q' sn' fn' qh qt Dm' D' 0 F' (tw_s A' 38 (upd (A' 38) L (nI (rest + 1)))) := fun D' => cc_Wf (hW' D') (fun _ _ _ _ => rfl) (fun j _ _ a => tw_sn a)
  refine br_c (fun z => ?_) (fun z => ?_)
  · have eL : L = 0 := by rw [e23] at z; exact (nI_eq (b := 0) (by omega) (by omega)).mp z
    subst eL
    have ecp : (F' 24) + 1 = nI (lp 0 + 1) := by rw [h1 _ (by decide) (by decide) (by decide) (by decide) (by decide), hcp, nI_1]
    rw [ecp]
    refine xc_claimS (F := F') (A := tw_s A' 38 (upd (A' 38) 0 (nI (rest + 1)))) (L := 0) (lv := fun _ => rest + 1) (D := (0, lp, lv, (A 36), (A 37), y, 0)) (fun _ => True) trivial (fun D' _ => hW2 D') ⟨e23, by omega, fun l hl => ?_⟩ hp (fun F2 A2 qt' hW3 g1 g2 g3 => ?_) ?_
    · have e0 : l = 0 := by omega
      subst e0
      exact ⟨pk_us, hr⟩
    · exact K F2 A2 (Or.inl ⟨(g1 _ (by decide)).trans h0, c, cn, q', sn', fn', qt', Dm', fun D' => hW3 D' trivial⟩)
    · exact K F' _ (Or.inl ⟨h0, c, cn, q', sn', fn', qt, Dm', hW2⟩)
  · exact K F' (tw_s A' 38 (upd (A' 38) L (nI (rest + 1)))) (Or.inl ⟨h0, c, cn, q', sn', fn', qt, Dm', hW2⟩)
theorem dd_okc {D : dd_D} {n st y' : Nat} (hok : dd_ok P D) (hL : dd_L D < 2) (hn : n ≤ dd_h D (dd_L D)) (n4 : n ≤ 4) (h7 : dd_h D (dd_L D) - n ≤ 7) (hp : dd_p D (dd_L D) + 1 < pp_nc P) (hst : st < pp_nc P) :
    dd_ok P (dd_L D + 1, tw_s (tw_s (dd_p D) (dd_L D) (dd_p D (dd_L D) + 1)) (dd_L D + 1) st, tw_s (tw_s (dd_h D) (dd_L D) (dd_h D (dd_L D) - n)) (dd_L D + 1) 0, cc_pk (dd_k D) (12 * (dd_L D + 1)) (cc_ak (dd_k D) (12 * dd_L D + 4 + (dd_h D (dd_L D) - n)) n) 4, cc_pk (dd_v D) (12 * (dd_L D + 1)) (cc_av (dd_k D) (dd_v D) (12 * dd_L D + 4 + (dd_h D (dd_L D) - n)) n) 4, y', 0) := by
  obtain ⟨a, b, c, d⟩ := hok
  have hb8 := (b _ (Nat.le_refl (dd_L D))).1
  have down : ∀ r, dd_lv (dd_L D + 1) (tw_s (tw_s (dd_h D) (dd_L D) (dd_h D (dd_L D) - n)) (dd_L D + 1) 0) r → r < 12 * (dd_L D + 1) → dd_lv (dd_L D) (dd_h D) r ∧ (r < 12 * dd_L D + 4 + (dd_h D (dd_L D) - n)) := by
    intro r hr hlt
    obtain ⟨l, o, e, h1, h2, h3⟩ := hr
    have hl : l ≤ dd_L D := by omega
    rw [tw_sn (by omega)] at h3
    by_cases z : l = dd_L D
    · subst z
      rw [tw_ss] at h3
      exact ⟨⟨dd_L D, o, e, Nat.le_refl _, h2, by omega⟩, by omega⟩
    · rw [tw_sn z] at h3
      exact ⟨⟨l, o, e, hl, h2, h3⟩, by omega⟩
  refine ⟨?_, fun l hl => ?_, fun l hl => ?_, fun t h1 h2 => ?_⟩
  · show dd_L D + 1 ≤ 2; omega
  · have hl' : l ≤ dd_L D + 1 := hl
    show tw_s (tw_s (dd_h D) (dd_L D) (dd_h D (dd_L D) - n)) (dd_L D + 1) 0 l ≤ 8 ∧ tw_s (tw_s (dd_p D) (dd_L D) (dd_p D (dd_L D) + 1)) (dd_L D + 1) st l < pp_nc P
    by_cases z : l = dd_L D + 1
    · rw [tw_se z, tw_se z]; exact ⟨by omega, hst⟩
    · rw [tw_sn z, tw_sn z]
      by_cases z2 : l = dd_L D
      · rw [tw_se z2, tw_se z2]; exact ⟨by omega, hp⟩
      · rw [tw_sn z2, tw_sn z2]; exact b l (by omega)
  · have hl' : l < dd_L D + 1 := hl
    show tw_s (tw_s (dd_h D) (dd_L D) (dd_h D (dd_L D) - n)) (dd_L D + 1) 0 l ≤ 7
    rw [tw_sn (by omega)]
    by_cases z2 : l = dd_L D
    · rw [tw_se z2]; exact h7
    · rw [tw_sn z2]; exact c l (by omega)
  · have h2' : ¬ cc_pk (dd_k D) (12 * (dd_L D + 1)) (cc_ak (dd_k D) (12 * dd_L D + 4 + (dd_h D (dd_L D) - n)) n) 4 t = 0 := h2
    show cc_pk (dd_k D) (12 * (dd_L D + 1)) (cc_ak (dd_k D) (12 * dd_L D + 4 + (dd_h D (dd_L D) - n)) n) 4 t = 1 ∨ (cc_pk (dd_k D) (12 * (dd_L D + 1)) (cc_ak (dd_k D) (12 * dd_L D + 4 + (dd_h D (dd_L D) - n)) n) 4 t = 2 ∧ ∃ r, r < t ∧ cc_pk (dd_v D) (12 * (dd_L D + 1)) (cc_av (dd_k D) (dd_v D) (12 * dd_L D + 4 + (dd_h D (dd_L D) - n)) n) 4 t = nI r ∧ (dd_lv (dd_L D + 1) (tw_s (tw_s (dd_h D) (dd_L D) (dd_h D (dd_L D) - n)) (dd_L D + 1) 0) r → cc_pk (dd_k D) (12 * (dd_L D + 1)) (cc_ak (dd_k D) (12 * dd_L D + 4 + (dd_h D (dd_L D) - n)) n) 4 r = 0))
    by_cases z : t < 12 * (dd_L D + 1)
    · rw [cc_pkl z] at h2' ⊢
      rw [cc_pkl z]
      rcases d t (down t h1 z).1 h2' with e | ⟨e, r, r1, r2, r3⟩
      · exact Or.inl e
      · refine Or.inr ⟨e, r, r1, r2, fun hr => ?_⟩
        rw [cc_pkl (by omega)]
        exact r3 (down r hr (by omega)).1
    · obtain ⟨i, hi, rfl⟩ : ∃ i, i < 4 ∧ t = 12 * (dd_L D + 1) + i := by
        obtain ⟨l, o, e, q1, q2, q3⟩ := h1
        have q1' : l ≤ dd_L D + 1 := q1
        have el : l = dd_L D + 1 := by omega
        have q3' : o < 4 + tw_s (tw_s (dd_h D) (dd_L D) (dd_h D (dd_L D) - n)) (dd_L D + 1) 0 l := q3
        rw [tw_se el] at q3'
        exact ⟨o, by omega, by rw [e, el]⟩
      rw [cc_pka 4 hi, cc_pka 4 hi]
      unfold cc_ak cc_av
      by_cases zi : i < n
      · rw [if_pos zi, if_pos zi]
        have lvf : dd_lv (dd_L D) (dd_h D) (12 * dd_L D + 4 + (dd_h D (dd_L D) - n) + i) := ⟨dd_L D, 4 + (dd_h D (dd_L D) - n) + i, by omega, Nat.le_refl _, by omega, by omega⟩
        by_cases k1 : dd_k D (12 * dd_L D + 4 + (dd_h D (dd_L D) - n) + i) = 1
        · rw [if_pos k1]; exact Or.inl rfl
        · rw [if_neg k1]
          refine Or.inr ⟨rfl, ?_⟩
          by_cases k0 : dd_k D (12 * dd_L D + 4 + (dd_h D (dd_L D) - n) + i) = 0
          · rw [if_pos k0]
            refine ⟨_, by omega, rfl, fun hr => ?_⟩
            have := (down _ hr (by omega)).2
            omega
          · rw [if_neg k0]
            rcases d _ lvf k0 with e | ⟨e, r, r1, r2, r3⟩
            · exact absurd e k1
            · refine ⟨r, by omega, r2, fun hr => ?_⟩
              have := cc_pkl (kd := dd_k D) (f := cc_ak (dd_k D) (12 * dd_L D + 4 + (dd_h D (dd_L D) - n)) n) (to := 12 * (dd_L D + 1)) (t := r) (by omega) 4
              unfold cc_ak at this
              rw [this]
              exact r3 (down r hr (by omega)).1
      · rw [if_neg zi]; exact Or.inl rfl
end
end
section
/-! the compiler: an inlined call -/
theorem xc_length {P : pp_P} {post : Int32 → Prop} {F : Nat → Int32} {A : Nat → Nat → Int32} {f : Nat} (hP : pp_ok P) (hQ : xx_P P F A) (hf : f < pp_nf P) (K : post (nI (pp_fe P f - pp_fs P f))) : wpX_length post (tw_t F A) (nI f) := by
  obtain ⟨p1, p2, p3, p4, p5, p6⟩ := hP
  obtain ⟨q1, q2, q3, q4, q5, q6, q7, q8, q9⟩ := hQ
  obtain ⟨f1, f2, f3, f4, f5, f6⟩ := p6 f hf
  have v1 : vp_in (nI f) 8 := vp_in_nI (by omega) (by omega)
  have cf : (nI f).toNatClampNeg = f := nI_clamp (by omega)
  have fe : pp_fe P f = if f + 1 < pp_nf P then pp_fs P (f + 1) else pp_nc P := rfl
  unfold wpX_length
  rw [nI_1, cf]
  refine pk_le (pp_nf P) (f + 1) (fun z => And.intro v1 ?_) (fun z => And.intro (vp_in_nI (by omega) (by omega)) (And.intro v1 ?_)) (hx := q1) (ha := by omega) (hb := by omega)
  · rw [fe, if_neg (by omega)] at K f5
    rw [q8 f hf, q2, pk_sub (by omega)]
    exact K
  · rw [fe, if_pos z] at K f5
    rw [nI_clamp (by omega), q8 f hf, q8 (f + 1) z, pk_sub (by omega)]
    exact K
section
variable {P : pp_P} {Z : (Nat → Int32) × (Nat → Nat → Int32)} {U c cn q sn fn qh qt L y ph : Nat} {Dm : Nat → dd_D} {F : Nat → Int32} {A : Nat → Nat → Int32} {lp lv : Nat → Nat}
/-- the new context's entries -/
def cc_nc (A : Nat → Nat → Int32) (i : Nat) (a b c d : Int32) (lvh kd vl : Nat → Int32) : Nat → Nat → Int32 :=
  tw_s (tw_s (tw_s (tw_s (tw_s (tw_s (tw_s A 36 kd) 37 vl) 38 lvh) 32 (upd (A 32) i a)) 33 (upd (A 33) i b)) 34 (upd (A 34) i c)) 35 (upd (A 35) i d)
theorem cc_ncj {i j : Nat} {a b c d : Int32} {lvh kd vl : Nat → Int32} (h : ¬ (32 ≤ j ∧ j ≤ 38)) : cc_nc A i a b c d lvh kd vl j = A j := by
  unfold cc_nc
  rw [tw_sn (by omega), tw_sn (by omega), tw_sn (by omega), tw_sn (by omega), tw_sn (by omega), tw_sn (by omega), tw_sn (by omega)]
theorem cc_ncx {i j k : Nat} {a b c d : Int32} {lvh kd vl : Nat → Int32} (h1 : 32 ≤ j) (h2 : j ≤ 35) (hk : k ≠ i) : cc_nc A i a b c d lvh kd vl j k = A j k := by
  have cj : j = 32 ∨ j = 33 ∨ j = 34 ∨ j = 35 := by omega
  rcases cj with rfl | rfl | rfl | rfl
  · exact pk_un hk
  · exact pk_un hk
  · exact pk_un hk
  · exact pk_un hk
/-- a context more: the callee's -/
theorem cc_Wnew {D : dd_D} {e : Nat} {F' : Nat → Int32} {lvh kd vl : Nat → Int32} {lp' lv' : Nat → Nat} (hW : cc_W P Z U c cn q sn fn qh qt Dm D e F A) (hcn : cn < 8) (hL : L < 2) (hcr : cc_CR A U L c lp' lv') (h64 : lp' L < 64) (h7 : lv' L ≤ 7) (hnc : ∀ l, l < L + 1 → lp' l < pp_nc P)
    (h1 : (F' 22) = nI (8 * U + cn)) (h2 : (F' 28) = nI (8 * U + (cn + 1))) (hF : ∀ j, j ≠ 22 → j ≠ 23 → j ≠ 24 → j ≠ 28 → F' j = F j) :
    cc_W P Z U cn (cn + 1) q sn fn qh qt Dm D e F' (cc_nc A (8 * U + cn) (nI (8 * U + c)) (nI (lp' L)) (nI (lv' L)) (nI (L + 1)) lvh kd vl)
    ∧ cc_CR (cc_nc A (8 * U + cn) (nI (8 * U + c)) (nI (lp' L)) (nI (lv' L)) (nI (L + 1)) lvh kd vl) U (L + 1) cn lp' lv' := by
  obtain ⟨w0, w1, w2, w3, w4, w5, w6⟩ := hW
  obtain ⟨b1, b2, b3, b4, b5, b6, b7⟩ := w2
  have hx : ∀ j, 32 ≤ j → j ≤ 35 → ∀ i, i < 8 * U + cn → cc_nc A (8 * U + cn) (nI (8 * U + c)) (nI (lp' L)) (nI (lv' L)) (nI (L + 1)) lvh kd vl j i = A j i := fun j j1 j2 i hi => cc_ncx j1 j2 (by omega)
  have hj : ∀ j, ¬ (32 ≤ j ∧ j ≤ 38) → cc_nc A (8 * U + cn) (nI (8 * U + c)) (nI (lp' L)) (nI (lv' L)) (nI (L + 1)) lvh kd vl j = A j := fun j h => cc_ncj h
  have new : cc_CR (cc_nc A (8 * U + cn) (nI (8 * U + c)) (nI (lp' L)) (nI (lv' L)) (nI (L + 1)) lvh kd vl) U (L + 1) cn lp' lv' :=
    ⟨hL, hcn, pk_us, pk_us, pk_us, h64, h7, c, b4, pk_us, cc_CRm hx _ _ _ _ b4 hcr⟩
  refine ⟨⟨w0, ?_, ?_, ?_, ?_, fun hf => ?_, ?_⟩, new⟩
  · obtain ⟨q1, q2, q3, q4, q5, q6, q7, q8, q9⟩ := w1
    exact ⟨(hF _ (by decide) (by decide) (by decide) (by decide)).trans q1, (hF _ (by decide) (by decide) (by decide) (by decide)).trans q2, (hF _ (by decide) (by decide) (by decide) (by decide)).trans q3, (hF _ (by decide) (by decide) (by decide) (by decide)).trans q4, (hj 0 (by decide)).trans q5, (hj 1 (by decide)).trans q6, (hj 2 (by decide)).trans q7, fun f hf => (congrFun (hj 3 (by decide)) f).trans (q8 f hf), fun f hf => (congrFun (hj 4 (by decide)) f).trans (q9 f hf)⟩
  · refine ⟨b1, (hF _ (by decide) (by decide) (by decide) (by decide)).trans b2, h1, by omega, by omega, h2, fun c' hc' => ?_⟩
    by_cases z : c' = cn
    · subst z; exact ⟨L + 1, lp', lv', new, hnc⟩
    · obtain ⟨L', lp2, lh2, x1, x2⟩ := b7 c' (by omega)
      exact ⟨L', lp2, lh2, cc_CRm hx _ _ _ _ (by omega) x1, x2⟩
  · obtain ⟨c1, c2, c3, c4, c5, c6, c7, c8, c9, c10⟩ := w3
    refine ⟨(hF _ (by decide) (by decide) (by decide) (by decide)).trans c1, c2, c3, (hF _ (by decide) (by decide) (by decide) (by decide)).trans c4, c5, c6, (hF _ (by decide) (by decide) (by decide) (by decide)).trans c7, c8, c9, ?_⟩
    rw [hF 32 (by decide) (by decide) (by decide) (by decide)]
    exact c10
  · obtain ⟨d1, d2, d3, d4, d5, d6⟩ := w4
    unfold cc_B3
    rw [hj 40 (by decide), hj 41 (by decide)]
    refine ⟨(hF _ (by decide) (by decide) (by decide) (by decide)).trans d1, (hF _ (by decide) (by decide) (by decide) (by decide)).trans d2, d3, fun k hk => ?_, d5, d6⟩
    rcases d4 k hk with z | ⟨h, y1, y2, y3, y4⟩
    · exact Or.inl z
    · exact Or.inr ⟨h, y1, y2, by omega, y4⟩
  · rw [hF 32 (by decide) (by decide) (by decide) (by decide)] at hf
    refine cc_Hgrow (fun j a b i _ => congrFun (hj j (by omega)) i) (fun j a b i _ => congrFun (hj j (by omega)) i) (fun j a b i _ => congrFun (hj j (by omega)) i) hx (hj _ (by decide)) (hj _ (by decide)) (hj _ (by decide)) (fun gl hg => ?_) (Nat.le_refl _) (Nat.le_refl _) (by omega) (w5 hf)
    unfold cc_Q at hg ⊢
    rw [hj 14 (by decide), hj 10 (by decide)] at hg
    exact hg
  · obtain ⟨z1, z2, z3, z4, z5, z6, z7⟩ := w6
    refine ⟨fun j h => (hF j (by omega) (by omega) (by omega) (by omega)).trans (z1 j h), fun j h h14 => (hj j (by omega)).trans (z2 j h h14), fun V hV => (congrFun (hj 14 (by decide)) V).trans (z3 V hV), fun j j1 j2 i hi => (congrFun (hj j (by omega)) i).trans (z4 j j1 j2 i hi), fun j j1 j2 i hi => (congrFun (hj j (by omega)) i).trans (z5 j j1 j2 i hi), fun j j1 j2 i hi => (congrFun (hj j (by omega)) i).trans (z6 j j1 j2 i hi), fun j j1 j2 i hi => (cc_ncx j1 j2 (by omega)).trans (z7 j j1 j2 i hi)⟩
theorem xc_genCall {post : SX → Prop} {a : Nat} (hW : cc_W P Z U c cn q sn fn qh qt Dm (L, lp, lv, (A 36), (A 37), y, 0) 1 F A) (hl : cc_lv L lv F A) (hcr : cc_CR A U L c lp lv) (hcp : (F 24) = nI (lp L)) (hen : (F 31) = 0) (hok : dd_ok P (L, lp, lv, (A 36), (A 37), y, 0)) (hph : ph = 64 * (8 - cn) + cc_sm lp L)
    (o : pp_op P (lp L) = 12) (han : pp_an P (lp L) = a) (ha : a < pp_nf P) (h2 : pp_fa P a ≤ lv L) (hz : pp_fa P a = 0 → ¬ lv L = 8)
    (K : ∀ (F' : Nat → Int32) (A' : Nat → Nat → Int32), cc_N P Z U qh ph 0 F' A' → post (tw_t F' A')) : wpX_genCall post (tw_t F A) (nI a) := by
  have hl' := hl
  obtain ⟨l1, l2, l3⟩ := hl'
  have hv8 := (l3 L (Nat.le_refl _)).2
  have eh := (l3 L (Nat.le_refl _)).1
  have pok := hW.1
  obtain ⟨p1, p2, p3, p4, p5, p6⟩ := pok
  have hQ := hW.2.1
  obtain ⟨q1, q2, q3, q4, q5, q6, q7, q8, q9⟩ := hQ
  obtain ⟨b1, b2, b3, b4, b5, b6, b7⟩ := hW.2.2.1
  have hpc : lp L < pp_nc P := (hok.2.1 L (Nat.le_refl _)).2
  have hp : lp L + 1 < pp_nc P := (p5 _ hpc).2.2.2.2.2.2.1 (by rw [o]; decide) (by rw [o]; decide)
  obtain ⟨f1, f2, f3, f4, f5, f6⟩ := p6 a ha
  have vl : vp_in (F 23) 3 := tw_in l1 (by omega) (by omega)
  have cl : ((F 23)).toNatClampNeg = L := tw_cl l1 (by omega)
  have va : vp_in (nI a) 8 := vp_in_nI (by omega) (by omega)
  have ca : (nI a).toNatClampNeg = a := nI_clamp (by omega)
  have c52 := xc_call52 (F := F) (A := A) (post := post) (ph := ph) (rest := lv L - pp_fa P a) hW hl hcr hcp hok (by by_cases z : pp_fa P a = 0; have := hz z; omega; omega) hp K
  unfold wpX_genCall
  refine And.intro vl (And.intro va (nm_r (e' := nI (lv L - pp_fa P a)) (by rw [cl, ca, eh, q9 a ha, pk_sub h2]) ?_))
  refine pk_le 2 L (fun _ => c52) (fun zL => ?_) (hy := l1) (hb := by omega)
  have e8 : (F 21) * 8 + 8 = nI (8 * U + 8) := by rw [b2, tw_m8, tw_p8]
  refine pk_le (8 * U + 8) (8 * U + cn) (fun _ => c52) (fun zc => ?_) (hx := e8) (hy := b6) (ha := by omega) (hb := by omega)
  refine xc_length (F := F) (A := A) hW.1 hW.2.1 ha ?_
  refine br_c (fun _ => ?_) (fun _ => c52)
  show wpX_guard _ (tw_t F A) 17 (F 24) (F 23)
  rw [hcp, l1]
  refine xc_guard (F := F) (A := A) (D' := (L + 1, tw_s (tw_s lp L (lp L + 1)) (L + 1) (pp_fs P a), tw_s (tw_s lv L (lv L - pp_fa P a)) (L + 1) 0, cc_pk (A 36) (12 * (L + 1)) (cc_ak (A 36) (12 * L + 4 + (lv L - pp_fa P a)) (pp_fa P a)) 4, cc_pk (A 37) (12 * (L + 1)) (cc_av (A 36) (A 37) (12 * L + 4 + (lv L - pp_fa P a)) (pp_fa P a)) 4, 2 * pp_fs P a, 0)) (Nat.le_refl 1) hW hl hcr rfl hok (fun _ SR TJ s hs => ?_) (fun F' A' q' sn' fn' Dm' hW' h1 h2' h3 => ?_)
  · refine ci_enter (D := (L, lp, lv, (A 36), (A 37), y, 0)) hok rfl o han rfl rfl h2 f2 hz (fun t ht => ⟨cc_pkl ht 4, cc_pkl ht 4⟩) (fun x i hi => ?_) hs
    show dd_e (cc_pk (A 36) (12 * (L + 1)) (cc_ak (A 36) (12 * L + 4 + (lv L - pp_fa P a)) (pp_fa P a)) 4) (cc_pk (A 37) (12 * (L + 1)) (cc_av (A 36) (A 37) (12 * L + 4 + (lv L - pp_fa P a)) (pp_fa P a)) 4) (mm_s x) (12 * (mm_d x - 1)) (12 * (L + 1) + i) = if i < pp_fa P a then dd_e (A 36) (A 37) (mm_s x) (12 * (mm_d x - 1)) (12 * L + 4 + (lv L - pp_fa P a) + i) else 0
    by_cases zi : i < pp_fa P a
    · rw [if_pos zi]
      have lvf : dd_lv L lv (12 * L + 4 + (lv L - pp_fa P a) + i) := ⟨L, 4 + (lv L - pp_fa P a) + i, by omega, Nat.le_refl _, by omega, by omega⟩
      by_cases k1 : (A 36) (12 * L + 4 + (lv L - pp_fa P a) + i) = 1
      · rw [dd_e1 k1, dd_e1 (by rw [cc_pka 4 hi]; unfold cc_ak; rw [if_pos zi, if_pos k1]), cc_pka 4 hi]
        unfold cc_av
        rw [if_pos zi, if_neg (by rw [k1]; decide)]
      · have ek2 : cc_pk (A 36) (12 * (L + 1)) (cc_ak (A 36) (12 * L + 4 + (lv L - pp_fa P a)) (pp_fa P a)) 4 (12 * (L + 1) + i) = 2 := by rw [cc_pka 4 hi]; unfold cc_ak; rw [if_pos zi, if_neg k1]
        by_cases k0 : (A 36) (12 * L + 4 + (lv L - pp_fa P a) + i) = 0
        · rw [dd_e0 k0, dd_e2 (r := 12 * L + 4 + (lv L - pp_fa P a) + i) ek2 (by rw [cc_pka 4 hi]; unfold cc_av; rw [if_pos zi, if_pos k0]) (by omega)]
        · rcases hok.2.2.2 _ lvf k0 with e | ⟨e, r, r1, r2, r3⟩
          · exact absurd e k1
          · rw [dd_e2 (r := r) e r2 (by omega), dd_e2 (r := r) ek2 (by rw [cc_pka 4 hi]; unfold cc_av; rw [if_pos zi, if_neg k0]; exact r2) (by omega)]
    · rw [if_neg zi, dd_e1 (by rw [cc_pka 4 hi]; unfold cc_ak; rw [if_neg zi]), cc_pka 4 hi]
      unfold cc_av
      rw [if_neg zi]
  · have ek : (A' 36) = (A 36) := h2' _ (by decide)
    have ev : (A' 37) = (A 37) := h2' _ (by decide)
    have e38 : (A' 38) = (A 38) := h2' _ (by decide)
    have e23 : (F' 23) = nI L := (h1 _ (by decide) (by decide) (by decide) (by decide)).trans l1
    have e4 : (A' 4) a = nI (pp_fa P a) := (congrFun (h2' _ (by decide)) a).trans (q9 a ha)
    have efr : (F' 23) * 12 + 4 + nI (lv L - pp_fa P a) = nI (12 * L + 4 + (lv L - pp_fa P a)) := by rw [e23, tw_m12', tw_p4, nI_add]
    show vp_in (nI a) 8 ∧ _
    refine And.intro va ?_
    rw [ca, e4, efr]
    show wpX_passArgs _ (tw_t F' A') _ _
    unfold wpX_passArgs
    have eto : (F' 23) * 12 + 12 = nI (12 * (L + 1)) := by rw [e23, tw_m12', tw_p12]; congr 1
    refine nm_r eto ⟨5, ?_⟩
    refine xc_passL (F := F') (A := A') (fr := 12 * L + 4 + (lv L - pp_fa P a)) (n := pp_fa P a) (to := 12 * (L + 1)) (by omega) (by omega) f2 ?_ 4 0 5 (by omega) (by omega)
    rw [ek, ev]
    have vl' : vp_in (F' 23) 3 := tw_in e23 (by omega) (by omega)
    have cl' : ((F' 23)).toNatClampNeg = L := tw_cl e23 (by omega)
    have e28 : (F' 28) = nI (8 * U + cn) := (h1 _ (by decide) (by decide) (by decide) (by decide)).trans b6
    have e22 : (F' 22) = nI (8 * U + c) := (h1 _ (by decide) (by decide) (by decide) (by decide)).trans b3
    have e24 : (F' 24) = nI (lp L) := (h1 _ (by decide) (by decide) (by decide) (by decide)).trans hcp
    have vx : vp_in (F' 28) 64 := tw_in e28 (by omega) (by omega)
    have cx : ((F' 28)).toNatClampNeg = 8 * U + cn := tw_cl e28 (by omega)
    have e3 : (A' 3) a = nI (pp_fs P a) := (congrFun (h2' _ (by decide)) a).trans (q8 a ha)
    show vp_in (F' 23) 3 ∧ _
    refine And.intro vl' (nm_r (e' := upd (A' 38) L (nI (lv L - pp_fa P a))) (by rw [cl']; rfl) (nm_r (e' := nI (L + 1)) (by rw [e23, nI_1]) (And.intro (vp_in_nI (by omega) (by omega)) (nm_r (e' := upd (upd (A' 38) L (nI (lv L - pp_fa P a))) (L + 1) (nI 0)) (by rw [nI_clamp (show L + 1 < 2 ^ 31 by omega)]; rfl) (And.intro vx (nm_r (e' := upd (A' 32) (8 * U + cn) (nI (8 * U + c))) (by rw [cx, e22]; rfl) (And.intro vx (nm_r (e' := upd (A' 33) (8 * U + cn) (nI (lp L + 1))) (by rw [cx, e24, nI_1]; rfl) (And.intro vx (nm_r (e' := upd (A' 34) (8 * U + cn) (nI (lv L - pp_fa P a))) (by rw [cx]; rfl) (And.intro vx (nm_r (e' := upd (A' 35) (8 * U + cn) (nI (L + 1))) (by rw [cx]; rfl) (nm_r (e' := nI (8 * U + (cn + 1))) (by rw [e28, nI_1]; rfl) (And.intro va (nm_r (e' := nI (pp_fs P a)) e3 ?_)))))))))))))))
    have lpL : tw_s (tw_s lp L (lp L + 1)) (L + 1) (pp_fs P a) L = lp L + 1 := by rw [tw_sn (by omega), tw_ss]
    have lvL : tw_s (tw_s lv L (lv L - pp_fa P a)) (L + 1) 0 L = lv L - pp_fa P a := by rw [tw_sn (by omega), tw_ss]
    have h7 : lv L - pp_fa P a ≤ 7 := by by_cases z : pp_fa P a = 0; have := hz z; omega; omega
    have hcr' : cc_CR A' U L c (tw_s (tw_s lp L (lp L + 1)) (L + 1) (pp_fs P a)) (tw_s (tw_s lv L (lv L - pp_fa P a)) (L + 1) 0) := by
      refine cc_CRe (fun j j1 j2 => h2' j (by omega)) (cc_CRc L c (fun l hl => ⟨?_, ?_⟩) hcr)
      · rw [tw_sn (by omega), tw_sn (by omega)]
      · rw [tw_sn (by omega), tw_sn (by omega)]
    have hncl : ∀ l, l < L + 1 → tw_s (tw_s lp L (lp L + 1)) (L + 1) (pp_fs P a) l < pp_nc P := by
      intro l hl
      by_cases z : l = L
      · rw [z, lpL]; exact hp
      · rw [tw_sn (by omega), tw_sn z]; exact (hok.2.1 l (show l ≤ L by omega)).2
    obtain ⟨nW, nCR⟩ := cc_Wnew (F := F') (A := A') (L := L) (F' := tw_s (tw_s (tw_s (tw_s F' 22 (F' 28)) 23 (nI (L + 1))) 24 (nI (pp_fs P a))) 28 (nI (8 * U + (cn + 1)))) (lvh := upd (upd (A' 38) L (nI (lv L - pp_fa P a))) (L + 1) (nI 0)) (kd := cc_pk (A 36) (12 * (L + 1)) (cc_ak (A 36) (12 * L + 4 + (lv L - pp_fa P a)) (pp_fa P a)) 4) (vl := cc_pk (A 37) (12 * (L + 1)) (cc_av (A 36) (A 37) (12 * L + 4 + (lv L - pp_fa P a)) (pp_fa P a)) 4) (cc_We (e := 1) hW') (by omega) (by omega) hcr' (by rw [lpL]; omega) (by rw [lvL]; exact h7) hncl e28 rfl (fun j a1 a2 a3 a4 => (((tw_sn a4).trans (tw_sn a3)).trans (tw_sn a2)).trans (tw_sn a1))
    · rw [lpL, lvL] at nW nCR
      refine K _ _ (Or.inr ⟨64 * (8 - (cn + 1)) + cc_sm (tw_s (tw_s lp L (lp L + 1)) (L + 1) (pp_fs P a)) (L + 1), ?_, cn, cn + 1, q', sn', fn', qt, Dm', L + 1, tw_s (tw_s lp L (lp L + 1)) (L + 1) (pp_fs P a), tw_s (tw_s lv L (lv L - pp_fa P a)) (L + 1) 0, 2 * pp_fs P a, pp_fs P a, nW, ?_, nCR, rfl, ?_, ?_, ?_, ?_, Nat.le_refl _⟩)
      · have s1 := cc_smu (lp := lp) (L := L) (p := lp L + 1) (by omega) (by omega)
        have s2 : cc_sm (tw_s (tw_s lp L (lp L + 1)) (L + 1) (pp_fs P a)) (L + 1) = cc_sm (tw_s lp L (lp L + 1)) L + (64 - pp_fs P a) := by
          show cc_sm (tw_s (tw_s lp L (lp L + 1)) (L + 1) (pp_fs P a)) L + (64 - tw_s (tw_s lp L (lp L + 1)) (L + 1) (pp_fs P a) (L + 1)) = _
          rw [cc_smc (lp := tw_s lp L (lp L + 1)) L (fun l hl => tw_sn (by omega)), tw_ss]
        rw [s2, hph]
        omega
      · refine ⟨rfl, by omega, fun l hl => ?_⟩
        show upd (upd (A' 38) L (nI (lv L - pp_fa P a))) (L + 1) (nI 0) l = nI (tw_s (tw_s lv L (lv L - pp_fa P a)) (L + 1) 0 l) ∧ tw_s (tw_s lv L (lv L - pp_fa P a)) (L + 1) 0 l ≤ 8
        by_cases z : l = L + 1
        · rw [tw_ue z, tw_se z]; exact ⟨rfl, by omega⟩
        · rw [pk_un z, tw_sn z]
          by_cases z2 : l = L
          · rw [tw_ue z2, tw_se z2]; exact ⟨rfl, by omega⟩
          · rw [pk_un z2, tw_sn z2, e38]; exact l3 l (by omega)
      · show pp_fs P a + 0 = tw_s (tw_s lp L (lp L + 1)) (L + 1) (pp_fs P a) (L + 1)
        rw [tw_ss]; rfl
      · exact dd_okc (D := (L, lp, lv, (A 36), (A 37), y, 0)) hok (show L < 2 by omega) h2 f2 h7 hp f1
      · rw [tw_ss]; omega
      · exact (h1 _ (by decide) (by decide) (by decide) (by decide)).trans hen
end
end
section
/-! the compiler: returns, branches -/
section
variable {P : pp_P} {Z : (Nat → Int32) × (Nat → Nat → Int32)} {U c cn q sn fn qh qt L y ph : Nat} {Dm : Nat → dd_D} {F : Nat → Int32} {A : Nat → Nat → Int32} {lp lv : Nat → Nat}
/-- back in the parent's context -/
theorem cc_Wctx {D : dd_D} {e c' : Nat} {F' : Nat → Int32} {A' : Nat → Nat → Int32} (hW : cc_W P Z U c cn q sn fn qh qt Dm D e F A) (hc : c' < cn) (h1 : (F' 22) = nI (8 * U + c')) (hF : ∀ j, j ≠ 22 → j ≠ 23 → j ≠ 24 → F' j = F j) (hA : ∀ j, j ≠ 38 → A' j = A j) : cc_W P Z U c' cn q sn fn qh qt Dm D e F' A' := by
  have hW2 : cc_W P Z U c cn q sn fn qh qt Dm D e (tw_s F' 22 (F 22)) A' := cc_Wf hW (fun j a b _ => by
    by_cases z : j = 22
    · rw [tw_se z, z]
    · rw [tw_sn z]; exact hF j z a b) (fun j _ _ a => hA j a)
  obtain ⟨w0, w1, w2, w3, w4, w5, w6⟩ := hW2
  obtain ⟨b1, b2, b3, b4, b5, b6, b7⟩ := w2
  refine ⟨w0, w1, ⟨b1, b2, h1, hc, b5, b6, b7⟩, w3, w4, w5, ?_⟩
  obtain ⟨z1, z2⟩ := w6
  exact ⟨fun j hj => (tw_sn (show j ≠ 22 by omega)).symm.trans (z1 j hj), z2⟩
theorem xc_genReturn {post : SX → Prop} (hW : cc_W P Z U c cn q sn fn qh qt Dm (L, lp, lv, (A 36), (A 37), y, 0) 1 F A) (hl : cc_lv L lv F A) (hcr : cc_CR A U L c lp lv) (hcp : (F 24) = nI (lp L)) (hen : (F 31) = 0) (hok : dd_ok P (L, lp, lv, (A 36), (A 37), y, 0)) (hph : ph = 64 * (8 - cn) + cc_sm lp L)
    (o : pp_op P (lp L) = 13) (h0 : 0 < lv L)
    (K : ∀ (F' : Nat → Int32) (A' : Nat → Nat → Int32), cc_N P Z U qh ph 0 F' A' → post (tw_t F' A')) : wpX_genReturn post (tw_t F A) (nI (12 * L + 3 + lv L)) := by
  have hl' := hl
  obtain ⟨l1, l2, l3⟩ := hl'
  have pok := hW.1
  obtain ⟨p1, p2, p3, p4, p5, p6⟩ := pok
  have hpc : lp L < pp_nc P := (hok.2.1 L (Nat.le_refl _)).2
  have hv8 := (l3 L (Nat.le_refl _)).2
  obtain ⟨b1, b2, b3, b4, b5, b6, b7⟩ := hW.2.2.1
  unfold wpX_genReturn
  refine br_c (fun z => ?_) (fun z => ?_)
  · show wpX_exitAt _ (tw_t F A) (F 24)
    rw [hcp]
    refine xc_exitAt (F := F) (A := A) (Nat.le_refl 1) hW hl hcr rfl hok (fun F' A' q' sn' fn' Dm' hW' h0 h1 h2 h3 => ?_)
    exact K F' A' (Or.inl ⟨h0, c, cn, q', sn', fn', qt, Dm', hW'⟩)
  · obtain ⟨M, rfl⟩ : ∃ M, L = M + 1 := by
      refine ⟨L - 1, ?_⟩
      by_cases e : L = 0
      · rw [l1, e] at z; exact absurd rfl z
      · omega
    have hcr' := hcr
    obtain ⟨r1, r2, r3, r4, r5, r6, r7, c', r8, r9, r10⟩ := hcr'
    have htop : 12 * (M + 1) + 3 + lv (M + 1) < 36 := by omega
    have livet : dd_lv (M + 1) lv (12 * (M + 1) + 3 + lv (M + 1)) := ⟨M + 1, 3 + lv (M + 1), by omega, Nat.le_refl _, by omega, by omega⟩
    have cases3 : (A 36) (12 * (M + 1) + 3 + lv (M + 1)) = 0 ∨ (A 36) (12 * (M + 1) + 3 + lv (M + 1)) = 1 ∨ ((A 36) (12 * (M + 1) + 3 + lv (M + 1)) = 2 ∧ ∃ r, r < 12 * (M + 1) + 3 + lv (M + 1) ∧ (A 37) (12 * (M + 1) + 3 + lv (M + 1)) = nI r ∧ (dd_lv (M + 1) lv r → (A 36) r = 0)) := by
      by_cases z : (A 36) (12 * (M + 1) + 3 + lv (M + 1)) = 0
      · exact Or.inl z
      · rcases hok.2.2.2 _ livet z with e | ⟨e, r, r1, r2, r3⟩
        · exact Or.inr (Or.inl e)
        · exact Or.inr (Or.inr ⟨e, r, r1, r2, r3⟩)
    show wpX_guard _ (tw_t F A) 16 (F 24) 0
    rw [hcp]
    refine xc_guard (F := F) (A := A) (D' := (M, lp, tw_s lv M (lv M + 1), upd (A 36) (12 * M + 4 + lv M) (if (A 36) (12 * (M + 1) + 3 + lv (M + 1)) = 1 then 1 else 2), upd (A 37) (12 * M + 4 + lv M) (if (A 36) (12 * (M + 1) + 3 + lv (M + 1)) = 0 then nI (12 * (M + 1) + 3 + lv (M + 1)) else (A 37) (12 * (M + 1) + 3 + lv (M + 1))), 2 * lp M, 0)) (Nat.le_refl 1) hW hl hcr rfl hok (fun _ SR TJ s hs => ?_) (fun F' A' q' sn' fn' Dm' hW' h1 h2 h3 => ?_)
    · refine ci_tickR (D := (M + 1, lp, lv, (A 36), (A 37), y, 0)) hok rfl rfl o h0 (fun x => ?_) hs
      show dd_e (upd (A 36) (12 * M + 4 + lv M) _) (upd (A 37) (12 * M + 4 + lv M) _) (mm_s x) (12 * (mm_d x - 1)) (12 * M + 4 + lv M) = dd_e (A 36) (A 37) (mm_s x) (12 * (mm_d x - 1)) (12 * (M + 1) + 3 + lv (M + 1))
      rcases cases3 with z | z | ⟨z, r, x1, x2, x3⟩
      · rw [dd_e0 z, dd_e2 (r := 12 * (M + 1) + 3 + lv (M + 1)) (by rw [pk_us, z]; rfl) (by rw [pk_us, if_pos z]) (by omega)]
      · rw [dd_e1 z, dd_e1 (by rw [pk_us, if_pos z]), pk_us, if_neg (by rw [z]; decide)]
      · rw [dd_e2 z x2 (by omega), dd_e2 (r := r) (by rw [pk_us, z]; rfl) (by rw [pk_us, if_neg (by rw [z]; decide)]; exact x2) (by omega)]
    · have ek : (A' 36) = (A 36) := h2 _ (by decide)
      have ev : (A' 37) = (A 37) := h2 _ (by decide)
      have e38 : (A' 38) = (A 38) := h2 _ (by decide)
      have e24 : (F' 24) = nI (lp (M + 1)) := (h1 _ (by decide) (by decide) (by decide) (by decide)).trans hcp
      have e23 : (F' 23) = nI (M + 1) := (h1 _ (by decide) (by decide) (by decide) (by decide)).trans l1
      have e22 : (F' 22) = nI (8 * U + c) := (h1 _ (by decide) (by decide) (by decide) (by decide)).trans b3
      have vt : vp_in (nI (12 * (M + 1) + 3 + lv (M + 1))) 36 := vp_in_nI htop (by omega)
      obtain ⟨fw, fw1, fw2, fw3, fw4⟩ := (p5 _ hpc).2.2.2.2.2.2.2
      have vc : vp_in (F' 22) 64 := tw_in e22 (by omega) (by omega)
      have cc : ((F' 22)).toNatClampNeg = 8 * U + c := tw_cl e22 (by omega)
      have e34 : (A' 34) (8 * U + c) = nI (lv M) := (congrFun (h2 _ (by decide)) _).trans r5
      have e33 : (A' 33) (8 * U + c) = nI (lp M) := (congrFun (h2 _ (by decide)) _).trans r4
      have e32 : (A' 32) (8 * U + c) = nI (8 * U + c') := (congrFun (h2 _ (by decide)) _).trans r9
      have eow : (A' 2) (lp (M + 1)) = nI fw := by
        rw [h2 _ (by decide)]
        exact (congrFun hW.2.1.2.2.2.2.2.2.1 _).trans fw2
      have evm : (A' 38) M = nI (lv M) := by rw [e38]; exact (l3 M (by omega)).1
      show vp_in (nI (12 * (M + 1) + 3 + lv (M + 1))) 36 ∧ _
      refine And.intro vt (nm_r (e' := (A 36) (12 * (M + 1) + 3 + lv (M + 1))) (by rw [nI_clamp (by omega), ek]) ?_)
      refine xc_source (F := F') (A := A') htop ?_
      rw [congrFun ek (12 * (M + 1) + 3 + lv (M + 1)), congrFun ev (12 * (M + 1) + 3 + lv (M + 1))]
      show vp_in (F' 24) 64 ∧ _
      refine And.intro (tw_in e24 (by omega) (by omega)) (nm_r (e' := nI fw) (by rw [tw_cl e24 (by omega)]; exact eow) (And.intro vc (nm_r (e' := nI (12 * M + 4 + lv M)) ?_ (And.intro vc (nm_r (e' := nI (lp M)) (by rw [cc]; exact e33) (And.intro vc (nm_r (e' := nI (8 * U + c')) (by rw [cc]; exact e32) (nm_r (e' := nI M) (by rw [e23]; exact nI_pred M) (And.intro (vp_in_nI (by omega) (by omega)) (And.intro (vp_in_nI (by omega) (by omega)) (nm_r (e' := upd (A' 38) M (nI (lv M + 1))) (by rw [nI_clamp (by omega), evm, nI_1]) ?_)))))))))))
      · have e8 : nI (12 * (M + 1)) - 8 = nI (12 * (M + 1) - 8) := pk_sub (b := 8) (by omega)
        rw [cc, e34, e23, tw_m12', e8, nI_add]
        congr 1
      · have hm8 : lv M ≤ 7 := r7
        have hW3 : cc_W P Z U c' cn q' sn' fn' qh qt Dm' (M, lp, tw_s lv M (lv M + 1), upd (A' 36) (12 * M + 4 + lv M) (if (A 36) (12 * (M + 1) + 3 + lv (M + 1)) = 1 then 1 else 2), upd (A' 37) (12 * M + 4 + lv M) (if (A 36) (12 * (M + 1) + 3 + lv (M + 1)) = 0 then nI (12 * (M + 1) + 3 + lv (M + 1)) else (A 37) (12 * (M + 1) + 3 + lv (M + 1))), 2 * lp M, 0) 1 (tw_s (tw_s (tw_s F' 22 (nI (8 * U + c'))) 23 (nI M)) 24 (nI (lp M))) (tw_s A' 38 (upd (A' 38) M (nI (lv M + 1)))) := by
          rw [ek, ev]
          exact cc_Wctx (cc_We hW') (by omega) rfl (fun j a b d => ((tw_sn d).trans (tw_sn b)).trans (tw_sn a)) (fun j a => tw_sn a)
        have up : ∀ t, dd_lv M (tw_s lv M (lv M + 1)) t → t ≠ 12 * M + 4 + lv M → dd_lv (M + 1) lv t ∧ t < 12 * M + 4 + lv M := by
          intro t ht hne
          obtain ⟨l, oo, e, x1, x2, x3⟩ := ht
          have hl8 := (l3 l (by omega)).2
          by_cases zl : l = M
          · subst zl
            rw [tw_ss] at x3
            exact ⟨⟨l, oo, e, by omega, x2, by omega⟩, by omega⟩
          · rw [tw_sn zl] at x3
            exact ⟨⟨l, oo, e, by omega, x2, x3⟩, by omega⟩
        refine xc_place (F := tw_s (tw_s (tw_s F' 22 (nI (8 * U + c'))) 23 (nI M)) 24 (nI (lp M))) (A := tw_s A' 38 (upd (A' 38) M (nI (lv M + 1)))) (L := M) (lp := lp) (lh := tw_s lv M (lv M + 1)) (y := 2 * lp M) (f := 0) (t := 12 * M + 4 + lv M) (by omega) ?_ hW3 ?_ (by omega) ?_ ?_ ?_ ?_ (fun F2 A2 q2 Dm2 hW2 g1 g2 g3 g4 => ?_)
        · rcases cases3 with z | z | ⟨z, r, x1, x2, x3⟩
          · exact Or.inr ⟨Or.inl z, _, htop, by rw [if_pos z]⟩
          · exact Or.inl z
          · exact Or.inr ⟨Or.inr z, r, by omega, by rw [if_neg (by rw [z]; decide)]; exact x2⟩
        · intro z
          exact ⟨12 * (M + 1) + 3 + lv (M + 1), htop, by rw [if_pos z], by omega⟩
        · intro l hl2
          refine ⟨?_, (hok.2.1 l (show l ≤ M + 1 by omega)).2⟩
          by_cases e : l = M
          · rw [tw_se e]; omega
          · rw [tw_sn e]; exact (l3 l (by omega)).2
        · intro l hl2
          rw [tw_sn (Nat.ne_of_lt hl2)]; exact hok.2.2.1 l (show l < M + 1 by omega)
        · intro t' x1 x2 x3
          have x3' : ¬ (A 36) t' = 0 := by
            have x3'' : ¬ (A' 36) t' = 0 := x3
            rw [ek] at x3''; exact x3''
          obtain ⟨y1, y2⟩ := up t' x1 x2
          show (A' 36) t' = 1 ∨ ((A' 36) t' = 2 ∧ ∃ r, r < t' ∧ (A' 37) t' = nI r ∧ r ≠ 12 * M + 4 + lv M ∧ (dd_lv M (tw_s lv M (lv M + 1)) r → (A' 36) r = 0))
          rw [ek, ev]
          rcases hok.2.2.2 t' y1 x3' with e | ⟨e, r, w1, w2, w3⟩
          · exact Or.inl e
          · exact Or.inr ⟨e, r, w1, w2, by omega, fun hr => w3 (up r hr (by omega)).1⟩
        · intro z r r36 rv hr hne
          show (A' 36) r = 0
          rw [ek]
          rcases cases3 with z2 | z2 | ⟨z2, r', x1, x2, x3⟩
          · rw [z2] at z; exact absurd z (by decide)
          · rw [z2] at z; exact absurd z (by decide)
          · rw [if_neg (by rw [z2]; decide), x2] at rv
            have := (nI_eq (by omega) (by omega)).mp rv
            subst this
            exact x3 (up _ hr hne).1
        · have f23 : (F2 23) = nI M := (g1 _ (by decide) (by decide))
          have f24 : (F2 24) = nI (lp M) := (g1 _ (by decide) (by decide))
          have f38 : (A2 38) = upd (A' 38) M (nI (lv M + 1)) := g2 _ (by decide) (by decide) (by decide)
          have f31 : (F2 31) = 0 := (g1 31 (by decide) (by decide)).trans ((h1 31 (by decide) (by decide) (by decide) (by decide)).trans hen)
          have hl2 : cc_lv M (tw_s lv M (lv M + 1)) F2 A2 := by
            refine ⟨f23, by omega, fun l hl => ?_⟩
            rw [f38]
            by_cases e : l = M
            · rw [tw_ue e, tw_se e]; exact ⟨rfl, by omega⟩
            · rw [pk_un e, tw_sn e, e38]; exact l3 l (by omega)
          have hcr2 : cc_CR A2 U M c' lp (tw_s lv M (lv M + 1)) := cc_CRe (fun j j1 j2 => ((g2 j (by omega) (by omega) (by omega)).trans (tw_sn (by omega))).trans (h2 j (by omega))) (cc_CRc M c' (fun l hl => ⟨rfl, tw_sn (by omega)⟩) r10)
          refine And.intro (vp_in_nI (by omega) (by omega)) (br_c (fun _ => ?_) (fun _ => ?_))
          · refine K F2 A2 (Or.inr ⟨64 * (8 - cn) + cc_sm lp M, ?_, c', cn, q2, sn', fn', qt, Dm2, M, lp, tw_s lv M (lv M + 1), 2 * lp M, lp M, hW2, hl2, hcr2, f24, rfl, g4, Nat.le_refl _, f31, Nat.le_refl _⟩)
            rw [hph]
            show _ < 64 * (8 - cn) + (cc_sm lp M + (64 - lp (M + 1)))
            omega
          · refine xc_flush (F := F2) (A := A2) (lv := tw_s lv M (lv M + 1)) (lh := tw_s lv M (lv M + 1)) (fun _ _ => Nat.le_refl _) hW2 hl2 g4 (fun F3 A3 q3 Dm3 hW4 k1 k2 k3 k4 k5 k6 => ?_)
            have f24' : (F3 24) = nI (lp M) := (k1 _ (by decide) (by decide)).trans f24
            show wpX_jumpTo _ (tw_t F3 A3) (F3 24)
            rw [f24']
            refine xc_jumpTo (F := F3) (A := A3) (Nat.le_refl 1) hW4 (cc_lvf hl2 (k1 _ (by decide) (by decide)) (k2 _ (by decide) (by decide))) (cc_CRe (fun j j1 j2 => k2 j (by omega) (by omega)) hcr2) rfl k4 (Nat.le_refl _) k5 (fun F4 A4 q4 sn4 fn4 qt4 Dm4 hW5 m0 m1 m2 m3 => ?_)
            exact K F4 A4 (Or.inl ⟨m0, c', cn, q4, sn4, fn4, qt4, Dm4, hW5⟩)
end
end
section
/-! the compiler: branches -/
section
variable {P : pp_P} {Z : (Nat → Int32) × (Nat → Nat → Int32)} {U c cn q sn fn qh qt L y ph : Nat} {Dm : Nat → dd_D} {F : Nat → Int32} {A : Nat → Nat → Int32} {lp lv : Nat → Nat}
theorem cc_inc {v : Int32} (h : cc_N P Z U qh ph 1 F A) (hv : v = (F 24) + 1) : cc_N P Z U qh ph 0 (tw_s F 24 v) A := by
  rcases h with ⟨h0, c, cn, q, sn, fn, qt, Dm, hW⟩ | ⟨ph', h1, c, cn, q, sn, fn, qt, Dm, L, lp, lv, y, p, x1, x2, x3, x4, x5, x6, x7, x8, x9⟩
  · exact Or.inl ⟨h0, c, cn, q, sn, fn, qt, Dm, fun D' => cc_Wf (hW D') (fun j _ a _ => tw_sn a) (fun _ _ _ _ => rfl)⟩
  · exact Or.inr ⟨ph', h1, c, cn, q, sn, fn, qt, Dm, L, lp, lv, y, p + 1, cc_Wf x1 (fun j _ a _ => tw_sn a) (fun _ _ _ _ => rfl), cc_lvf x2 rfl rfl, x3, by show v = _; rw [hv, x4, nI_1], x5, x6, x7, x8, x9⟩
/-- both ways of a branch whose condition is in register r: D1 the descriptor behind the tick -/
theorem xc_brN {post : SX → Prop} {a r y1 f1 : Nat} {k : Int32} {F1 : Nat → Int32} {A1 : Nat → Nat → Int32} (hl : cc_lv L lv F A) (hcr : cc_CR A U L c lp lv) (hcp : (F 24) = nI (lp L)) (hen : (F 31) = 0) (hph : ph = 64 * (8 - cn) + cc_sm lp L)
    (hW1 : cc_W P Z U c cn q sn fn qh qt Dm (L, lp, lv, (A 36), (A 37), y1, f1) 1 F1 A1) (hok1 : dd_ok P (L, lp, lv, (A 36), (A 37), y1, f1)) (g1 : ∀ j, j ≠ 25 → j ≠ 26 → j ≠ 27 → j ≠ 32 → F1 j = F j) (g2 : ∀ j, ¬ (18 ≤ j ∧ j ≤ 31) → A1 j = A j)
    (o : pp_op P (lp L) = 11) (han : pp_an P (lp L) = a) (ha : a < pp_nc P) (h0 : 0 < lv L) (hp : lp L + 1 < pp_nc P)
    (hdf : (a ≤ lp L ∧ f1 = 1) ∨ (lp L < a ∧ f1 = 0)) (hy1 : y1 ≤ 2 * (lp L + 1)) (hy2 : y1 < 2 * a + 1) (hk1 : ¬ k = 1) (hr : r < 36)
    (hrk : ((A 36) (12 * L + 3 + lv L) = 0 ∧ r = 12 * L + 3 + lv L) ∨ ((A 36) (12 * L + 3 + lv L) = 2 ∧ (A 37) (12 * L + 3 + lv L) = nI r))
    (K : ∀ (F' : Nat → Int32) (A' : Nat → Nat → Int32), cc_N P Z U qh ph 0 F' A' → post (tw_t F' A')) : wX_genBranch_59 post (nI a) k (nI r) (nI (64 * c + a)) (F1 0) (F1 1) (F1 2) (F1 3) (F1 4) (F1 5) (F1 6) (F1 7) (F1 8) (F1 9) (F1 10) (F1 11) (F1 12) (F1 13) (F1 14) (F1 15) (F1 16) (F1 17) (F1 18) (F1 19) (F1 20) (F1 21) (F1 22) (F1 23) (F1 24) (F1 25) (F1 26) (F1 27) (F1 28) (F1 29) (F1 30) (F1 31) (F1 32) (A1 0) (A1 1) (A1 2) (A1 3) (A1 4) (A1 5) (A1 6) (A1 7) (A1 8) (A1 9) (A1 10) (A1 11) (A1 12) (A1 13) (A1 14) (A1 15) (A1 16) (A1 17) (A1 18) (A1 19) (A1 20) (A1 21) (A1 22) (A1 23) (A1 24) (A1 25) (A1 26) (A1 27) (A1 28) (A1 29) (A1 30) (A1 31) (A1 32) (A1 33) (A1 34) (A1 35) (A1 36) (A1 37) (upd (A1 38) L (nI (lv L - 1))) (A1 39) (A1 40) (A1 41) := by
  have hl' := hl
  obtain ⟨l1, l2, l3⟩ := hl'
  have hv8 := (l3 L (Nat.le_refl _)).2
  have n64 := hW1.1.1
  have h64 : lp L < 64 := by omega
  have ek : (A1 36) = (A 36) := g2 _ (by decide)
  have ev : (A1 37) = (A 37) := g2 _ (by decide)
  have e38 : (A1 38) = (A 38) := g2 _ (by decide)
  have hl1 : cc_lv L (tw_s lv L (lv L - 1)) F1 (tw_s A1 38 (upd (A1 38) L (nI (lv L - 1)))) := cc_lvd hl h0 _ _ (g1 _ (by decide) (by decide) (by decide) (by decide)) (by show upd (A1 38) L (nI (lv L - 1)) = _; rw [e38])
  have hlh : ∀ l, l ≤ L → tw_s lv L (lv L - 1) l ≤ lv l := by
    intro l hl
    by_cases e : l = L
    · subst e; rw [tw_ss]; omega
    · rw [tw_sn e]; exact Nat.le_refl _
  have ntop : ¬ dd_lv L (tw_s lv L (lv L - 1)) (12 * L + 3 + lv L) := by
    intro h
    have := dd_lvI.mp h
    have e1 : (12 * L + 3 + lv L) / 12 = L := by omega
    rw [e1, tw_ss] at this
    omega
  have hW2 : cc_W P Z U c cn q sn fn qh qt Dm (L, lp, lv, (A1 36), (A1 37), y1, f1) 1 F1 (tw_s A1 38 (upd (A1 38) L (nI (lv L - 1)))) := by
    rw [ek, ev]
    exact cc_Wf hW1 (fun _ _ _ _ => rfl) (fun j _ _ b => tw_sn b)
  have hok2 : dd_ok P (L, lp, lv, (A1 36), (A1 37), y1, f1) := by rw [ek, ev]; exact hok1
  unfold wX_genBranch_59
  refine br_f hk1 ?_
  refine xc_flush (F := F1) (A := tw_s A1 38 (upd (A1 38) L (nI (lv L - 1)))) (lv := tw_s lv L (lv L - 1)) (lh := lv) hlh hW2 hl1 hok2 (fun F3 A3 q3 Dm3 hW3 k1 k2 k3 k4 k5 k6 => ?_)
  have kt : (A3 36) (12 * L + 3 + lv L) = (A 36) (12 * L + 3 + lv L) := (k6 _ ntop).trans (congrFun ek _)
  have vt : (A3 37) = (A 37) := (k2 _ (by decide) (by decide)).trans ev
  have hl3 : cc_lv L (tw_s lv L (lv L - 1)) F3 A3 := cc_lvf hl1 (k1 _ (by decide) (by decide)) (k2 _ (by decide) (by decide))
  have hcr3 : cc_CR A3 U L c (tw_s lp L a) (tw_s lv L (lv L - 1)) := cc_CRe (fun j j1 j2 => ((k2 j (by omega) (by omega)).trans (tw_sn (by omega))).trans (g2 j (by omega))) (cc_CRc L c (fun l hl => ⟨tw_sn (by omega), tw_sn (by omega)⟩) hcr)
  have e24 : (F3 24) = nI (lp L) := ((k1 _ (by decide) (by decide)).trans (g1 _ (by decide) (by decide) (by decide) (by decide))).trans hcp
  have hw : ∀ x : mm_S, mm_s x (12 * (mm_d x - 1) + r) = dd_e (A3 36) (A3 37) (mm_s x) (12 * (mm_d x - 1)) (12 * L + 3 + lv L) := by
    intro x
    rcases hrk with ⟨z1, z2⟩ | ⟨z1, z2⟩
    · rw [dd_e0 (kt.trans z1), z2]
    · rw [dd_e2 (r := r) (kt.trans z1) (by rw [vt]; exact z2) (by omega)]
  have hyD : y1 ≤ 2 * (lp L + 1) := hy1
  have hokp : ∀ y', dd_ok P (L, tw_s lp L (lp L + 1), tw_s lv L (lv L - 1), (A3 36), (A3 37), y', 0) := fun y' => dd_okq (D := (L, lp, lv, (A3 36), (A3 37), y1, f1)) k4 hp
  -- the end of both ways
  have fin : ∀ (F5 : Nat → Int32) (A5 : Nat → Nat → Int32) (q5 sn5 fn5 qt5 : Nat) (Dm5 : Nat → dd_D), cc_W P Z U c cn q5 sn5 fn5 qh qt5 Dm5 (dd_po (L, lp, lv, (A3 36), (A3 37), y1, f1) (lp L + 1) (A3 36) (A3 37) (2 * (lp L + 1))) 0 F5 A5 → (∀ j, j ≠ 25 → j ≠ 26 → j ≠ 27 → j ≠ 32 → j ≠ 30 → F5 j = F3 j) → (∀ j, ¬ (18 ≤ j ∧ j ≤ 31) → j ≠ 40 → j ≠ 41 → A5 j = A3 j) → ∀ x : Int32, x = (F5 24) + 1 → post (tw_t (tw_s F5 24 x) A5) := by
    intro F5 A5 q5 sn5 fn5 qt5 Dm5 hW5 m1 m2 x hx
    have ek5 : (A5 36) = (A3 36) := m2 _ (by decide) (by decide) (by decide)
    have ev5 : (A5 37) = (A3 37) := m2 _ (by decide) (by decide) (by decide)
    refine K _ _ (cc_inc (xc_popO (F := F) (A := A) (q' := q5) (sn' := sn5) (fn' := fn5) (Dm' := Dm5) (qt := qt5) (y' := 2 * (lp L + 1)) hl hcr hcp hen h64 h0 (by rw [ek5, ev5]; exact cc_We hW5) (by rw [ek5, ev5]; exact hokp _) (Nat.le_refl _) hph ?_ ?_ ?_ ?_ ?_) hx)
    · exact ((m1 _ (by decide) (by decide) (by decide) (by decide) (by decide)).trans (k1 _ (by decide) (by decide))).trans (g1 _ (by decide) (by decide) (by decide) (by decide))
    · refine ((m2 _ (by decide) (by decide) (by decide)).trans (k2 _ (by decide) (by decide))).trans ?_
      show upd (A1 38) L (nI (lv L - 1)) = _
      rw [e38]
    · exact ((m1 _ (by decide) (by decide) (by decide) (by decide) (by decide)).trans (k1 _ (by decide) (by decide))).trans (g1 _ (by decide) (by decide) (by decide) (by decide))
    · exact ((m1 _ (by decide) (by decide) (by decide) (by decide) (by decide)).trans (k1 _ (by decide) (by decide))).trans (g1 _ (by decide) (by decide) (by decide) (by decide))
    · intro j j1 j2
      exact (((m2 j (by omega) (by omega) (by omega)).trans (k2 j (by omega) (by omega))).trans (tw_sn (by omega))).trans (g2 j (by omega))
  refine xc_claim (F := F3) (A := A3) hW3 hl3 ha (fun F4 A4 qt4 hW4 m1 m2 m3 => br_f (by decide) ?_) (br_t rfl ?_)
  · refine xc_emit (F := F4) (A := A4) (D' := dd_po (L, lp, lv, (A3 36), (A3 37), y1, f1) (lp L + 1) (A3 36) (A3 37) (2 * (lp L + 1))) (Nat.le_refl 1) hW4 (fun hf => ?_) (fun F5 A5 q5 Dm5 hW5 n1 n2 n3 => fin F5 A5 q5 sn fn qt4 Dm5 hW5 (fun j a1 _ _ a4 a5 => (n1 j a1 a4).trans (m1 j a5)) (fun j a1 a2 a3 => (n2 j (by omega)).trans (m2 j a2 a3)))
    refine ci_jz (D := (L, lp, lv, (A3 36), (A3 37), y1, f1)) (Dk := (L, tw_s lp L a, tw_s lv L (lv L - 1), fun _ => 0, fun _ => 0, 2 * a + 1, 0)) k4 hdf o han h0 hr hw hyD hy2 ⟨64 * c + a, by have := hW1.2.2.1.2.2.2.1; have := hW1.2.2.1.2.2.2.2.1; omega, rfl, c, hW1.2.2.1.2.2.2.1, ?_, ?_, ?_, ?_, ?_, fun _ => rfl, ?_, rfl⟩ (fun x m H => ?_)
    · show _ = 64 * c + tw_s lp L a L; rw [tw_ss]
    · show tw_s lp L a L < 64; rw [tw_ss]; omega
    · exact m3
    · exact (hl3.2.2 L (Nat.le_refl _)).2
    · exact cc_CRe (fun j j1 j2 => m2 j (by omega) (by omega)) hcr3
    · show _ = 2 * tw_s lp L a L + 1; rw [tw_ss]
    · refine cc_Mc H rfl (fun _ _ => rfl) (fun _ _ => rfl) rfl (fun l oo hl2 ho => ?_)
      have hl2' : l ≤ L := hl2
      have ho' : oo < 4 + tw_s lv L (lv L - 1) l := ho
      have h8 : tw_s lv L (lv L - 1) l ≤ 8 := (hl3.2.2 l hl2').2
      have hk0 : (A3 36) (12 * l + oo) = 0 := k5 _ ⟨l, oo, rfl, hl2', by omega, ho'⟩
      exact dd_ec hk0.symm (fun z => absurd hk0 z)
  · have hW3' := hW3
    refine xc_snapshot (F := F3) (A := A3) (lp := tw_s lp L a) (lv := tw_s lv L (lv L - 1)) (y := 0) hW3' hl3 hcr3 tw_ss (dd_okq (D := (L, lp, lv, (A3 36), (A3 37), y1, f1)) k4 ha) (fun s F4 A4 sn4 fn4 hW4 m1 m2 m3 m4 => ?_)
    refine xc_emit (F := F4) (A := A4) (D' := dd_po (L, lp, lv, (A3 36), (A3 37), y1, f1) (lp L + 1) (A3 36) (A3 37) (2 * (lp L + 1))) (Nat.le_refl 1) hW4 (fun hf => ?_) (fun F5 A5 q5 Dm5 hW5 n1 n2 n3 => fin F5 A5 q5 sn4 fn4 qt Dm5 hW5 (fun j a1 a2 a3 a4 _ => (n1 j a1 a4).trans (m1 j a2 a3 a4)) (fun j a1 _ _ => (n2 j (by omega)).trans (m2 j (by omega))))
    exact ci_exz (D := (L, lp, lv, (A3 36), (A3 37), y1, f1)) (ys := 0) k4 hdf o han h0 hr hw hyD (m4 hf)
theorem xc_genBranch {post : SX → Prop} {a : Nat} (hW : cc_W P Z U c cn q sn fn qh qt Dm (L, lp, lv, (A 36), (A 37), y, 0) 1 F A) (hl : cc_lv L lv F A) (hcr : cc_CR A U L c lp lv) (hcp : (F 24) = nI (lp L)) (hen : (F 31) = 0) (hok : dd_ok P (L, lp, lv, (A 36), (A 37), y, 0)) (hy : y ≤ 2 * lp L + 1) (hph : ph = 64 * (8 - cn) + cc_sm lp L)
    (o : pp_op P (lp L) = 11) (han : pp_an P (lp L) = a) (ha : a < pp_nc P) (h0 : 0 < lv L) (hp : lp L + 1 < pp_nc P)
    (K : ∀ (F' : Nat → Int32) (A' : Nat → Nat → Int32), cc_N P Z U qh ph 0 F' A' → post (tw_t F' A')) : wpX_genBranch post (tw_t F A) (nI a) (nI (12 * L + 3 + lv L)) := by
  have hl' := hl
  obtain ⟨l1, l2, l3⟩ := hl'
  have hv8 := (l3 L (Nat.le_refl _)).2
  have eh := (l3 L (Nat.le_refl _)).1
  have n64 := hW.1.1
  have h64 : lp L < 64 := by omega
  have htop : 12 * L + 3 + lv L < 36 := by omega
  have livet : dd_lv L lv (12 * L + 3 + lv L) := ⟨L, 3 + lv L, by omega, Nat.le_refl _, by omega, by omega⟩
  have b2 := hW.2.2.1.2.1
  have b3 := hW.2.2.1.2.2.1
  -- behind the tick: reads and the height's fall
  have rd : ∀ (F1 : Nat → Int32) (A1 : Nat → Nat → Int32) (Q : SX → Prop), (∀ j, j ≠ 25 → j ≠ 26 → j ≠ 27 → j ≠ 32 → F1 j = F j) → (∀ j, ¬ (18 ≤ j ∧ j ≤ 31) → A1 j = A j) →
      (∀ (z : Prop), z → z) → True := fun _ _ _ _ _ _ => trivial
  by_cases zk : (A 36) (12 * L + 3 + lv L) = 1
  · -- known
    have hq : ∀ q' : Nat, q' = (if (A 37) (12 * L + 3 + lv L) = 0 then a else lp L + 1) → q' < pp_nc P := by
      intro q' e; rw [e]; split <;> assumption
    obtain ⟨q', eq⟩ : ∃ q', q' = (if (A 37) (12 * L + 3 + lv L) = 0 then a else lp L + 1) := ⟨_, rfl⟩
    have hq' := hq q' eq
    have hokq : dd_ok P (L, tw_s lp L q', tw_s lv L (lv L - 1), (A 36), (A 37), 2 * q', 0) := dd_okq (D := (L, lp, lv, (A 36), (A 37), y, 0)) hok hq'
    unfold wpX_genBranch
    refine xc_tick (F := F) (A := A) (dd_po (L, lp, lv, (A 36), (A 37), y, 0) q' (A 36) (A 37) (2 * q')) hW hl hcr hcp hok (by omega) (fun z SR TJ s hs => ci_tickK (D := (L, lp, lv, (A 36), (A 37), y, 0)) hok rfl o han z h0 zk eq hs) (fun z => cs_brK (D := (L, lp, lv, (A 36), (A 37), y, 0)) hok rfl o han z h0 (by show y ≤ 2 * q'; rw [eq]; split <;> omega) zk eq) (fun F1 A1 q1 sn1 fn1 Dm1 hW1 g1 g2 g3 => ?_)
    have ek : (A1 36) = (A 36) := g2 _ (by decide)
    have ev : (A1 37) = (A 37) := g2 _ (by decide)
    have e38 : (A1 38) = (A 38) := g2 _ (by decide)
    have e23 : (F1 23) = nI L := (g1 _ (by decide) (by decide) (by decide) (by decide)).trans l1
    have e21 : (F1 21) = nI U := (g1 _ (by decide) (by decide) (by decide) (by decide)).trans b2
    have e22 : (F1 22) = nI (8 * U + c) := (g1 _ (by decide) (by decide) (by decide) (by decide)).trans b3
    have e24 : (F1 24) = nI (lp L) := (g1 _ (by decide) (by decide) (by decide) (by decide)).trans hcp
    have vl : vp_in (F1 23) 3 := tw_in e23 (by omega) (by omega)
    have cl : ((F1 23)).toNatClampNeg = L := tw_cl e23 (by omega)
    show vp_in (nI (12 * L + 3 + lv L)) 36 ∧ _
    refine And.intro (vp_in_nI htop (by omega)) (nm_r (e' := 1) (by rw [nI_clamp (by omega), ek]; exact zk) ?_)
    refine xc_source (F := F1) (A := A1) htop ?_
    rw [congrFun ek (12 * L + 3 + lv L), congrFun ev (12 * L + 3 + lv L), if_neg (by rw [zk]; decide)]
    refine xc_key (F := F1) (A := A1) (U := U) (c := c) e21 e22 ?_
    refine And.intro vl (And.intro vl (nm_r (e' := upd (A1 38) L (nI (lv L - 1))) (by rw [cl, e38, eh, tw_d1 h0]) (br_t rfl (br_c (fun zv => ?_) (fun zv => ?_)))))
    · rw [if_pos zv] at eq
      subst eq
      have hl1 : cc_lv L (tw_s lv L (lv L - 1)) F1 (tw_s A1 38 (upd (A1 38) L (nI (lv L - 1)))) := cc_lvd hl h0 _ _ (e23.trans l1.symm) (by show upd (A1 38) L (nI (lv L - 1)) = _; rw [e38])
      have hW2 : cc_W P Z U c cn q1 sn1 fn1 qh qt Dm1 (L, tw_s lp L q', tw_s lv L (lv L - 1), (A1 36), (A1 37), 2 * q', 0) 1 F1 (tw_s A1 38 (upd (A1 38) L (nI (lv L - 1)))) := by
        rw [ek, ev]
        exact cc_Wf hW1 (fun _ _ _ _ => rfl) (fun j _ _ b => tw_sn b)
      refine xc_flush (F := F1) (A := tw_s A1 38 (upd (A1 38) L (nI (lv L - 1)))) (lv := tw_s lv L (lv L - 1)) (lh := tw_s lv L (lv L - 1)) (fun _ _ => Nat.le_refl _) hW2 hl1 (by show dd_ok P (L, tw_s lp L q', tw_s lv L (lv L - 1), (A1 36), (A1 37), 2 * q', 0); rw [ek, ev]; exact hokq) (fun F3 A3 q3 Dm3 hW4 k1 k2 k3 k4 k5 k6 => ?_)
      refine xc_jumpTo (F := F3) (A := A3) (Nat.le_refl 1) hW4 (cc_lvf hl1 (k1 _ (by decide) (by decide)) (k2 _ (by decide) (by decide))) (cc_CRe (fun j j1 j2 => ((k2 j (by omega) (by omega)).trans (tw_sn (by omega))).trans (g2 j (by omega))) (cc_CRc L c (fun l hl => ⟨tw_sn (by omega), tw_sn (by omega)⟩) hcr)) tw_ss k4 (Nat.le_refl _) k5 (fun F4 A4 q4 sn4 fn4 qt4 Dm4 hW5 m0 m1 m2 m3 => ?_)
      exact K F4 A4 (Or.inl ⟨m0, c, cn, q4, sn4, fn4, qt4, Dm4, hW5⟩)
    · rw [if_neg zv] at eq
      subst eq
      unfold wX_genBranch_59
      refine br_t rfl (fun x hx => ?_)
      refine K _ _ (cc_inc (F := F1) (A := tw_s A1 38 (upd (A1 38) L (nI (lv L - 1)))) (xc_popO (F := F) (A := A) (q' := q1) (sn' := sn1) (fn' := fn1) (Dm' := Dm1) (qt := qt) (y' := 2 * (lp L + 1)) hl hcr hcp hen h64 h0 ?_ ?_ (Nat.le_refl _) hph ?_ ?_ ?_ ?_ ?_) hx)
      · show cc_W P Z U c cn q1 sn1 fn1 qh qt Dm1 (L, tw_s lp L (lp L + 1), tw_s lv L (lv L - 1), (A1 36), (A1 37), 2 * (lp L + 1), 0) 1 F1 (tw_s A1 38 (upd (A1 38) L (nI (lv L - 1))))
        rw [ek, ev]
        exact cc_Wf hW1 (fun _ _ _ _ => rfl) (fun j _ _ b => tw_sn b)
      · show dd_ok P (L, tw_s lp L (lp L + 1), tw_s lv L (lv L - 1), (A1 36), (A1 37), 2 * (lp L + 1), 0)
        rw [ek, ev]; exact hokq
      · exact e23.trans l1.symm
      · show upd (A1 38) L (nI (lv L - 1)) = _
        rw [e38]
      · exact e24.trans hcp.symm
      · exact g1 _ (by decide) (by decide) (by decide) (by decide)
      · intro j j1 j2
        exact (tw_sn (by omega)).trans (g2 j (by omega))
  · -- in a register
    have hrk : ∃ r, r < 36 ∧ (if (A 36) (12 * L + 3 + lv L) = 0 then nI (12 * L + 3 + lv L) else (A 37) (12 * L + 3 + lv L)) = nI r ∧ (((A 36) (12 * L + 3 + lv L) = 0 ∧ r = 12 * L + 3 + lv L) ∨ ((A 36) (12 * L + 3 + lv L) = 2 ∧ (A 37) (12 * L + 3 + lv L) = nI r)) := by
      by_cases z : (A 36) (12 * L + 3 + lv L) = 0
      · exact ⟨_, htop, by rw [if_pos z], Or.inl ⟨z, rfl⟩⟩
      · rcases hok.2.2.2 _ livet z with e | ⟨e, r, r1, r2, r3⟩
        · exact absurd e zk
        · exact ⟨r, by omega, by rw [if_neg z]; exact r2, Or.inr ⟨e, r2⟩⟩
    obtain ⟨r, r36, re, hrk⟩ := hrk
    have go : ∀ (y1 f1 : Nat), ((a ≤ lp L ∧ f1 = 1) ∨ (lp L < a ∧ f1 = 0)) → y1 ≤ 2 * (lp L + 1) → y1 < 2 * a + 1 →
        (a ≤ lp L → ∀ (SR TJ : Int32 → dd_D → Prop) (s : Int32), SR s (L, lp, lv, (A 36), (A 37), y, 0) → cc_I P (cc_Q A U) SR TJ (L, lp, lv, (A 36), (A 37), y, 0) (L, lp, lv, (A 36), (A 37), y1, f1) 16 0 0 0 3 s) →
        (lp L < a → cc_S P (cc_Q A U) (L, lp, lv, (A 36), (A 37), y, 0) (L, lp, lv, (A 36), (A 37), y1, f1)) → wpX_genBranch post (tw_t F A) (nI a) (nI (12 * L + 3 + lv L)) := by
      intro y1 f1 hdf hy1 hy2 hi hs
      unfold wpX_genBranch
      refine xc_tick (F := F) (A := A) (L, lp, lv, (A 36), (A 37), y1, f1) hW hl hcr hcp hok (by omega) hi hs (fun F1 A1 q1 sn1 fn1 Dm1 hW1 g1 g2 g3 => ?_)
      have ek : (A1 36) = (A 36) := g2 _ (by decide)
      have ev : (A1 37) = (A 37) := g2 _ (by decide)
      have e38 : (A1 38) = (A 38) := g2 _ (by decide)
      have e23 : (F1 23) = nI L := (g1 _ (by decide) (by decide) (by decide) (by decide)).trans l1
      have e21 : (F1 21) = nI U := (g1 _ (by decide) (by decide) (by decide) (by decide)).trans b2
      have e22 : (F1 22) = nI (8 * U + c) := (g1 _ (by decide) (by decide) (by decide) (by decide)).trans b3
      have vl : vp_in (F1 23) 3 := tw_in e23 (by omega) (by omega)
      have cl : ((F1 23)).toNatClampNeg = L := tw_cl e23 (by omega)
      show vp_in (nI (12 * L + 3 + lv L)) 36 ∧ _
      refine And.intro (vp_in_nI htop (by omega)) (nm_r (e' := (A 36) (12 * L + 3 + lv L)) (by rw [nI_clamp (by omega), ek]) ?_)
      refine xc_source (F := F1) (A := A1) htop ?_
      rw [congrFun ek (12 * L + 3 + lv L), congrFun ev (12 * L + 3 + lv L), re]
      refine xc_key (F := F1) (A := A1) (U := U) (c := c) e21 e22 ?_
      refine And.intro vl (And.intro vl (nm_r (e' := upd (A1 38) L (nI (lv L - 1))) (by rw [cl, e38, eh, tw_d1 h0]) (br_f zk ?_)))
      exact xc_brN (F := F) (A := A) (F1 := F1) (A1 := A1) hl hcr hcp hen hph hW1 hok g1 g2 o han ha h0 hp hdf hy1 hy2 zk r36 hrk K
    by_cases za : a ≤ lp L
    · exact go (2 * a) 1 (Or.inl ⟨za, rfl⟩) (by omega) (by omega) (fun _ SR TJ s hs => ci_tickD (D := (L, lp, lv, (A 36), (A 37), y, 0)) rfl hs) (fun z => absurd za (by omega))
    · exact go y 0 (Or.inr ⟨by omega, rfl⟩) (by omega) (by omega) (fun z => absurd z za) (fun _ => cc_S0)
end
end
section
/-! the compiler: a cell, a block -/
theorem xc_keyx {U c : Nat} {F : Nat → Int32} {A : Nat → Nat → Int32} {post : Int32 → Prop} {p : Nat} {x : Int32} (hu : (F 21) = nI U) (hc : (F 22) = nI (8 * U + c)) (hx : x = nI p) (K : post (nI (64 * c + p))) : wpX_keyOf post (tw_t F A) x := by
  rw [hx]
  exact xc_key hu hc K
section
variable {P : pp_P} {Z : (Nat → Int32) × (Nat → Nat → Int32)} {U qh ph : Nat} {F : Nat → Int32} {A : Nat → Nat → Int32}
theorem cc_Nm {ph' d : Nat} (h : cc_N P Z U qh ph' d F A) (hp : ph' ≤ ph) : cc_N P Z U qh ph d F A := by
  rcases h with h | ⟨p2, h1, h2⟩
  · exact Or.inl h
  · exact Or.inr ⟨p2, by omega, h2⟩
theorem xc_cell {post : SX → Prop} (h : cc_O P Z U qh ph 1 0 F A) (K : ∀ (F' : Nat → Int32) (A' : Nat → Nat → Int32), cc_N P Z U qh ph 0 F' A' → post (tw_t F' A')) : wpX_cell post (tw_t F A) := by
  obtain ⟨c, cn, q, sn, fn, qt, Dm, L, lp, lv, y, p, hW, hl, hcr, hcp, ep, hok, hy, hen, hle⟩ := h
  have ep' : p = lp L := by omega
  subst ep'
  have K' : ∀ (F' : Nat → Int32) (A' : Nat → Nat → Int32), cc_N P Z U qh (64 * (8 - cn) + cc_sm lp L) 0 F' A' → post (tw_t F' A') := fun F' A' h => K F' A' (cc_Nm h hle)
  have hl' := hl
  obtain ⟨l1, l2, l3⟩ := hl'
  have hv8 := (l3 L (Nat.le_refl _)).2
  have eh := (l3 L (Nat.le_refl _)).1
  have pok := hW.1
  obtain ⟨p1, p2, p3, p4, p5, p6⟩ := pok
  have hpc : lp L < pp_nc P := (hok.2.1 L (Nat.le_refl _)).2
  obtain ⟨c1, c2, c3, c4, c5, c6, c7, c8⟩ := p5 _ hpc
  obtain ⟨q1, q2, q3, q4, q5, q6, q7, q8, q9⟩ := hW.2.1
  have vcp : vp_in (F 24) 64 := tw_in hcp (by omega) (by omega)
  have ccp : ((F 24)).toNatClampNeg = lp L := tw_cl hcp (by omega)
  have vl : vp_in (F 23) 3 := tw_in l1 (by omega) (by omega)
  have cl : ((F 23)).toNatClampNeg = L := tw_cl l1 (by omega)
  unfold wpX_cell
  refine And.intro vcp (nm_r (e' := pp_op P (lp L)) (by rw [ccp]; exact congrFun q5 _) (And.intro vcp (nm_r (e' := pp_ar P (lp L)) (by rw [ccp]; exact congrFun q6 _) (And.intro vl (nm_r (e' := nI (lv L)) (by rw [cl]; exact eh) (nm_r (e' := nI (12 * L + 3 + lv L)) (by rw [l1, tw_m12', tw_p3, nI_add]) ?_))))))
  have ex : ∀ Q : SX → Prop, (∀ (F' : Nat → Int32) (A' : Nat → Nat → Int32), post (tw_t F' A') → Q (tw_t F' A')) → wpX_exitAt Q (tw_t F A) (F 24) := by
    intro Q hQ
    rw [hcp]
    refine xc_exitAt (F := F) (A := A) (Nat.le_refl 1) hW hl hcr rfl hok (fun F' A' q' sn' fn' Dm' hW' h0 h1 h2 h3 => hQ F' A' ?_)
    exact K F' A' (Or.inl ⟨h0, c, cn, q', sn', fn', qt, Dm', hW'⟩)
  have pl : ∀ Q : SX → Prop, (∀ (F' : Nat → Int32) (A' : Nat → Nat → Int32), cc_N P Z U qh (64 * (8 - cn) + cc_sm lp L) 1 F' A' → Q (tw_t F' A')) → (((pp_op P (lp L) = 0 ∨ pp_op P (lp L) = 1 ∨ pp_op P (lp L) = 3) ∧ lv L < 8) ∨ ((pp_op P (lp L) = 2 ∨ pp_op P (lp L) = 4 ∨ pp_op P (lp L) = 14) ∧ 0 < lv L) ∨ ((∃ k, 5 ≤ k ∧ k ≤ 9 ∧ pp_op P (lp L) = nI k) ∧ 2 ≤ lv L)) → wpX_plain Q (tw_t F A) (pp_op P (lp L)) (pp_ar P (lp L)) (nI (12 * L + 3 + lv L)) :=
    fun Q hQ hT => xc_plain (F := F) (A := A) hW hl hcr hcp hen hok hy rfl hT hQ
  rcases mm_opc (p5 _ hpc) with o | o | o | o | o | o | o | o | o | o | o | o | o | o | o
  · have r := pl
    rw [o] at r ⊢
    refine xx_stPush (F := F) (A := A) (Or.inl rfl) hv8 (fun _ => br_f (by decide) (ex _ (fun F' A' h => h))) (fun z => br_t rfl ?_)
    repeat (first | refine br_f (by decide) ?_ | refine br_t (by decide) ?_)
    exact r _ (fun F' A' h x hx => K' _ _ (cc_inc h hx)) (Or.inl ⟨Or.inl rfl, z⟩)
  · have r := pl
    rw [o] at r ⊢
    refine xx_stPush (F := F) (A := A) (Or.inr (Or.inl rfl)) hv8 (fun _ => br_f (by decide) (ex _ (fun F' A' h => h))) (fun z => br_t rfl ?_)
    repeat (first | refine br_f (by decide) ?_ | refine br_t (by decide) ?_)
    exact r _ (fun F' A' h x hx => K' _ _ (cc_inc h hx)) (Or.inl ⟨Or.inr (Or.inl rfl), z⟩)
  · have r := pl
    rw [o] at r ⊢
    refine xx_stPop (F := F) (A := A) (Or.inl rfl) hv8 (fun _ => br_f (by decide) (ex _ (fun F' A' h => h))) (fun z => br_t rfl ?_)
    repeat (first | refine br_f (by decide) ?_ | refine br_t (by decide) ?_)
    exact r _ (fun F' A' h x hx => K' _ _ (cc_inc h hx)) (Or.inr (Or.inl ⟨Or.inl rfl, z⟩))
  · have r := pl
    rw [o] at r ⊢
    refine xx_stPush (F := F) (A := A) (Or.inr (Or.inr rfl)) hv8 (fun _ => br_f (by decide) (ex _ (fun F' A' h => h))) (fun z => br_t rfl ?_)
    repeat (first | refine br_f (by decide) ?_ | refine br_t (by decide) ?_)
    exact r _ (fun F' A' h x hx => K' _ _ (cc_inc h hx)) (Or.inl ⟨Or.inr (Or.inr rfl), z⟩)
  · have r := pl
    rw [o] at r ⊢
    refine xx_stPop (F := F) (A := A) (Or.inr (Or.inl rfl)) hv8 (fun _ => br_f (by decide) (ex _ (fun F' A' h => h))) (fun z => br_t rfl ?_)
    repeat (first | refine br_f (by decide) ?_ | refine br_t (by decide) ?_)
    exact r _ (fun F' A' h x hx => K' _ _ (cc_inc h hx)) (Or.inr (Or.inl ⟨Or.inr (Or.inl rfl), z⟩))
  · have r := pl
    rw [o] at r ⊢
    refine xx_st59 (F := F) (A := A) (k := 5) (by omega) (by omega) hv8 (fun _ => br_f (by decide) (ex _ (fun F' A' h => h))) (fun z => br_t rfl ?_)
    repeat (first | refine br_f (by decide) ?_ | refine br_t (by decide) ?_)
    exact r _ (fun F' A' h x hx => K' _ _ (cc_inc h hx)) (Or.inr (Or.inr ⟨⟨5, by omega, by omega, rfl⟩, z⟩))
  · have r := pl
    rw [o] at r ⊢
    refine xx_st59 (F := F) (A := A) (k := 6) (by omega) (by omega) hv8 (fun _ => br_f (by decide) (ex _ (fun F' A' h => h))) (fun z => br_t rfl ?_)
    repeat (first | refine br_f (by decide) ?_ | refine br_t (by decide) ?_)
    exact r _ (fun F' A' h x hx => K' _ _ (cc_inc h hx)) (Or.inr (Or.inr ⟨⟨6, by omega, by omega, rfl⟩, z⟩))
  · have r := pl
    rw [o] at r ⊢
    refine xx_st59 (F := F) (A := A) (k := 7) (by omega) (by omega) hv8 (fun _ => br_f (by decide) (ex _ (fun F' A' h => h))) (fun z => br_t rfl ?_)
    repeat (first | refine br_f (by decide) ?_ | refine br_t (by decide) ?_)
    exact r _ (fun F' A' h x hx => K' _ _ (cc_inc h hx)) (Or.inr (Or.inr ⟨⟨7, by omega, by omega, rfl⟩, z⟩))
  · have r := pl
    rw [o] at r ⊢
    refine xx_st59 (F := F) (A := A) (k := 8) (by omega) (by omega) hv8 (fun _ => br_f (by decide) (ex _ (fun F' A' h => h))) (fun z => br_t rfl ?_)
    repeat (first | refine br_f (by decide) ?_ | refine br_t (by decide) ?_)
    exact r _ (fun F' A' h x hx => K' _ _ (cc_inc h hx)) (Or.inr (Or.inr ⟨⟨8, by omega, by omega, rfl⟩, z⟩))
  · have r := pl
    rw [o] at r ⊢
    refine xx_st59 (F := F) (A := A) (k := 9) (by omega) (by omega) hv8 (fun _ => br_f (by decide) (ex _ (fun F' A' h => h))) (fun z => br_t rfl ?_)
    repeat (first | refine br_f (by decide) ?_ | refine br_t (by decide) ?_)
    exact r _ (fun F' A' h x hx => K' _ _ (cc_inc h hx)) (Or.inr (Or.inr ⟨⟨9, by omega, by omega, rfl⟩, z⟩))
  · have ea := c6 (by rw [o]; decide)
    have an := c4 (Or.inl o)
    rw [o, ea]
    refine xx_st10 (F := F) (A := A) (br_t rfl ?_)
    repeat (first | refine br_f (by decide) ?_ | refine br_t (by decide) ?_)
    have hoka : ∀ y', dd_ok P (L, tw_s lp L (pp_an P (lp L)), lv, (A 36), (A 37), y', 0) := by
      intro y'
      obtain ⟨x1, x2, x3, x4⟩ := hok
      refine ⟨x1, fun l hl => ?_, x3, x4⟩
      refine ⟨(x2 l hl).1, ?_⟩
      show tw_s lp L (pp_an P (lp L)) l < pp_nc P
      by_cases e : l = L
      · rw [tw_se e]; exact an
      · rw [tw_sn e]; exact (x2 l hl).2
    refine xc_tick (F := F) (A := A) (L, tw_s lp L (pp_an P (lp L)), lv, (A 36), (A 37), 2 * pp_an P (lp L), 0) hW hl hcr hcp hok (by omega) (fun z SR TJ s hs => ci_tickJ (D := (L, lp, lv, (A 36), (A 37), y, 0)) rfl o rfl z hs) (fun z => cs_jump (D := (L, lp, lv, (A 36), (A 37), y, 0)) rfl o rfl z (by show y ≤ _; omega)) (fun F1 A1 q1 sn1 fn1 Dm1 hW1 g1 g2 g3 => ?_)
    have ek : (A1 36) = (A 36) := g2 _ (by decide)
    have ev : (A1 37) = (A 37) := g2 _ (by decide)
    have hl1 : cc_lv L lv F1 A1 := cc_lvf hl (g1 _ (by decide) (by decide) (by decide) (by decide)) (g2 _ (by decide))
    refine xc_flush (F := F1) (A := A1) (lv := lv) (lh := lv) (fun _ _ => Nat.le_refl _) (by rw [ek, ev]; exact hW1) hl1 (by rw [ek, ev]; exact hoka _) (fun F3 A3 q3 Dm3 hW4 k1 k2 k3 k4 k5 k6 => ?_)
    refine xc_jumpTo (F := F3) (A := A3) (Nat.le_refl 1) hW4 (cc_lvf hl1 (k1 _ (by decide) (by decide)) (k2 _ (by decide) (by decide))) (cc_CRe (fun j j1 j2 => (k2 j (by omega) (by omega)).trans (g2 j (by omega))) (cc_CRc L c (fun l hl => ⟨tw_sn (by omega), rfl⟩) hcr)) tw_ss k4 (Nat.le_refl _) k5 (fun F4 A4 q4 sn4 fn4 qt4 Dm4 hW5 m0 m1 m2 m3 => ?_)
    exact K F4 A4 (Or.inl ⟨m0, c, cn, q4, sn4, fn4, qt4, Dm4, hW5⟩)
  · have ea := c6 (by rw [o]; decide)
    have an := c4 (Or.inr o)
    have hp := c7 (by rw [o]; decide) (by rw [o]; decide)
    rw [o, ea]
    refine xx_stPop (F := F) (A := A) (Or.inr (Or.inr (Or.inl rfl))) hv8 (fun _ => br_f (by decide) (ex _ (fun F' A' h => h))) (fun z => br_t rfl ?_)
    repeat (first | refine br_f (by decide) ?_ | refine br_t (by decide) ?_)
    exact xc_genBranch (F := F) (A := A) hW hl hcr hcp hen hok hy rfl o rfl an z hp (fun F' A' h => K' F' A' h)
  · have ea := c6 (by rw [o]; decide)
    have an := c5 o
    have f2 := (p6 _ an).2.1
    rw [o, ea]
    refine xx_st12 (F := F) (A := A) (by omega) (q9 _ an) f2 hv8 (fun _ => br_f (by decide) (ex _ (fun F' A' h => h))) (fun _ _ => br_f (by decide) (ex _ (fun F' A' h => h))) (fun z z2 => br_t rfl ?_)
    repeat (first | refine br_f (by decide) ?_ | refine br_t (by decide) ?_)
    exact xc_genCall (F := F) (A := A) hW hl hcr hcp hen hok rfl o rfl an z z2 (fun F' A' h => K' F' A' h)
  · rw [o]
    refine xx_stPop (F := F) (A := A) (Or.inr (Or.inr (Or.inr (Or.inl rfl)))) hv8 (fun _ => br_f (by decide) (ex _ (fun F' A' h => h))) (fun z => br_t rfl ?_)
    repeat (first | refine br_f (by decide) ?_ | refine br_t (by decide) ?_)
    exact xc_genReturn (F := F) (A := A) hW hl hcr hcp hen hok rfl o z (fun F' A' h => K' F' A' h)
  · have r := pl
    rw [o] at r ⊢
    refine xx_stPop (F := F) (A := A) (Or.inr (Or.inr (Or.inr (Or.inr rfl)))) hv8 (fun _ => br_f (by decide) (ex _ (fun F' A' h => h))) (fun z => br_t rfl ?_)
    repeat (first | refine br_f (by decide) ?_ | refine br_t (by decide) ?_)
    exact r _ (fun F' A' h x hx => K' _ _ (cc_inc h hx)) (Or.inr (Or.inl ⟨Or.inr (Or.inr rfl), z⟩))
/-- a label met on the way -/
theorem xc_meet {post : SX → Prop} (h : cc_O P Z U qh ph 0 0 F A) (K : ∀ (F' : Nat → Int32) (A' : Nat → Nat → Int32), (cc_E P Z U qh F' A' ∨ cc_O P Z U qh ph 1 0 F' A') → post (tw_t F' A')) : wpX_meetLeader post (tw_t F A) := by
  obtain ⟨c, cn, q, sn, fn, qt, Dm, L, lp, lv, y, p, hW, hl, hcr, hcp, ep, hok, hy, hen, hle⟩ := h
  have ep' : p = lp L := by omega
  subst ep'
  unfold wpX_meetLeader
  refine xc_flush (F := F) (A := A) (lv := lv) (lh := lv) (fun _ _ => Nat.le_refl _) hW hl hok (fun F1 A1 q1 Dm1 hW1 k1 k2 k3 k4 k5 k6 => ?_)
  have hW1' := hW1
  obtain ⟨w0, w1, w2, w3, w4, w5, w6⟩ := hW1'
  have w2' := w2
  obtain ⟨b1, b2, b3, b4, b5, b6, b7⟩ := w2'
  obtain ⟨d1, d2, d3, d4, d5, d6⟩ := w4
  have hl1 : cc_lv L lv F1 A1 := cc_lvf hl (k1 _ (by decide) (by decide)) (k2 _ (by decide) (by decide))
  have hcr1 : cc_CR A1 U L c lp lv := cc_CRe (fun j j1 j2 => k2 j (by omega) (by omega)) hcr
  obtain ⟨l1, l2, l3⟩ := hl1
  have hv8 := (l3 L (Nat.le_refl _)).2
  have hpc : lp L < pp_nc P := (hok.2.1 L (Nat.le_refl _)).2
  have n64 := w0.1
  have e24 : (F1 24) = nI (lp L) := (k1 _ (by decide) (by decide)).trans hcp
  have k512 : 64 * c + lp L < 512 := by omega
  have vk : vp_in (nI (64 * c + lp L)) 512 := vp_in_nI k512 (by omega)
  have vl : vp_in (F1 23) 3 := tw_in l1 (by omega) (by omega)
  have eh : (A1 38) ((F1 23)).toNatClampNeg = nI (lv L) := by rw [l1, nI_clamp (by omega)]; exact (l3 L (Nat.le_refl _)).1
  have w3' := w3
  obtain ⟨c1, c2, c3, c4, c5, c6, c7, c8, c9, c10⟩ := w3'
  refine xc_keyx (F := F1) (A := A1) (p := lp L) b2 b3 e24 (And.intro vk ?_)
  rw [nI_clamp (by omega), eh]
  rcases d4 _ k512 with z | ⟨h, h8, z, _, _⟩
  · have un := cc_unu z (tw_nm1 (n := lv L) (by omega)) 512 k512
    refine br_t (by rw [z]; decide) (And.intro vl (And.intro vk (nm_e (And.intro vk (nm_r (e' := upd (A1 39) (64 * c + lp L) (nI q1)) (by rw [c1]) ?_)))))
    have hj : ∀ j, j ≠ 39 → j ≠ 40 → tw_s (tw_s A1 40 (upd (A1 40) (64 * c + lp L) (nI (lv L)))) 39 (upd (A1 39) (64 * c + lp L) (nI q1)) j = A1 j := fun j a b => (tw_sn a).trans (tw_sn b)
    refine K F1 (tw_s (tw_s A1 40 (upd (A1 40) (64 * c + lp L) (nI (lv L)))) 39 (upd (A1 39) (64 * c + lp L) (nI q1))) (Or.inr ⟨c, cn, q1, sn, fn, qt, Dm1, L, lp, lv, 2 * lp L + 1, lp L, ⟨w0, w1, ?_, w3, ⟨d1, d2, d3, ?_, ?_, ?_⟩, fun hf => ?_, ?_⟩, ⟨l1, l2, l3⟩, ?_, e24, rfl, k4, Nat.le_refl _, ?_, hle⟩)
    · exact cc_B1m w2 rfl rfl rfl (fun j j1 j2 i _ => congrFun (hj j (by omega) (by omega)) i)
    · intro k hk
      show upd (A1 40) (64 * c + lp L) (nI (lv L)) k = -1 ∨ ∃ h, h ≤ 8 ∧ upd (A1 40) (64 * c + lp L) (nI (lv L)) k = nI h ∧ _
      by_cases z2 : k = 64 * c + lp L
      · rw [tw_ue z2]
        exact Or.inr ⟨lv L, hv8, rfl, by omega, by omega⟩
      · rw [pk_un z2]; exact d4 k hk
    · show qt + cc_un (upd (A1 40) (64 * c + lp L) (nI (lv L))) 512 ≤ 512
      omega
    · intro j j1 j2
      obtain ⟨k, y1, y2, y3⟩ := d6 j j1 j2
      refine ⟨k, y1, y2, ?_⟩
      show ¬ upd (A1 40) (64 * c + lp L) (nI (lv L)) k = -1
      by_cases z3 : k = 64 * c + lp L
      · rw [tw_ue z3]; exact tw_nm1 (by omega)
      · rw [pk_un z3]; exact y3
    · have bump : cc_S P (cc_Q A1 U) (L, lp, lv, (A1 36), (A1 37), y, 0) (L, lp, lv, (A1 36), (A1 37), 2 * lp L + 1, 0) := ⟨by show y ≤ 2 * lp L + 1; omega, fun x m _ H => ⟨m, mm_Ss0, H⟩⟩
      refine cc_Hplace (Dk := (L, lp, lv, fun _ => 0, fun _ => 0, 2 * lp L + 1, 0)) (A := A1) k512 (cc_Hsil bump (w5 hf)) (Nat.le_refl 1) rfl (fun k' hk' => pk_un hk') (fun hne => absurd z hne) hj (Nat.le_refl _) (fun j a b => absurd b (by omega)) ⟨c, b4, rfl, by show lp L < 64; omega, pk_us, hv8, cc_CRe (fun j j1 j2 => hj j (by omega) (by omega)) hcr1, fun _ => rfl, rfl, rfl⟩ ?_ c2
      refine ⟨Nat.le_refl _, fun x m _ H => ⟨m, mm_Ss0, cc_Mc H rfl (fun _ _ => rfl) (fun _ _ => rfl) rfl (fun l oo hl2 ho => ?_)⟩⟩
      have hl2' : l ≤ L := hl2
      have ho' : oo < 4 + lv l := ho
      have h8 := (l3 l hl2').2
      have hk0 : (A1 36) (12 * l + oo) = 0 := k5 _ ⟨l, oo, rfl, hl2', by omega, ho'⟩
      exact dd_ec hk0 (fun z => absurd rfl z)
    · obtain ⟨z1, z2, z3, z4, z5, z6, z7⟩ := w6
      exact ⟨z1, fun j h h14 => (hj j (by omega) (by omega)).trans (z2 j h h14), fun V hV => z3 V hV, fun j j1 j2 i hi => (congrFun (hj j (by omega) (by omega)) i).trans (z4 j j1 j2 i hi), fun j j1 j2 i hi => (congrFun (hj j (by omega) (by omega)) i).trans (z5 j j1 j2 i hi), fun j j1 j2 i hi => (congrFun (hj j (by omega) (by omega)) i).trans (z6 j j1 j2 i hi), fun j j1 j2 i hi => (congrFun (hj j (by omega) (by omega)) i).trans (z7 j j1 j2 i hi)⟩
    · exact cc_CRe (fun j j1 j2 => hj j (by omega) (by omega)) hcr1
    · exact (k1 _ (by decide) (by decide)).trans hen
  · refine br_f (by rw [z]; exact nI_pos (by omega)) ?_
    show wpX_jumpTo _ (tw_t F1 A1) (F1 24)
    rw [e24]
    refine xc_jumpTo (F := F1) (A := A1) (Nat.le_refl 1) hW1 ⟨l1, l2, l3⟩ hcr1 rfl k4 (by omega) k5 (fun F4 A4 q4 sn4 fn4 qt4 Dm4 hW5 m0 m1 m2 m3 => ?_)
    exact K F4 A4 (Or.inl ⟨m0, c, cn, q4, sn4, fn4, qt4, Dm4, hW5⟩)
end
/-- between blocks -/
def cc_F (P : pp_P) (Z : (Nat → Int32) × (Nat → Nat → Int32)) (U qh qt : Nat) (F : Nat → Int32) (A : Nat → Nat → Int32) : Prop :=
  ∃ (c cn q sn fn : Nat) (Dm : Nat → dd_D), ∀ D', cc_W P Z U c cn q sn fn qh qt Dm D' 0 F A
theorem cc_Ob {P : pp_P} {Z : (Nat → Int32) × (Nat → Nat → Int32)} {U qh ph b d : Nat} {F : Nat → Int32} {A : Nat → Nat → Int32} (h : cc_O P Z U qh ph b d F A) : 0 < ph ∧ ∃ p, p < 64 ∧ (F 24) = nI p := by
  obtain ⟨c, cn, q, sn, fn, qt, Dm, L, lp, lv, y, p, hW, hl, hcr, hcp, ep, hok, hy, hen, hle⟩ := h
  have hpc : lp L < pp_nc P := (hok.2.1 L (Nat.le_refl _)).2
  have n64 := hW.1.1
  have := cc_smpos (lp := lp) (L := L) (by omega)
  exact ⟨by omega, p, by omega, hcp⟩
theorem cc_Of {P : pp_P} {Z : (Nat → Int32) × (Nat → Nat → Int32)} {U qh ph b d : Nat} {F : Nat → Int32} {A : Nat → Nat → Int32} (h : cc_O P Z U qh ph b d F A) (hf : ¬ (F 32) = 0) : ∃ qt, cc_F P Z U qh qt F A := by
  obtain ⟨c, cn, q, sn, fn, qt, Dm, L, lp, lv, y, p, hW, hl, hcr, hcp, ep, hok, hy, hen, hle⟩ := h
  obtain ⟨w0, w1, w2, w3, w4, w5, w6⟩ := hW
  exact ⟨qt, c, cn, q, sn, fn, Dm, fun D' => ⟨w0, w1, w2, w3, w4, fun h => absurd h hf, w6⟩⟩
theorem cc_Ow {P : pp_P} {Z : (Nat → Int32) × (Nat → Nat → Int32)} {U qh ph d : Nat} {F : Nat → Int32} {A : Nat → Nat → Int32} (h : cc_O P Z U qh ph 0 d F A) : cc_O P Z U qh ph 1 d F A := by
  obtain ⟨c, cn, q, sn, fn, qt, Dm, L, lp, lv, y, p, hW, hl, hcr, hcp, ep, hok, hy, hen, hle⟩ := h
  exact ⟨c, cn, q, sn, fn, qt, Dm, L, lp, lv, y, p, hW, hl, hcr, hcp, ep, hok, by omega, hen, hle⟩
theorem xc_fillL {P : pp_P} {Z : (Nat → Int32) × (Nat → Nat → Int32)} {U qh : Nat} {post : SX → Prop} (K : ∀ (F' : Nat → Int32) (A' : Nat → Nat → Int32), (∃ qt, cc_F P Z U qh qt F' A') → post (tw_t F' A')) :
    ∀ (k i n : Nat) (F : Nat → Int32) (A : Nat → Nat → Int32), i + k = 512 → k < n → (cc_E P Z U qh F A ∨ ∃ ph, cc_O P Z U qh ph 1 0 F A ∧ i + ph ≤ 512) → wX_fillBlock_2 post n (nI i) (F 0) (F 1) (F 2) (F 3) (F 4) (F 5) (F 6) (F 7) (F 8) (F 9) (F 10) (F 11) (F 12) (F 13) (F 14) (F 15) (F 16) (F 17) (F 18) (F 19) (F 20) (F 21) (F 22) (F 23) (F 24) (F 25) (F 26) (F 27) (F 28) (F 29) (F 30) (F 31) (F 32) (A 0) (A 1) (A 2) (A 3) (A 4) (A 5) (A 6) (A 7) (A 8) (A 9) (A 10) (A 11) (A 12) (A 13) (A 14) (A 15) (A 16) (A 17) (A 18) (A 19) (A 20) (A 21) (A 22) (A 23) (A 24) (A 25) (A 26) (A 27) (A 28) (A 29) (A 30) (A 31) (A 32) (A 33) (A 34) (A 35) (A 36) (A 37) (A 38) (A 39) (A 40) (A 41)
  | k, i, 0, F, A, hi, hn, h => absurd hn (by omega)
  | k, i, n + 1, F, A, hi, hn, h => by
    unfold wX_fillBlock_2
    rcases h with ⟨h0, c, cn, q, sn, fn, qt, Dm, hW⟩ | ⟨ph, hO, hph⟩
    · have Kf := K F A ⟨qt, c, cn, q, sn, fn, Dm, hW⟩
      exact br_c (fun _ => Kf) (fun _ => br_f (by rw [h0]; decide) Kf)
    · have ob := (cc_Ob hO).1
      have hen : (F 31) = 0 := by
        obtain ⟨c, cn, q, sn, fn, qt, Dm, L, lp, lv, y, p, hW, hl, hcr, hcp, ep, hok, hy, hen, hle⟩ := hO
        exact hen
      refine br_f (nI_ge (b := 512) (by omega) (by omega)) (br_t hen (br_c (fun hf => ?_) (fun hf => K F A (cc_Of hO hf))))
      refine xc_cell (F := F) (A := A) hO (fun F' A' hN => ?_)
      rw [nI_1]
      obtain ⟨k', rfl⟩ : ∃ k', k = k' + 1 := ⟨k - 1, by omega⟩
      rcases hN with hE | ⟨ph', hlt, hO'⟩
      · refine br_f (by rw [hE.1]; decide) (nm_e ?_)
        exact xc_fillL K k' (i + 1) n F' A' (by omega) (by omega) (Or.inl hE)
      · have hen' : (F' 31) = 0 := by
          obtain ⟨c, cn, q, sn, fn, qt, Dm, L, lp, lv, y, p, hW, hl, hcr, hcp, ep, hok, hy, hen, hle⟩ := hO'
          exact hen
        obtain ⟨p, p64, hcp⟩ := (cc_Ob hO').2
        refine br_t hen' (And.intro (tw_in hcp p64 (by omega)) (br_c (fun _ => nm_e ?_) (fun _ => ?_)))
        · exact xc_fillL K k' (i + 1) n F' A' (by omega) (by omega) (Or.inr ⟨ph', cc_Ow hO', by omega⟩)
        · refine xc_meet (F := F') (A := A') hO' (fun F2 A2 h2 => nm_e ?_)
          refine xc_fillL K k' (i + 1) n F2 A2 (by omega) (by omega) ?_
          rcases h2 with h2 | h2
          · exact Or.inl h2
          · exact Or.inr ⟨ph', h2, by omega⟩
theorem xc_fill {P : pp_P} {Z : (Nat → Int32) × (Nat → Nat → Int32)} {U qh : Nat} {post : SX → Prop} {F : Nat → Int32} {A : Nat → Nat → Int32} (h : cc_O P Z U qh 512 1 0 F A) (K : ∀ (F' : Nat → Int32) (A' : Nat → Nat → Int32), (∃ qt, cc_F P Z U qh qt F' A') → post (tw_t F' A')) : wpX_fillBlock post (tw_t F A) := by
  show ∃ n2 : Nat, wX_fillBlock_2 post n2 (nI 0) (F 0) (F 1) (F 2) (F 3) (F 4) (F 5) (F 6) (F 7) (F 8) (F 9) (F 10) (F 11) (F 12) (F 13) (F 14) (F 15) (F 16) (F 17) (F 18) (F 19) (F 20) (F 21) (F 22) (F 23) (F 24) (F 25) (F 26) (F 27) (F 28) (F 29) (F 30) (F 31) (F 32) (A 0) (A 1) (A 2) (A 3) (A 4) (A 5) (A 6) (A 7) (A 8) (A 9) (A 10) (A 11) (A 12) (A 13) (A 14) (A 15) (A 16) (A 17) (A 18) (A 19) (A 20) (A 21) (A 22) (A 23) (A 24) (A 25) (A 26) (A 27) (A 28) (A 29) (A 30) (A 31) (A 32) (A 33) (A 34) (A 35) (A 36) (A 37) (A 38) (A 39) (A 40) (A 41)
  exact ⟨513, xc_fillL K 512 0 513 F A (by omega) (by omega) (Or.inr ⟨512, h, by omega⟩)⟩
end
section
/-! the compiler: opening a block -/
theorem xc_openK {post : SX → Prop} {F : Nat → Int32} : ∀ (k i n : Nat) (A : Nat → Nat → Int32), i + k = 36 → k < n → (∀ t, t < i → (A 36) t = 0) →
    (∀ A' : Nat → Nat → Int32, (∀ j, j ≠ 36 → A' j = A j) → (∀ t, t < 36 → (A' 36) t = 0) → post (tw_t F A')) → wX_openBlock_110 post (F 0) (F 1) (F 2) (F 3) (F 4) (F 5) (F 6) (F 7) (F 8) (F 9) (F 10) (F 11) (F 12) (F 13) (F 14) (F 15) (F 16) (F 17) (F 18) (F 19) (F 20) (F 21) (F 22) (F 23) (F 24) (F 25) (F 26) (F 27) (F 28) (F 29) (F 30) (F 31) (F 32) n (nI i) (A 0) (A 1) (A 2) (A 3) (A 4) (A 5) (A 6) (A 7) (A 8) (A 9) (A 10) (A 11) (A 12) (A 13) (A 14) (A 15) (A 16) (A 17) (A 18) (A 19) (A 20) (A 21) (A 22) (A 23) (A 24) (A 25) (A 26) (A 27) (A 28) (A 29) (A 30) (A 31) (A 32) (A 33) (A 34) (A 35) (A 36) (A 37) (A 38) (A 39) (A 40) (A 41)
  | 0, i, n, A, hi, hn, h, K => by
    obtain ⟨n, rfl⟩ : ∃ n', n = n' + 1 := ⟨n - 1, by omega⟩
    have e : i = 36 := by omega
    subst e
    unfold wX_openBlock_110
    exact br_t (by decide) (K A (fun _ _ => rfl) h)
  | k + 1, i, n, A, hi, hn, h, K => by
    obtain ⟨n, rfl⟩ : ∃ n', n = n' + 1 := ⟨n - 1, by omega⟩
    unfold wX_openBlock_110
    refine br_f (nI_ge (b := 36) (by omega) (by omega)) (And.intro (vp_in_nI (by omega) (by omega)) ?_)
    rw [nI_clamp (by omega), nI_1]
    refine nm_e (nm_e ?_)
    refine xc_openK k (i + 1) n (tw_s A 36 (upd (A 36) i 0)) (by omega) (by omega) (fun t ht => ?_) (fun A' h1 h2 => K A' (fun j hj => (h1 j hj).trans (tw_sn hj)) h2)
    show upd (A 36) i 0 t = 0
    by_cases e : t = i
    · rw [tw_ue e]
    · rw [pk_un e]; exact h t (by omega)
theorem xc_openL {post : SX → Prop} {F : Nat → Int32} {U : Nat} {lp lh : Nat → Nat} (hU : U < 8) : ∀ (l c n : Nat) (A : Nat → Nat → Int32), l < n → c < 8 → cc_CR A U l c lp lh →
    (∀ A' : Nat → Nat → Int32, (∀ j, j ≠ 38 → j ≠ 36 → A' j = A j) → (∀ l', l' < l → (A' 38) l' = nI (lh l')) → (∀ l', l ≤ l' → (A' 38) l' = (A 38) l') → (∀ t, t < 36 → (A' 36) t = 0) → post (tw_t F A')) → wX_openBlock_77 post (F 0) (F 1) (F 2) (F 3) (F 4) (F 5) (F 6) (F 7) (F 8) (F 9) (F 10) (F 11) (F 12) (F 13) (F 14) (F 15) (F 16) (F 17) (F 18) (F 19) (F 20) (F 21) (F 22) (F 23) (F 24) (F 25) (F 26) (F 27) (F 28) (F 29) (F 30) (F 31) (F 32) n (nI (8 * U + c)) (nI l) (A 0) (A 1) (A 2) (A 3) (A 4) (A 5) (A 6) (A 7) (A 8) (A 9) (A 10) (A 11) (A 12) (A 13) (A 14) (A 15) (A 16) (A 17) (A 18) (A 19) (A 20) (A 21) (A 22) (A 23) (A 24) (A 25) (A 26) (A 27) (A 28) (A 29) (A 30) (A 31) (A 32) (A 33) (A 34) (A 35) (A 36) (A 37) (A 38) (A 39) (A 40) (A 41)
  | 0, c, n, A, hn, hc, h, K => by
    obtain ⟨n, rfl⟩ : ∃ n', n = n' + 1 := ⟨n - 1, by omega⟩
    unfold wX_openBlock_77
    refine br_t (by decide) ⟨37, ?_⟩
    exact xc_openK 36 0 37 A (by omega) (by omega) (fun t ht => absurd ht (by omega)) (fun A' h1 h2 => K A' (fun j _ hj => h1 j hj) (fun l' hl' => absurd hl' (by omega)) (fun l' _ => congrFun (h1 _ (by decide)) l') h2)
  | l + 1, c, n, A, hn, hc, h, K => by
    obtain ⟨n, rfl⟩ : ∃ n', n = n' + 1 := ⟨n - 1, by omega⟩
    obtain ⟨h1, h2, h3, h4, h5, h6, h7, c', h8, h9, h10⟩ := h
    have cc : (nI (8 * U + c)).toNatClampNeg = 8 * U + c := nI_clamp (by omega)
    have vc : vp_in (nI (8 * U + c)) 64 := vp_in_nI (by omega) (by omega)
    unfold wX_openBlock_77
    refine br_f (nI_nle (by omega) (by omega)) (And.intro vc ?_)
    rw [cc, nI_pred, nI_clamp (by omega), h5, h9]
    refine And.intro (vp_in_nI (by omega) (by omega)) (nm_e (And.intro vc (nm_e (nm_r (pk_m1 l) ?_))))
    refine xc_openL hU l c' n (tw_s A 38 (upd (A 38) l (nI (lh l)))) (by omega) (by omega) (cc_CRe (fun j j1 j2 => tw_sn (by omega)) h10) (fun A' g1 g2 g3 g4 => K A' (fun j a b => (g1 j a b).trans (tw_sn a)) (fun l' hl' => ?_) (fun l' hl' => ?_) g4)
    · by_cases e : l' = l
      · rw [e, g3 l (Nat.le_refl _)]; exact pk_us
      · exact g2 l' (by omega)
    · rw [g3 l' (by omega)]; exact pk_un (by omega)
theorem xc_open {P : pp_P} {Z : (Nat → Int32) × (Nat → Nat → Int32)} {U qh qt k : Nat} {post : SX → Prop} {F : Nat → Int32} {A : Nat → Nat → Int32} (h : cc_F P Z U qh qt F A) (hq : qh < qt) (hk : (A 41) qh = nI k) (k512 : k < 512) (hf : (F 32) = 0)
    (K : ∀ (F' : Nat → Int32) (A' : Nat → Nat → Int32), (F' 29) = nI qh → cc_O P Z U (qh + 1) 512 1 0 (tw_s F' 29 (nI (qh + 1))) A' → post (tw_t F' A')) : wpX_openBlock post (tw_t F A) (nI k) := by
  obtain ⟨c0, cn, q, sn, fn, Dm, hWD⟩ := h
  have hW0 := hWD (0, fun _ => 0, fun _ => 0, fun _ => 0, fun _ => 0, 0, 0)
  obtain ⟨w0, w1, w2, w3, w4, _, w6⟩ := hW0
  have w2' := w2
  obtain ⟨b1, b2, b3, b4, b5, b6, b7⟩ := w2'
  have w4' := w4
  obtain ⟨d1, d2, d3, d4, d5, d6⟩ := w4'
  have w3' := w3
  obtain ⟨c1, c2, c3, c4, c5, c6, c7, c8, c9, c10⟩ := w3'
  have hne : ¬ (A 40) k = -1 := by
    obtain ⟨k', y1, y2, y3⟩ := d6 qh (Nat.le_refl _) hq
    have : k = k' := tw_ni hk y2 rfl (by omega) (by omega)
    rw [this]; exact y3
  obtain ⟨ht, ht8, eht, hkc, hkp⟩ : ∃ h, h ≤ 8 ∧ (A 40) k = nI h ∧ k / 64 < cn ∧ k % 64 < pp_nc P := by
    rcases d4 k k512 with z | z
    · exact absurd z hne
    · exact z
  obtain ⟨L, lp0, lh0, hcr0, hlp0⟩ := b7 (k / 64) hkc
  obtain ⟨lv1, lv2, lv3⟩ := cc_CRl L (k / 64) lp0 lh0 hcr0
  have n64 := w0.1
  have hcr : cc_CR A U L (k / 64) (tw_s lp0 L (k % 64)) (tw_s lh0 L ht) := cc_CRc L _ (fun l hl => ⟨tw_sn (by omega), tw_sn (by omega)⟩) hcr0
  have e1 : (F 21) * 8 + nI k / 64 = nI (8 * U + k / 64) := by
    rw [b2, tw_m8, show nI k / 64 = nI (k / 64) from pk_div (d := 64) (by omega) (by omega) (by omega), nI_add]
  have e2 : nI k - nI k / 64 * 64 = nI (k % 64) := pk_rem (d := 64) (by omega) (by omega) (by omega)
  unfold wpX_openBlock
  refine And.intro (by decide) (nm_r e1 (And.intro (by decide) (nm_r e2 (And.intro (vp_in_nI (by omega) (by omega)) (nm_r (e' := nI L) (by rw [nI_clamp (by omega)]; exact lv1) (And.intro (vp_in_nI k512 (by omega)) ?_))))))
  rw [nI_clamp (show k < 2 ^ 31 by omega), nI_clamp (show L < 2 ^ 31 by omega)]
  refine nm_r (e' := upd (A 39) k (nI q)) (by rw [c1]) (And.intro (vp_in_nI k512 (by omega)) (And.intro (vp_in_nI (by omega) (by omega)) (nm_r (e' := upd (A 38) L (nI ht)) (by rw [eht]) ⟨L + 1, ?_⟩)))
  refine xc_openL (F := tw_s (tw_s (tw_s (tw_s F 22 (nI (8 * U + k / 64))) 23 (nI L)) 24 (nI (k % 64))) 31 0) b1 L (k / 64) (L + 1) (tw_s (tw_s A 39 (upd (A 39) k (nI q))) 38 (upd (A 38) L (nI ht))) (by omega) (by omega) (cc_CRe (fun j j1 j2 => (tw_sn (by omega)).trans (tw_sn (by omega))) hcr) (fun A' g1 g2 g3 g4 => ?_)
  have hA : ∀ j, j ≠ 38 → j ≠ 36 → j ≠ 39 → A' j = A j := fun j a b d => ((g1 j a b).trans (tw_sn a)).trans (tw_sn d)
  have e39 : (A' 39) = upd (A 39) k (nI q) := g1 _ (by decide) (by decide)
  have hcr' : cc_CR A' U L (k / 64) (tw_s lp0 L (k % 64)) (tw_s lh0 L ht) := cc_CRe (fun j j1 j2 => hA j (by omega) (by omega) (by omega)) hcr
  have hh8 : ∀ l, l ≤ L → tw_s lh0 L ht l ≤ 8 ∧ tw_s lp0 L (k % 64) l < pp_nc P ∧ (l < L → tw_s lh0 L ht l ≤ 7) := by
    have key : ∀ (M cc : Nat), cc_CR A U M cc lp0 lh0 → ∀ l, l < M → lh0 l ≤ 7 := by
      intro M
      induction M with
      | zero => intro cc _ l hl; omega
      | succ M ih =>
        intro cc h l hl
        obtain ⟨x1, x2, x3, x4, x5, x6, x7, c', x8, x9, x10⟩ := h
        by_cases e : l = M
        · rw [e]; exact x7
        · exact ih c' x10 l (by omega)
    intro l hl
    by_cases e : l = L
    · rw [tw_se e, tw_se e]; exact ⟨ht8, hkp, fun h => absurd h (by omega)⟩
    · rw [tw_sn e, tw_sn e]
      have := key L _ hcr0 l (by omega)
      exact ⟨by omega, hlp0 l (by omega), fun _ => this⟩
  refine K _ A' d1 ⟨k / 64, cn, q, sn, fn, qt, Dm, L, tw_s lp0 L (k % 64), tw_s lh0 L ht, 2 * (k % 64) + 1, k % 64, ⟨w0, ?_, ?_, w3, ⟨rfl, d2, by omega, ?_, ?_, ?_⟩, fun hf2 => ?_, ?_⟩, ⟨rfl, lv2, fun l hl => ?_⟩, hcr', rfl, ?_, ⟨lv2, fun l hl => ⟨(hh8 l hl).1, (hh8 l hl).2.1⟩, fun l hl => (hh8 l (Nat.le_of_lt hl)).2.2 hl, fun t h1 h2 => ?_⟩, ?_, rfl, ?_⟩
  · obtain ⟨q1, q2, q3, q4, q5, q6, q7, q8, q9⟩ := w1
    exact ⟨q1, q2, q3, q4, (hA 0 (by decide) (by decide) (by decide)).trans q5, (hA 1 (by decide) (by decide) (by decide)).trans q6, (hA 2 (by decide) (by decide) (by decide)).trans q7, fun f hf => (congrFun (hA 3 (by decide) (by decide) (by decide)) f).trans (q8 f hf), fun f hf => (congrFun (hA 4 (by decide) (by decide) (by decide)) f).trans (q9 f hf)⟩
  · refine ⟨b1, b2, rfl, hkc, b5, b6, fun c' hc' => ?_⟩
    obtain ⟨L', lp', lh', x1, x2⟩ := b7 c' hc'
    exact ⟨L', lp', lh', cc_CRe (fun j j1 j2 => hA j (by omega) (by omega) (by omega)) x1, x2⟩
  · rw [hA 40 (by decide) (by decide) (by decide)]; exact d4
  · rw [hA 40 (by decide) (by decide) (by decide)]; exact d5
  · rw [hA 40 (by decide) (by decide) (by decide), hA 41 (by decide) (by decide) (by decide)]
    exact fun j j1 j2 => d6 j (by omega) j2
  · have H0 := (hWD (L, tw_s lp0 L (k % 64), tw_s lh0 L ht, (A' 36), (A' 37), 2 * (k % 64) + 1, 0)).2.2.2.2.2.1 hf
    have H1 : cc_H P U cn q sn fn qh qt Dm (L, tw_s lp0 L (k % 64), tw_s lh0 L ht, (A' 36), (A' 37), 2 * (k % 64) + 1, 0) 0 (tw_s A' 39 (A 39)) := by
      have hA2 : ∀ j, j ≠ 38 → j ≠ 36 → tw_s A' 39 (A 39) j = A j := by
        intro j a b
        by_cases e : j = 39
        · rw [tw_se e, e]
        · rw [tw_sn e]; exact hA j a b e
      refine cc_Hgrow (fun j a b i _ => congrFun (hA2 j (by omega) (by omega)) i) (fun j a b i _ => congrFun (hA2 j (by omega) (by omega)) i) (fun j a b i _ => congrFun (hA2 j (by omega) (by omega)) i) (fun j a b i _ => congrFun (hA2 j (by omega) (by omega)) i) (hA2 _ (by decide) (by decide)) (hA2 _ (by decide) (by decide)) (hA2 _ (by decide) (by decide)) (fun gl hg => ?_) (Nat.le_refl _) (Nat.le_refl _) (Nat.le_refl _) H0
      unfold cc_Q at hg ⊢
      rw [hA2 14 (by decide) (by decide), hA2 10 (by decide) (by decide)] at hg
      exact hg
    refine cc_Hplace (Dk := (L, tw_s lp0 L (k % 64), tw_s lh0 L ht, fun _ => 0, fun _ => 0, 2 * (k % 64) + 1, 0)) (A := tw_s A' 39 (A 39)) k512 H1 (by omega) (by rw [e39]; rfl) (fun k' _ => rfl) (fun _ => rfl) (fun j a b => (tw_sn a).symm) (by omega) (fun j a b => ?_) ⟨k / 64, hkc, ?_, ?_, ?_, ?_, hcr', fun _ => rfl, ?_, rfl⟩ ⟨Nat.le_refl _, fun x m _ H => ⟨m, mm_Ss0, cc_Mc H rfl (fun _ _ => rfl) (fun _ _ => rfl) rfl (fun l oo hl2 ho => ?_)⟩⟩ c2
    · have ej : j = qh := by omega
      rw [ej]
      show A' 41 qh = nI k
      rw [hA 41 (by decide) (by decide) (by decide)]; exact hk
    · show k = 64 * (k / 64) + tw_s lp0 L (k % 64) L; rw [tw_ss]; omega
    · show tw_s lp0 L (k % 64) L < 64; rw [tw_ss]; omega
    · show A' 40 k = nI (tw_s lh0 L ht L)
      rw [hA 40 (by decide) (by decide) (by decide), tw_ss]; exact eht
    · show tw_s lh0 L ht L ≤ 8; rw [tw_ss]; exact ht8
    · show 2 * (k % 64) + 1 = 2 * tw_s lp0 L (k % 64) L + 1; rw [tw_ss]
    · have hl2' : l ≤ L := hl2
      have ho' : oo < 4 + tw_s lh0 L ht l := ho
      have h8 := (hh8 l hl2').1
      have hk0 : (A' 36) (12 * l + oo) = 0 := g4 _ (by omega)
      exact dd_ec hk0 (fun z => absurd rfl z)
  · obtain ⟨z1, z2, z3, z4, z5, z6, z7⟩ := w6
    refine ⟨fun j hj => ?_, fun j h h14 => (hA j (by omega) (by omega) (by omega)).trans (z2 j h h14), fun V hV => (congrFun (hA 14 (by decide) (by decide) (by decide)) V).trans (z3 V hV), fun j j1 j2 i hi => (congrFun (hA j (by omega) (by omega) (by omega)) i).trans (z4 j j1 j2 i hi), fun j j1 j2 i hi => (congrFun (hA j (by omega) (by omega) (by omega)) i).trans (z5 j j1 j2 i hi), fun j j1 j2 i hi => (congrFun (hA j (by omega) (by omega) (by omega)) i).trans (z6 j j1 j2 i hi), fun j j1 j2 i hi => (congrFun (hA j (by omega) (by omega) (by omega)) i).trans (z7 j j1 j2 i hi)⟩
    rw [tw_sn (by omega), tw_sn (by omega), tw_sn (by omega), tw_sn (by omega), tw_sn (by omega)]
    exact z1 j hj
  · refine ⟨?_, (hh8 l hl).1⟩
    by_cases e : l = L
    · rw [e, g3 L (Nat.le_refl _)]
      show upd (A 38) L (nI ht) L = nI (tw_s lh0 L ht L)
      rw [pk_us, tw_ss]
    · rw [g2 l (by omega)]
  · rw [tw_ss]; rfl
  · have := (dd_lv36 lv2 h1).2
    exact absurd (g4 t this) h2
  · rw [tw_ss]; omega
  · have := cc_smle (lp := tw_s lp0 L (k % 64)) L
    omega
end
section
/-! the compiler: installing -/
def cc_bot : dd_D := (0, fun _ => 64, fun _ => 0, fun _ => 0, fun _ => 0, 0, 0)
def cc_Tf (U q : Nat) (Dm : Nat → dd_D) (d : Int32) (D : dd_D) : Prop := ∃ ta, d = nI ta ∧ 512 * U ≤ ta ∧ ta < q ∧ D = Dm ta
def cc_Qv (A : Nat → Nat → Int32) (U : Nat) (gv : Nat → Int32) : (Nat → Int32) → Prop := fun gl => ∀ g, g < 8 → bt ((A 14) U) g = true → gl g = gv g
/-- the descriptor of an entry at pc with height h -/
def cc_en (pc h : Nat) : dd_D := (0, fun _ => pc, fun _ => h, fun _ => 0, fun _ => 0, 2 * pc + 1, 0)
/-- a unit that is valid -/
def cc_U (P : pp_P) (U : Nat) (A : Nat → Nat → Int32) : Prop :=
  ∃ (q : Nat) (Dm : Nat → dd_D) (gv : Nat → Int32), 512 * U ≤ q ∧ q ≤ 512 * U + 512 ∧ (∀ g, g < 8 → bt ((A 14) U) g = true → (A 10) g = gv g)
  ∧ (∀ j, 512 * U ≤ j → j < q → cc_I P (cc_Qv A U gv) (cc_SR P A U (256 * U + 256) (1024 * U + 1024) 8) (cc_Tf U q Dm) (Dm j) (cc_T q Dm cc_bot (j + 1)) ((A 18) j) ((A 19) j) ((A 20) j) ((A 21) j) ((A 22) j) ((A 23) j))
  ∧ (∀ pc, pc < pp_nc P → pp_ow P pc = nI U → (A 17) pc = -1 ∨ ∃ h ta, (A 17) pc = nI h ∧ h ≤ 8 ∧ (A 16) pc = nI ta ∧ 512 * U ≤ ta ∧ ta < q ∧ cc_S P (cc_Qv A U gv) (cc_en pc h) (Dm ta))
def cc_UU (P : pp_P) (A : Nat → Nat → Int32) : Prop := ∀ V, V < 8 → (A 12) V = 1 → cc_U P V A
def cc_GX (A : Nat → Nat → Int32) : Prop := ∀ V, V < 8 → (A 35) (8 * V) = 0
/-! another unit is compiled: this one stays -/
theorem cc_CRr {A A' : Nat → Nat → Int32} {U : Nat} (h : ∀ j, 32 ≤ j → j ≤ 35 → ∀ i, 8 * U ≤ i → i < 8 * U + 8 → A' j i = A j i) :
    ∀ (L c : Nat) (lp lh : Nat → Nat), cc_CR A U L c lp lh → cc_CR A' U L c lp lh
  | 0, c, lp, lh, H => ⟨H.1, (h 35 (by decide) (by decide) _ (by omega) (by omega)).trans H.2⟩
  | L + 1, c, lp, lh, H => by
    obtain ⟨h1, h2, h3, h4, h5, h6, h7, c', h8, h9, h10⟩ := H
    exact ⟨h1, h2, (h 35 (by decide) (by decide) _ (by omega) (by omega)).trans h3, (h 33 (by decide) (by decide) _ (by omega) (by omega)).trans h4, (h 34 (by decide) (by decide) _ (by omega) (by omega)).trans h5, h6, h7, c', h8, (h 32 (by decide) (by decide) _ (by omega) (by omega)).trans h9, cc_CRr h L c' lp lh h10⟩
theorem cc_FXr {A A' : Nat → Nat → Int32} {L fm fn f0 : Nat} {lh : Nat → Nat} {kd vl : Nat → Int32} (h0 : fm ≤ f0) (h : ∀ j, 29 ≤ j → j ≤ 31 → ∀ i, fm ≤ i → i < fn → A' j i = A j i) :
    ∀ (t f1 : Nat), f1 ≤ fn → cc_FX A L lh kd vl f0 t f1 → cc_FX A' L lh kd vl f0 t f1
  | 0, f1, hf, H => H
  | t + 1, f1, hf, H => by
    rcases H with ⟨a, b⟩ | ⟨a, f, e, b, c1, c2, c3⟩
    · exact Or.inl ⟨a, cc_FXr h0 h t f1 hf b⟩
    · have fl := cc_FXle t f b
      refine Or.inr ⟨a, f, e, cc_FXr h0 h t f (by omega) b, (h 29 (by decide) (by decide) _ (by omega) (by omega)).trans c1, (h 30 (by decide) (by decide) _ (by omega) (by omega)).trans c2, ?_⟩
      rw [h 31 (by decide) (by decide) _ (by omega) (by omega)]
      exact c3
theorem cc_SRr {P : pp_P} {U : Nat} {A A' : Nat → Nat → Int32} {D : dd_D} (hs : ∀ j, 24 ≤ j → j ≤ 28 → ∀ i, 256 * U ≤ i → i < 256 * U + 256 → A' j i = A j i) (hf : ∀ j, 29 ≤ j → j ≤ 31 → ∀ i, 1024 * U ≤ i → i < 1024 * U + 1024 → A' j i = A j i) (hx : ∀ j, 32 ≤ j → j ≤ 35 → ∀ i, 8 * U ≤ i → i < 8 * U + 8 → A' j i = A j i)
    {s : Int32} (H : cc_SR P A U (256 * U + 256) (1024 * U + 1024) 8 s D) : cc_SR P A' U (256 * U + 256) (1024 * U + 1024) 8 s D := by
  obtain ⟨i, c, f0, f1, a1, a2, a3, a4, a5, a6, a7, a8, a9, a10, a11, a12, a13, a14⟩ := H
  exact ⟨i, c, f0, f1, a1, a2, a3, (hs 24 (by decide) (by decide) i a2 a3).trans a4, (hs 25 (by decide) (by decide) i a2 a3).trans a5, (hs 26 (by decide) (by decide) i a2 a3).trans a6, a7, cc_CRr hx _ _ _ _ a8, (hs 27 (by decide) (by decide) i a2 a3).trans a9, (hs 28 (by decide) (by decide) i a2 a3).trans a10, a11, a12, cc_FXr a11 hf _ _ a12 a13, a14⟩
theorem cc_Ur {P : pp_P} {V : Nat} {A A' : Nat → Nat → Int32} (hc : ∀ j, 18 ≤ j → j ≤ 23 → ∀ i, 512 * V ≤ i → i < 512 * V + 512 → A' j i = A j i) (hs : ∀ j, 24 ≤ j → j ≤ 28 → ∀ i, 256 * V ≤ i → i < 256 * V + 256 → A' j i = A j i) (hf : ∀ j, 29 ≤ j → j ≤ 31 → ∀ i, 1024 * V ≤ i → i < 1024 * V + 1024 → A' j i = A j i) (hx : ∀ j, 32 ≤ j → j ≤ 35 → ∀ i, 8 * V ≤ i → i < 8 * V + 8 → A' j i = A j i)
    (h14 : (A' 14) V = (A 14) V) (h10 : ∀ g, g < 8 → bt ((A 14) V) g = true → (A' 10) g = (A 10) g) (he : ∀ pc, pc < pp_nc P → pp_ow P pc = nI V → (A' 17) pc = (A 17) pc ∧ (A' 16) pc = (A 16) pc) (H : cc_U P V A) : cc_U P V A' := by
  obtain ⟨q, Dm, gv, a1, a2, a3, a4, a5⟩ := H
  have hQ : cc_Qv A' V gv = cc_Qv A V gv := by unfold cc_Qv; rw [h14]
  refine ⟨q, Dm, gv, a1, a2, fun g hg hb => ?_, fun j j1 j2 => ?_, fun pc hpc ho => ?_⟩
  · rw [h14] at hb
    exact (h10 g hg hb).trans (a3 g hg hb)
  · rw [hc 18 (by decide) (by decide) j j1 (by omega), hc 19 (by decide) (by decide) j j1 (by omega), hc 20 (by decide) (by decide) j j1 (by omega), hc 21 (by decide) (by decide) j j1 (by omega), hc 22 (by decide) (by decide) j j1 (by omega), hc 23 (by decide) (by decide) j j1 (by omega), hQ]
    exact cc_Im (fun _ h => h) (fun D => cc_SRr hs hf hx) (fun _ Dk t => ⟨Dk, t, cc_S0⟩) (fun _ => rfl) cc_S0 (a4 j j1 j2)
  · obtain ⟨e1, e2⟩ := he pc hpc ho
    rw [e1, e2, hQ]
    exact a5 pc hpc ho
/-- labels patched below i -/
def cc_pt (A : Nat → Nat → Int32) (U i : Nat) : Nat → Int32 := fun j => if 512 * U ≤ j ∧ j < i ∧ ((A 18) j = 10 ∨ (A 18) j = 11) then (A 39) ((A 19) j).toNatClampNeg else (A 19) j
def cc_ra (f g : Nat → Int32) (a i : Nat) : Nat → Int32 := fun p => if a ≤ p ∧ p < i then g p else f p
section
variable {P : pp_P} {U q : Nat} {F : Nat → Int32} {A : Nat → Nat → Int32}
theorem xc_entL {post : SX → Prop} {a b : Nat} (hU : U < 8) (hb : b ≤ 64)
    (K : post (tw_t F (tw_s (tw_s (tw_s A 16 (cc_ra (A 16) (A 39) a b)) 17 (cc_ra (A 17) (A 40) a b)) 12 (upd (A 12) U 1)))) :
    ∀ (k i n : Nat), i + k = b → a ≤ i → k < n → wX_install_79 post (nI U) (nI b) (F 0) (F 1) (F 2) (F 3) (F 4) (F 5) (F 6) (F 7) (F 8) (F 9) (F 10) (F 11) (F 12) (F 13) (F 14) (F 15) (F 16) (F 17) (F 18) (F 19) (F 20) (F 21) (F 22) (F 23) (F 24) (F 25) (F 26) (F 27) (F 28) (F 29) (F 30) (F 31) (F 32) n (nI i) (A 0) (A 1) (A 2) (A 3) (A 4) (A 5) (A 6) (A 7) (A 8) (A 9) (A 10) (A 11) (A 12) (A 13) (A 14) (A 15) (cc_ra (A 16) (A 39) a i) (cc_ra (A 17) (A 40) a i) (A 18) (A 19) (A 20) (A 21) (A 22) (A 23) (A 24) (A 25) (A 26) (A 27) (A 28) (A 29) (A 30) (A 31) (A 32) (A 33) (A 34) (A 35) (A 36) (A 37) (A 38) (A 39) (A 40) (A 41)
  | 0, i, n, hi, ha, hn => by
    obtain ⟨n, rfl⟩ : ∃ n', n = n' + 1 := ⟨n - 1, by omega⟩
    have e : i = b := by omega
    subst e
    unfold wX_install_79
    refine br_t (nI_le (Nat.le_refl _) (by omega)) (And.intro (vp_in_nI hU (by omega)) ?_)
    rw [nI_clamp (by omega)]
    exact nm_e K
  | k + 1, i, n, hi, ha, hn => by
    obtain ⟨n, rfl⟩ : ∃ n', n = n' + 1 := ⟨n - 1, by omega⟩
    have v1 : vp_in (nI i) 512 := vp_in_nI (by omega) (by omega)
    have v2 : vp_in (nI i) 64 := vp_in_nI (by omega) (by omega)
    have st : ∀ f g : Nat → Int32, upd (cc_ra f g a i) i (g i) = cc_ra f g a (i + 1) := by
      intro f g
      funext p
      unfold cc_ra
      by_cases e : p = i
      · rw [tw_ue e, if_pos (by omega), e]
      · rw [pk_un e]
        by_cases z : a ≤ p ∧ p < i
        · rw [if_pos z, if_pos (by omega)]
        · rw [if_neg z, if_neg (by omega)]
    unfold wX_install_79
    refine br_f (nI_ge (by omega) (by omega)) (And.intro v1 ?_)
    rw [nI_clamp (by omega), nI_1]
    refine And.intro v2 (nm_r (st _ _) (And.intro v1 (And.intro v2 (nm_r (st _ _) (nm_e ?_)))))
    exact xc_entL hU hb K k (i + 1) n (by omega) (by omega) (by omega)
theorem xc_patL {post : SX → Prop} (hU : U < 8) (hq1 : 512 * U ≤ q) (hq2 : q ≤ 512 * U + 512) (hcn : (F 25) = nI q) (hk : ∀ j, 512 * U ≤ j → j < q → ((A 18) j = 10 ∨ (A 18) j = 11) → ∃ k, k < 512 ∧ (A 19) j = nI k)
    (K : ∀ n, wX_install_6 post (nI U) (F 0) (F 1) (F 2) (F 3) (F 4) (F 5) (F 6) (F 7) (F 8) (F 9) (F 10) (F 11) (F 12) (F 13) (F 14) (F 15) (F 16) (F 17) (F 18) (F 19) (F 20) (F 21) (F 22) (F 23) (F 24) (F 25) (F 26) (F 27) (F 28) (F 29) (F 30) (F 31) (F 32) (n + 1) (nI q) (A 0) (A 1) (A 2) (A 3) (A 4) (A 5) (A 6) (A 7) (A 8) (A 9) (A 10) (A 11) (A 12) (A 13) (A 14) (A 15) (A 16) (A 17) (A 18) (cc_pt A U q) (A 20) (A 21) (A 22) (A 23) (A 24) (A 25) (A 26) (A 27) (A 28) (A 29) (A 30) (A 31) (A 32) (A 33) (A 34) (A 35) (A 36) (A 37) (A 38) (A 39) (A 40) (A 41)) :
    ∀ (k i n : Nat), i + k = q → 512 * U ≤ i → k < n → wX_install_6 post (nI U) (F 0) (F 1) (F 2) (F 3) (F 4) (F 5) (F 6) (F 7) (F 8) (F 9) (F 10) (F 11) (F 12) (F 13) (F 14) (F 15) (F 16) (F 17) (F 18) (F 19) (F 20) (F 21) (F 22) (F 23) (F 24) (F 25) (F 26) (F 27) (F 28) (F 29) (F 30) (F 31) (F 32) n (nI i) (A 0) (A 1) (A 2) (A 3) (A 4) (A 5) (A 6) (A 7) (A 8) (A 9) (A 10) (A 11) (A 12) (A 13) (A 14) (A 15) (A 16) (A 17) (A 18) (cc_pt A U i) (A 20) (A 21) (A 22) (A 23) (A 24) (A 25) (A 26) (A 27) (A 28) (A 29) (A 30) (A 31) (A 32) (A 33) (A 34) (A 35) (A 36) (A 37) (A 38) (A 39) (A 40) (A 41)
  | 0, i, n, hi, ha, hn => by
    obtain ⟨n, rfl⟩ : ∃ n', n = n' + 1 := ⟨n - 1, by omega⟩
    have e : i = q := by omega
    subst e
    exact K n
  | k + 1, i, n, hi, ha, hn => by
    obtain ⟨n, rfl⟩ : ∃ n', n = n' + 1 := ⟨n - 1, by omega⟩
    have v1 : vp_in (nI i) 4096 := vp_in_nI (by omega) (by omega)
    have ci : (nI i).toNatClampNeg = i := nI_clamp (by omega)
    have ih := xc_patL hU hq1 hq2 hcn hk K k (i + 1) n (by omega) (by omega) (by omega)
    have self : cc_pt A U i i = (A 19) i := by unfold cc_pt; rw [if_neg (by omega)]
    have pat : ((A 18) i = 10 ∨ (A 18) i = 11) → wX_install_36 post (wX_install_6 post (nI U) (F 0) (F 1) (F 2) (F 3) (F 4) (F 5) (F 6) (F 7) (F 8) (F 9) (F 10) (F 11) (F 12) (F 13) (F 14) (F 15) (F 16) (F 17) (F 18) (F 19) (F 20) (F 21) (F 22) (F 23) (F 24) (F 25) (F 26) (F 27) (F 28) (F 29) (F 30) (F 31) (F 32) n) (nI U) (nI i) (F 0) (F 1) (F 2) (F 3) (F 4) (F 5) (F 6) (F 7) (F 8) (F 9) (F 10) (F 11) (F 12) (F 13) (F 14) (F 15) (F 16) (F 17) (F 18) (F 19) (F 20) (F 21) (F 22) (F 23) (F 24) (F 25) (F 26) (F 27) (F 28) (F 29) (F 30) (F 31) (F 32) (A 0) (A 1) (A 2) (A 3) (A 4) (A 5) (A 6) (A 7) (A 8) (A 9) (A 10) (A 11) (A 12) (A 13) (A 14) (A 15) (A 16) (A 17) (A 18) (cc_pt A U i) (A 20) (A 21) (A 22) (A 23) (A 24) (A 25) (A 26) (A 27) (A 28) (A 29) (A 30) (A 31) (A 32) (A 33) (A 34) (A 35) (A 36) (A 37) (A 38) (A 39) (A 40) (A 41) := by
      intro o
      obtain ⟨k', k1, k2⟩ := hk i ha (by omega) o
      have st : upd (cc_pt A U i) i ((A 39) ((A 19) i).toNatClampNeg) = cc_pt A U (i + 1) := by
        funext p
        unfold cc_pt
        by_cases e : p = i
        · rw [tw_ue e, e, if_pos ⟨ha, by omega, o⟩]
        · rw [pk_un e]
          by_cases z : 512 * U ≤ p ∧ p < i ∧ ((A 18) p = 10 ∨ (A 18) p = 11)
          · rw [if_pos z, if_pos ⟨z.1, by omega, z.2.2⟩]
          · rw [if_neg z, if_neg (fun h => z ⟨h.1, by omega, h.2.2⟩)]
      unfold wX_install_36
      rw [ci, self, nI_1]
      refine And.intro v1 (And.intro (by rw [k2]; exact vp_in_nI k1 (by omega)) (And.intro v1 (nm_r st (nm_e ih))))
    unfold wX_install_6
    refine br_f (by rw [hcn]; exact nI_ge (by omega) (by omega)) (And.intro v1 ?_)
    rw [ci, nI_1]
    refine br_c (fun o => pat (Or.inl o)) (fun o10 => And.intro v1 (br_c (fun o => pat (Or.inr o)) (fun o11 => nm_e ?_)))
    have st : cc_pt A U i = cc_pt A U (i + 1) := by
      funext p
      unfold cc_pt
      by_cases z : 512 * U ≤ p ∧ p < i ∧ ((A 18) p = 10 ∨ (A 18) p = 11)
      · rw [if_pos z, if_pos ⟨z.1, by omega, z.2.2⟩]
      · rw [if_neg z, if_neg]
        rintro ⟨x1, x2, x3⟩
        by_cases e : p = i
        · subst e
          rcases x3 with x3 | x3
          · exact o10 x3
          · exact o11 x3
        · exact z ⟨x1, by omega, x3⟩
    rw [st]
    exact ih
end
end
section
/-! the compiler: install, compile -/
section
variable {P : pp_P} {Z : (Nat → Int32) × (Nat → Nat → Int32)} {U qh qt : Nat} {F : Nat → Int32} {A : Nat → Nat → Int32}
theorem xc_install {post : SX → Prop} (h : cc_F P Z U qh qt F A) (hqq : qt ≤ qh) (hf : (F 32) = 0) (hUf : U < pp_nf P)
    (K : ∀ A' : Nat → Nat → Int32, (∀ j, j ≠ 12 → j ≠ 16 → j ≠ 17 → j ≠ 19 → A' j = A j) → (A' 12) = upd (A 12) U 1 → (∀ i, ¬ (512 * U ≤ i ∧ i < 512 * U + 512) → (A' 19) i = (A 19) i) → (∀ pc, pc < pp_nc P → ¬ pp_ow P pc = nI U → (A' 16) pc = (A 16) pc ∧ (A' 17) pc = (A 17) pc) → cc_U P U A' → post (tw_t F A')) : wpX_install post (tw_t F A) (nI U) := by
  obtain ⟨c0, cn, q, sn, fn, Dm, hWD⟩ := h
  obtain ⟨w0, w1, w2, w3, w4, wH, w6⟩ := hWD cc_bot
  obtain ⟨H1, H2⟩ := wH hf
  obtain ⟨b1, b2, b3, b4, b5, b6, b7⟩ := w2
  obtain ⟨d1, d2, d3, d4, d5, d6⟩ := w4
  obtain ⟨c1, c2, c3, c4, c5, c6, c7, c8, c9, c10⟩ := w3
  have w0' := w0
  obtain ⟨p1, p2, p3, p4, p5, p6⟩ := w0'
  obtain ⟨f1, f2, f3, f4, f5, f6⟩ := p6 U hUf
  have cU : (nI U).toNatClampNeg = U := nI_clamp (by omega)
  have vU : vp_in (nI U) 8 := vp_in_nI b1 (by omega)
  have es : (A 3) U = nI (pp_fs P U) := w1.2.2.2.2.2.2.2.1 U hUf
  have hk : ∀ j, 512 * U ≤ j → j < q → ((A 18) j = 10 ∨ (A 18) j = 11) → ∃ k, k < 512 ∧ (A 19) j = nI k := by
    intro j j1 j2 o
    obtain ⟨_, _, hi⟩ := H1 j j1 j2
    have no : ∀ k : Int32, (A 18) j = k → ¬ k = 10 → ¬ k = 11 → False := by
      intro k e n1 n2
      rcases o with o | o
      · exact n1 (e.symm.trans o)
      · exact n2 (e.symm.trans o)
    rcases hi with ⟨o1, _⟩ | ⟨⟨k5, k1, k2, o1⟩, _⟩ | ⟨o1, _⟩ | ⟨o1, _⟩ | ⟨o1, _⟩ | ⟨o1, Dk, ⟨k, x1, x2, x3⟩, _⟩ | ⟨o1, _, Dk, ⟨k, x1, x2, x3⟩, _⟩ | ⟨o1, _⟩ | ⟨o1, _⟩ | ⟨o1, _⟩ | ⟨o1, _⟩
    · exact (no _ o1 (by decide) (by decide)).elim
    · exact (no _ o1 (tw_ne (b := 10) (by omega) (by omega) (by omega)) (tw_ne (b := 11) (by omega) (by omega) (by omega))).elim
    · exact (no _ o1 (by decide) (by decide)).elim
    · exact (no _ o1 (by decide) (by decide)).elim
    · exact (no _ o1 (by decide) (by decide)).elim
    · exact ⟨k, x1, x2⟩
    · exact ⟨k, x1, x2⟩
    · exact (no _ o1 (by decide) (by decide)).elim
    · exact (no _ o1 (by decide) (by decide)).elim
    · exact (no _ o1 (by decide) (by decide)).elim
    · exact (no _ o1 (by decide) (by decide)).elim
  -- every label is placed
  have lab : ∀ k, k < 512 → ¬ (A 40) k = -1 → ∃ ta Dk, (A 39) k = nI ta ∧ 512 * U ≤ ta ∧ ta < q ∧ cc_LR A U cn k Dk ∧ cc_S P (cc_Q A U) Dk (Dm ta) := by
    intro k k1 k2
    rcases H2 k k1 k2 with ⟨j, z1, z2, z3⟩ | ⟨ta, Dk, z1, z2, z3, z4, z5⟩
    · omega
    · refine ⟨ta, Dk, z1, z2, by omega, z4, ?_⟩
      have e : cc_T q Dm cc_bot ta = Dm ta := by unfold cc_T; rw [if_pos (by omega)]
      rw [e] at z5
      exact z5
  unfold wpX_install
  refine nm_r (tw_m512 U) ⟨q - 512 * U + 1, ?_⟩
  have ept0 : cc_pt A U (512 * U) = (A 19) := by
    funext p
    unfold cc_pt
    rw [if_neg (by omega)]
  have K6 : ∀ n, wX_install_6 post (nI U) (F 0) (F 1) (F 2) (F 3) (F 4) (F 5) (F 6) (F 7) (F 8) (F 9) (F 10) (F 11) (F 12) (F 13) (F 14) (F 15) (F 16) (F 17) (F 18) (F 19) (F 20) (F 21) (F 22) (F 23) (F 24) (F 25) (F 26) (F 27) (F 28) (F 29) (F 30) (F 31) (F 32) (n + 1) (nI q) (A 0) (A 1) (A 2) (A 3) (A 4) (A 5) (A 6) (A 7) (A 8) (A 9) (A 10) (A 11) (A 12) (A 13) (A 14) (A 15) (A 16) (A 17) (A 18) (cc_pt A U q) (A 20) (A 21) (A 22) (A 23) (A 24) (A 25) (A 26) (A 27) (A 28) (A 29) (A 30) (A 31) (A 32) (A 33) (A 34) (A 35) (A 36) (A 37) (A 38) (A 39) (A 40) (A 41) := by
    intro n
    unfold wX_install_6
    refine br_t (by rw [c1]; exact nI_le (Nat.le_refl _) (by omega)) (And.intro vU ?_)
    refine xc_length (F := F) (A := tw_s A 19 (cc_pt A U q)) w0 w1 hUf ?_
    rw [cU]
    refine nm_r (e' := nI (pp_fe P U)) (by show (A 3) U + _ = _; rw [es, nI_add]; congr 1; omega) (And.intro vU (nm_r (e' := nI (pp_fs P U)) es ⟨pp_fe P U - pp_fs P U + 1, ?_⟩))
    have era0 : ∀ f g : Nat → Int32, cc_ra f g (pp_fs P U) (pp_fs P U) = f := by
      intro f g
      funext p
      unfold cc_ra
      rw [if_neg (by omega)]
    have K79 : post (tw_t F (tw_s (tw_s (tw_s (tw_s A 19 (cc_pt A U q)) 16 (cc_ra (A 16) (A 39) (pp_fs P U) (pp_fe P U))) 17 (cc_ra (A 17) (A 40) (pp_fs P U) (pp_fe P U))) 12 (upd (A 12) U 1))) := by
      have hj : ∀ j, j ≠ 12 → j ≠ 16 → j ≠ 17 → j ≠ 19 → tw_s (tw_s (tw_s (tw_s A 19 (cc_pt A U q)) 16 (cc_ra (A 16) (A 39) (pp_fs P U) (pp_fe P U))) 17 (cc_ra (A 17) (A 40) (pp_fs P U) (pp_fe P U))) 12 (upd (A 12) U 1) j = A j := fun j a b d e => (((tw_sn a).trans (tw_sn d)).trans (tw_sn b)).trans (tw_sn e)
      refine K (tw_s (tw_s (tw_s (tw_s A 19 (cc_pt A U q)) 16 (cc_ra (A 16) (A 39) (pp_fs P U) (pp_fe P U))) 17 (cc_ra (A 17) (A 40) (pp_fs P U) (pp_fe P U))) 12 (upd (A 12) U 1)) hj rfl (fun i hi => ?_) (fun pc hpc ho => ?_) ⟨q, Dm, (A 10), c2, c3, fun g _ _ => rfl, fun j j1 j2 => ?_, fun pc hpc ho => ?_⟩
      · show cc_pt A U q i = (A 19) i
        unfold cc_pt
        rw [if_neg (by omega)]
      · have out : ¬ (pp_fs P U ≤ pc ∧ pc < pp_fe P U) := by
          rintro ⟨z1, z2⟩
          obtain ⟨fw, fw1, fw2, fw3, fw4, fw5⟩ := (p5 pc hpc).2.2.2.2.2.2.2
          have := fw5 U hUf z1 z2
          subst this
          exact ho fw2
        constructor
        · show cc_ra (A 16) (A 39) (pp_fs P U) (pp_fe P U) pc = _
          unfold cc_ra
          rw [if_neg out]
        · show cc_ra (A 17) (A 40) (pp_fs P U) (pp_fe P U) pc = _
          unfold cc_ra
          rw [if_neg out]
      · have ed : ∀ (o : (A 18) j = 10 ∨ (A 18) j = 11), cc_pt A U q j = (A 39) ((A 19) j).toNatClampNeg := fun o => by unfold cc_pt; rw [if_pos ⟨j1, j2, o⟩]
        have ed' : ¬ ((A 18) j = 10 ∨ (A 18) j = 11) → cc_pt A U q j = (A 19) j := fun o => by unfold cc_pt; rw [if_neg (fun h => o h.2.2)]
        refine cc_Im (Q := cc_Q A U) (SR := cc_SR P A U sn fn cn) (TJ := cc_TJ A U cn) (d := (A 19) j) (d' := cc_pt A U q j) (fun _ h => h) (fun D hs => cc_SRm (fun j' a b i _ => congrFun (hj j' (by omega) (by omega) (by omega) (by omega)) i) (fun j' a b i _ => congrFun (hj j' (by omega) (by omega) (by omega) (by omega)) i) (fun j' a b i _ => congrFun (hj j' (by omega) (by omega) (by omega) (by omega)) i) c6 c9 b5 hs) (fun o Dk tj => ?_) (fun o => ed' o) cc_S0 (H1 j j1 j2)
        obtain ⟨k, k1, k2, k3⟩ := tj
        have hne : ¬ (A 40) k = -1 := by
          obtain ⟨cc, x1, x2, x3, x4, x5, x6⟩ := k3
          rw [x4]; exact tw_nm1 (by omega)
        obtain ⟨ta, Dk', z1, z2, z3, z4, z5⟩ := lab k k1 hne
        refine ⟨Dm ta, ⟨ta, ?_, z2, z3, rfl⟩, cc_ST (cc_LRu b1 _ k3 z4) z5⟩
        rw [ed o, k2, nI_clamp (by omega)]
        exact z1
      · obtain ⟨fw, fw1, fw2, fw3, fw4, fw5⟩ := (p5 pc hpc).2.2.2.2.2.2.2
        have eU : fw = U := tw_ni fw2 ho rfl (by omega) (by omega)
        subst eU
        show cc_ra (A 17) (A 40) (pp_fs P fw) (pp_fe P fw) pc = -1 ∨ ∃ h ta, cc_ra (A 17) (A 40) (pp_fs P fw) (pp_fe P fw) pc = nI h ∧ h ≤ 8 ∧ cc_ra (A 16) (A 39) (pp_fs P fw) (pp_fe P fw) pc = nI ta ∧ _
        have r1 : ∀ f g : Nat → Int32, cc_ra f g (pp_fs P fw) (pp_fe P fw) pc = g pc := fun f g => by unfold cc_ra; rw [if_pos ⟨fw3, fw4⟩]
        rw [r1, r1]
        by_cases hne : (A 40) pc = -1
        · exact Or.inl hne
        · obtain ⟨ta, Dk, z1, z2, z3, z4, z5⟩ := lab pc (by omega) hne
          obtain ⟨cc, x1, x2, x3, x4, x5, x6, x7, x8, x9⟩ := z4
          have ec : cc = 0 := by omega
          subst ec
          have eL := (cc_CRl _ _ _ _ x6).2.2
          have eL0 : dd_L Dk = 0 := by omega
          refine Or.inr ⟨dd_h Dk (dd_L Dk), ta, x4, x5, z1, z2, z3, cc_ST ⟨?_, fun x m _ H => ⟨m, mm_Ss0, cc_Mc H eL0 (fun l hl => ?_) (fun l hl => ?_) x9 (fun l o _ _ => dd_ec (x7 _) (fun z => absurd rfl z))⟩⟩ z5⟩
          · show 2 * pc + 1 ≤ dd_y Dk; omega
          · have hl' : l ≤ 0 := hl
            have e0 : l = 0 := by omega
            rw [eL0] at x2
            subst e0
            show dd_p Dk 0 = pc
            omega
          · have hl' : l ≤ 0 := hl
            have e0 : l = 0 := by omega
            subst e0
            show dd_h Dk 0 = dd_h Dk (dd_L Dk)
            rw [eL0]
    have go := xc_entL (U := U) (F := F) (A := tw_s A 19 (cc_pt A U q)) (post := post) (a := pp_fs P U) (b := pp_fe P U) b1 (by omega) K79 (pp_fe P U - pp_fs P U) (pp_fs P U) (pp_fe P U - pp_fs P U + 1) (by omega) (Nat.le_refl _) (by omega)
    rw [era0, era0] at go
    exact go
  have go := xc_patL (F := F) (A := A) (post := post) b1 c2 c3 c1 hk K6 (q - 512 * U) (512 * U) (q - 512 * U + 1) (by omega) (Nat.le_refl _) (by omega)
  rw [ept0] at go
  exact go
end
end
section
/-! the compiler: compile -/
theorem xc_claimB {P : pp_P} {Z : (Nat → Int32) × (Nat → Nat → Int32)} {U c cn q sn fn qh qt e L : Nat} {Dm : Nat → dd_D} {F : Nat → Int32} {A : Nat → Nat → Int32} {lv : Nat → Nat} {post : Int32 → SX → Prop} {p : Nat} (hWS : ∀ D', cc_W P Z U c cn q sn fn qh qt Dm D' e F A) (hl : cc_lv L lv F A) (hp : p < pp_nc P)
    (K : ∀ (r : Int32) (F' : Nat → Int32) (A' : Nat → Nat → Int32) (qt' : Nat), (∀ D', cc_W P Z U c cn q sn fn qh qt' Dm D' e F' A') → (∀ j, j ≠ 30 → F' j = F j) → (∀ j, j ≠ 40 → j ≠ 41 → A' j = A j) → post r (tw_t F' A')) : wpX_claim post (tw_t F A) (nI p) :=
  xc_claimS (D := cc_bot) (fun _ => True) trivial (fun D' _ => hWS D') hl hp (fun F' A' qt' h h1 h2 _ => K 1 F' A' qt' (fun D' => h D' trivial) h1 h2) (K 0 F A qt hWS (fun _ _ => rfl) (fun _ _ _ => rfl))
theorem cc_UUz {P : pp_P} {U V : Nat} {F F1 : Nat → Int32} {A A1 A2 : Nat → Nat → Int32} (hz : cc_Z (F, A) U F1 A1) (hV : V ≠ U) (hVf : V < 8) (hU8 : U < 8) (H : cc_U P V A)
    (h2 : ∀ j, j ≠ 12 → j ≠ 16 → j ≠ 17 → j ≠ 19 → A2 j = A1 j) (h19 : ∀ i, ¬ (512 * U ≤ i ∧ i < 512 * U + 512) → (A2 19) i = (A1 19) i) (he : ∀ pc, pc < pp_nc P → ¬ pp_ow P pc = nI U → (A2 16) pc = (A1 16) pc ∧ (A2 17) pc = (A1 17) pc) : cc_U P V A2 := by
  obtain ⟨z1, z2, z3, z4, z5, z6, z7⟩ := hz
  refine cc_Ur (A := A) (fun j j1 j2 i i1 i2 => ?_) (fun j j1 j2 i i1 i2 => ?_) (fun j j1 j2 i i1 i2 => ?_) (fun j j1 j2 i i1 i2 => ?_) ?_ (fun g _ _ => ?_) (fun pc hpc ho => ?_) H
  · by_cases e : j = 19
    · rw [e]
      exact (h19 i (by omega)).trans (z4 19 (by decide) (by decide) i (by omega))
    · exact (congrFun (h2 j (by omega) (by omega) (by omega) e) i).trans (z4 j j1 j2 i (by omega))
  · exact (congrFun (h2 j (by omega) (by omega) (by omega) (by omega)) i).trans (z5 j j1 j2 i (by omega))
  · exact (congrFun (h2 j (by omega) (by omega) (by omega) (by omega)) i).trans (z6 j j1 j2 i (by omega))
  · exact (congrFun (h2 j (by omega) (by omega) (by omega) (by omega)) i).trans (z7 j j1 j2 i (by omega))
  · exact (congrFun (h2 14 (by decide) (by decide) (by decide) (by decide)) V).trans (z3 V hV)
  · exact (congrFun (h2 10 (by decide) (by decide) (by decide) (by decide)) g).trans (congrFun (z2 10 (by decide) (by decide)) g)
  · have ne : ¬ pp_ow P pc = nI U := by
      rw [ho]; exact tw_ne (by omega) (by omega) hV
    obtain ⟨e1, e2⟩ := he pc hpc ne
    exact ⟨e2.trans (congrFun (z2 17 (by decide) (by decide)) pc), e1.trans (congrFun (z2 16 (by decide) (by decide)) pc)⟩
/-- the compiler's end -/
theorem xc_200 {P : pp_P} {U qh qt : Nat} {F F1 : Nat → Int32} {A A1 : Nat → Nat → Int32} {post : SX → Prop} (h : cc_F P (F, A) U qh qt F1 A1) (hUf : U < pp_nf P) (hUU : cc_UU P A) (hGX : cc_GX A)
    (K : ∀ (F' : Nat → Int32) (A' : Nat → Nat → Int32), (∀ j, j < 21 → F' j = F j) → (∀ j, j < 18 → j ≠ 12 → j ≠ 14 → j ≠ 16 → j ≠ 17 → A' j = A j) → cc_UU P A' → cc_GX A' → post (tw_t F' A')) : wX_compile_200 post (nI U) (F1 0) (F1 1) (F1 2) (F1 3) (F1 4) (F1 5) (F1 6) (F1 7) (F1 8) (F1 9) (F1 10) (F1 11) (F1 12) (F1 13) (F1 14) (F1 15) (F1 16) (F1 17) (F1 18) (F1 19) (F1 20) (F1 21) (F1 22) (F1 23) (F1 24) (F1 25) (F1 26) (F1 27) (F1 28) (F1 29) (F1 30) (F1 31) (F1 32) (A1 0) (A1 1) (A1 2) (A1 3) (A1 4) (A1 5) (A1 6) (A1 7) (A1 8) (A1 9) (A1 10) (A1 11) (A1 12) (A1 13) (A1 14) (A1 15) (A1 16) (A1 17) (A1 18) (A1 19) (A1 20) (A1 21) (A1 22) (A1 23) (A1 24) (A1 25) (A1 26) (A1 27) (A1 28) (A1 29) (A1 30) (A1 31) (A1 32) (A1 33) (A1 34) (A1 35) (A1 36) (A1 37) (A1 38) (A1 39) (A1 40) (A1 41) := by
  have h' := h
  obtain ⟨c0, cn, q, sn, fn, Dm, hWD⟩ := h'
  obtain ⟨w0, w1, w2, w3, w4, wH, w6⟩ := hWD cc_bot
  have b1 := w2.1
  have cU : (nI U).toNatClampNeg = U := nI_clamp (by omega)
  have vU : vp_in (nI U) 8 := vp_in_nI b1 (by omega)
  have gx : ∀ A2 : Nat → Nat → Int32, A2 35 = (A1 35) → cc_GX A2 := by
    intro A2 e V hV
    rw [e]
    exact (w6.2.2.2.2.2.2 35 (by decide) (by decide) _ (by omega)).trans (hGX V hV)
  have two : post (tw_t F1 (tw_s A1 12 (upd (A1 12) U 2))) := by
    refine K F1 (tw_s A1 12 (upd (A1 12) U 2)) w6.1 (fun j hj h12 h14 _ _ => (tw_sn h12).trans (w6.2.1 j hj h14)) (fun V hV e => ?_) (gx _ rfl)
    have e' : upd (A1 12) U 2 V = 1 := e
    by_cases z : V = U
    · rw [tw_ue z] at e'; exact absurd e' (by decide)
    · rw [pk_un z] at e'
      exact cc_UUz w6 z hV b1 (hUU V hV ((congrFun (w6.2.1 12 (by decide) (by decide)) V).symm.trans e')) (fun j h12 _ _ _ => tw_sn h12) (fun _ _ => rfl) (fun _ _ _ => ⟨rfl, rfl⟩)
  unfold wX_compile_200
  rw [cU]
  refine br_c (fun hf => ?_) (fun _ => And.intro vU (nm_e two))
  refine pk_le qt qh (fun z => ?_) (fun _ => And.intro vU (nm_e two)) (hx := w4.2.1) (hy := w4.1) (ha := by have := w4.2.2.2.2.1; omega) (hb := by have := w4.2.2.2.2.1; have := w4.2.2.1; omega)
  refine xc_install (F := F1) (A := A1) h z hf hUf (fun A' h1 h2 h3 h4 h5 => ?_)
  refine K F1 A' w6.1 (fun j hj h12 h14 h16 h17 => (h1 j h12 h16 h17 (by omega)).trans (w6.2.1 j hj h14)) (fun V hV e => ?_) (gx _ (h1 _ (by decide) (by decide) (by decide) (by decide)))
  by_cases z : V = U
  · rw [z]; exact h5
  · rw [h2, pk_un z] at e
    exact cc_UUz w6 z hV b1 (hUU V hV ((congrFun (w6.2.1 12 (by decide) (by decide)) V).symm.trans e)) h1 h3 h4
theorem xc_compL {P : pp_P} {Z : (Nat → Int32) × (Nat → Nat → Int32)} {U : Nat} {post : SX → Prop} (fin : ∀ (F : Nat → Int32) (A : Nat → Nat → Int32) (qh qt : Nat), cc_F P Z U qh qt F A → wX_compile_200 post (nI U) (F 0) (F 1) (F 2) (F 3) (F 4) (F 5) (F 6) (F 7) (F 8) (F 9) (F 10) (F 11) (F 12) (F 13) (F 14) (F 15) (F 16) (F 17) (F 18) (F 19) (F 20) (F 21) (F 22) (F 23) (F 24) (F 25) (F 26) (F 27) (F 28) (F 29) (F 30) (F 31) (F 32) (A 0) (A 1) (A 2) (A 3) (A 4) (A 5) (A 6) (A 7) (A 8) (A 9) (A 10) (A 11) (A 12) (A 13) (A 14) (A 15) (A 16) (A 17) (A 18) (A 19) (A 20) (A 21) (A 22) (A 23) (A 24) (A 25) (A 26) (A 27) (A 28) (A 29) (A 30) (A 31) (A 32) (A 33) (A 34) (A 35) (A 36) (A 37) (A 38) (A 39) (A 40) (A 41)) :
    ∀ (k i n : Nat) (F : Nat → Int32) (A : Nat → Nat → Int32) (qh qt : Nat), i + k = 512 → k < n → cc_F P Z U qh qt F A → wX_compile_142 post (nI U) n (nI i) (F 0) (F 1) (F 2) (F 3) (F 4) (F 5) (F 6) (F 7) (F 8) (F 9) (F 10) (F 11) (F 12) (F 13) (F 14) (F 15) (F 16) (F 17) (F 18) (F 19) (F 20) (F 21) (F 22) (F 23) (F 24) (F 25) (F 26) (F 27) (F 28) (F 29) (F 30) (F 31) (F 32) (A 0) (A 1) (A 2) (A 3) (A 4) (A 5) (A 6) (A 7) (A 8) (A 9) (A 10) (A 11) (A 12) (A 13) (A 14) (A 15) (A 16) (A 17) (A 18) (A 19) (A 20) (A 21) (A 22) (A 23) (A 24) (A 25) (A 26) (A 27) (A 28) (A 29) (A 30) (A 31) (A 32) (A 33) (A 34) (A 35) (A 36) (A 37) (A 38) (A 39) (A 40) (A 41)
  | k, i, 0, F, A, qh, qt, hi, hn, h => absurd hn (by omega)
  | k, i, n + 1, F, A, qh, qt, hi, hn, h => by
    have fin' := fin F A qh qt h
    have h' := h
    obtain ⟨c0, cn, q, sn, fn, Dm, hWD⟩ := h'
    obtain ⟨w0, w1, w2, w3, w4, wH, w6⟩ := hWD cc_bot
    obtain ⟨d1, d2, d3, d4, d5, d6⟩ := w4
    unfold wX_compile_142
    refine pk_le 512 i (fun _ => fin') (fun zi => pk_le qt qh (fun _ => fin') (fun zq => br_c (fun hf => And.intro (tw_in d1 (by omega) (by omega)) ?_) (fun _ => fin')) (hx := d2) (hy := d1) (ha := by omega) (hb := by omega)) (hb := by omega)
    obtain ⟨kk, k1, k2, k3⟩ := d6 qh (Nat.le_refl _) zq
    have eq : (A 41) ((F 29)).toNatClampNeg = nI kk := by rw [tw_cl d1 (by omega)]; exact k2
    rw [eq]
    refine xc_open (F := F) (A := A) h zq k2 k1 hf (fun F' A' e29 hO => ?_)
    refine nm_r (e' := nI (qh + 1)) (by rw [e29, nI_1]) ?_
    refine xc_fill (F := tw_s F' 29 (nI (qh + 1))) (A := A') hO (fun F2 A2 h2 => ?_)
    obtain ⟨qt2, h2⟩ := h2
    refine nm_r (nI_1 i) ?_
    obtain ⟨k', rfl⟩ : ∃ k', k = k' + 1 := ⟨k - 1, by omega⟩
    exact xc_compL fin k' (i + 1) n F2 A2 (qh + 1) qt2 (by omega) (by omega) h2
theorem xc_79 {post : SX → Prop} {F : Nat → Int32} {A : Nat → Nat → Int32} {x1 x2 : Int32} (K : ∀ (n : Nat) (A' : Nat → Nat → Int32), (∀ j, j ≠ 40 → A' j = A j) → (∀ k, k < 512 → (A' 40) k = -1) → wX_compile_79 post x1 x2 (F 0) (F 1) (F 2) (F 3) (F 4) (F 5) (F 6) (F 7) (F 8) (F 9) (F 10) (F 11) (F 12) (F 13) (F 14) (F 15) (F 16) (F 17) (F 18) (F 19) (F 20) (F 21) (F 22) (F 23) (F 24) (F 25) (F 26) (F 27) (F 28) (F 29) (F 30) (F 31) (F 32) (n + 1) (nI 512) (A' 0) (A' 1) (A' 2) (A' 3) (A' 4) (A' 5) (A' 6) (A' 7) (A' 8) (A' 9) (A' 10) (A' 11) (A' 12) (A' 13) (A' 14) (A' 15) (A' 16) (A' 17) (A' 18) (A' 19) (A' 20) (A' 21) (A' 22) (A' 23) (A' 24) (A' 25) (A' 26) (A' 27) (A' 28) (A' 29) (A' 30) (A' 31) (A' 32) (A' 33) (A' 34) (A' 35) (A' 36) (A' 37) (A' 38) (A' 39) (A' 40) (A' 41)) :
    ∀ (k i n : Nat) (A' : Nat → Nat → Int32), i + k = 512 → k < n → (∀ j, j ≠ 40 → A' j = A j) → (∀ k, k < i → (A' 40) k = -1) → wX_compile_79 post x1 x2 (F 0) (F 1) (F 2) (F 3) (F 4) (F 5) (F 6) (F 7) (F 8) (F 9) (F 10) (F 11) (F 12) (F 13) (F 14) (F 15) (F 16) (F 17) (F 18) (F 19) (F 20) (F 21) (F 22) (F 23) (F 24) (F 25) (F 26) (F 27) (F 28) (F 29) (F 30) (F 31) (F 32) n (nI i) (A' 0) (A' 1) (A' 2) (A' 3) (A' 4) (A' 5) (A' 6) (A' 7) (A' 8) (A' 9) (A' 10) (A' 11) (A' 12) (A' 13) (A' 14) (A' 15) (A' 16) (A' 17) (A' 18) (A' 19) (A' 20) (A' 21) (A' 22) (A' 23) (A' 24) (A' 25) (A' 26) (A' 27) (A' 28) (A' 29) (A' 30) (A' 31) (A' 32) (A' 33) (A' 34) (A' 35) (A' 36) (A' 37) (A' 38) (A' 39) (A' 40) (A' 41)
  | 0, i, n, A', hi, hn, h1, h2 => by
    obtain ⟨n, rfl⟩ : ∃ n', n = n' + 1 := ⟨n - 1, by omega⟩
    have e : i = 512 := by omega
    subst e
    exact K n A' h1 h2
  | k + 1, i, n, A', hi, hn, h1, h2 => by
    obtain ⟨n, rfl⟩ : ∃ n', n = n' + 1 := ⟨n - 1, by omega⟩
    unfold wX_compile_79
    refine br_f (nI_ge (b := 512) (by omega) (by omega)) (And.intro (vp_in_nI (by omega) (by omega)) ?_)
    rw [nI_clamp (by omega), nI_1]
    refine nm_e (nm_e ?_)
    refine xc_79 K k (i + 1) n (tw_s A' 40 (upd (A' 40) i (-1))) (by omega) (by omega) (fun j hj => (tw_sn hj).trans (h1 j hj)) (fun t ht => ?_)
    show upd (A' 40) i (-1) t = -1
    by_cases e : t = i
    · rw [tw_ue e]
    · rw [pk_un e]; exact h2 t (by omega)
theorem xc_compile {P : pp_P} {U pc d h : Nat} {F : Nat → Int32} {A : Nat → Nat → Int32} {post : SX → Prop} (hP : pp_ok P) (hQ : xx_P P F A) (hUU : cc_UU P A) (hGX : cc_GX A) (hUf : U < pp_nf P) (hpc : pc < pp_nc P) (ed : (F 13) = nI d) (d1 : 1 ≤ d) (d8 : d ≤ 8) (eh : (A 9) (d - 1) = nI h) (h8 : h ≤ 8)
    (K : ∀ (F' : Nat → Int32) (A' : Nat → Nat → Int32), (∀ j, j < 21 → F' j = F j) → (∀ j, j < 18 → j ≠ 12 → j ≠ 14 → j ≠ 16 → j ≠ 17 → A' j = A j) → cc_UU P A' → cc_GX A' → post (tw_t F' A')) : wpX_compile post (tw_t F A) (nI U) (nI pc) := by
  have hP' := hP
  obtain ⟨p1, p2, p3, p4, p5, p6⟩ := hP'
  obtain ⟨f1, f2, f3, f4, f5, f6⟩ := p6 U hUf
  have hU8 : U < 8 := by omega
  have cU : (nI U).toNatClampNeg = U := nI_clamp (by omega)
  have vU : vp_in (nI U) 8 := vp_in_nI hU8 (by omega)
  have fin : ∀ (F1 : Nat → Int32) (A1 : Nat → Nat → Int32) (qh qt : Nat), cc_F P (F, A) U qh qt F1 A1 → wX_compile_200 post (nI U) (F1 0) (F1 1) (F1 2) (F1 3) (F1 4) (F1 5) (F1 6) (F1 7) (F1 8) (F1 9) (F1 10) (F1 11) (F1 12) (F1 13) (F1 14) (F1 15) (F1 16) (F1 17) (F1 18) (F1 19) (F1 20) (F1 21) (F1 22) (F1 23) (F1 24) (F1 25) (F1 26) (F1 27) (F1 28) (F1 29) (F1 30) (F1 31) (F1 32) (A1 0) (A1 1) (A1 2) (A1 3) (A1 4) (A1 5) (A1 6) (A1 7) (A1 8) (A1 9) (A1 10) (A1 11) (A1 12) (A1 13) (A1 14) (A1 15) (A1 16) (A1 17) (A1 18) (A1 19) (A1 20) (A1 21) (A1 22) (A1 23) (A1 24) (A1 25) (A1 26) (A1 27) (A1 28) (A1 29) (A1 30) (A1 31) (A1 32) (A1 33) (A1 34) (A1 35) (A1 36) (A1 37) (A1 38) (A1 39) (A1 40) (A1 41) := fun F1 A1 qh qt h => xc_200 h hUf hUU hGX K
  unfold wpX_compile
  refine And.intro vU ?_
  rw [cU]
  refine nm_e (nm_r (tw_m512 U) (nm_r (tw_m256 U) (nm_r (tw_m1024 U) (nm_r (tw_m8 U) (nm_r (nI_1 (8 * U)) ⟨513, ?_⟩)))))
  refine xc_79 (F := tw_s (tw_s (tw_s (tw_s (tw_s (tw_s (tw_s (tw_s (tw_s (tw_s F 21 (nI U)) 22 (nI (8 * U))) 23 0) 25 (nI (512 * U))) 26 (nI (256 * U))) 27 (nI (1024 * U))) 28 (nI (8 * U + 1))) 29 0) 30 0) 32 0) (A := tw_s A 14 (upd (A 14) U 0)) (fun n A' h1 h2 => ?_) 512 0 513 _ (by omega) (by omega) (fun _ _ => rfl) (fun k hk => absurd hk (by omega))
  obtain ⟨F1, hF1⟩ : ∃ F1, F1 = tw_s (tw_s (tw_s (tw_s (tw_s (tw_s (tw_s (tw_s (tw_s (tw_s F 21 (nI U)) 22 (nI (8 * U))) 23 0) 25 (nI (512 * U))) 26 (nI (256 * U))) 27 (nI (1024 * U))) 28 (nI (8 * U + 1))) 29 0) 30 0) 32 0 := ⟨_, rfl⟩
  have hFj : ∀ j, j < 21 → F1 j = F j := by
    intro j hj
    rw [hF1, tw_sn (by omega), tw_sn (by omega), tw_sn (by omega), tw_sn (by omega), tw_sn (by omega), tw_sn (by omega), tw_sn (by omega), tw_sn (by omega), tw_sn (by omega), tw_sn (by omega)]
  have x21 : (F1 21) = nI U := by rw [hF1]; rfl
  have x22 : (F1 22) = nI (8 * U + 0) := by rw [hF1]; rfl
  have x23 : (F1 23) = nI 0 := by rw [hF1]; rfl
  have x25 : (F1 25) = nI (512 * U) := by rw [hF1]; rfl
  have x26 : (F1 26) = nI (256 * U) := by rw [hF1]; rfl
  have x27 : (F1 27) = nI (1024 * U) := by rw [hF1]; rfl
  have x28 : (F1 28) = nI (8 * U + 1) := by rw [hF1]; rfl
  have x29 : (F1 29) = nI 0 := by rw [hF1]; rfl
  have x30 : (F1 30) = nI 0 := by rw [hF1]; rfl
  have x32 : (F1 32) = 0 := by rw [hF1]; rfl
  rw [← hF1]
  have hA : ∀ j, j ≠ 40 → j ≠ 14 → A' j = A j := fun j a b => (h1 j a).trans (tw_sn b)
  have e14 : (A' 14) = upd (A 14) U 0 := h1 _ (by decide)
  have hW : ∀ (lvh : Nat → Int32) (D' : dd_D), cc_W P (F, A) U 0 1 (512 * U) (256 * U) (1024 * U) 0 0 (fun _ => cc_bot) D' 0 F1 (tw_s A' 38 lvh) := by
    intro lvh D'
    have hA2 : ∀ j, j ≠ 40 → j ≠ 14 → j ≠ 38 → tw_s A' 38 lvh j = A j := fun j a b d => (tw_sn d).trans (hA j a b)
    refine ⟨hP, ?_, ⟨hU8, x21, x22, by omega, by omega, x28, fun c' hc' => ?_⟩, ⟨x25, by omega, by omega, x26, by omega, by omega, x27, by omega, by omega, Or.inl x32⟩, ⟨x29, x30, Nat.le_refl _, fun k hk => Or.inl (h2 k hk), ?_, fun j j1 j2 => absurd j2 (by omega)⟩, fun _ => ⟨fun j j1 j2 => absurd j2 (by omega), fun k k1 k2 => absurd (h2 k k1) k2⟩, ?_⟩
    · obtain ⟨q1, q2, q3, q4, q5, q6, q7, q8, q9⟩ := hQ
      exact ⟨(hFj 8 (by decide)).trans q1, (hFj 9 (by decide)).trans q2, (hFj 10 (by decide)).trans q3, (hFj 12 (by decide)).trans q4, (hA2 0 (by decide) (by decide) (by decide)).trans q5, (hA2 1 (by decide) (by decide) (by decide)).trans q6, (hA2 2 (by decide) (by decide) (by decide)).trans q7, fun f hf => (congrFun (hA2 3 (by decide) (by decide) (by decide)) f).trans (q8 f hf), fun f hf => (congrFun (hA2 4 (by decide) (by decide) (by decide)) f).trans (q9 f hf)⟩
    · have e0 : c' = 0 := by omega
      subst e0
      refine ⟨0, fun _ => 0, fun _ => 0, ⟨rfl, ?_⟩, fun l hl => absurd hl (by omega)⟩
      exact (congrFun (hA2 35 (by decide) (by decide) (by decide)) _).trans (hGX U hU8)
    · have := cc_unle (A' 40) 512
      show 0 + cc_un (A' 40) 512 ≤ 512
      omega
    · refine ⟨hFj, fun j hj h14 => hA2 j (by omega) h14 (by omega), fun V hV => ?_, fun j j1 j2 i _ => congrFun (hA2 j (by omega) (by omega) (by omega)) i, fun j j1 j2 i _ => congrFun (hA2 j (by omega) (by omega) (by omega)) i, fun j j1 j2 i _ => congrFun (hA2 j (by omega) (by omega) (by omega)) i, fun j j1 j2 i _ => congrFun (hA2 j (by omega) (by omega) (by omega)) i⟩
      show (A' 14) V = (A 14) V
      rw [e14, pk_un hV]
  have ed1 : (F1 13) - 1 = nI (d - 1) := by rw [hFj 13 (by decide), ed]; exact tw_d1 d1
  have eh1 : (A' 9) (d - 1) = nI h := by rw [hA 9 (by decide) (by decide)]; exact eh
  unfold wX_compile_79
  refine br_t (by decide) (And.intro (tw_in ed1 (by omega) (by omega)) (nm_r (e' := upd (A' 38) 0 (nI h)) (by rw [ed1, nI_clamp (by omega), eh1]) ?_))
  refine xc_claimB (F := F1) (A := tw_s A' 38 (upd (A' 38) 0 (nI h))) (L := 0) (lv := fun _ => h) (fun D' => hW _ D') ⟨x23, by omega, fun l hl => ⟨by rw [show l = 0 by omega]; exact pk_us, h8⟩⟩ hpc (fun r F3 A3 qt3 hW3 g1 g2 => ?_)
  refine nm_e (And.intro vU ?_)
  have e3 : (A3 3) (nI U).toNatClampNeg = nI (pp_fs P U) := by
    rw [cU, g2 3 (by decide) (by decide)]
    exact (congrFun (hA 3 (by decide) (by decide)) U).trans (hQ.2.2.2.2.2.2.2.1 U hUf)
  rw [e3]
  have y23 : (F3 23) = nI 0 := (g1 _ (by decide)).trans x23
  refine xc_claimB (F := F3) (A := tw_s A3 38 (upd (A3 38) 0 0)) (L := 0) (lv := fun _ => 0) (fun D' => cc_Wf (hW3 D') (fun _ _ _ _ => rfl) (fun j _ _ a => tw_sn a)) ⟨y23, by omega, fun l hl => ⟨by rw [show l = 0 by omega]; exact pk_us, Nat.zero_le _⟩⟩ f1 (fun r F4 A4 qt4 hW4 g3 g4 => ?_)
  exact ⟨513, xc_compL fin 512 0 513 F4 A4 0 qt4 (by omega) (by omega) ⟨0, 1, _, _, _, _, hW4⟩⟩
end
section
/-! register code: leaving -/
def xx_R (x : mm_S) (F : Nat → Int32) (A : Nat → Nat → Int32) : Prop :=
  (F 13) = nI (mm_d x) ∧ (F 14) = nI (mm_n x) ∧ (F 15) = nI (mm_a x) ∧ (F 16) = mm_r x ∧ (F 17) = nI (mm_f x) ∧ (A 10) = mm_g x ∧ (A 11) = mm_o x
  ∧ (∀ i, i < mm_d x → (A 8) i = nI (mm_p x i)) ∧ (∀ i, i < mm_d x → (A 9) i = nI (mm_h x i)) ∧ (A 7) = mm_s x ∧ (F 18) = nI (12 * (mm_d x - 1))
/-- the registers behind the repairs of the slots below t -/
def cc_rep (L : Nat) (lh : Nat → Nat) (kd vl s R : Nat → Int32) (b t : Nat) : Prop :=
  (∀ k, (∀ t', t' < t → dd_lv L lh t' → ¬ kd t' = 0 → k ≠ b + t') → R k = s k) ∧ (∀ t', t' < t → dd_lv L lh t' → ¬ kd t' = 0 → R (b + t') = dd_e kd vl s b t')
section
variable {P : pp_P} {F : Nat → Int32} {A : Nat → Nat → Int32} {post : Int32 → SX → Prop}
theorem xl_fix {L b si fe f0 : Nat} {lh : Nat → Nat} {kd vl s : Nat → Int32} (hb : (F 18) = nI b) (hb2 : b ≤ 84) (hL : L ≤ 2) (hsi : si < 2048) (hse : (A 28) si = nI fe) (hfe : fe ≤ 8192)
    (hok : ∀ t, dd_lv L lh t → ¬ kd t = 0 → kd t = 1 ∨ (kd t = 2 ∧ ∃ r, r < t ∧ vl t = nI r ∧ (dd_lv L lh r → kd r = 0))) :
    ∀ (t f1 : Nat), f1 ≤ fe → cc_FX A L lh kd vl f0 t f1 →
    (∀ (R : Nat → Int32) (n : Nat), fe - f1 < n → cc_rep L lh kd vl s R b t → wX_leave_7 post (nI si) (F 0) (F 1) (F 2) (F 3) (F 4) (F 5) (F 6) (F 7) (F 8) (F 9) (F 10) (F 11) (F 12) (F 13) (F 14) (F 15) (F 16) (F 17) (F 18) (F 19) (F 20) (F 21) (F 22) (F 23) (F 24) (F 25) (F 26) (F 27) (F 28) (F 29) (F 30) (F 31) (F 32) n (nI f1) (A 0) (A 1) (A 2) (A 3) (A 4) (A 5) (A 6) (R) (A 8) (A 9) (A 10) (A 11) (A 12) (A 13) (A 14) (A 15) (A 16) (A 17) (A 18) (A 19) (A 20) (A 21) (A 22) (A 23) (A 24) (A 25) (A 26) (A 27) (A 28) (A 29) (A 30) (A 31) (A 32) (A 33) (A 34) (A 35) (A 36) (A 37) (A 38) (A 39) (A 40) (A 41)) →
    ∀ n, fe - f0 < n → wX_leave_7 post (nI si) (F 0) (F 1) (F 2) (F 3) (F 4) (F 5) (F 6) (F 7) (F 8) (F 9) (F 10) (F 11) (F 12) (F 13) (F 14) (F 15) (F 16) (F 17) (F 18) (F 19) (F 20) (F 21) (F 22) (F 23) (F 24) (F 25) (F 26) (F 27) (F 28) (F 29) (F 30) (F 31) (F 32) n (nI f0) (A 0) (A 1) (A 2) (A 3) (A 4) (A 5) (A 6) (s) (A 8) (A 9) (A 10) (A 11) (A 12) (A 13) (A 14) (A 15) (A 16) (A 17) (A 18) (A 19) (A 20) (A 21) (A 22) (A 23) (A 24) (A 25) (A 26) (A 27) (A 28) (A 29) (A 30) (A 31) (A 32) (A 33) (A 34) (A 35) (A 36) (A 37) (A 38) (A 39) (A 40) (A 41)
  | 0, f1, hf, hx, K => by
    have e : f1 = f0 := hx
    subst e
    intro n hn
    exact K s n hn ⟨fun _ _ => rfl, fun t' h => absurd h (by omega)⟩
  | t + 1, f1, hf, hx, K => by
    rcases hx with ⟨a, hx'⟩ | ⟨a, f, e, hx', c1, c2, c3⟩
    · refine xl_fix hb hb2 hL hsi hse hfe hok t f1 hf hx' (fun R n hn hr => K R n hn ⟨fun k hk => hr.1 k (fun t' h1 h2 h3 => hk t' (by omega) h2 h3), fun t' h1 h2 h3 => ?_⟩)
      by_cases e : t' = t
      · subst e; exact absurd ⟨h2, h3⟩ a
      · exact hr.2 t' (by omega) h2 h3
    · subst e
      refine xl_fix hb hb2 hL hsi hse hfe hok t f (by omega) hx' (fun R n hn hr => ?_)
      obtain ⟨n, rfl⟩ : ∃ n', n = n' + 1 := ⟨n - 1, by omega⟩
      have t36 := (dd_lv36 hL a.1).2
      have v1 : vp_in (nI si) 2048 := vp_in_nI hsi (by omega)
      have v2 : vp_in (nI f) 8192 := vp_in_nI (by omega) (by omega)
      have eb : (F 18) + (A 29) f = nI (b + t) := by rw [hb, c1, nI_add]
      have next : ∀ w : Int32, w = dd_e kd vl s b t → cc_rep L lh kd vl s (upd R (b + t) w) b (t + 1) := by
        intro w hw
        refine ⟨fun k hk => ?_, fun t' h1 h2 h3 => ?_⟩
        · rw [pk_un (hk t (by omega) a.1 a.2)]
          exact hr.1 k (fun t' h1 h2 h3 => hk t' (by omega) h2 h3)
        · by_cases e : t' = t
          · rw [e, pk_us]; exact hw
          · rw [pk_un (by omega)]; exact hr.2 t' (by omega) h2 h3
      unfold wX_leave_7
      refine And.intro v1 ?_
      rw [nI_clamp (by omega), nI_clamp (by omega), nI_1]
      refine br_f (by rw [hse]; exact nI_ge (by omega) (by omega)) (And.intro v2 (And.intro v2 ?_))
      rw [eb, nI_clamp (show b + t < 2 ^ 31 by omega)]
      rcases c3 with ⟨k1, im⟩ | ⟨k1, im⟩
      · refine br_f im (And.intro v2 (And.intro (vp_in_nI (by omega) (by omega)) (nm_e (nm_e ?_))))
        rw [c2]
        exact K _ n (by omega) (next _ (by rw [dd_e1 k1]))
      · rcases hok t a.1 a.2 with z | ⟨z, r, r1, r2, r3⟩
        · exact absurd z k1
        · have ev : (F 18) + (A 30) f = nI (b + r) := by rw [hb, c2, r2, nI_add]
          rw [ev, nI_clamp (show b + r < 2 ^ 31 by omega)]
          refine br_t im (And.intro v2 (And.intro (vp_in_nI (by omega) (by omega)) (And.intro (vp_in_nI (by omega) (by omega)) (nm_e (nm_e ?_)))))
          refine K _ n (by omega) (next _ ?_)
          rw [dd_e2 z r2 (by omega)]
          refine hr.1 _ (fun t' h1 h2 h3 e => ?_)
          have et : t' = r := by omega
          subst et
          exact h3 (r3 h2)
/-- the frames above the root, from the inmost down -/
theorem xl_fr {U r L : Nat} {lp lh : Nat → Nat} (hU : U < 8) (hr : r ≤ 7) (hL : L ≤ 2) :
    ∀ (l c n : Nat) (A : Nat → Nat → Int32), l ≤ L → l < n → c < 8 → cc_CR A U l c lp lh →
    (∀ A' : Nat → Nat → Int32, (∀ j, j ≠ 8 → j ≠ 9 → A' j = A j) → (∀ i, (i < r ∨ r + l ≤ i) → (A' 8) i = (A 8) i ∧ (A' 9) i = (A 9) i) → (∀ l', l' < l → (A' 8) (r + l') = nI (lp l') ∧ (A' 9) (r + l') = nI (lh l')) → post (-1) (tw_t (tw_s F 13 (nI (r + L + 1))) A')) →
    wX_leave_133 post (nI L) (nI r) (F 0) (F 1) (F 2) (F 3) (F 4) (F 5) (F 6) (F 7) (F 8) (F 9) (F 10) (F 11) (F 12) (F 13) (F 14) (F 15) (F 16) (F 17) (F 18) (F 19) (F 20) (F 21) (F 22) (F 23) (F 24) (F 25) (F 26) (F 27) (F 28) (F 29) (F 30) (F 31) (F 32) n (nI (8 * U + c)) (nI (r + l) - 1) (A 0) (A 1) (A 2) (A 3) (A 4) (A 5) (A 6) (A 7) (A 8) (A 9) (A 10) (A 11) (A 12) (A 13) (A 14) (A 15) (A 16) (A 17) (A 18) (A 19) (A 20) (A 21) (A 22) (A 23) (A 24) (A 25) (A 26) (A 27) (A 28) (A 29) (A 30) (A 31) (A 32) (A 33) (A 34) (A 35) (A 36) (A 37) (A 38) (A 39) (A 40) (A 41)
  | 0, c, n, A, hl, hn, hc, h, K => by
    obtain ⟨n, rfl⟩ : ∃ n', n = n' + 1 := ⟨n - 1, by omega⟩
    unfold wX_leave_133
    refine br_t ?_ (nm_r (e' := nI (r + L + 1)) (by rw [nI_add, nI_1]) ?_)
    · by_cases e : r = 0
      · subst e; decide
      · rw [Nat.add_zero, tw_d1 (by omega)]; exact nI_lt (by omega) (by omega)
    · exact K A (fun _ _ _ => rfl) (fun _ _ => ⟨rfl, rfl⟩) (fun l' h => absurd h (by omega))
  | l + 1, c, n, A, hl, hn, hc, h, K => by
    obtain ⟨n, rfl⟩ : ∃ n', n = n' + 1 := ⟨n - 1, by omega⟩
    obtain ⟨h1, h2, h3, h4, h5, h6, h7, c', h8, h9, h10⟩ := h
    have ex : nI (r + (l + 1)) - 1 = nI (r + l) := by rw [tw_d1 (by omega)]; rfl
    have cc : (nI (8 * U + c)).toNatClampNeg = 8 * U + c := nI_clamp (by omega)
    have vc : vp_in (nI (8 * U + c)) 64 := vp_in_nI (by omega) (by omega)
    have vx : vp_in (nI (r + l)) 16 := vp_in_nI (by omega) (by omega)
    unfold wX_leave_133
    rw [ex]
    refine br_f (nI_nlt (by omega) (by omega)) (And.intro vc (And.intro vx ?_))
    rw [cc, nI_clamp (by omega), h4, h5, h9]
    refine nm_e (And.intro vc (And.intro vx (nm_e (And.intro vc (nm_e (nm_r (e' := nI (r + l) - 1) ?_ ?_))))))
    · rw [Int32.sub_eq_add_neg]
    · refine xl_fr hU hr hL l c' n (tw_s (tw_s A 8 (upd (A 8) (r + l) (nI (lp l)))) 9 (upd (A 9) (r + l) (nI (lh l)))) (by omega) (by omega) (by omega) (cc_CRe (fun j j1 j2 => (tw_sn (by omega)).trans (tw_sn (by omega))) h10) (fun A' g1 g2 g3 => K A' (fun j a b => ((g1 j a b).trans (tw_sn b)).trans (tw_sn a)) (fun i hi => ?_) (fun l' hl' => ?_))
      · obtain ⟨x1, x2⟩ := g2 i (by omega)
        refine ⟨x1.trans ?_, x2.trans ?_⟩
        · exact pk_un (by omega)
        · exact pk_un (by omega)
      · by_cases e : l' = l
        · subst e
          obtain ⟨x1, x2⟩ := g2 (r + l') (by omega)
          exact ⟨x1.trans pk_us, x2.trans pk_us⟩
        · exact g3 l' (by omega)
theorem xx_leave {U : Nat} {s : Int32} {x m : mm_S} {D : dd_D} (hU : U < 8) (mx8 : mm_d m ≤ 8) (hR : xx_R x F A) (hM : cc_M D x m) (hf : dd_f D = 0) (hS : cc_SR P A U (256 * U + 256) (1024 * U + 1024) 8 s D) (nc : pp_nc P ≤ 64)
    (K : ∀ (F' : Nat → Int32) (A' : Nat → Nat → Int32), xx_M m F' A' → (∀ j, j ≠ 13 → F' j = F j) → (∀ j, j ≠ 7 → j ≠ 8 → j ≠ 9 → A' j = A j) → post (-1) (tw_t F' A')) : wpX_leave post (tw_t F A) s := by
  obtain ⟨si, c, f0, f1, a1, a2, a3, a4, a5, a6, a7, a8, a9, a10, a11, a12, a13, a14⟩ := hS
  obtain ⟨m1, m2, m3, m4, m5, m6, m7, m8, m9, m10, m11, m12⟩ := hM
  obtain ⟨r1, r2, r3, r4, r5, r6, r7, r8, r9, r10, r11⟩ := hR
  have hL := a14.1
  have lv1 := (cc_CRl _ _ _ _ a8).1
  subst a1
  have v1 : vp_in (nI si) 2048 := vp_in_nI (by omega) (by omega)
  unfold wpX_leave
  refine And.intro v1 (nm_r (e' := nI f0) (by rw [nI_clamp (by omega)]; exact a9) ⟨f1 - f0 + 1, ?_⟩)
  have fle := cc_FXle _ _ a13
  rw [r10]
  refine xl_fix (F := F) (A := A) (post := post) (s := mm_s x) r11 (by omega) hL (by omega) a10 (by omega) a14.2.2.2 (12 * (dd_L D + 1)) f1 (Nat.le_refl _) a13 (fun R n hn hr => ?_) (f1 - f0 + 1) (by omega)
  obtain ⟨n, rfl⟩ : ∃ n', n = n' + 1 := ⟨n - 1, by omega⟩
  have e13 : (F 13) - 1 = nI (mm_d x - 1) := by rw [r1]; exact tw_d1 m1
  have vr : vp_in (nI (mm_d x - 1 + dd_L D)) 16 := vp_in_nI (by omega) (by omega)
  unfold wX_leave_7
  refine And.intro v1 ?_
  rw [nI_clamp (show si < 2 ^ 31 by omega)]
  refine br_t (by rw [a10]; exact nI_le (Nat.le_refl _) (by omega)) (And.intro v1 (nm_r a6 (And.intro (vp_in_nI (by omega) (by omega)) (nm_r (e' := nI (dd_L D)) (by rw [nI_clamp (by omega)]; exact lv1) (nm_r e13 (And.intro v1 ?_))))))
  rw [nI_add, nI_clamp (show mm_d x - 1 + dd_L D < 2 ^ 31 by omega), a4, a5]
  refine And.intro vr (nm_e (And.intro v1 (And.intro vr (nm_e (nm_e ⟨dd_L D + 1, ?_⟩)))))
  refine xl_fr (F := F) (r := mm_d x - 1) (L := dd_L D) hU (by omega) hL (dd_L D) c _ (tw_s (tw_s (tw_s A 7 R) 8 (upd (A 8) (mm_d x - 1 + dd_L D) (nI (dd_p D (dd_L D))))) 9 (upd (A 9) (mm_d x - 1 + dd_L D) (nI (dd_h D (dd_L D))))) (Nat.le_refl _) (by omega) a7 (cc_CRe (fun j j1 j2 => ((tw_sn (by omega)).trans (tw_sn (by omega))).trans (tw_sn (by omega))) a8) (fun A' g1 g2 g3 => ?_)
  have e7 : (A' 7) = R := g1 _ (by decide) (by decide)
  have pcs : ∀ i, i < mm_d m → (A' 8) i = nI (mm_p m i) ∧ (A' 9) i = nI (mm_h m i) := by
    intro i hi
    by_cases z : i < mm_d x - 1
    · obtain ⟨x1, x2⟩ := g2 i (Or.inl z)
      obtain ⟨y1, y2, y3, y4⟩ := m5 i (by omega)
      rw [y1, y2]
      refine ⟨x1.trans ?_, x2.trans ?_⟩
      · exact (pk_un (by omega)).trans (r8 i (by omega))
      · exact (pk_un (by omega)).trans (r9 i (by omega))
    · obtain ⟨l, hl, rfl⟩ : ∃ l, l ≤ dd_L D ∧ i = mm_d x - 1 + l := ⟨i - (mm_d x - 1), by omega, by omega⟩
      rw [(m3 l hl).1, (m3 l hl).2]
      by_cases e : l = dd_L D
      · subst e
        obtain ⟨x1, x2⟩ := g2 (mm_d x - 1 + dd_L D) (by omega)
        exact ⟨x1.trans pk_us, x2.trans pk_us⟩
      · exact g3 l (by omega)
  refine K (tw_s F 13 (nI (mm_d x - 1 + dd_L D + 1))) A' ⟨?_, ?_, ?_, ?_, ?_, ?_, ?_, fun i hi => (pcs i hi).1, fun i hi => (pcs i hi).2, fun i o hi ho => ?_⟩ (fun j hj => tw_sn hj) (fun j h7 h8 h9 => (g1 j h8 h9).trans (((tw_sn h9).trans (tw_sn h8)).trans (tw_sn h7)))
  · show nI (mm_d x - 1 + dd_L D + 1) = _
    congr 1; omega
  · exact r2.trans (by rw [m8])
  · exact r3.trans (by rw [m9, m10])
  · exact r4.trans m11.symm
  · exact r5.trans (by rw [m12, hf]; rfl)
  · exact (g1 _ (by decide) (by decide)).trans (r6.trans m6.symm)
  · exact (g1 _ (by decide) (by decide)).trans (r7.trans m7.symm)
  · rw [e7]
    by_cases z : i < mm_d x - 1
    · obtain ⟨y1, y2, y3, y4⟩ := m5 i (by omega)
      rw [y2] at ho
      rw [y4 o ho]
      refine hr.1 _ (fun t' h1 h2 h3 => by omega)
    · obtain ⟨l, hl, rfl⟩ : ∃ l, l ≤ dd_L D ∧ i = mm_d x - 1 + l := ⟨i - (mm_d x - 1), by omega, by omega⟩
      rw [(m3 l hl).2] at ho
      have h8 := (a14.2.1 l hl).1
      rw [m4 l o hl ho]
      have lvt : dd_lv (dd_L D) (dd_h D) (12 * l + o) := ⟨l, o, rfl, hl, by omega, ho⟩
      have et : 12 * (mm_d x - 1 + l) + o = 12 * (mm_d x - 1) + (12 * l + o) := by omega
      rw [et]
      by_cases k0 : dd_k D (12 * l + o) = 0
      · rw [dd_e0 k0]
        refine hr.1 _ (fun t' h1 h2 h3 e => ?_)
        have : t' = 12 * l + o := by omega
        subst this
        exact h3 k0
      · exact hr.2 _ (by omega) lvt k0
end
end
section
/-! register code: one instruction -/
theorem cc_notbot {P : pp_P} {x m : mm_S} (hP : pp_ok P) (hW : mm_W P m) (H : cc_R P cc_bot x m) : False := by
  obtain ⟨m', ⟨n, hs⟩, hm⟩ := H
  have hW' := (mm_WSs hP n hW hs).1
  obtain ⟨h1, h2, h3, h4⟩ := hm
  have e : mm_p m' (mm_d x - 1 + 0) = 64 := (h3 0 (Nat.le_refl _)).1
  have e2 : mm_d m' = mm_d x + 0 := h2
  have := (hW'.2.2.1 (mm_d x - 1 + 0) (by omega)).1
  have := hP.1
  omega
/-- going on to the next address -/
theorem cc_fall {P : pp_P} {q j : Nat} {Dm : Nat → dd_D} {x m : mm_S} (hP : pp_ok P) (hW : mm_W P m) (H : cc_R P (cc_T q Dm cc_bot j) x m) : j < q ∧ cc_R P (Dm j) x m := by
  unfold cc_T at H
  by_cases z : j < q
  · rw [if_pos z] at H; exact ⟨z, H⟩
  · rw [if_neg z] at H; exact (cc_notbot hP hW H).elim
theorem cc_fally {q j y : Nat} {Dm : Nat → dd_D} (h : y ≤ dd_y (cc_T q Dm cc_bot j)) (z : j < q) : y ≤ dd_y (Dm j) := by
  unfold cc_T at h
  rw [if_pos z] at h
  exact h
section
variable {P : pp_P} {F : Nat → Int32} {A : Nat → Nat → Int32} {post : Int32 → SX → Prop} {U q a0 : Nat} {Dm : Nat → dd_D} {gv : Nat → Int32} {x m : mm_S}
/-- operands -/
theorem xe_a {md a : Int32} {K : Int32 → Prop} (hR : xx_R x F A) (hd : mm_d x ≤ 8) (ha : md &&& 1 = 0 → ∃ r, r < 36 ∧ a = nI r) {at' : Int32} (v : vp_in at' 4096) (ea : (A 20) at'.toNatClampNeg = a) (h : K (cc_oa md a x)) :
    ((md &&& 1 = 0 → (vp_in at' 4096 ∧ (vp_in ((F 18) + (A 20) at'.toNatClampNeg) 128 ∧ K ((A 7) ((F 18) + (A 20) at'.toNatClampNeg).toNatClampNeg)))) ∧ (¬ md &&& 1 = 0 → (vp_in at' 4096 ∧ K ((A 20) at'.toNatClampNeg)))) := by
  obtain ⟨r1, r2, r3, r4, r5, r6, r7, r8, r9, r10, r11⟩ := hR
  unfold cc_oa at h
  refine br_c (fun z => And.intro v ?_) (fun z => And.intro v ?_)
  · obtain ⟨r, rr, re⟩ := ha z
    have e : (F 18) + (A 20) at'.toNatClampNeg = nI (12 * (mm_d x - 1) + r) := by rw [ea, re, r11, nI_add]
    rw [if_pos z, re, nI_clamp (by omega)] at h
    rw [e, nI_clamp (by omega), r10]
    exact And.intro (vp_in_nI (by omega) (by omega)) h
  · rw [if_neg z] at h
    rw [ea]; exact h
theorem xe_b {md b : Int32} {K : Int32 → Prop} (hR : xx_R x F A) (hd : mm_d x ≤ 8) (ha : md &&& 2 = 0 → ∃ r, r < 36 ∧ b = nI r) {at' : Int32} (v : vp_in at' 4096) (eb : (A 21) at'.toNatClampNeg = b) (h : K (cc_ob md b x)) :
    ((md &&& 2 = 0 → (vp_in at' 4096 ∧ (vp_in ((F 18) + (A 21) at'.toNatClampNeg) 128 ∧ K ((A 7) ((F 18) + (A 21) at'.toNatClampNeg).toNatClampNeg)))) ∧ (¬ md &&& 2 = 0 → (vp_in at' 4096 ∧ K ((A 21) at'.toNatClampNeg)))) := by
  obtain ⟨r1, r2, r3, r4, r5, r6, r7, r8, r9, r10, r11⟩ := hR
  unfold cc_ob at h
  refine br_c (fun z => And.intro v ?_) (fun z => And.intro v ?_)
  · obtain ⟨r, rr, re⟩ := ha z
    have e : (F 18) + (A 21) at'.toNatClampNeg = nI (12 * (mm_d x - 1) + r) := by rw [eb, re, r11, nI_add]
    rw [if_pos z, re, nI_clamp (by omega)] at h
    rw [e, nI_clamp (by omega), r10]
    exact And.intro (vp_in_nI (by omega) (by omega)) h
  · rw [if_neg z] at h
    rw [eb]; exact h
/-- what an instruction leaves as it was -/
def xe_fr (F F' : Nat → Int32) (A A' : Nat → Nat → Int32) : Prop :=
  (∀ j, j ≠ 13 → j ≠ 14 → j ≠ 17 → F' j = F j) ∧ (∀ j, ¬ (7 ≤ j ∧ j ≤ 13) → j ≠ 15 → A' j = A j)
theorem xx_exec (hP : pp_ok P) (hU : U < 8) (hq2 : q ≤ 512 * U + 512) (j1 : 512 * U ≤ a0) (j2 : a0 < q)
    (hI : cc_I P (cc_Qv A U gv) (cc_SR P A U (256 * U + 256) (1024 * U + 1024) 8) (cc_Tf U q Dm) (Dm a0) (cc_T q Dm cc_bot (a0 + 1)) ((A 18) a0) ((A 19) a0) ((A 20) a0) ((A 21) a0) ((A 22) a0) ((A 23) a0))
    (hR : xx_R x F A) (hM : cc_M (Dm a0) x m) (hQ : cc_Qv A U gv (mm_g x)) (hW : mm_W P m) (hmx : (F 12) = nI (pp_mx P)) (hus : (A 12) U = 1)
    (K1 : ∀ (F' : Nat → Int32) (A' : Nat → Nat → Int32) (x' m' : mm_S) (a1 : Nat), mm_Ss P m m' → 512 * U ≤ a1 → a1 < q → cc_M (Dm a1) x' m' → xx_R x' F' A' → cc_Qv A U gv (mm_g x') → xx_K A A' → (A' 12) U = 1 → xe_fr F F' A A' →
      ((mm_f x' = mm_f x ∧ (dd_y (Dm a0) < dd_y (Dm a1) ∨ (dd_y (Dm a0) ≤ dd_y (Dm a1) ∧ a0 < a1))) ∨ mm_f x' + 1 = mm_f x) → post (nI a1) (tw_t F' A'))
    (K2 : ∀ (F' : Nat → Int32) (A' : Nat → Nat → Int32) (m' : mm_S), mm_Ss P m m' → mm_a m' = 1 → xx_M m' F' A' → xx_K A A' → xe_fr F F' A A' → post (-1) (tw_t F' A')) : wpX_exec post (tw_t F A) (nI a0) := by
  have hP' := hP
  obtain ⟨p1, p2, p3, p4, p5, p6⟩ := hP'
  have hd8 : mm_d m ≤ 8 := Nat.le_trans hW.1 p4
  have hM' := hM
  obtain ⟨m1, m2, m3, m4, m5, m6, m7, m8, m9, m10, m11, m12⟩ := hM'
  have hdx : mm_d x ≤ 8 := by omega
  have hR' := hR
  obtain ⟨r1, r2, r3, r4, r5, r6, r7, r8, r9, r10, r11⟩ := hR'
  have w5 : mm_n m ≤ 32 := hW.2.2.2.2.1
  have w6 : mm_f m ≤ 64 := hW.2.2.2.2.2.1
  have v : vp_in (nI a0) 4096 := vp_in_nI (by omega) (by omega)
  have ca : (nI a0).toNatClampNeg = a0 := nI_clamp (by omega)
  obtain ⟨oa, ob, hk⟩ := hI
  -- leaving by frame state s, the machine's arrays being those of F2, A2
  have lv : ∀ (F2 : Nat → Int32) (A2 : Nat → Nat → Int32) (x2 : mm_S), xx_R x2 F2 A2 → mm_d x2 = mm_d x → xx_K A A2 → xe_fr F F2 A A2 → cc_V P (cc_SR P A U (256 * U + 256) (1024 * U + 1024) 8) ((A 23) a0) x2 m → ∀ Q : Int32 → SX → Prop, (∀ (F' : Nat → Int32) (A' : Nat → Nat → Int32), post (-1) (tw_t F' A') → Q (-1) (tw_t F' A')) → wpX_leave Q (tw_t F2 A2) ((A2 23) (nI a0).toNatClampNeg) := by
    intro F2 A2 x2 hR2 _ hK hfr hV Q hQ2
    obtain ⟨m', D, hs, hm, hf, hsr⟩ := hV
    have e23 : (A2 23) (nI a0).toNatClampNeg = (A 23) a0 := by rw [ca]; exact congrFun (hK.1 23 (by decide)) a0
    rw [e23]
    have hsr2 : cc_SR P A2 U (256 * U + 256) (1024 * U + 1024) 8 ((A 23) a0) D := cc_SRr (fun j a b i _ _ => congrFun (hK.1 j (by omega)) i) (fun j a b i _ _ => congrFun (hK.1 j (by omega)) i) (fun j a b i _ _ => congrFun (hK.1 j (by omega)) i) hsr
    obtain ⟨ns, hs'⟩ := hs
    have hW' := (mm_WSs hP ns hW hs').1
    refine xx_leave (F := F2) (A := A2) hU (Nat.le_trans hW'.1 p4) hR2 hm hf hsr2 p1 (fun F' A' hM2 g1 g2 => hQ2 F' A' (K2 F' A' m' ⟨ns, hs'⟩ hm.2.2.2.2.2.2.2.2.1 hM2 (xx_KT hK (xx_K0 (fun j hj => g2 j (by omega) (by omega) (by omega)) (g2 _ (by decide) (by decide) (by decide)) (g2 _ (by decide) (by decide) (by decide)) (g2 _ (by decide) (by decide) (by decide)))) ⟨fun j a b d => (g1 j a).trans (hfr.1 j a b d), fun j a b => (g2 j (by omega) (by omega) (by omega)).trans (hfr.2 j a b)⟩))
  -- going on at the next address
  have nx : ∀ (F2 : Nat → Int32) (A2 : Nat → Nat → Int32) (x2 : mm_S), xx_R x2 F2 A2 → xx_K A A2 → (A2 12) U = 1 → xe_fr F F2 A A2 → cc_Qv A U gv (mm_g x2) → cc_R P (cc_T q Dm cc_bot (a0 + 1)) x2 m → ((mm_f x2 = mm_f x ∧ dd_y (Dm a0) ≤ dd_y (cc_T q Dm cc_bot (a0 + 1))) ∨ mm_f x2 + 1 = mm_f x) → post (nI a0 + 1) (tw_t F2 A2) := by
    intro F2 A2 x2 hR2 hK hu hfr hQ2 hC hy
    obtain ⟨hlt, m', hs, hm⟩ := cc_fall hP hW hC
    rw [nI_1]
    refine K1 F2 A2 x2 m' (a0 + 1) hs (by omega) hlt hm hR2 hQ2 hK hu hfr ?_
    rcases hy with ⟨y1, y2⟩ | y1
    · exact Or.inl ⟨y1, Or.inr ⟨cc_fally y2 hlt, by omega⟩⟩
    · exact Or.inr y1
  -- a register written
  have wr : ∀ (t : Nat) (w : Int32), t < 36 → dd_y (Dm a0) ≤ dd_y (cc_T q Dm cc_bot (a0 + 1)) → cc_G P (cc_Qv A U gv) (cc_T q Dm cc_bot (a0 + 1)) (mm_ws x (12 * (mm_d x - 1) + t) w) m → vp_in ((F 18) + nI t) 128 ∧ ∀ y : Nat → Int32, y = upd (A 7) ((F 18) + nI t).toNatClampNeg w → post (nI a0 + 1) (tw_t F (tw_s A 7 y)) := by
    intro t w ht hy hG
    have e : (F 18) + nI t = nI (12 * (mm_d x - 1) + t) := by rw [r11, nI_add]
    rw [e, nI_clamp (by omega)]
    refine And.intro (vp_in_nI (by omega) (by omega)) (nm_e ?_)
    refine nx F (tw_s A 7 (upd (A 7) (12 * (mm_d x - 1) + t) w)) (mm_ws x (12 * (mm_d x - 1) + t) w) ⟨r1, r2, r3, r4, r5, r6, r7, r8, r9, ?_, r11⟩ (xx_K0 (fun j hj => tw_sn (by omega)) rfl rfl rfl) hus ⟨fun _ _ _ _ => rfl, fun j a b => tw_sn (by omega)⟩ hQ (hG hQ) (Or.inl ⟨rfl, hy⟩)
    show upd (A 7) (12 * (mm_d x - 1) + t) w = upd (mm_s x) (12 * (mm_d x - 1) + t) w
    rw [r10]
  have sm : ∀ (P2 : xx_R x F A), xx_K A A := fun _ => xx_K0 (fun _ _ => rfl) rfl rfl rfl
  have fr0 : xe_fr F F A A := ⟨fun _ _ _ _ => rfl, fun _ _ _ => rfl⟩
  -- fuel charged
  have tk : ∀ x5 : Int32, x5 = (F 17) - 1 → 0 < mm_f x → cc_G P (cc_Qv A U gv) (cc_T q Dm cc_bot (a0 + 1)) (mm_wf x (mm_f x - 1)) m → post (nI a0 + 1) (tw_t (tw_s F 17 x5) A) := by
    intro x5 e5 f0 hG
    have e : x5 = nI (mm_f x - 1) := by rw [e5, r5]; exact tw_d1 f0
    subst e
    refine nx (tw_s F 17 (nI (mm_f x - 1))) A (mm_wf x (mm_f x - 1)) ⟨r1, r2, r3, r4, rfl, r6, r7, r8, r9, r10, r11⟩ (sm hR) hus ⟨fun j _ _ a => tw_sn a, fun _ _ _ => rfl⟩ hQ (hG hQ) (Or.inr ?_)
    show mm_f x - 1 + 1 = mm_f x
    omega
  unfold wpX_exec
  refine And.intro v (nm_r (e' := (A 18) a0) (by rw [ca]) (And.intro v (nm_r (e' := (A 19) a0) (by rw [ca]) (And.intro v (nm_r (e' := (A 22) a0) (by rw [ca]) ?_)))))
  refine xe_a hR hdx oa v (by rw [ca]) (K := fun z => wX_exec_54 post (nI a0) ((A 18) a0) ((A 19) a0) ((A 22) a0) z (F 0) (F 1) (F 2) (F 3) (F 4) (F 5) (F 6) (F 7) (F 8) (F 9) (F 10) (F 11) (F 12) (F 13) (F 14) (F 15) (F 16) (F 17) (F 18) (F 19) (F 20) (F 21) (F 22) (F 23) (F 24) (F 25) (F 26) (F 27) (F 28) (F 29) (F 30) (F 31) (F 32) (A 0) (A 1) (A 2) (A 3) (A 4) (A 5) (A 6) (A 7) (A 8) (A 9) (A 10) (A 11) (A 12) (A 13) (A 14) (A 15) (A 16) (A 17) (A 18) (A 19) (A 20) (A 21) (A 22) (A 23) (A 24) (A 25) (A 26) (A 27) (A 28) (A 29) (A 30) (A 31) (A 32) (A 33) (A 34) (A 35) (A 36) (A 37) (A 38) (A 39) (A 40) (A 41)) ?_
  unfold wX_exec_54
  refine xe_b hR hdx ob v (by rw [ca]) (K := fun z => wX_exec_88 post (nI a0) ((A 18) a0) ((A 19) a0) (cc_oa ((A 22) a0) ((A 20) a0) x) z (F 0) (F 1) (F 2) (F 3) (F 4) (F 5) (F 6) (F 7) (F 8) (F 9) (F 10) (F 11) (F 12) (F 13) (F 14) (F 15) (F 16) (F 17) (F 18) (F 19) (F 20) (F 21) (F 22) (F 23) (F 24) (F 25) (F 26) (F 27) (F 28) (F 29) (F 30) (F 31) (F 32) (A 0) (A 1) (A 2) (A 3) (A 4) (A 5) (A 6) (A 7) (A 8) (A 9) (A 10) (A 11) (A 12) (A 13) (A 14) (A 15) (A 16) (A 17) (A 18) (A 19) (A 20) (A 21) (A 22) (A 23) (A 24) (A 25) (A 26) (A 27) (A 28) (A 29) (A 30) (A 31) (A 32) (A 33) (A 34) (A 35) (A 36) (A 37) (A 38) (A 39) (A 40) (A 41)) ?_
  unfold wX_exec_88
  unfold wpX_mustLeave
  rcases hk with ⟨o, y, t, ht, e, k⟩ | ⟨⟨k5, k1, k2, o⟩, y, t, ht, e, k⟩ | ⟨o, y, t, g, ht, e, hg, eb, em, k⟩ | ⟨o, y, g, hg, e, k⟩ | ⟨o, y, k⟩ | ⟨o, Dk, ⟨ta, t1, t2, t3, t4⟩, y, k⟩ | ⟨o, y0, Dk, ⟨ta, t1, t2, t3, t4⟩, y, k⟩ | ⟨o, k⟩ | ⟨o, l, hl, eb, em, k⟩ | ⟨o, k⟩ | ⟨o, y, k⟩
  · -- MOVE
    rw [o, e]
    repeat (first | refine br_f (by decide) ?_ | refine br_t (by decide) ?_)
    exact wr t _ ht y (k x m hQ hM)
  · -- arithmetic
    obtain ⟨kl, kg⟩ := k x m hQ hM
    rw [o] at kl kg ⊢
    rw [e]
    have c : k5 = 5 ∨ k5 = 6 ∨ k5 = 7 ∨ k5 = 8 ∨ k5 = 9 := by omega
    have go : (nI k5 = 8 → ¬ cc_ob ((A 22) a0) ((A 21) a0) x = 0) → wX_exec_326 post (nI a0) (nI k5) (nI t) (cc_oa ((A 22) a0) ((A 20) a0) x) (cc_ob ((A 22) a0) ((A 21) a0) x) (F 0) (F 1) (F 2) (F 3) (F 4) (F 5) (F 6) (F 7) (F 8) (F 9) (F 10) (F 11) (F 12) (F 13) (F 14) (F 15) (F 16) (F 17) (F 18) (F 19) (F 20) (F 21) (F 22) (F 23) (F 24) (F 25) (F 26) (F 27) (F 28) (F 29) (F 30) (F 31) (F 32) (A 0) (A 1) (A 2) (A 3) (A 4) (A 5) (A 6) (A 7) (A 8) (A 9) (A 10) (A 11) (A 12) (A 13) (A 14) (A 15) (A 16) (A 17) (A 18) (A 19) (A 20) (A 21) (A 22) (A 23) (A 24) (A 25) (A 26) (A 27) (A 28) (A 29) (A 30) (A 31) (A 32) (A 33) (A 34) (A 35) (A 36) (A 37) (A 38) (A 39) (A 40) (A 41) := by
      intro hz
      unfold wX_exec_326
      exact xx_arith (F := F) (A := A) k1 k2 hz (wr t _ ht y (kg hz))
    rcases c with rfl | rfl | rfl | rfl | rfl
    · exact br_t (by decide) (br_t rfl (br_f (by decide) (br_f (by decide) (br_f (by decide) (br_f (by decide) (br_t (by decide) (go (fun z => absurd z (by decide)))))))))
    · exact br_t (by decide) (br_t rfl (br_f (by decide) (br_f (by decide) (br_f (by decide) (br_f (by decide) (br_f (by decide) (br_t (by decide) (go (fun z => absurd z (by decide))))))))))
    · exact br_t (by decide) (br_t rfl (br_f (by decide) (br_f (by decide) (br_f (by decide) (br_f (by decide) (br_f (by decide) (br_f (by decide) (br_t (by decide) (go (fun z => absurd z (by decide)))))))))))
    · refine br_f (by decide) (br_f (by decide) (br_t (by decide) (br_c (fun z => br_f (by decide) (And.intro v ?_)) (fun z => br_t rfl (br_f (by decide) (br_f (by decide) (br_f (by decide) (br_f (by decide) (br_f (by decide) (br_f (by decide) (br_f (by decide) (br_t (by decide) (go (fun _ => z))))))))))))))
      exact lv F A x hR rfl (sm hR) fr0 (kl rfl z) _ (fun _ _ h => h)
    · exact br_f (by decide) (br_f (by decide) (br_f (by decide) (br_t (by decide) (br_t rfl (br_f (by decide) (br_f (by decide) (br_f (by decide) (br_f (by decide) (br_f (by decide) (br_f (by decide) (br_f (by decide) (br_f (by decide) (br_t (by decide) (go (fun z => absurd z (by decide))))))))))))))))
  · -- a global loaded
    have eob : cc_ob ((A 22) a0) ((A 21) a0) x = nI g := by unfold cc_ob; rw [em, if_neg (by decide), eb]
    rw [o, e, eob]
    repeat (first | refine br_f (by decide) ?_ | refine br_t (by decide) ?_)
    have w := wr t (mm_g x g) ht y (k x m hQ hM)
    rw [nI_clamp (show g < 2 ^ 31 by omega), congrFun r6 g]
    exact And.intro (vp_in_nI hg (by omega)) w
  · -- a global stored
    obtain ⟨kg, kv⟩ := k x m hQ hM
    rw [o, e]
    repeat (first | refine br_f (by decide) ?_ | refine br_t (by decide) ?_)
    refine xx_setGlobal (F := F) (A := A) hg (fun A' e10 hj hK => ?_)
    have es : nI a0 >>> ((9 : Int32) &&& 31) = nI U := by
      rw [pk_shrN (n := a0) (by omega) ((9 : Int32) &&& 31) 9 (by decide)]
      congr 1
      omega
    have hR2 : xx_R (mm_wg x g (cc_oa ((A 22) a0) ((A 20) a0) x)) F A' := by
      refine ⟨r1, r2, r3, r4, r5, ?_, (hj _ (by decide) (by decide) (by decide) (by decide)).trans r7, fun i hi => (congrFun (hj 8 (by decide) (by decide) (by decide) (by decide)) i).trans (r8 i hi), fun i hi => (congrFun (hj 9 (by decide) (by decide) (by decide) (by decide)) i).trans (r9 i hi), (hj _ (by decide) (by decide) (by decide) (by decide)).trans r10, r11⟩
      rw [e10, r6]; rfl
    have hfr : xe_fr F F A A' := ⟨fun _ _ _ _ => rfl, fun j a b => hj j (by omega) (by omega) (by omega) b⟩
    show vp_in (nI a0 >>> ((9 : Int32) &&& 31)) 8 ∧ _
    rw [es, nI_clamp (show U < 2 ^ 31 by omega)]
    refine And.intro (vp_in_nI hU (by omega)) (br_c (fun z => ?_) (fun z => And.intro v ?_))
    · have hQ2 : cc_Qv A U gv (mm_g (mm_wg x g (cc_oa ((A 22) a0) ((A 20) a0) x))) := by
        intro g' hg' hb
        have h1 := (hK.2.2 U hU z).2 g' hg' hb
        have h2 := hQ g' hg' hb
        rw [e10, r6] at h1
        exact h1.trans h2
      exact nx F A' _ hR2 hK z hfr hQ2 (kg hQ2) (Or.inl ⟨rfl, y⟩)
    · exact lv F A' _ hR2 rfl hK hfr kv _ (fun _ _ h => h)
  · -- out
    obtain ⟨kg, kv⟩ := k x m hQ hM
    rw [o]
    refine br_f (by decide) (br_f (by decide) (br_f (by decide) (br_f (by decide) (br_f (by decide) (br_f (by decide) (br_f (by decide) (br_f (by decide) (br_t (by decide) ?_))))))))
    refine pk_lt (mm_n x) 32 (fun z => ?_) (fun z => br_f (by decide) (And.intro v ?_)) (hx := r2) (ha := by omega)
    · repeat (first | refine br_f (by decide) ?_ | refine br_t (by decide) ?_)
      refine And.intro (tw_in r2 z (by omega)) (nm_r (e' := upd (A 11) (mm_n x) (cc_oa ((A 22) a0) ((A 20) a0) x)) (by rw [tw_cl r2 (by omega)]) (nm_r (e' := nI (mm_n x + 1)) (by rw [r2, nI_1]) ?_))
      refine nx (tw_s F 14 (nI (mm_n x + 1))) (tw_s A 11 (upd (A 11) (mm_n x) (cc_oa ((A 22) a0) ((A 20) a0) x))) (mm_wo x (cc_oa ((A 22) a0) ((A 20) a0) x)) ⟨r1, rfl, r3, r4, r5, r6, ?_, r8, r9, r10, r11⟩ (xx_K0 (fun j hj => tw_sn (by omega)) rfl rfl rfl) hus ⟨fun j _ a _ => tw_sn a, fun j a b => tw_sn (by omega)⟩ hQ (kg z hQ) (Or.inl ⟨rfl, y⟩)
      show upd (A 11) (mm_n x) _ = upd (mm_o x) (mm_n x) _
      rw [r7]
    · exact lv F A x hR rfl (sm hR) fr0 (kv z) _ (fun _ _ h => h)
  · -- jump
    subst t4
    rw [o, t1]
    repeat (first | refine br_f (by decide) ?_ | refine br_t (by decide) ?_)
    obtain ⟨m', hs, hm⟩ := k x m hQ hM
    exact K1 F A x m' ta hs t2 t3 hm hR hQ (sm hR) hus fr0 (Or.inl ⟨rfl, Or.inl y⟩)
  · -- jump if zero
    subst t4
    obtain ⟨kz, kn⟩ := k x m hQ hM
    rw [o, t1]
    repeat (first | refine br_f (by decide) ?_ | refine br_t (by decide) ?_)
    refine br_c (fun z => ?_) (fun z => ?_)
    · obtain ⟨m', hs, hm⟩ := kz z
      exact K1 F A x m' ta hs t2 t3 hm hR hQ (sm hR) hus fr0 (Or.inl ⟨rfl, Or.inl y⟩)
    · exact nx F A x hR (sm hR) hus fr0 hQ (kn z) (Or.inl ⟨rfl, y0⟩)
  · -- tick
    obtain ⟨kv, kg⟩ := k x m hQ hM
    rw [o]
    refine br_f (by decide) (br_f (by decide) (br_f (by decide) (br_f (by decide) (br_f (by decide) (br_f (by decide) (br_f (by decide) (br_f (by decide) (br_f (by decide) (br_f (by decide) (br_t (by decide) ?_))))))))))
    refine pk_eq (mm_f x) 0 (fun z => br_f (by decide) (And.intro v ?_)) (fun z => ?_) (hx := r5) (ha := by omega)
    · exact lv F A x hR rfl (sm hR) fr0 (kv z) _ (fun _ _ h => h)
    · repeat (first | refine br_f (by decide) ?_ | refine br_t (by decide) ?_)
      exact fun x5 e5 => tk x5 e5 (by omega) (kg (by omega))
  · -- enter
    obtain ⟨kv, kg⟩ := k x m hQ hM
    have eob : cc_ob ((A 22) a0) ((A 21) a0) x = nI l := by unfold cc_ob; rw [em, if_neg (by decide), eb]
    rw [o, eob]
    refine br_f (by decide) (br_f (by decide) (br_f (by decide) (br_f (by decide) (br_f (by decide) (br_f (by decide) (br_f (by decide) (br_f (by decide) (br_f (by decide) (br_f (by decide) (br_f (by decide) (br_t (by decide) ?_)))))))))))
    refine pk_eq (mm_f x) 0 (fun z => br_f (by decide) (And.intro v ?_)) (fun z => ?_) (hx := r5) (ha := by omega)
    · exact lv F A x hR rfl (sm hR) fr0 (kv (Or.inl z)) _ (fun _ _ h => h)
    · refine pk_lt (mm_d x + l) (pp_mx P) (fun z2 => ?_) (fun z2 => br_f (by decide) (And.intro v ?_)) (hx := by rw [r1, nI_add]) (hy := hmx) (ha := by omega) (hb := by omega)
      · repeat (first | refine br_f (by decide) ?_ | refine br_t (by decide) ?_)
        exact fun x5 e5 => tk x5 e5 (by omega) (kg (by omega) z2)
      · exact lv F A x hR rfl (sm hR) fr0 (kv (Or.inr z2)) _ (fun _ _ h => h)
  · -- exit
    rw [o]
    refine br_f (by decide) (br_f (by decide) (br_f (by decide) (br_f (by decide) (br_f (by decide) (br_f (by decide) (br_f (by decide) (br_f (by decide) (br_f (by decide) (br_f (by decide) (br_f (by decide) (br_f (by decide) (br_t (by decide) (br_f (by decide) (And.intro v ?_))))))))))))))
    exact lv F A x hR rfl (sm hR) fr0 (k x m hQ hM) _ (fun _ _ h => h)
  · -- exit if zero
    obtain ⟨kv, kn⟩ := k x m hQ hM
    rw [o]
    refine br_f (by decide) (br_f (by decide) (br_f (by decide) (br_f (by decide) (br_f (by decide) (br_f (by decide) (br_f (by decide) (br_f (by decide) (br_f (by decide) (br_f (by decide) (br_f (by decide) (br_f (by decide) (br_f (by decide) (br_t (by decide) (br_c (fun z => br_f (by decide) (And.intro v ?_)) (fun z => ?_)))))))))))))))
    · exact lv F A x hR rfl (sm hR) fr0 (kv z) _ (fun _ _ h => h)
    · repeat (first | refine br_f (by decide) ?_ | refine br_t (by decide) ?_)
      exact nx F A x hR (sm hR) hus fr0 hQ (kn z) (Or.inl ⟨rfl, y⟩)
end
end
section
/-! register code: entering and running -/
noncomputable def cc_cnt (p : Nat → Prop) : Nat → Nat
  | 0 => 0
  | n + 1 => cc_cnt p n + cc_b01 (p n)
theorem cc_cntm {p r : Nat → Prop} (h : ∀ j, p j → r j) : ∀ n, cc_cnt p n ≤ cc_cnt r n
  | 0 => Nat.le_refl _
  | n + 1 => by
    have := cc_cntm h n
    show cc_cnt p n + cc_b01 (p n) ≤ cc_cnt r n + cc_b01 (r n)
    by_cases z : p n
    · rw [cc_b1 z, cc_b1 (h n z)]; omega
    · rw [cc_b0 z]; omega
theorem cc_cnts {p r : Nat → Prop} {a : Nat} (h : ∀ j, p j → r j) (ha : ¬ p a) (hb : r a) : ∀ n, a < n → cc_cnt p n < cc_cnt r n
  | 0, hn => absurd hn (by omega)
  | n + 1, hn => by
    show cc_cnt p n + cc_b01 (p n) < cc_cnt r n + cc_b01 (r n)
    by_cases e : a = n
    · subst e
      have := cc_cntm h a
      rw [cc_b0 ha, cc_b1 hb]; omega
    · have := cc_cnts h ha hb n (by omega)
      by_cases z : p n
      · rw [cc_b1 z, cc_b1 (h n z)]; omega
      · rw [cc_b0 z]; omega
theorem cc_cntt : ∀ n, cc_cnt (fun _ => True) n = n
  | 0 => rfl
  | n + 1 => by
    show cc_cnt (fun _ => True) n + cc_b01 True = n + 1
    rw [cc_cntt n, cc_b1 trivial]
def cc_lx (Dm : Nat → dd_D) (i j : Nat) : Prop := dd_y (Dm i) < dd_y (Dm j) ∨ (dd_y (Dm i) ≤ dd_y (Dm j) ∧ i < j)
noncomputable def cc_rk (U : Nat) (Dm : Nat → dd_D) (a : Nat) : Nat := cc_cnt (fun j => cc_lx Dm (512 * U + j) a) 512
theorem cc_rk1 {U a : Nat} {Dm : Nat → dd_D} (h1 : 512 * U ≤ a) (h2 : a < 512 * U + 512) : cc_rk U Dm a < 512 := by
  unfold cc_rk
  have := cc_cnts (p := fun j => cc_lx Dm (512 * U + j) a) (r := fun _ => True) (a := a - 512 * U) (fun _ _ => trivial) (by
    rw [show 512 * U + (a - 512 * U) = a by omega]
    unfold cc_lx; omega) trivial 512 (by omega)
  rw [cc_cntt] at this
  exact this
theorem cc_rk2 {U a b : Nat} {Dm : Nat → dd_D} (h1 : 512 * U ≤ a) (h2 : a < 512 * U + 512) (h : cc_lx Dm a b) : cc_rk U Dm a < cc_rk U Dm b := by
  unfold cc_rk
  refine cc_cnts (a := a - 512 * U) (fun j hj => ?_) ?_ ?_ 512 (by omega)
  · have hj' : cc_lx Dm (512 * U + j) a := hj
    show cc_lx Dm (512 * U + j) b
    unfold cc_lx at hj' h ⊢
    omega
  · rw [show 512 * U + (a - 512 * U) = a by omega]
    unfold cc_lx; omega
  · rw [show 512 * U + (a - 512 * U) = a by omega]; exact h
def cc_cu (P : pp_P) (U q : Nat) (Dm : Nat → dd_D) (gv : Nat → Int32) (A : Nat → Nat → Int32) : Prop :=
  ∀ j, 512 * U ≤ j → j < q → cc_I P (cc_Qv A U gv) (cc_SR P A U (256 * U + 256) (1024 * U + 1024) 8) (cc_Tf U q Dm) (Dm j) (cc_T q Dm cc_bot (j + 1)) ((A 18) j) ((A 19) j) ((A 20) j) ((A 21) j) ((A 22) j) ((A 23) j)
theorem cc_cum {P : pp_P} {U q : Nat} {Dm : Nat → dd_D} {gv : Nat → Int32} {A A' : Nat → Nat → Int32} (hK : xx_K A A') (h : cc_cu P U q Dm gv A) : cc_cu P U q Dm gv A' := by
  intro j j1 j2
  have hQ : cc_Qv A' U gv = cc_Qv A U gv := by unfold cc_Qv; rw [hK.2.1]
  rw [hK.1 18 (by decide), hK.1 19 (by decide), hK.1 20 (by decide), hK.1 21 (by decide), hK.1 22 (by decide), hK.1 23 (by decide), hQ]
  exact cc_Im (fun _ h => h) (fun D => cc_SRr (fun j a b i _ _ => congrFun (hK.1 j (by omega)) i) (fun j a b i _ _ => congrFun (hK.1 j (by omega)) i) (fun j a b i _ _ => congrFun (hK.1 j (by omega)) i)) (fun _ Dk t => ⟨Dk, t, cc_S0⟩) (fun _ => rfl) cc_S0 (h j j1 j2)
theorem xe_frT {F F1 F2 : Nat → Int32} {A A1 A2 : Nat → Nat → Int32} (h : xe_fr F F1 A A1) (g : xe_fr F1 F2 A1 A2) : xe_fr F F2 A A2 :=
  ⟨fun j a b c => (g.1 j a b c).trans (h.1 j a b c), fun j a b => (g.2 j a b).trans (h.2 j a b)⟩
section
variable {P : pp_P} {U q : Nat} {Dm : Nat → dd_D} {gv : Nat → Int32} {post : SX → Prop}
theorem xt_loop (hP : pp_ok P) (hU : U < 8) (hq2 : q ≤ 512 * U + 512) :
    ∀ (n N a : Nat) (F : Nat → Int32) (A : Nat → Nat → Int32) (x m : mm_S), 512 * mm_f x + (512 - cc_rk U Dm a) + 1 < n → N + 512 * mm_f x + (512 - cc_rk U Dm a) ≤ 33280 → 512 * U ≤ a → a < q → cc_cu P U q Dm gv A → xx_R x F A → cc_M (Dm a) x m → cc_Qv A U gv (mm_g x) → mm_W P m → (F 12) = nI (pp_mx P) → (A 12) U = 1 →
    (∀ (F' : Nat → Int32) (A' : Nat → Nat → Int32) (m' : mm_S), mm_Ss P m m' → mm_a m' = 1 → xx_M m' F' A' → xx_K A A' → xe_fr F F' A A' → post (tw_t F' A')) → wX_tier_125 post n (nI a) (nI N) (F 0) (F 1) (F 2) (F 3) (F 4) (F 5) (F 6) (F 7) (F 8) (F 9) (F 10) (F 11) (F 12) (F 13) (F 14) (F 15) (F 16) (F 17) (F 18) (F 19) (F 20) (F 21) (F 22) (F 23) (F 24) (F 25) (F 26) (F 27) (F 28) (F 29) (F 30) (F 31) (F 32) (A 0) (A 1) (A 2) (A 3) (A 4) (A 5) (A 6) (A 7) (A 8) (A 9) (A 10) (A 11) (A 12) (A 13) (A 14) (A 15) (A 16) (A 17) (A 18) (A 19) (A 20) (A 21) (A 22) (A 23) (A 24) (A 25) (A 26) (A 27) (A 28) (A 29) (A 30) (A 31) (A 32) (A 33) (A 34) (A 35) (A 36) (A 37) (A 38) (A 39) (A 40) (A 41)
  | 0, N, a, F, A, x, m, hn, hN, j1, j2, hc, hR, hM, hQ, hW, hmx, hus, K => absurd hn (by omega)
  | n + 1, N, a, F, A, x, m, hn, hN, j1, j2, hc, hR, hM, hQ, hW, hmx, hus, K => by
    unfold wX_tier_125
    refine br_f (nI_ge (b := 40000) (by omega) (by omega)) (br_f (nI_pos (by omega)) ?_)
    refine xx_exec (F := F) (A := A) hP hU hq2 j1 j2 (hc a j1 j2) hR hM hQ hW hmx hus (fun F' A' x' m' a1 hs l1 l2 hM' hR' hQ' hK hu hfr hr => ?_) (fun F' A' m' hs ha' hM' hK hfr => ?_)
    · refine nm_r (nI_1 N) ?_
      obtain ⟨ns, hs'⟩ := hs
      have hW' := (mm_WSs hP ns hW hs').1
      have rk := cc_rk1 (Dm := Dm) l1 (show a1 < 512 * U + 512 by omega)
      have rk0 := cc_rk1 (Dm := Dm) j1 (show a < 512 * U + 512 by omega)
      have hlt : 512 * mm_f x' + (512 - cc_rk U Dm a1) < 512 * mm_f x + (512 - cc_rk U Dm a) := by
        rcases hr with ⟨e, hl⟩ | e
        · have := cc_rk2 (U := U) j1 (show a < 512 * U + 512 by omega) (show cc_lx Dm a a1 from hl)
          omega
        · omega
      refine xt_loop hP hU hq2 n (N + 1) a1 F' A' x' m' (by omega) (by omega) l1 l2 (cc_cum hK hc) hR' hM' ?_ hW' ((hfr.1 _ (by decide) (by decide) (by decide)).trans hmx) hu (fun F2 A2 m2 hs2 ha2 hM2 hK2 hfr2 => K F2 A2 m2 (mm_SsT ⟨ns, hs'⟩ hs2) ha2 hM2 (xx_KT hK hK2) (xe_frT hfr hfr2))
      have eQ : cc_Qv A' U gv = cc_Qv A U gv := by unfold cc_Qv; rw [hK.2.1]
      rw [eQ]; exact hQ'
    · refine nm_r (nI_1 N) ?_
      have Kf := K F' A' m' hs ha' hM' hK hfr
      obtain ⟨n', rfl⟩ : ∃ n', n = n' + 1 := ⟨n - 1, by omega⟩
      unfold wX_tier_125
      exact br_c (fun _ => Kf) (fun _ => br_t (by decide) Kf)
end
theorem cc_UUK {P : pp_P} {A A' : Nat → Nat → Int32} (h : cc_UU P A) (hK : xx_K A A') : cc_UU P A' := by
  intro V hV e
  obtain ⟨e1, e2⟩ := hK.2.2 V hV e
  exact cc_Ur (fun j a b i _ _ => congrFun (hK.1 j (by omega)) i) (fun j a b i _ _ => congrFun (hK.1 j (by omega)) i) (fun j a b i _ _ => congrFun (hK.1 j (by omega)) i) (fun j a b i _ _ => congrFun (hK.1 j (by omega)) i) (congrFun hK.2.1 V) e2 (fun pc _ _ => ⟨congrFun (hK.1 17 (by decide)) pc, congrFun (hK.1 16 (by decide)) pc⟩) (h V hV e1)
theorem cc_GXK {A A' : Nat → Nat → Int32} (h : cc_GX A) (hK : xx_K A A') : cc_GX A' := fun V hV => by rw [hK.1 35 (by decide)]; exact h V hV
section
variable {P : pp_P} {F : Nat → Int32} {A : Nat → Nat → Int32} {m : mm_S} {post : SX → Prop}
theorem xt_80 {U : Nat} (hP : pp_ok P) (hW : mm_W P m) (hQ : xx_P P F A) (hM : xx_M m F A) (ha : mm_a m = 1) (hUU : cc_UU P A) (hGX : cc_GX A) (hU : U < 8) (how : pp_ow P (mm_pc m) = nI U)
    (K : ∀ (F' : Nat → Int32) (A' : Nat → Nat → Int32) (m' : mm_S), mm_Ss P m m' → mm_a m' = 1 → xx_P P F' A' → xx_M m' F' A' → cc_UU P A' → cc_GX A' → (F' 20) = (F 20) → post (tw_t F' A')) : wX_tier_80 post (nI (mm_d m - 1)) (nI (mm_pc m)) (nI U) (F 0) (F 1) (F 2) (F 3) (F 4) (F 5) (F 6) (F 7) (F 8) (F 9) (F 10) (F 11) (F 12) (F 13) (F 14) (F 15) (F 16) (F 17) (F 18) (F 19) (F 20) (F 21) (F 22) (F 23) (F 24) (F 25) (F 26) (F 27) (F 28) (F 29) (F 30) (F 31) (F 32) (A 0) (A 1) (A 2) (A 3) (A 4) (A 5) (A 6) (A 7) (A 8) (A 9) (A 10) (A 11) (A 12) (A 13) (A 14) (A 15) (A 16) (A 17) (A 18) (A 19) (A 20) (A 21) (A 22) (A 23) (A 24) (A 25) (A 26) (A 27) (A 28) (A 29) (A 30) (A 31) (A 32) (A 33) (A 34) (A 35) (A 36) (A 37) (A 38) (A 39) (A 40) (A 41) := by
  have hW' := hW
  obtain ⟨w1, w2, w3, w4, w5, w6, w7⟩ := hW'
  have hP' := hP
  obtain ⟨p1, p2, p3, p4, p5, p6⟩ := hP'
  have hM' := hM
  obtain ⟨a1, a2, a3, a4, a5, a6, a7, a8, a9, a10⟩ := hM'
  have hd := w2 ha
  obtain ⟨hpc, hht⟩ : mm_pc m < pp_nc P ∧ mm_ht m ≤ 8 := w3 (mm_d m - 1) (by omega)
  have Kid := K F A m mm_Ss0 ha hQ hM hUU hGX rfl
  have vU : vp_in (nI U) 8 := vp_in_nI hU (by omega)
  have vp : vp_in (nI (mm_pc m)) 64 := vp_in_nI (by omega) (by omega)
  have vf : vp_in (nI (mm_d m - 1)) 16 := vp_in_nI (by omega) (by omega)
  have eh : (A 9) (mm_d m - 1) = nI (mm_ht m) := a9 _ (by omega)
  unfold wX_tier_80
  refine And.intro vU ?_
  rw [nI_clamp (show U < 2 ^ 31 by omega), nI_clamp (show mm_pc m < 2 ^ 31 by omega), nI_clamp (show mm_d m - 1 < 2 ^ 31 by omega)]
  refine br_c (fun hus => And.intro vp (And.intro vf (br_c (fun he => ?_) (fun _ => Kid)))) (fun _ => Kid)
  obtain ⟨q, Dm, gv, u1, u2, u3, u4, u5⟩ := hUU U hU hus
  rcases u5 (mm_pc m) hpc how with z | ⟨h, ta, z1, z2, z3, z4, z5, z6⟩
  · rw [z, eh] at he
    exact absurd he.symm (tw_nm1 (by omega))
  · have ehh : h = mm_ht m := tw_ni z1 eh he (by omega) (by omega)
    subst ehh
    refine nm_r (tw_m12' (mm_d m - 1)) (And.intro vp (nm_r z3 ?_))
    obtain ⟨x, hx⟩ : ∃ x : mm_S, x = (mm_d m, mm_p m, mm_h m, (A 7), mm_g m, mm_o m, mm_n m, mm_a m, mm_r m, mm_f m) := ⟨_, rfl⟩
    have hR : xx_R x (tw_s F 18 (nI (12 * (mm_d m - 1)))) A := by
      rw [hx]
      exact ⟨a1, a2, a3, a4, a5, a6, a7, a8, a9, rfl, rfl⟩
    have hm0 : cc_M (cc_en (mm_pc m) (mm_ht m)) x m := by
      rw [hx]
      refine ⟨hd, rfl, fun l hl => ?_, fun l o hl ho => ?_, fun i hi => ⟨rfl, rfl, (w3 i (show i < mm_d m by have hi' : i + 1 < mm_d m := hi; omega)).2, fun o ho => (a10 i o (show i < mm_d m by have hi' : i + 1 < mm_d m := hi; omega) ho).symm⟩, rfl, rfl, rfl, ha, ha, rfl, rfl⟩
      · have e0 : l = 0 := Nat.le_zero.mp hl
        subst e0
        exact ⟨rfl, rfl⟩
      · have e0 : l = 0 := Nat.le_zero.mp hl
        subst e0
        have ho' : o < 4 + mm_ht m := ho
        show mm_s m (12 * (mm_d m - 1) + o) = dd_e (fun _ => 0) (fun _ => 0) (A 7) (12 * (mm_d m - 1)) (12 * 0 + o)
        rw [dd_e0 rfl, Nat.mul_zero, Nat.zero_add]
        exact (a10 (mm_d m - 1) o (by omega) ho').symm
    have hQv : cc_Qv A U gv (mm_g x) := by
      rw [hx]
      intro g hg hb
      show mm_g m g = gv g
      rw [← a6]; exact u3 g hg hb
    obtain ⟨m1, ⟨ns, hs1⟩, hm1⟩ := z6.2 x m hQv hm0
    have hW1 := (mm_WSs hP ns hW hs1).1
    have fx : mm_f x ≤ 64 := by rw [hx]; exact w6
    refine ⟨512 * mm_f x + (512 - cc_rk U Dm ta) + 2, ?_⟩
    refine xt_loop (F := tw_s F 18 (nI (12 * (mm_d m - 1)))) (A := A) (U := U) (q := q) (Dm := Dm) (gv := gv) hP hU u2 _ 0 ta x m1 (by omega) (by omega) z4 z5 u4 hR hm1 hQv hW1 hQ.2.2.2.1 hus (fun F' A' m' hs ha2 hM2 hK hfr => K F' A' m' (mm_SsT ⟨ns, hs1⟩ hs) ha2 ?_ hM2 (cc_UUK hUU hK) (cc_GXK hGX hK) (hfr.1 _ (by decide) (by decide) (by decide)))
    obtain ⟨q1, q2, q3, q4, q5, q6, q7, q8, q9⟩ := hQ
    exact ⟨(hfr.1 _ (by decide) (by decide) (by decide)).trans q1, (hfr.1 _ (by decide) (by decide) (by decide)).trans q2, (hfr.1 _ (by decide) (by decide) (by decide)).trans q3, (hfr.1 _ (by decide) (by decide) (by decide)).trans q4, (hfr.2 _ (by decide) (by decide)).trans q5, (hfr.2 _ (by decide) (by decide)).trans q6, (hfr.2 _ (by decide) (by decide)).trans q7, fun f hf => (congrFun (hfr.2 3 (by decide) (by decide)) f).trans (q8 f hf), fun f hf => (congrFun (hfr.2 4 (by decide) (by decide)) f).trans (q9 f hf)⟩
theorem xx_tier (hP : pp_ok P) (hW : mm_W P m) (hQ : xx_P P F A) (hM : xx_M m F A) (ha : mm_a m = 1) (hUU : cc_UU P A) (hGX : cc_GX A)
    (K : ∀ (F' : Nat → Int32) (A' : Nat → Nat → Int32) (m' : mm_S), mm_Ss P m m' → mm_a m' = 1 → xx_P P F' A' → xx_M m' F' A' → cc_UU P A' → cc_GX A' → (F' 20) = (F 20) → post (tw_t F' A')) : wpX_tier post (tw_t F A) := by
  have hW' := hW
  obtain ⟨w1, w2, w3, w4, w5, w6, w7⟩ := hW'
  have hP' := hP
  obtain ⟨p1, p2, p3, p4, p5, p6⟩ := hP'
  have hM' := hM
  obtain ⟨a1, a2, a3, a4, a5, a6, a7, a8, a9, a10⟩ := hM'
  have hd := w2 ha
  obtain ⟨hpc, hht⟩ : mm_pc m < pp_nc P ∧ mm_ht m ≤ 8 := w3 (mm_d m - 1) (by omega)
  obtain ⟨U, f1, f2, f3, f4, f5⟩ := (p5 _ hpc).2.2.2.2.2.2.2
  have hU : U < 8 := by omega
  have vU : vp_in (nI U) 8 := vp_in_nI hU (by omega)
  have cU : (nI U).toNatClampNeg = U := nI_clamp (by omega)
  have vp : vp_in (nI (mm_pc m)) 64 := vp_in_nI (by omega) (by omega)
  have vf : vp_in (nI (mm_d m - 1)) 16 := vp_in_nI (by omega) (by omega)
  have e1 : (F 13) - 1 = nI (mm_d m - 1) := by rw [a1]; exact tw_d1 hd
  have t52 : ∀ A1 : Nat → Nat → Int32, (∀ j, j ≠ 13 → A1 j = A j) → wX_tier_52 post (nI (mm_d m - 1)) (nI (mm_pc m)) (nI U) (F 0) (F 1) (F 2) (F 3) (F 4) (F 5) (F 6) (F 7) (F 8) (F 9) (F 10) (F 11) (F 12) (F 13) (F 14) (F 15) (F 16) (F 17) (F 18) (F 19) (F 20) (F 21) (F 22) (F 23) (F 24) (F 25) (F 26) (F 27) (F 28) (F 29) (F 30) (F 31) (F 32) (A1 0) (A1 1) (A1 2) (A1 3) (A1 4) (A1 5) (A1 6) (A1 7) (A1 8) (A1 9) (A1 10) (A1 11) (A1 12) (A1 13) (A1 14) (A1 15) (A1 16) (A1 17) (A1 18) (A1 19) (A1 20) (A1 21) (A1 22) (A1 23) (A1 24) (A1 25) (A1 26) (A1 27) (A1 28) (A1 29) (A1 30) (A1 31) (A1 32) (A1 33) (A1 34) (A1 35) (A1 36) (A1 37) (A1 38) (A1 39) (A1 40) (A1 41) := by
    intro A1 h1
    have hK1 : xx_K A A1 := xx_K0 (fun j hj => h1 j (by omega)) (h1 _ (by decide)) (h1 _ (by decide)) (h1 _ (by decide))
    have hQ1 : xx_P P F A1 := by
      obtain ⟨q1, q2, q3, q4, q5, q6, q7, q8, q9⟩ := hQ
      exact ⟨q1, q2, q3, q4, (h1 _ (by decide)).trans q5, (h1 _ (by decide)).trans q6, (h1 _ (by decide)).trans q7, fun f hf => (congrFun (h1 3 (by decide)) f).trans (q8 f hf), fun f hf => (congrFun (h1 4 (by decide)) f).trans (q9 f hf)⟩
    have hM1 : xx_M m F A1 := ⟨a1, a2, a3, a4, a5, (h1 _ (by decide)).trans a6, (h1 _ (by decide)).trans a7, fun i hi => (congrFun (h1 8 (by decide)) i).trans (a8 i hi), fun i hi => (congrFun (h1 9 (by decide)) i).trans (a9 i hi), fun i o hi ho => (congrFun (h1 7 (by decide)) _).trans (a10 i o hi ho)⟩
    have t80 := xt_80 (F := F) (A := A1) (post := post) hP hW hQ1 hM1 ha (cc_UUK hUU hK1) (cc_GXK hGX hK1) hU f2 K
    unfold wX_tier_52
    refine And.intro vU ?_
    rw [cU]
    refine br_c (fun _ => t80) (fun _ => And.intro vU (br_c (fun _ => ?_) (fun _ => t80)))
    refine xc_compile (F := F) (A := A1) (d := mm_d m) (h := mm_ht m) hP hQ1 (cc_UUK hUU hK1) (cc_GXK hGX hK1) f1 hpc a1 hd (by omega) ((congrFun (h1 9 (by decide)) _).trans (a9 _ (by omega))) hht (fun F' A' g1 g2 g3 g4 => ?_)
    refine xt_80 (F := F') (A := A') hP hW ?_ ?_ ha g3 g4 hU f2 (fun F2 A2 m2 x1 x0 x2 x3 x4 x5 x6 => K F2 A2 m2 x1 x0 x2 x3 x4 x5 (x6.trans (g1 _ (by decide))))
    · obtain ⟨q1, q2, q3, q4, q5, q6, q7, q8, q9⟩ := hQ1
      exact ⟨(g1 _ (by decide)).trans q1, (g1 _ (by decide)).trans q2, (g1 _ (by decide)).trans q3, (g1 _ (by decide)).trans q4, (g2 _ (by decide) (by decide) (by decide) (by decide) (by decide)).trans q5, (g2 _ (by decide) (by decide) (by decide) (by decide) (by decide)).trans q6, (g2 _ (by decide) (by decide) (by decide) (by decide) (by decide)).trans q7, fun f hf => (congrFun (g2 3 (by decide) (by decide) (by decide) (by decide) (by decide)) f).trans (q8 f hf), fun f hf => (congrFun (g2 4 (by decide) (by decide) (by decide) (by decide) (by decide)) f).trans (q9 f hf)⟩
    · obtain ⟨b1, b2, b3, b4, b5, b6, b7, b8, b9, b10⟩ := hM1
      exact ⟨(g1 _ (by decide)).trans b1, (g1 _ (by decide)).trans b2, (g1 _ (by decide)).trans b3, (g1 _ (by decide)).trans b4, (g1 _ (by decide)).trans b5, (g2 _ (by decide) (by decide) (by decide) (by decide) (by decide)).trans b6, (g2 _ (by decide) (by decide) (by decide) (by decide) (by decide)).trans b7, fun i hi => (congrFun (g2 8 (by decide) (by decide) (by decide) (by decide) (by decide)) i).trans (b8 i hi), fun i hi => (congrFun (g2 9 (by decide) (by decide) (by decide) (by decide) (by decide)) i).trans (b9 i hi), fun i o hi ho => (congrFun (g2 7 (by decide) (by decide) (by decide) (by decide) (by decide)) _).trans (b10 i o hi ho)⟩
  unfold wpX_tier
  refine nm_r e1 (And.intro vf (nm_r (e' := nI (mm_pc m)) (by rw [nI_clamp (by omega)]; exact a8 _ (by omega)) (And.intro vp (nm_r (e' := nI U) (by rw [nI_clamp (by omega)]; exact (congrFun hQ.2.2.2.2.2.2.1 _).trans f2) ?_))))
  refine br_c (fun _ => And.intro vU ?_) (fun _ => xt_80 (F := F) (A := A) hP hW hQ hM ha hUU hGX hU f2 K)
  refine br_c (fun _ => t52 A (fun _ _ => rfl)) (fun _ => And.intro vU (And.intro vU (nm_e ?_)))
  exact t52 (tw_s A 13 _) (fun j hj => tw_sn hj)
end
end
section
/-! the component's run -/
theorem xr_end {post : Int32 → SX → Prop} {F : Nat → Int32} {A : Nat → Nat → Int32} {n : Nat} {x : Int32} (hr : (F 20) = 0) (K : post (F 15) (tw_t F A)) : wX_run_32 post (n + 1) x (F 0) (F 1) (F 2) (F 3) (F 4) (F 5) (F 6) (F 7) (F 8) (F 9) (F 10) (F 11) (F 12) (F 13) (F 14) (F 15) (F 16) (F 17) (F 18) (F 19) (F 20) (F 21) (F 22) (F 23) (F 24) (F 25) (F 26) (F 27) (F 28) (F 29) (F 30) (F 31) (F 32) (A 0) (A 1) (A 2) (A 3) (A 4) (A 5) (A 6) (A 7) (A 8) (A 9) (A 10) (A 11) (A 12) (A 13) (A 14) (A 15) (A 16) (A 17) (A 18) (A 19) (A 20) (A 21) (A 22) (A 23) (A 24) (A 25) (A 26) (A 27) (A 28) (A 29) (A 30) (A 31) (A 32) (A 33) (A 34) (A 35) (A 36) (A 37) (A 38) (A 39) (A 40) (A 41) := by
  unfold wX_run_32
  exact br_c (fun _ => K) (fun _ => br_t hr K)
theorem xx_runL {P : pp_P} {post : Int32 → SX → Prop} (hP : pp_ok P) :
    ∀ (n N : Nat) (F : Nat → Int32) (A : Nat → Nat → Int32) (m : mm_S), mm_pot m + 1 < n → N + mm_pot m ≤ 4160 → mm_W P m → xx_P P F A → xx_M m F A → cc_UU P A → cc_GX A → (F 20) = 1 → mm_a m = 1 →
    (∀ (F' : Nat → Int32) (A' : Nat → Nat → Int32) (m' : mm_S), mm_Ss P m m' → mm_stop P m' → xx_P P F' A' → xx_M m' F' A' → cc_UU P A' → cc_GX A' → post (nI (mm_a m')) (tw_t F' A')) → wX_run_32 post n (nI N) (F 0) (F 1) (F 2) (F 3) (F 4) (F 5) (F 6) (F 7) (F 8) (F 9) (F 10) (F 11) (F 12) (F 13) (F 14) (F 15) (F 16) (F 17) (F 18) (F 19) (F 20) (F 21) (F 22) (F 23) (F 24) (F 25) (F 26) (F 27) (F 28) (F 29) (F 30) (F 31) (F 32) (A 0) (A 1) (A 2) (A 3) (A 4) (A 5) (A 6) (A 7) (A 8) (A 9) (A 10) (A 11) (A 12) (A 13) (A 14) (A 15) (A 16) (A 17) (A 18) (A 19) (A 20) (A 21) (A 22) (A 23) (A 24) (A 25) (A 26) (A 27) (A 28) (A 29) (A 30) (A 31) (A 32) (A 33) (A 34) (A 35) (A 36) (A 37) (A 38) (A 39) (A 40) (A 41)
  | 0, N, F, A, m, hn, hN, hW, hQ, hM, hU, hG, hr, ha, K => absurd hn (by omega)
  | n + 1, N, F, A, m, hn, hN, hW, hQ, hM, hU, hG, hr, ha, K => by
    have npos : mm_pot m = 64 * mm_f m + (64 - mm_pc m) := mm_potA ha
    obtain ⟨n, rfl⟩ : ∃ n', n = n' + 1 := ⟨n - 1, by omega⟩
    unfold wX_run_32
    refine br_f (nI_ge (b := 5000) (by omega) (by omega)) (br_f (by rw [hr]; decide) ?_)
    refine xx_step (F := tw_s F 19 0) (A := A) hP hW hQ hM ha (fun F' A' m' st hQ' hM' hK hrr => ?_) (fun hs => ?_)
    · obtain ⟨hW', hlt⟩ := mm_Wst hP hW st
      rcases hrr with ⟨e1, e2⟩ | ⟨e1, e2⟩
      · have r1 : (F' 20) = 1 := e1.trans hr
        refine br_f (by rw [r1]; decide) (br_c (fun _ => nm_r (nI_1 N) ?_) (fun _ => ?_))
        · exact xx_runL hP (n + 1) (N + 1) F' A' m' (by omega) (by omega) hW' hQ' hM' (cc_UUK hU hK) (cc_GXK hG hK) r1 e2 (fun F2 A2 m2 s2 => K F2 A2 m2 (mm_SsT (mm_Ss1 st) s2))
        · refine xx_tier (F := F') (A := A') hP hW' hQ' hM' e2 (cc_UUK hU hK) (cc_GXK hG hK) (fun F2 A2 m2 s2 a2 hQ2 hM2 hU2 hG2 er => nm_r (nI_1 N) ?_)
          obtain ⟨ns, s2'⟩ := s2
          obtain ⟨hW2, hp2⟩ := mm_WSs hP ns hW' s2'
          have r2 : (F2 20) = 1 := er.trans r1
          exact xx_runL hP (n + 1) (N + 1) F2 A2 m2 (by omega) (by omega) hW2 hQ2 hM2 hU2 hG2 r2 a2 (fun F3 A3 m3 s3 => K F3 A3 m3 (mm_SsT (mm_Ss1 st) (mm_SsT ⟨ns, s2'⟩ s3)))
      · refine br_t e1 (nm_r (nI_1 N) (xr_end e1 ?_))
        have k := K F' A' m' (mm_Ss1 st) (Or.inl e2) hQ' hM' (cc_UUK hU hK) (cc_GXK hG hK)
        rw [hM'.2.2.1]
        exact k
    · refine br_t rfl (nm_r (nI_1 N) (xr_end (F := tw_s (tw_s F 19 0) 20 0) (A := A) rfl ?_))
      have k := K (tw_s (tw_s F 19 0) 20 0) A m mm_Ss0 hs hQ hM hU hG
      have e15 : tw_s (tw_s F 19 0) 20 0 15 = nI (mm_a m) := hM.2.2.1
      rw [e15]
      exact k
end
section
/-! the program while it is built -/
def zz_cell (P : pp_P) (p : Nat) : Prop :=
  (∃ k, k ≤ 14 ∧ pp_op P p = nI k)
  ∧ ((pp_op P p = 1 ∨ pp_op P p = 2) → pp_ar P p = nI (pp_an P p) ∧ pp_an P p < 4)
  ∧ ((pp_op P p = 3 ∨ pp_op P p = 4 ∨ pp_op P p = 12) → pp_ar P p = nI (pp_an P p) ∧ pp_an P p < 8)
  ∧ ((pp_op P p = 10 ∨ pp_op P p = 11) → pp_ar P p = nI (pp_an P p) ∧ pp_an P p < 64)
  ∧ (∃ f, f < pp_nf P ∧ pp_ow P p = nI f ∧ pp_fs P f ≤ p ∧ p < pp_fe P f ∧ ∀ f', f' < pp_nf P → pp_fs P f' ≤ p → p < pp_fe P f' → f' = f)
def zz_ok (P : pp_P) : Prop :=
  pp_nc P ≤ 64 ∧ pp_nf P ≤ 8 ∧ 1 ≤ pp_mx P ∧ pp_mx P ≤ 8 ∧ (∀ p, p < pp_nc P → zz_cell P p) ∧ (∀ f, f < pp_nf P → pp_fs P f ≤ pp_nc P ∧ pp_fa P f ≤ 4)
  ∧ (∀ f, f + 1 < pp_nf P → pp_fs P f < pp_fs P (f + 1) ∧ (pp_op P (pp_fs P (f + 1) - 1) = 13 ∨ pp_op P (pp_fs P (f + 1) - 1) = 10))
def zz_lc (P : pp_P) : Prop := ¬ pp_nf P = 0 ∧ ¬ pp_nc P = 0 ∧ pp_fs P (pp_nf P - 1) < pp_nc P ∧ (pp_op P (pp_nc P - 1) = 13 ∨ pp_op P (pp_nc P - 1) = 10)
def zz_T (P : pp_P) (p : Nat) : Prop := ((pp_op P p = 10 ∨ pp_op P p = 11) → pp_an P p < pp_nc P ∧ pp_ow P (pp_an P p) = pp_ow P p) ∧ (pp_op P p = 12 → pp_an P p < pp_nf P)
theorem zz_pp {P : pp_P} (h : zz_ok P) (hl : zz_lc P) (ht : ∀ p, p < pp_nc P → zz_T P p) : pp_ok P := by
  obtain ⟨h1, h2, h3, h4, h5, h6, h7⟩ := h
  obtain ⟨l1, l2, l3, l4⟩ := hl
  have fe : ∀ f, pp_fe P f = if f + 1 < pp_nf P then pp_fs P (f + 1) else pp_nc P := fun _ => rfl
  have fl : ∀ f, f < pp_nf P → pp_fs P f < pp_fe P f ∧ pp_fe P f ≤ pp_nc P := by
    intro f hf
    rw [fe]
    by_cases z : f + 1 < pp_nf P
    · rw [if_pos z]; exact ⟨(h7 f z).1, (h6 (f + 1) z).1⟩
    · rw [if_neg z]
      have e : f = pp_nf P - 1 := by omega
      rw [e]; exact ⟨l3, Nat.le_refl _⟩
  refine ⟨h1, h2, h3, h4, fun p hp => ?_, fun f hf => ?_⟩
  · obtain ⟨c1, c2, c3, c4, c5⟩ := h5 p hp
    obtain ⟨t1, t2⟩ := ht p hp
    obtain ⟨f, f1, f2, f3, f4, f5⟩ := c5
    refine ⟨c1, fun o => (c2 o).2, fun o => ?_, fun o => (t1 o).1, t2, fun o => ?_, fun o10 o13 => ?_, ⟨f, f1, f2, f3, f4, f5⟩⟩
    · rcases o with o | o
      · exact (c3 (Or.inl o)).2
      · exact (c3 (Or.inr (Or.inl o))).2
    · obtain ⟨k, k1, k2⟩ := c1
      have cc : k = 0 ∨ k = 1 ∨ k = 2 ∨ k = 3 ∨ k = 4 ∨ (5 ≤ k ∧ k ≤ 9) ∨ k = 10 ∨ k = 11 ∨ k = 12 ∨ 13 ≤ k := by omega
      rcases cc with e | e | e | e | e | e | e | e | e | e
      · exact (o (Or.inl (by rw [k2, e]; rfl))).elim
      · exact (c2 (Or.inl (by rw [k2, e]; rfl))).1
      · exact (c2 (Or.inr (by rw [k2, e]; rfl))).1
      · exact (c3 (Or.inl (by rw [k2, e]; rfl))).1
      · exact (c3 (Or.inr (Or.inl (by rw [k2, e]; rfl)))).1
      · refine (o (Or.inr (Or.inl ?_))).elim
        rw [k2]
        exact ⟨nI_le (a := 5) e.1 (by omega), nI_le (b := 9) e.2 (by omega)⟩
      · exact (c4 (Or.inl (by rw [k2, e]; rfl))).1
      · exact (c4 (Or.inr (by rw [k2, e]; rfl))).1
      · exact (c3 (Or.inr (Or.inr (by rw [k2, e]; rfl)))).1
      · refine (o (Or.inr (Or.inr ?_))).elim
        rw [k2]
        exact nI_le (a := 13) e (by omega)
    · have hfe := (fl f f1).2
      by_cases z : p + 1 < pp_fe P f
      · omega
      · have e : p + 1 = pp_fe P f := by omega
        rw [fe] at e
        by_cases z2 : f + 1 < pp_nf P
        · rw [if_pos z2] at e
          have c := (h7 f z2).2
          rw [show pp_fs P (f + 1) - 1 = p by omega] at c
          rcases c with c | c
          · exact absurd c o13
          · exact absurd c o10
        · rw [if_neg z2] at e
          rw [show pp_nc P - 1 = p by omega] at l4
          rcases l4 with c | c
          · exact absurd c o13
          · exact absurd c o10
  · obtain ⟨x1, x2⟩ := fl f hf
    refine ⟨by omega, (h6 f hf).2, ?_, fun p hp e => ?_, x1, x2⟩
    · obtain ⟨f0, y1, y2, y3, y4, y5⟩ := (h5 (pp_fs P f) (by omega)).2.2.2.2
      have := y5 f hf (Nat.le_refl _) x1
      rw [this]; rw [this] at y2; exact y2
    · obtain ⟨f0, y1, y2, y3, y4, y5⟩ := (h5 p (by omega)).2.2.2.2
      have := tw_ni y2 e rfl (by omega) (by omega)
      subst this
      omega
def xx_Q (P : pp_P) (F : Nat → Int32) (A : Nat → Nat → Int32) : Prop :=
  (F 8) = nI (pp_nf P) ∧ (F 9) = nI (pp_nc P) ∧ (F 12) = nI (pp_mx P) ∧ (A 0) = pp_op P ∧ (A 1) = pp_ar P ∧ (A 2) = pp_ow P
  ∧ (∀ f, f < pp_nf P → (A 3) f = nI (pp_fs P f)) ∧ (∀ f, f < pp_nf P → (A 4) f = nI (pp_fa P f))
def yy_Q (P : pp_P) (G : Nat → Int32) (B : Nat → Nat → Int32) : Prop :=
  (G 0) = nI (pp_nc P) ∧ (G 1) = nI (pp_nf P) ∧ (G 2) = nI (pp_mx P) ∧ (B 0) = pp_op P ∧ (B 1) = pp_ar P ∧ (B 2) = pp_ow P ∧ (∀ f, f < pp_nf P → (B 3) f = nI (pp_fa P f))
section
variable {P : pp_P} {F : Nat → Int32} {A : Nat → Nat → Int32} {G : Nat → Int32} {B : Nat → Nat → Int32}
theorem xz_lc {post : Int32 → Prop} (hP : zz_ok P) (hQ : xx_Q P F A) (K1 : zz_lc P → post 1) (K0 : ¬ zz_lc P → post 0) : wpX_lastClosed post (tw_t F A) := by
  obtain ⟨h1, h2, h3, h4, h5, h6, h7⟩ := hP
  obtain ⟨q1, q2, q3, q4, q5, q6, q7, q8⟩ := hQ
  unfold wpX_lastClosed
  refine pk_eq (pp_nf P) 0 (fun z => K0 (fun h => h.1 z)) (fun z => pk_eq (pp_nc P) 0 (fun z2 => K0 (fun h => h.2.1 z2)) (fun z2 => ?_) (hx := q2) (ha := by omega)) (hx := q1) (ha := by omega)
  have e1 : (F 8) - 1 = nI (pp_nf P - 1) := by rw [q1]; exact tw_d1 (by omega)
  have e2 : (F 9) - 1 = nI (pp_nc P - 1) := by rw [q2]; exact tw_d1 (by omega)
  rw [e1, e2, nI_clamp (show pp_nf P - 1 < 2 ^ 31 by omega), nI_clamp (show pp_nc P - 1 < 2 ^ 31 by omega)]
  refine And.intro (vp_in_nI (by omega) (by omega)) ?_
  have hf := (h6 (pp_nf P - 1) (by omega)).1
  refine pk_lt (pp_fs P (pp_nf P - 1)) (pp_nc P) (fun z3 => And.intro (vp_in_nI (by omega) (by omega)) (nm_r (congrFun q4 _) ?_)) (fun z3 => K0 (fun h => absurd h.2.2.1 (by omega))) (hx := q7 _ (by omega)) (hy := q2) (ha := by omega) (hb := by omega)
  refine br_c (fun o => K1 ⟨z, z2, z3, Or.inl o⟩) (fun o => br_c (fun o2 => K1 ⟨z, z2, z3, Or.inr o2⟩) (fun o2 => K0 (fun h => ?_)))
  rcases h.2.2.2 with h | h
  · exact o h
  · exact o2 h
theorem yz_lc {post : Int32 → Prop} (hP : zz_ok P) (hQ : yy_Q P G B) (K1 : zz_lc P → post 1) (K0 : ¬ zz_lc P → post 0) : wpY_lastEnds post (tw_y G B) := by
  obtain ⟨h1, h2, h3, h4, h5, h6, h7⟩ := hP
  obtain ⟨q1, q2, q3, q4, q5, q6, q7⟩ := hQ
  unfold wpY_lastEnds
  refine pk_eq (pp_nf P) 0 (fun z => K0 (fun h => h.1 z)) (fun z => pk_eq (pp_nc P) 0 (fun z2 => K0 (fun h => h.2.1 z2)) (fun z2 => ?_) (hx := q1) (ha := by omega)) (hx := q2) (ha := by omega)
  have e1 : (G 1) - 1 = nI (pp_nf P - 1) := by rw [q2]; exact tw_d1 (by omega)
  have e2 : (G 0) - 1 = nI (pp_nc P - 1) := by rw [q1]; exact tw_d1 (by omega)
  have v2 : vp_in (nI (pp_nc P - 1)) 64 := vp_in_nI (by omega) (by omega)
  have hf := (h6 (pp_nf P - 1) (by omega)).1
  have fe : pp_fe P (pp_nf P - 1) = pp_nc P := by unfold pp_fe; rw [if_neg (by omega)]
  obtain ⟨f, f1, f2, f3, f4, f5⟩ := (h5 (pp_nc P - 1) (by omega)).2.2.2.2
  rw [e1, e2, nI_clamp (show pp_nc P - 1 < 2 ^ 31 by omega)]
  refine And.intro v2 ?_
  refine pk_eq f (pp_nf P - 1) (fun z3 => And.intro v2 ?_) (fun z3 => K0 (fun h => ?_)) (hx := (congrFun q6 _).trans f2) (ha := by omega) (hb := by omega)
  · subst z3
    have z4 : pp_fs P (pp_nf P - 1) < pp_nc P := by omega
    refine br_c (fun o => K1 ⟨z, z2, z4, Or.inl ((congrFun q4 _).symm.trans o)⟩) (fun o => And.intro v2 (br_c (fun o2 => K1 ⟨z, z2, z4, Or.inr ((congrFun q4 _).symm.trans o2)⟩) (fun o2 => K0 (fun h => ?_))))
    rcases h.2.2.2 with h | h
    · exact o ((congrFun q4 _).trans h)
    · exact o2 ((congrFun q4 _).trans h)
  · exact z3 (f5 (pp_nf P - 1) (by omega) (by have := h.2.2.1; omega) (by omega)).symm
theorem xz_tL {post : Int32 → Prop} (hP : zz_ok P) (hQ : xx_Q P F A) (K1 : (∀ p, p < pp_nc P → zz_T P p) → post 1) (K0 : (¬ ∀ p, p < pp_nc P → zz_T P p) → post 0) :
    ∀ (k i n : Nat), i + k = pp_nc P → k < n → (∀ p, p < i → zz_T P p) → wX_targetsOk_2 post (F 0) (F 1) (F 2) (F 3) (F 4) (F 5) (F 6) (F 7) (F 8) (F 9) (F 10) (F 11) (F 12) (F 13) (F 14) (F 15) (F 16) (F 17) (F 18) (F 19) (F 20) (F 21) (F 22) (F 23) (F 24) (F 25) (F 26) (F 27) (F 28) (F 29) (F 30) (F 31) (F 32) (A 0) (A 1) (A 2) (A 3) (A 4) (A 5) (A 6) (A 7) (A 8) (A 9) (A 10) (A 11) (A 12) (A 13) (A 14) (A 15) (A 16) (A 17) (A 18) (A 19) (A 20) (A 21) (A 22) (A 23) (A 24) (A 25) (A 26) (A 27) (A 28) (A 29) (A 30) (A 31) (A 32) (A 33) (A 34) (A 35) (A 36) (A 37) (A 38) (A 39) (A 40) (A 41) n (nI i)
  | 0, i, n, hi, hn, hT => by
    obtain ⟨n, rfl⟩ : ∃ n', n = n' + 1 := ⟨n - 1, by omega⟩
    have h1 := hP.1
    unfold wX_targetsOk_2
    exact br_t (by rw [hQ.2.1]; exact nI_le (by omega) (by omega)) (K1 (fun p hp => hT p (by omega)))
  | k + 1, i, n, hi, hn, hT => by
    obtain ⟨n, rfl⟩ : ∃ n', n = n' + 1 := ⟨n - 1, by omega⟩
    have hP' := hP
    obtain ⟨h1, h2, h3, h4, h5, h6, h7⟩ := hP'
    have hQ' := hQ
    obtain ⟨q1, q2, q3, q4, q5, q6, q7, q8⟩ := hQ'
    obtain ⟨c1, c2, c3, c4, c5⟩ := h5 i (by omega)
    have v : vp_in (nI i) 64 := vp_in_nI (by omega) (by omega)
    have ci : (nI i).toNatClampNeg = i := nI_clamp (by omega)
    have go : zz_T P i → wX_targetsOk_2 post (F 0) (F 1) (F 2) (F 3) (F 4) (F 5) (F 6) (F 7) (F 8) (F 9) (F 10) (F 11) (F 12) (F 13) (F 14) (F 15) (F 16) (F 17) (F 18) (F 19) (F 20) (F 21) (F 22) (F 23) (F 24) (F 25) (F 26) (F 27) (F 28) (F 29) (F 30) (F 31) (F 32) (A 0) (A 1) (A 2) (A 3) (A 4) (A 5) (A 6) (A 7) (A 8) (A 9) (A 10) (A 11) (A 12) (A 13) (A 14) (A 15) (A 16) (A 17) (A 18) (A 19) (A 20) (A 21) (A 22) (A 23) (A 24) (A 25) (A 26) (A 27) (A 28) (A 29) (A 30) (A 31) (A 32) (A 33) (A 34) (A 35) (A 36) (A 37) (A 38) (A 39) (A 40) (A 41) n (nI (i + 1)) := by
      intro ht
      refine xz_tL hP hQ K1 K0 k (i + 1) n (by omega) (by omega) (fun p hp => ?_)
      by_cases e : p = i
      · rw [e]; exact ht
      · exact hT p (by omega)
    have no : ¬ zz_T P i → post 0 := fun h => K0 (fun h2 => h (h2 i (by omega)))
    have t74 : ((pp_op P i = 10 ∨ pp_op P i = 11) → pp_an P i < pp_nc P ∧ pp_ow P (pp_an P i) = pp_ow P i) → wX_targetsOk_74 post (wX_targetsOk_2 post (F 0) (F 1) (F 2) (F 3) (F 4) (F 5) (F 6) (F 7) (F 8) (F 9) (F 10) (F 11) (F 12) (F 13) (F 14) (F 15) (F 16) (F 17) (F 18) (F 19) (F 20) (F 21) (F 22) (F 23) (F 24) (F 25) (F 26) (F 27) (F 28) (F 29) (F 30) (F 31) (F 32) (A 0) (A 1) (A 2) (A 3) (A 4) (A 5) (A 6) (A 7) (A 8) (A 9) (A 10) (A 11) (A 12) (A 13) (A 14) (A 15) (A 16) (A 17) (A 18) (A 19) (A 20) (A 21) (A 22) (A 23) (A 24) (A 25) (A 26) (A 27) (A 28) (A 29) (A 30) (A 31) (A 32) (A 33) (A 34) (A 35) (A 36) (A 37) (A 38) (A 39) (A 40) (A 41) n) (nI i) (pp_ar P i) (F 0) (F 1) (F 2) (F 3) (F 4) (F 5) (F 6) (F 7) (F 8) (F 9) (F 10) (F 11) (F 12) (F 13) (F 14) (F 15) (F 16) (F 17) (F 18) (F 19) (F 20) (F 21) (F 22) (F 23) (F 24) (F 25) (F 26) (F 27) (F 28) (F 29) (F 30) (F 31) (F 32) (A 0) (A 1) (A 2) (A 3) (A 4) (A 5) (A 6) (A 7) (A 8) (A 9) (A 10) (A 11) (A 12) (A 13) (A 14) (A 15) (A 16) (A 17) (A 18) (A 19) (A 20) (A 21) (A 22) (A 23) (A 24) (A 25) (A 26) (A 27) (A 28) (A 29) (A 30) (A 31) (A 32) (A 33) (A 34) (A 35) (A 36) (A 37) (A 38) (A 39) (A 40) (A 41) := by
      intro ht
      unfold wX_targetsOk_74
      rw [ci, nI_1]
      refine And.intro v (br_c (fun o => ?_) (fun o => nm_e (go ⟨ht, fun o2 => absurd ((congrFun q4 i).trans o2) o⟩)))
      have o' : pp_op P i = 12 := (congrFun q4 i).symm.trans o
      obtain ⟨x1, x2⟩ := c3 (Or.inr (Or.inr o'))
      exact pk_lt (pp_an P i) (pp_nf P) (fun z => nm_e (go ⟨ht, fun _ => z⟩)) (fun z => no (fun h => absurd (h.2 o') (by omega))) (hx := x1) (hy := q1) (ha := by omega) (hb := by omega)
    have jmp : (pp_op P i = 10 ∨ pp_op P i = 11) → wX_targetsOk_39 post (wX_targetsOk_2 post (F 0) (F 1) (F 2) (F 3) (F 4) (F 5) (F 6) (F 7) (F 8) (F 9) (F 10) (F 11) (F 12) (F 13) (F 14) (F 15) (F 16) (F 17) (F 18) (F 19) (F 20) (F 21) (F 22) (F 23) (F 24) (F 25) (F 26) (F 27) (F 28) (F 29) (F 30) (F 31) (F 32) (A 0) (A 1) (A 2) (A 3) (A 4) (A 5) (A 6) (A 7) (A 8) (A 9) (A 10) (A 11) (A 12) (A 13) (A 14) (A 15) (A 16) (A 17) (A 18) (A 19) (A 20) (A 21) (A 22) (A 23) (A 24) (A 25) (A 26) (A 27) (A 28) (A 29) (A 30) (A 31) (A 32) (A 33) (A 34) (A 35) (A 36) (A 37) (A 38) (A 39) (A 40) (A 41) n) (nI i) (pp_ar P i) (F 0) (F 1) (F 2) (F 3) (F 4) (F 5) (F 6) (F 7) (F 8) (F 9) (F 10) (F 11) (F 12) (F 13) (F 14) (F 15) (F 16) (F 17) (F 18) (F 19) (F 20) (F 21) (F 22) (F 23) (F 24) (F 25) (F 26) (F 27) (F 28) (F 29) (F 30) (F 31) (F 32) (A 0) (A 1) (A 2) (A 3) (A 4) (A 5) (A 6) (A 7) (A 8) (A 9) (A 10) (A 11) (A 12) (A 13) (A 14) (A 15) (A 16) (A 17) (A 18) (A 19) (A 20) (A 21) (A 22) (A 23) (A 24) (A 25) (A 26) (A 27) (A 28) (A 29) (A 30) (A 31) (A 32) (A 33) (A 34) (A 35) (A 36) (A 37) (A 38) (A 39) (A 40) (A 41) := by
      intro o
      obtain ⟨x1, x2⟩ := c4 o
      unfold wX_targetsOk_39 wX_targetsOk_44
      refine br_f (by decide) ?_
      refine pk_le (pp_nc P) (pp_an P i) (fun z => no (fun h => absurd (h.1 o).1 (by omega))) (fun z => ?_) (hx := q2) (hy := x1) (ha := by omega) (hb := by omega)
      have ca : (pp_ar P i).toNatClampNeg = pp_an P i := rfl
      refine And.intro (by rw [x1]; exact vp_in_nI x2 (by omega)) (And.intro v ?_)
      rw [ci, ca]
      refine br_c (fun e => t74 (fun _ => ⟨z, ?_⟩)) (fun e => no (fun h => e ?_))
      · rw [← q6]; exact e
      · rw [q6]; exact (h.1 o).2
    unfold wX_targetsOk_2
    refine br_f (by rw [q2]; exact nI_ge (by omega) (by omega)) (And.intro v (nm_r (e' := pp_ar P i) (by rw [ci]; exact congrFun q5 i) (And.intro v ?_)))
    rw [ci]
    refine br_c (fun o => jmp (Or.inl ((congrFun q4 i).symm.trans o))) (fun o10 => And.intro v (br_c (fun o => jmp (Or.inr ((congrFun q4 i).symm.trans o))) (fun o11 => ?_)))
    unfold wX_targetsOk_44
    refine br_t rfl (t74 (fun o => ?_))
    rcases o with o | o
    · exact absurd ((congrFun q4 i).trans o) o10
    · exact absurd ((congrFun q4 i).trans o) o11
theorem xz_freeze {post : SX → Prop} (hP : zz_ok P) (hQ : xx_Q P F A) (hfs : ∀ (A' : Nat → Nat → Int32), (∀ j, j ≠ 5 → j ≠ 6 → A' j = A j) → post (tw_t F A')) :
    ∀ (k i n : Nat) (A' : Nat → Nat → Int32), i + k = pp_nc P → k < n → (∀ j, j ≠ 5 → j ≠ 6 → A' j = A j) → wX_freeze_7 post (F 0) (F 1) (F 2) (F 3) (F 4) (F 5) (F 6) (F 7) (F 8) (F 9) (F 10) (F 11) (F 12) (F 13) (F 14) (F 15) (F 16) (F 17) (F 18) (F 19) (F 20) (F 21) (F 22) (F 23) (F 24) (F 25) (F 26) (F 27) (F 28) (F 29) (F 30) (F 31) (F 32) n (nI i) (A' 0) (A' 1) (A' 2) (A' 3) (A' 4) (A' 5) (A' 6) (A' 7) (A' 8) (A' 9) (A' 10) (A' 11) (A' 12) (A' 13) (A' 14) (A' 15) (A' 16) (A' 17) (A' 18) (A' 19) (A' 20) (A' 21) (A' 22) (A' 23) (A' 24) (A' 25) (A' 26) (A' 27) (A' 28) (A' 29) (A' 30) (A' 31) (A' 32) (A' 33) (A' 34) (A' 35) (A' 36) (A' 37) (A' 38) (A' 39) (A' 40) (A' 41)
  | 0, i, n, A', hi, hn, hA => by
    obtain ⟨n, rfl⟩ : ∃ n', n = n' + 1 := ⟨n - 1, by omega⟩
    have h1 := hP.1
    unfold wX_freeze_7
    exact br_t (by rw [hQ.2.1]; exact nI_le (by omega) (by omega)) (hfs A' hA)
  | k + 1, i, n, A', hi, hn, hA => by
    obtain ⟨n, rfl⟩ : ∃ n', n = n' + 1 := ⟨n - 1, by omega⟩
    have hP' := hP
    obtain ⟨h1, h2, h3, h4, h5, h6, h7⟩ := hP'
    have hQ' := hQ
    obtain ⟨q1, q2, q3, q4, q5, q6, q7, q8⟩ := hQ'
    obtain ⟨c1, c2, c3, c4, c5⟩ := h5 i (by omega)
    obtain ⟨f, f1, f2, f3, f4, f5⟩ := c5
    have v : vp_in (nI i) 64 := vp_in_nI (by omega) (by omega)
    have ci : (nI i).toNatClampNeg = i := nI_clamp (by omega)
    have t49 : ∀ A2 : Nat → Nat → Int32, (∀ j, j ≠ 5 → j ≠ 6 → A2 j = A j) → wX_freeze_49 post (wX_freeze_7 post (F 0) (F 1) (F 2) (F 3) (F 4) (F 5) (F 6) (F 7) (F 8) (F 9) (F 10) (F 11) (F 12) (F 13) (F 14) (F 15) (F 16) (F 17) (F 18) (F 19) (F 20) (F 21) (F 22) (F 23) (F 24) (F 25) (F 26) (F 27) (F 28) (F 29) (F 30) (F 31) (F 32) n) (nI i) (F 0) (F 1) (F 2) (F 3) (F 4) (F 5) (F 6) (F 7) (F 8) (F 9) (F 10) (F 11) (F 12) (F 13) (F 14) (F 15) (F 16) (F 17) (F 18) (F 19) (F 20) (F 21) (F 22) (F 23) (F 24) (F 25) (F 26) (F 27) (F 28) (F 29) (F 30) (F 31) (F 32) (A2 0) (A2 1) (A2 2) (A2 3) (A2 4) (A2 5) (A2 6) (A2 7) (A2 8) (A2 9) (A2 10) (A2 11) (A2 12) (A2 13) (A2 14) (A2 15) (A2 16) (A2 17) (A2 18) (A2 19) (A2 20) (A2 21) (A2 22) (A2 23) (A2 24) (A2 25) (A2 26) (A2 27) (A2 28) (A2 29) (A2 30) (A2 31) (A2 32) (A2 33) (A2 34) (A2 35) (A2 36) (A2 37) (A2 38) (A2 39) (A2 40) (A2 41) := by
      intro A2 hA2
      have eo : (A2 2) i = nI f := by rw [hA2 2 (by decide) (by decide), q6]; exact f2
      unfold wX_freeze_49
      rw [ci, nI_1, eo]
      have v8 : vp_in (nI f) 8 := vp_in_nI (by omega) (by omega)
      refine And.intro v (br_c (fun _ => And.intro v (And.intro v8 (And.intro v8 (nm_e (nm_e ?_))))) (fun _ => nm_e ?_))
      · exact xz_freeze hP hQ hfs k (i + 1) n (tw_s A2 5 _) (by omega) (by omega) (fun j a b => (tw_sn a).trans (hA2 j a b))
      · exact xz_freeze hP hQ hfs k (i + 1) n A2 (by omega) (by omega) hA2
    have t37 : (pp_op P i = 10 ∨ pp_op P i = 11) → wX_freeze_37 post (wX_freeze_7 post (F 0) (F 1) (F 2) (F 3) (F 4) (F 5) (F 6) (F 7) (F 8) (F 9) (F 10) (F 11) (F 12) (F 13) (F 14) (F 15) (F 16) (F 17) (F 18) (F 19) (F 20) (F 21) (F 22) (F 23) (F 24) (F 25) (F 26) (F 27) (F 28) (F 29) (F 30) (F 31) (F 32) n) (nI i) (F 0) (F 1) (F 2) (F 3) (F 4) (F 5) (F 6) (F 7) (F 8) (F 9) (F 10) (F 11) (F 12) (F 13) (F 14) (F 15) (F 16) (F 17) (F 18) (F 19) (F 20) (F 21) (F 22) (F 23) (F 24) (F 25) (F 26) (F 27) (F 28) (F 29) (F 30) (F 31) (F 32) (A' 0) (A' 1) (A' 2) (A' 3) (A' 4) (A' 5) (A' 6) (A' 7) (A' 8) (A' 9) (A' 10) (A' 11) (A' 12) (A' 13) (A' 14) (A' 15) (A' 16) (A' 17) (A' 18) (A' 19) (A' 20) (A' 21) (A' 22) (A' 23) (A' 24) (A' 25) (A' 26) (A' 27) (A' 28) (A' 29) (A' 30) (A' 31) (A' 32) (A' 33) (A' 34) (A' 35) (A' 36) (A' 37) (A' 38) (A' 39) (A' 40) (A' 41) := by
      intro o
      obtain ⟨x1, x2⟩ := c4 o
      have ea : (A' 1) i = nI (pp_an P i) := by rw [hA 1 (by decide) (by decide), q5]; exact x1
      unfold wX_freeze_37
      rw [ci, ea]
      refine And.intro v (And.intro (vp_in_nI x2 (by omega)) (nm_e ?_))
      exact t49 (tw_s A' 6 _) (fun j a b => (tw_sn b).trans (hA j a b))
    have eo : ∀ k : Int32, (A' 0) i = k → pp_op P i = k := by
      intro k e
      rw [hA 0 (by decide) (by decide), q4] at e
      exact e
    unfold wX_freeze_7
    refine br_f (by rw [q2]; exact nI_ge (by omega) (by omega)) (And.intro v ?_)
    rw [ci]
    exact br_c (fun o => t37 (Or.inl (eo _ o))) (fun _ => And.intro v (br_c (fun o => t37 (Or.inr (eo _ o))) (fun _ => t49 A' hA)))
end
end
section
/-! start: both sides -/
section
variable {P : pp_P} {F : Nat → Int32} {A : Nat → Nat → Int32} {G : Nat → Int32} {B : Nat → Nat → Int32}
def ii_G (G : Nat → Int32) : Nat → Int32 := tw_s (tw_s (tw_s (tw_s (tw_s G 3 1) 4 0) 6 0) 7 1) 5 1
def ii_L (L : Nat → Int32) (x : Int32) : Nat → Int32 := upd (upd (upd (upd L 0 x) 1 0) 2 0) 3 0
def ii_B (B : Nat → Nat → Int32) (s : Nat) (x : Int32) : Nat → Nat → Int32 := tw_s (tw_s (tw_s B 5 (upd (B 5) 0 (nI s))) 6 (upd (B 6) 0 0)) 7 (ii_L (B 7) x)
def ii_F (F : Nat → Int32) : Nat → Int32 := tw_s (tw_s (tw_s (tw_s F 13 1) 14 0) 16 0) 15 1
def ii_A (A : Nat → Nat → Int32) (s : Nat) (x : Int32) : Nat → Nat → Int32 := tw_s (tw_s (tw_s A 8 (upd (A 8) 0 (nI s))) 9 (upd (A 9) 0 0)) 7 (ii_L (A 7) x)
theorem yz_156 {post : Int32 → SY → Prop} {x : Int32} (K : post 1 (tw_y (tw_s G 5 1) (tw_s B 7 (ii_L (B 7) x)))) : wY_start_156 post x (G 0) (G 1) (G 2) (G 3) (G 4) (G 5) (G 6) (G 7) 5 0 (B 0) (B 1) (B 2) (B 3) (B 4) (B 5) (B 6) (B 7) (B 8) (B 9) := by
  unfold wY_start_156
  refine br_f (by decide) (br_t rfl (And.intro (pk_in 0 32 (by omega)) (nm_e (nm_r (e' := 1) rfl ?_))))
  unfold wY_start_156
  refine br_f (by decide) (br_f (by decide) (And.intro (pk_in 1 32 (by omega)) (nm_e (nm_r (e' := 2) rfl ?_))))
  unfold wY_start_156
  refine br_f (by decide) (br_f (by decide) (And.intro (pk_in 2 32 (by omega)) (nm_e (nm_r (e' := 3) rfl ?_))))
  unfold wY_start_156
  refine br_f (by decide) (br_f (by decide) (And.intro (pk_in 3 32 (by omega)) (nm_e (nm_r (e' := 4) rfl ?_))))
  unfold wY_start_156
  exact br_t (by decide) K
theorem yz_start {post : Int32 → SY → Prop} {f : Nat} {x : Int32} (hP : zz_ok P) (hQ : yy_Q P G B) (hl : zz_lc P) (hf : f < pp_nf P)
    (K1 : (∀ p, p < pp_nc P → zz_T P p) → post 1 (tw_y (ii_G G) (ii_B B (pp_fs P f) x))) (K0 : (¬ ∀ p, p < pp_nc P → zz_T P p) → post 0 (tw_y G B)) :
    ∀ (k i n : Nat), i + k = pp_nc P → k < n → (∀ p, p < i → zz_T P p) → wY_start_23 post (nI f) x (G 0) (G 1) (G 2) (G 3) (G 4) (G 5) (G 6) (G 7) (B 0) (B 1) (B 2) (B 3) (B 4) (B 5) (B 6) (B 7) (B 8) (B 9) n (nI i)
  | 0, i, n, hi, hn, hT => by
    obtain ⟨n, rfl⟩ : ∃ n', n = n' + 1 := ⟨n - 1, by omega⟩
    have h1 := hP.1
    have hall : ∀ p, p < pp_nc P → zz_T P p := fun p hp => hT p (by omega)
    unfold wY_start_23
    refine br_t (by rw [hQ.1]; exact nI_le (by omega) (by omega)) ?_
    refine yy_first (G := tw_s (tw_s (tw_s (tw_s G 3 1) 4 0) 6 0) 7 1) (B := B) (zz_pp hP hl hall) hQ.1 hQ.2.2.2.2.2.1 hf ?_
    refine nm_e (nm_e ⟨5, ?_⟩)
    exact yz_156 (G := tw_s (tw_s (tw_s (tw_s G 3 1) 4 0) 6 0) 7 1) (B := tw_s (tw_s B 5 (upd (B 5) 0 (nI (pp_fs P f)))) 6 (upd (B 6) 0 0)) (K1 hall)
  | k + 1, i, n, hi, hn, hT => by
    obtain ⟨n, rfl⟩ : ∃ n', n = n' + 1 := ⟨n - 1, by omega⟩
    have hP' := hP
    obtain ⟨h1, h2, h3, h4, h5, h6, h7⟩ := hP'
    have hQ' := hQ
    obtain ⟨q1, q2, q3, q4, q5, q6, q7⟩ := hQ'
    obtain ⟨c1, c2, c3, c4, c5⟩ := h5 i (by omega)
    have v : vp_in (nI i) 64 := vp_in_nI (by omega) (by omega)
    have ci : (nI i).toNatClampNeg = i := nI_clamp (by omega)
    have go : zz_T P i → wY_start_23 post (nI f) x (G 0) (G 1) (G 2) (G 3) (G 4) (G 5) (G 6) (G 7) (B 0) (B 1) (B 2) (B 3) (B 4) (B 5) (B 6) (B 7) (B 8) (B 9) n (nI (i + 1)) := by
      intro ht
      refine yz_start hP hQ hl hf K1 K0 k (i + 1) n (by omega) (by omega) (fun p hp => ?_)
      by_cases e : p = i
      · rw [e]; exact ht
      · exact hT p (by omega)
    have no : ¬ zz_T P i → post 0 (tw_y G B) := fun h => K0 (fun h2 => h (h2 i (by omega)))
    have t74 : ((pp_op P i = 10 ∨ pp_op P i = 11) → pp_an P i < pp_nc P ∧ pp_ow P (pp_an P i) = pp_ow P i) → wY_start_88 post (wY_start_23 post (nI f) x (G 0) (G 1) (G 2) (G 3) (G 4) (G 5) (G 6) (G 7) (B 0) (B 1) (B 2) (B 3) (B 4) (B 5) (B 6) (B 7) (B 8) (B 9) n) (nI f) x (nI i) (pp_ar P i) (G 0) (G 1) (G 2) (G 3) (G 4) (G 5) (G 6) (G 7) (B 0) (B 1) (B 2) (B 3) (B 4) (B 5) (B 6) (B 7) (B 8) (B 9) := by
      intro ht
      unfold wY_start_88
      rw [ci, nI_1]
      refine And.intro v (br_c (fun o => ?_) (fun o => nm_e (go ⟨ht, fun o2 => absurd ((congrFun q4 i).trans o2) o⟩)))
      have o' : pp_op P i = 12 := (congrFun q4 i).symm.trans o
      obtain ⟨x1, x2⟩ := c3 (Or.inr (Or.inr o'))
      exact pk_lt (pp_an P i) (pp_nf P) (fun z => nm_e (go ⟨ht, fun _ => z⟩)) (fun z => no (fun h => absurd (h.2 o') (by omega))) (hx := x1) (hy := q2) (ha := by omega) (hb := by omega)
    have jmp : (pp_op P i = 10 ∨ pp_op P i = 11) → wY_start_61 post (wY_start_23 post (nI f) x (G 0) (G 1) (G 2) (G 3) (G 4) (G 5) (G 6) (G 7) (B 0) (B 1) (B 2) (B 3) (B 4) (B 5) (B 6) (B 7) (B 8) (B 9) n) (nI f) x (nI i) (pp_ar P i) (G 0) (G 1) (G 2) (G 3) (G 4) (G 5) (G 6) (G 7) (B 0) (B 1) (B 2) (B 3) (B 4) (B 5) (B 6) (B 7) (B 8) (B 9) := by
      intro o
      obtain ⟨x1, x2⟩ := c4 o
      unfold wY_start_61
      refine pk_le (pp_nc P) (pp_an P i) (fun z => no (fun h => absurd (h.1 o).1 (by omega))) (fun z => ?_) (hx := q1) (hy := x1) (ha := by omega) (hb := by omega)
      have ca : (pp_ar P i).toNatClampNeg = pp_an P i := rfl
      refine And.intro (by rw [x1]; exact vp_in_nI x2 (by omega)) (And.intro v ?_)
      rw [ci, ca]
      refine br_c (fun e => t74 (fun _ => ⟨z, ?_⟩)) (fun e => no (fun h => e ?_))
      · rw [← q6]; exact e
      · rw [q6]; exact (h.1 o).2
    unfold wY_start_23
    refine br_f (by rw [q1]; exact nI_ge (by omega) (by omega)) (And.intro v (nm_r (e' := pp_ar P i) (by rw [ci]; exact congrFun q5 i) (And.intro v ?_)))
    rw [ci]
    refine br_c (fun o => jmp (Or.inl ((congrFun q4 i).symm.trans o))) (fun o10 => And.intro v (br_c (fun o => jmp (Or.inr ((congrFun q4 i).symm.trans o))) (fun o11 => ?_)))
    refine t74 (fun o => ?_)
    rcases o with o | o
    · exact absurd ((congrFun q4 i).trans o) o10
    · exact absurd ((congrFun q4 i).trans o) o11
theorem xz_82 {post : Int32 → SX → Prop} (K : post 1 (tw_t (tw_s F 15 1) (tw_s A 7 (upd (upd (upd (A 7) 1 0) 2 0) 3 0)))) : wX_start_82 post (F 0) (F 1) (F 2) (F 3) (F 4) (F 5) (F 6) (F 7) (F 8) (F 9) (F 10) (F 11) (F 12) (F 13) (F 14) (F 15) (F 16) (F 17) (F 18) (F 19) (F 20) (F 21) (F 22) (F 23) (F 24) (F 25) (F 26) (F 27) (F 28) (F 29) (F 30) (F 31) (F 32) 4 1 (A 0) (A 1) (A 2) (A 3) (A 4) (A 5) (A 6) (A 7) (A 8) (A 9) (A 10) (A 11) (A 12) (A 13) (A 14) (A 15) (A 16) (A 17) (A 18) (A 19) (A 20) (A 21) (A 22) (A 23) (A 24) (A 25) (A 26) (A 27) (A 28) (A 29) (A 30) (A 31) (A 32) (A 33) (A 34) (A 35) (A 36) (A 37) (A 38) (A 39) (A 40) (A 41) := by
  unfold wX_start_82
  refine br_f (by decide) (And.intro (pk_in 1 128 (by omega)) (nm_e (nm_r (e' := 2) rfl ?_)))
  unfold wX_start_82
  refine br_f (by decide) (And.intro (pk_in 2 128 (by omega)) (nm_e (nm_r (e' := 3) rfl ?_)))
  unfold wX_start_82
  refine br_f (by decide) (And.intro (pk_in 3 128 (by omega)) (nm_e (nm_r (e' := 4) rfl ?_)))
  unfold wX_start_82
  exact br_t (by decide) K
theorem xz_39 {post : Int32 → SX → Prop} {f s : Nat} {x : Int32} (hf : f < 8) (hs : (A 3) f = nI s) (K : post 1 (tw_t (ii_F F) (ii_A A s x))) : wX_start_39 post (nI f) x (F 0) (F 1) (F 2) (F 3) (F 4) (F 5) (F 6) (F 7) (F 8) (F 9) (F 10) (F 11) (F 12) (F 13) (F 14) (F 15) (F 16) (F 17) (F 18) (F 19) (F 20) (F 21) (F 22) (F 23) (F 24) (F 25) (F 26) (F 27) (F 28) (F 29) (F 30) (F 31) (F 32) (A 0) (A 1) (A 2) (A 3) (A 4) (A 5) (A 6) (A 7) (A 8) (A 9) (A 10) (A 11) (A 12) (A 13) (A 14) (A 15) (A 16) (A 17) (A 18) (A 19) (A 20) (A 21) (A 22) (A 23) (A 24) (A 25) (A 26) (A 27) (A 28) (A 29) (A 30) (A 31) (A 32) (A 33) (A 34) (A 35) (A 36) (A 37) (A 38) (A 39) (A 40) (A 41) := by
  have cf : (nI f).toNatClampNeg = f := nI_clamp (by omega)
  unfold wX_start_39
  refine And.intro (vp_in_nI (by omega) (by omega)) (nm_r (e' := upd (A 8) 0 (nI s)) (by rw [cf, hs]) (nm_e (nm_e ⟨4, ?_⟩)))
  exact xz_82 (F := tw_s (tw_s (tw_s F 13 1) 14 0) 16 0) (A := tw_s (tw_s (tw_s A 8 (upd (A 8) 0 (nI s))) 9 (upd (A 9) 0 0)) 7 (upd (A 7) 0 x)) K
theorem xz_start {post : Int32 → SX → Prop} {f : Nat} {x : Int32} (hP : zz_ok P) (hQ : xx_Q P F A) (hf : f < pp_nf P) (hz : (F 10) = 0 ∨ (F 10) = 1)
    (K0 : ¬ (zz_lc P ∧ ∀ p, p < pp_nc P → zz_T P p) → post 0 (tw_t F A))
    (K1 : zz_lc P → (∀ p, p < pp_nc P → zz_T P p) → ∀ (F' : Nat → Int32) (A' : Nat → Nat → Int32), (∀ j, j ≠ 10 → F' j = F j) → (F' 10) = 1 → (∀ j, j ≠ 5 → j ≠ 6 → A' j = A j) → post 1 (tw_t (ii_F F') (ii_A A' (pp_fs P f) x))) :
    wpX_start post (tw_t F A) (nI f) x := by
  have h2 := hP.2.1
  have hnf := hQ.1
  have h7 := hQ.2.2.2.2.2.2.1
  unfold wpX_start
  refine pk_lt f 0 (fun z => absurd z (by omega)) (fun _ => br_f (by rw [hnf]; exact nI_ge (by omega) (by omega)) ?_)
  refine xz_lc (F := F) (A := A) hP hQ (fun hl => br_f (by decide) ?_) (fun hl => br_t rfl (K0 (fun h => hl h.1)))
  show ∃ n2, wX_targetsOk_2 _ (F 0) (F 1) (F 2) (F 3) (F 4) (F 5) (F 6) (F 7) (F 8) (F 9) (F 10) (F 11) (F 12) (F 13) (F 14) (F 15) (F 16) (F 17) (F 18) (F 19) (F 20) (F 21) (F 22) (F 23) (F 24) (F 25) (F 26) (F 27) (F 28) (F 29) (F 30) (F 31) (F 32) (A 0) (A 1) (A 2) (A 3) (A 4) (A 5) (A 6) (A 7) (A 8) (A 9) (A 10) (A 11) (A 12) (A 13) (A 14) (A 15) (A 16) (A 17) (A 18) (A 19) (A 20) (A 21) (A 22) (A 23) (A 24) (A 25) (A 26) (A 27) (A 28) (A 29) (A 30) (A 31) (A 32) (A 33) (A 34) (A 35) (A 36) (A 37) (A 38) (A 39) (A 40) (A 41) n2 (nI 0)
  refine ⟨pp_nc P + 1, xz_tL (F := F) (A := A) hP hQ (fun ht => br_f (by decide) ?_) (fun ht => br_t rfl (K0 (fun h => ht h.2))) (pp_nc P) 0 _ (by omega) (by omega) (fun p hp => absurd hp (by omega))⟩
  rcases hz with hz | hz
  · refine br_t hz ?_
    show ∃ n7, wX_freeze_7 _ _ _ _ _ _ _ _ _ _ _ _ _ _ _ _ _ _ _ _ _ _ _ _ _ _ _ _ _ _ _ _ _ _ n7 (nI 0) (A 0) (A 1) (A 2) (A 3) (A 4) (A 5) (A 6) (A 7) (A 8) (A 9) (A 10) (A 11) (A 12) (A 13) (A 14) (A 15) (A 16) (A 17) (A 18) (A 19) (A 20) (A 21) (A 22) (A 23) (A 24) (A 25) (A 26) (A 27) (A 28) (A 29) (A 30) (A 31) (A 32) (A 33) (A 34) (A 35) (A 36) (A 37) (A 38) (A 39) (A 40) (A 41)
    refine ⟨pp_nc P + 1, xz_freeze (F := tw_s F 10 1) (A := A) hP hQ (fun A' hA => ?_) (pp_nc P) 0 _ A (by omega) (by omega) (fun _ _ _ => rfl)⟩
    refine xz_39 (F := tw_s F 10 1) (A := A') (s := pp_fs P f) (by omega) ?_ (K1 hl ht (tw_s F 10 1) A' (fun j hj => tw_sn hj) rfl hA)
    rw [hA 3 (by decide) (by decide)]
    exact h7 f hf
  · refine br_f (by rw [hz]; decide) (xz_39 (F := F) (A := A) (s := pp_fs P f) (by omega) (h7 f hf) (K1 hl ht F A (fun _ _ => rfl) hz (fun _ _ _ => rfl)))
end
end
section
/-! the relation -/
def ii_R (P : pp_P) (m : mm_S) (F : Nat → Int32) (A : Nat → Nat → Int32) (G : Nat → Int32) (B : Nat → Nat → Int32) : Prop :=
  xx_M m F A ∧ yy_M m G B ∧ mm_W P m ∧ zz_ok P ∧ xx_Q P F A ∧ yy_Q P G B ∧ cc_GX A ∧ cc_UU P A
  ∧ (((F 10) = 1 ∧ (G 7) = 1 ∧ zz_lc P ∧ ∀ p, p < pp_nc P → zz_T P p) ∨ ((F 10) = 0 ∧ (G 7) = 0 ∧ mm_a m = 0 ∧ mm_d m = 0 ∧ ∀ U, U < 8 → ¬ (A 12) U = 1))
def i_Rel (k : Nat) (u : SX) (v : SY) : Prop := ∃ P m F A G B, u = tw_t F A ∧ v = tw_y G B ∧ ii_R P m F A G B
theorem ii_r {k : Nat} {P : pp_P} {m : mm_S} {F : Nat → Int32} {A : Nat → Nat → Int32} {G : Nat → Int32} {B : Nat → Nat → Int32} (h : ii_R P m F A G B) : i_Rel k (tw_t F A) (tw_y G B) := ⟨P, m, F, A, G, B, rfl, rfl, h⟩
theorem ii_x {P : pp_P} {F : Nat → Int32} {A : Nat → Nat → Int32} (h : xx_Q P F A) (z : (F 10) = 1) : xx_P P F A := by
  obtain ⟨q1, q2, q3, q4, q5, q6, q7, q8⟩ := h
  exact ⟨q1, q2, z, q3, q4, q5, q6, q7, q8⟩
theorem ii_xr {P : pp_P} {F : Nat → Int32} {A : Nat → Nat → Int32} (h : xx_P P F A) : xx_Q P F A ∧ (F 10) = 1 := by
  obtain ⟨q1, q2, z, q3, q4, q5, q6, q7, q8⟩ := h
  exact ⟨⟨q1, q2, q3, q4, q5, q6, q7, q8⟩, z⟩
theorem ii_y {P : pp_P} {G : Nat → Int32} {B : Nat → Nat → Int32} (h : yy_Q P G B) (z : (G 7) = 1) : yy_P P G B := by
  obtain ⟨q1, q2, q3, q4, q5, q6, q7⟩ := h
  exact ⟨q1, q2, q3, z, q4, q5, q6, q7⟩
theorem ii_yr {P : pp_P} {G : Nat → Int32} {B : Nat → Nat → Int32} (h : yy_P P G B) : yy_Q P G B ∧ (G 7) = 1 := by
  obtain ⟨q1, q2, q3, z, q4, q5, q6, q7⟩ := h
  exact ⟨⟨q1, q2, q3, q4, q5, q6, q7⟩, z⟩
/-- an index: negative, or a number -/
theorem ii_n (x : Int32) : x < 0 ∨ ∃ j : Nat, j < 2 ^ 31 ∧ x = nI j := by
  by_cases h : x < 0
  · exact Or.inl h
  · obtain ⟨j, hj, e⟩ := nI_of h
    exact Or.inr ⟨j, hj, e⟩
theorem ii_nn {j : Nat} (h : j < 2 ^ 31) : ¬ nI j < 0 := by
  intro z
  exact absurd ((nI_ltI h (show 0 < 2 ^ 31 by omega)).mp z) (by omega)
theorem i_up {k : Nat} {u : SX} {v : SY} (h : i_Rel k u v) : i_Rel (k + 3) u v := h
theorem i_vc_status {k : Nat} {u : SX} {v : SY} (I : i_Rel k u v) (hk : k + 3 ≤ 1538) : wpX_status (fun r => wpY_status (fun r' => r' = r ∧ i_Rel (k + 3) u v) v) u := by
  obtain ⟨P, m, F, A, G, B, rfl, rfl, R⟩ := I
  exact ⟨R.2.1.2.2.1.trans R.1.2.2.1.symm, ii_r R⟩
theorem i_vc_depth {k : Nat} {u : SX} {v : SY} (I : i_Rel k u v) (hk : k + 3 ≤ 1538) : wpX_depth (fun r => wpY_depth (fun r' => r' = r ∧ i_Rel (k + 3) u v) v) u := by
  obtain ⟨P, m, F, A, G, B, rfl, rfl, R⟩ := I
  exact ⟨R.2.1.1.trans R.1.1.symm, ii_r R⟩
theorem i_vc_outCount {k : Nat} {u : SX} {v : SY} (I : i_Rel k u v) (hk : k + 3 ≤ 1538) : wpX_outCount (fun r => wpY_outCount (fun r' => r' = r ∧ i_Rel (k + 3) u v) v) u := by
  obtain ⟨P, m, F, A, G, B, rfl, rfl, R⟩ := I
  exact ⟨R.2.1.2.1.trans R.1.2.1.symm, ii_r R⟩
theorem i_vc_result {k : Nat} {u : SX} {v : SY} (I : i_Rel k u v) (hk : k + 3 ≤ 1538) : wpX_result (fun r => wpY_result (fun r' => r' = r ∧ i_Rel (k + 3) u v) v) u := by
  obtain ⟨P, m, F, A, G, B, rfl, rfl, R⟩ := I
  have e : (G 5) = (F 15) := R.2.1.2.2.1.trans R.1.2.2.1.symm
  have e2 : (G 6) = (F 16) := R.2.1.2.2.2.1.trans R.1.2.2.2.1.symm
  have Z := ii_r (k := k + 3) R
  unfold wpX_result
  exact br_c (fun z => br_t (e.trans z) ⟨e2, Z⟩) (fun z => br_f (fun h => z (e.symm.trans h)) ⟨rfl, Z⟩)
theorem i_vc_peek {k : Nat} {u : SX} {v : SY} (I : i_Rel k u v) (hk : k + 3 ≤ 1538) (v1 : Int32) : wpX_peek (fun r => wpY_peek (fun r' => r' = r ∧ i_Rel (k + 3) u v) v v1) u v1 := by
  obtain ⟨P, m, F, A, G, B, rfl, rfl, R⟩ := I
  have e : (B 4) = (A 10) := R.2.1.2.2.2.2.1.trans R.1.2.2.2.2.2.1.symm
  have Z := ii_r (k := k + 3) R
  unfold wpX_peek
  rcases ii_n v1 with h | ⟨j, hj, rfl⟩
  · exact br_t h (br_t h ⟨rfl, Z⟩)
  · have hz := ii_nn hj
    refine br_f hz (pk_le 8 j (fun z => ?_) (fun z => ?_))
    · exact br_f hz (pk_le j 7 (fun z2 => absurd z2 (by omega)) (fun _ => ⟨rfl, Z⟩))
    · have v8 : vp_in (nI j) 8 := vp_in_nI (by omega) (by omega)
      exact And.intro v8 (br_f hz (pk_le j 7 (fun z2 => And.intro v8 ⟨congrFun e _, Z⟩) (fun z2 => absurd z2 (by omega))))
theorem i_vc_framePc {k : Nat} {u : SX} {v : SY} (I : i_Rel k u v) (hk : k + 3 ≤ 1538) (v1 : Int32) : wpX_framePc (fun r => wpY_framePc (fun r' => r' = r ∧ i_Rel (k + 3) u v) v v1) u v1 := by
  obtain ⟨P, m, F, A, G, B, rfl, rfl, R⟩ := I
  have Z := ii_r (k := k + 3) R
  obtain ⟨hX, hY, hW, hP, -⟩ := R
  have hd : mm_d m ≤ 8 := Nat.le_trans hW.1 hP.2.2.2.1
  have x1 := hX.1
  have y1 := hY.1
  unfold wpX_framePc
  rcases ii_n v1 with h | ⟨j, hj, rfl⟩
  · exact br_t h (br_t h ⟨rfl, Z⟩)
  · have hz := ii_nn hj
    refine br_f hz (pk_le (mm_d m) j (fun z => ?_) (fun z => ?_) (hx := x1))
    · exact br_f hz (pk_lt j (mm_d m) (fun z2 => absurd z2 (by omega)) (fun _ => ⟨rfl, Z⟩) (hy := y1))
    · refine And.intro (vp_in_nI (by omega) (by omega)) (br_f hz (pk_lt j (mm_d m) (fun z2 => And.intro (vp_in_nI (by omega) (by omega)) ⟨?_, Z⟩) (fun z2 => absurd z2 (by omega)) (hy := y1)))
      rw [nI_clamp hj]
      exact (hY.2.2.2.2.2.2.1 j z).trans (hX.2.2.2.2.2.2.2.1 j z).symm
theorem i_vc_frameHeight {k : Nat} {u : SX} {v : SY} (I : i_Rel k u v) (hk : k + 3 ≤ 1538) (v1 : Int32) : wpX_frameHeight (fun r => wpY_frameHeight (fun r' => r' = r ∧ i_Rel (k + 3) u v) v v1) u v1 := by
  obtain ⟨P, m, F, A, G, B, rfl, rfl, R⟩ := I
  have Z := ii_r (k := k + 3) R
  obtain ⟨hX, hY, hW, hP, -⟩ := R
  have hd : mm_d m ≤ 8 := Nat.le_trans hW.1 hP.2.2.2.1
  have x1 := hX.1
  have y1 := hY.1
  unfold wpX_frameHeight
  rcases ii_n v1 with h | ⟨j, hj, rfl⟩
  · exact br_t h (br_t h ⟨rfl, Z⟩)
  · have hz := ii_nn hj
    refine br_f hz (pk_le (mm_d m) j (fun z => ?_) (fun z => ?_) (hx := x1))
    · exact br_f hz (pk_lt j (mm_d m) (fun z2 => absurd z2 (by omega)) (fun _ => ⟨rfl, Z⟩) (hy := y1))
    · refine And.intro (vp_in_nI (by omega) (by omega)) (br_f hz (pk_lt j (mm_d m) (fun z2 => And.intro (vp_in_nI (by omega) (by omega)) ⟨?_, Z⟩) (fun z2 => absurd z2 (by omega)) (hy := y1)))
      rw [nI_clamp hj]
      exact (hY.2.2.2.2.2.2.2.1 j z).trans (hX.2.2.2.2.2.2.2.2.1 j z).symm
theorem i_vc_outAt {k : Nat} {u : SX} {v : SY} (I : i_Rel k u v) (hk : k + 3 ≤ 1538) (v1 : Int32) : wpX_outAt (fun r => wpY_outAt (fun r' => r' = r ∧ i_Rel (k + 3) u v) v v1) u v1 := by
  obtain ⟨P, m, F, A, G, B, rfl, rfl, R⟩ := I
  have Z := ii_r (k := k + 3) R
  obtain ⟨hX, hY, hW, hP, -⟩ := R
  have hn : mm_n m ≤ 32 := hW.2.2.2.2.1
  have x1 := hX.2.1
  have y1 := hY.2.1
  have e : (B 9) = (A 11) := hY.2.2.2.2.2.1.trans hX.2.2.2.2.2.2.1.symm
  unfold wpX_outAt
  rcases ii_n v1 with h | ⟨j, hj, rfl⟩
  · exact br_t h (br_t h ⟨rfl, Z⟩)
  · have hz := ii_nn hj
    refine br_f hz (pk_le (mm_n m) j (fun z => ?_) (fun z => ?_) (hx := x1))
    · exact br_f hz (pk_lt j (mm_n m) (fun z2 => absurd z2 (by omega)) (fun _ => ⟨rfl, Z⟩) (hy := y1))
    · exact And.intro (vp_in_nI (by omega) (by omega)) (br_f hz (pk_lt j (mm_n m) (fun z2 => And.intro (vp_in_nI (by omega) (by omega)) ⟨congrFun e _, Z⟩) (fun z2 => absurd z2 (by omega)) (hy := y1)))
theorem i_vc_frameLocal {k : Nat} {u : SX} {v : SY} (I : i_Rel k u v) (hk : k + 3 ≤ 1538) (v1 : Int32) (v2 : Int32) : wpX_frameLocal (fun r => wpY_frameLocal (fun r' => r' = r ∧ i_Rel (k + 3) u v) v v1 v2) u v1 v2 := by
  obtain ⟨P, m, F, A, G, B, rfl, rfl, R⟩ := I
  have Z := ii_r (k := k + 3) R
  obtain ⟨hX, hY, hW, hP, -⟩ := R
  have hd : mm_d m ≤ 8 := Nat.le_trans hW.1 hP.2.2.2.1
  have x1 := hX.1
  have y1 := hY.1
  unfold wpX_frameLocal
  rcases ii_n v1 with h | ⟨j, hj, rfl⟩
  · exact br_t h (br_t h ⟨rfl, Z⟩)
  · have hz := ii_nn hj
    refine br_f hz (pk_le (mm_d m) j (fun z => ?_) (fun z => ?_) (hx := x1))
    · exact br_f hz (pk_le (mm_d m) j (fun _ => ⟨rfl, Z⟩) (fun z2 => absurd z2 (by omega)) (hx := y1))
    · rcases ii_n v2 with h | ⟨i, hi, rfl⟩
      · exact br_t h (br_f hz (pk_le (mm_d m) j (fun z2 => absurd z2 (by omega)) (fun _ => br_t h ⟨rfl, Z⟩) (hx := y1)))
      · have hz2 := ii_nn hi
        refine br_f hz2 (pk_le 4 i (fun q => ?_) (fun q => ?_))
        · exact br_f hz (pk_le (mm_d m) j (fun z2 => absurd z2 (by omega)) (fun _ => br_f hz2 (pk_le i 3 (fun q2 => absurd q2 (by omega)) (fun _ => ⟨rfl, Z⟩))) (hx := y1))
        · have e12 : nI j * 12 + nI i = nI (12 * j + i) := tw_m12 j i
          have e4 : nI j * 4 + nI i = nI (4 * j + i) := by rw [tw_m4, nI_add]
          refine And.intro (tw_in e12 (by omega) (by omega)) (br_f hz (pk_le (mm_d m) j (fun z2 => absurd z2 (by omega)) (fun _ => br_f hz2 (pk_le i 3 (fun q2 => And.intro (tw_in e4 (by omega) (by omega)) ⟨?_, Z⟩) (fun q2 => absurd q2 (by omega)))) (hx := y1)))
          rw [tw_cl e12 (by omega), tw_cl e4 (by omega)]
          exact (hY.2.2.2.2.2.2.2.2.1 j i z q).trans (hX.2.2.2.2.2.2.2.2.2 j i z (by omega)).symm
theorem i_vc_frameStack {k : Nat} {u : SX} {v : SY} (I : i_Rel k u v) (hk : k + 3 ≤ 1538) (v1 : Int32) (v2 : Int32) : wpX_frameStack (fun r => wpY_frameStack (fun r' => r' = r ∧ i_Rel (k + 3) u v) v v1 v2) u v1 v2 := by
  obtain ⟨P, m, F, A, G, B, rfl, rfl, R⟩ := I
  have Z := ii_r (k := k + 3) R
  obtain ⟨hX, hY, hW, hP, -⟩ := R
  have hd : mm_d m ≤ 8 := Nat.le_trans hW.1 hP.2.2.2.1
  have x1 := hX.1
  have y1 := hY.1
  unfold wpX_frameStack
  rcases ii_n v1 with h | ⟨j, hj, rfl⟩
  · exact br_t h (br_t h ⟨rfl, Z⟩)
  · have hz := ii_nn hj
    refine br_f hz (pk_le (mm_d m) j (fun z => ?_) (fun z => ?_) (hx := x1))
    · exact br_f hz (pk_le (mm_d m) j (fun _ => ⟨rfl, Z⟩) (fun z2 => absurd z2 (by omega)) (hx := y1))
    · rcases ii_n v2 with h | ⟨i, hi, rfl⟩
      · exact br_t h (br_f hz (pk_le (mm_d m) j (fun z2 => absurd z2 (by omega)) (fun _ => br_t h ⟨rfl, Z⟩) (hx := y1)))
      · have hz2 := ii_nn hi
        have h8 : mm_h m j ≤ 8 := (hW.2.2.1 j z).2
        have cj : (nI j).toNatClampNeg = j := nI_clamp hj
        have ex : (A 9) (nI j).toNatClampNeg = nI (mm_h m j) := by rw [cj]; exact hX.2.2.2.2.2.2.2.2.1 j z
        have ey : (B 6) (nI j).toNatClampNeg = nI (mm_h m j) := by rw [cj]; exact hY.2.2.2.2.2.2.2.1 j z
        have v16 : vp_in (nI j) 16 := vp_in_nI (by omega) (by omega)
        have v8 : vp_in (nI j) 8 := vp_in_nI (by omega) (by omega)
        refine br_f hz2 (And.intro v16 (pk_le (mm_h m j) i (fun q => ?_) (fun q => ?_) (hx := ex)))
        · exact br_f hz (pk_le (mm_d m) j (fun z2 => absurd z2 (by omega)) (fun _ => br_f hz2 (And.intro v8 (pk_lt i (mm_h m j) (fun q2 => absurd q2 (by omega)) (fun _ => ⟨rfl, Z⟩) (hy := ey)))) (hx := y1))
        · have e12 : nI j * 12 + 4 + nI i = nI (12 * j + 4 + i) := by rw [tw_m12', tw_p4, nI_add]
          have e8 : nI j * 8 + nI i = nI (8 * j + i) := by rw [tw_m8, nI_add]
          refine And.intro (tw_in e12 (by omega) (by omega)) (br_f hz (pk_le (mm_d m) j (fun z2 => absurd z2 (by omega)) (fun _ => br_f hz2 (And.intro v8 (pk_lt i (mm_h m j) (fun q2 => And.intro (tw_in e8 (by omega) (by omega)) ⟨?_, Z⟩) (fun q2 => absurd q2 (by omega)) (hy := ey)))) (hx := y1)))
          rw [tw_cl e12 (by omega), tw_cl e8 (by omega), Nat.add_assoc]
          have e := hX.2.2.2.2.2.2.2.2.2 j (4 + i) z (by omega)
          have e' := hY.2.2.2.2.2.2.2.2.2 j i z q
          rw [Nat.add_assoc] at e'
          exact e'.trans e.symm
end
section
/-! start, run, poke -/
def ii_m (P : pp_P) (m : mm_S) (f : Nat) (x : Int32) : mm_S := (1, tw_s (mm_p m) 0 (pp_fs P f), tw_s (mm_h m) 0 0, (fun j => if j = 0 then x else 0), mm_g m, mm_o m, 0, 1, 0, mm_f m)
theorem ii_Ls {L : Nat → Int32} {x : Int32} {j : Nat} (hj : j < 4) : ii_L L x j = if j = 0 then x else 0 := by
  have c : j = 0 ∨ j = 1 ∨ j = 2 ∨ j = 3 := by omega
  rcases c with rfl | rfl | rfl | rfl <;> rfl
theorem ii_start {P : pp_P} {m : mm_S} {F F' : Nat → Int32} {A A' : Nat → Nat → Int32} {G : Nat → Int32} {B : Nat → Nat → Int32} {f : Nat} {x : Int32} (R : ii_R P m F A G B) (hf : f < pp_nf P) (hl : zz_lc P) (ht : ∀ p, p < pp_nc P → zz_T P p)
    (hF : ∀ j, j ≠ 10 → F' j = F j) (hz : (F' 10) = 1) (hA : ∀ j, j ≠ 5 → j ≠ 6 → A' j = A j) : ii_R P (ii_m P m f x) (ii_F F') (ii_A A' (pp_fs P f) x) (ii_G G) (ii_B B (pp_fs P f) x) := by
  obtain ⟨hX, hY, hW, hP, hQ, hQy, hG, hU, -⟩ := R
  have hok := zz_pp hP hl ht
  have hfs := (hok.2.2.2.2.2 f hf).1
  obtain ⟨q1, q2, q3, q4, q5, q6, q7, q8⟩ := hQ
  obtain ⟨a1, a2, a3, a4, a5, a6, a7, a8, a9, a10⟩ := hX
  obtain ⟨b1, b2, b3, b4, b5, b6, b7, b8, b9, b10⟩ := hY
  obtain ⟨w1, w2, w3, w4, w5, w6, w7⟩ := hW
  have hK : xx_K A (ii_A A' (pp_fs P f) x) := by
    refine xx_K0 (fun j hj => ?_) (hA 14 (by decide) (by decide)) (hA 12 (by decide) (by decide)) (hA 10 (by decide) (by decide))
    unfold ii_A
    rw [tw_sn (by omega), tw_sn (by omega), tw_sn (by omega)]
    exact hA j (by omega) (by omega)
  refine ⟨?_, ?_, ?_, hP, ?_, hQy, cc_GXK hG hK, cc_UUK hU hK, Or.inl ⟨hz, rfl, hl, ht⟩⟩
  · refine ⟨rfl, rfl, rfl, rfl, (hF 17 (by decide)).trans a5, (hA 10 (by decide) (by decide)).trans a6, (hA 11 (by decide) (by decide)).trans a7, fun i hi => ?_, fun i hi => ?_, fun i o hi ho => ?_⟩
    · have e : i = 0 := by have : i < 1 := hi; omega
      subst e; rfl
    · have e : i = 0 := by have : i < 1 := hi; omega
      subst e; rfl
    · have e : i = 0 := by have : i < 1 := hi; omega
      subst e
      have ho' : o < 4 + 0 := ho
      show ii_L (A' 7) x (12 * 0 + o) = if 12 * 0 + o = 0 then x else 0
      rw [show 12 * 0 + o = o by omega]
      exact ii_Ls (by omega)
  · refine ⟨rfl, rfl, rfl, rfl, b5, b6, fun i hi => ?_, fun i hi => ?_, fun i o hi ho => ?_, fun i o hi ho => ?_⟩
    · have e : i = 0 := by have : i < 1 := hi; omega
      subst e; rfl
    · have e : i = 0 := by have : i < 1 := hi; omega
      subst e; rfl
    · have e : i = 0 := by have : i < 1 := hi; omega
      subst e
      show ii_L (B 7) x (4 * 0 + o) = if 12 * 0 + o = 0 then x else 0
      rw [show 12 * 0 + o = o by omega]
      exact ii_Ls (by omega)
    · have e : i = 0 := by have : i < 1 := hi; omega
      subst e
      exact absurd ho (by show ¬ o < 0; omega)
  · refine ⟨hP.2.2.1, fun _ => Nat.le_refl 1, fun i hi => ?_, fun i hi => ?_, Nat.zero_le _, w6, by show 1 ≤ 7; omega⟩
    · have e : i = 0 := by have : i < 1 := hi; omega
      subst e
      exact ⟨hfs, Nat.zero_le 8⟩
    · have : i + 1 < 1 := hi
      omega
  · refine ⟨(hF 8 (by decide)).trans q1, (hF 9 (by decide)).trans q2, (hF 12 (by decide)).trans q3, (hA 0 (by decide) (by decide)).trans q4, (hA 1 (by decide) (by decide)).trans q5, (hA 2 (by decide) (by decide)).trans q6, fun f hf => ?_, fun f hf => ?_⟩
    · exact (congrFun (hA 3 (by decide) (by decide)) f).trans (q7 f hf)
    · exact (congrFun (hA 4 (by decide) (by decide)) f).trans (q8 f hf)
theorem ii_fz {P : pp_P} {m : mm_S} {F : Nat → Int32} {A : Nat → Nat → Int32} {G : Nat → Int32} {B : Nat → Nat → Int32} (R : ii_R P m F A G B) : (F 10) = 0 ∨ (F 10) = 1 := by
  rcases R.2.2.2.2.2.2.2.2 with h | h
  · exact Or.inr h.1
  · exact Or.inl h.1
theorem i_vc_start {k : Nat} {u : SX} {v : SY} (I : i_Rel k u v) (hk : k + 3 ≤ 1538) (v1 : Int32) (v2 : Int32) : wpX_start (fun r u' => wpY_start (fun r' v' => r' = r ∧ i_Rel (k + 3) u' v') v v1 v2) u v1 v2 := by
  obtain ⟨P, m, F, A, G, B, rfl, rfl, R⟩ := I
  have Z := ii_r (k := k + 3) R
  have hP := R.2.2.2.1
  have hQ := R.2.2.2.2.1
  have hQy := R.2.2.2.2.2.1
  have x1 := hQ.1
  have y1 := hQy.2.1
  have h2 := hP.2.1
  rcases ii_n v1 with h | ⟨f, hj, rfl⟩
  · unfold wpX_start
    exact br_t h (br_t h ⟨rfl, Z⟩)
  · have hz := ii_nn hj
    by_cases hf : f < pp_nf P
    · have hno : ¬ (G 1) ≤ nI f := by rw [y1]; exact nI_ge (by omega) (by omega)
      refine xz_start hP hQ hf (ii_fz R) (fun hn => ?_) (fun hl ht F' A' hF hz2 hA => ?_)
      · refine br_f hz (br_f hno (yz_lc hP hQy (fun hl => br_f (by decide) ⟨pp_nc P + 1, ?_⟩) (fun hl => br_t rfl ⟨rfl, Z⟩)))
        exact yz_start hP hQy hl hf (fun ht => absurd ⟨hl, ht⟩ hn) (fun _ => ⟨rfl, Z⟩) (pp_nc P) 0 _ (by omega) (by omega) (fun p hp => absurd hp (by omega))
      · refine br_f hz (br_f hno (yz_lc hP hQy (fun hl => br_f (by decide) ⟨pp_nc P + 1, ?_⟩) (fun hl2 => absurd hl hl2)))
        exact yz_start hP hQy hl hf (fun ht => ⟨rfl, ii_r (ii_start R hf hl ht hF hz2 hA)⟩) (fun hn => absurd ht hn) (pp_nc P) 0 _ (by omega) (by omega) (fun p hp => absurd hp (by omega))
    · unfold wpX_start
      refine br_f hz (br_t (by rw [x1]; exact nI_le (by omega) (by omega)) (br_f hz (br_t (by rw [y1]; exact nI_le (by omega) (by omega)) ⟨rfl, Z⟩)))
theorem ii_fu (x : Int32) : ∃ f : Nat, f ≤ 64 ∧ (∀ (post : Int32 → Prop) (F : Nat → Int32) (A : Nat → Nat → Int32), post (nI f) → wpX_clamp post (tw_t F A) x 0 64)
    ∧ (∀ (post : Int32 → SY → Prop) (G : Nat → Int32) (B : Nat → Nat → Int32) (n : Nat), wY_run_23 post n (nI f) (nI 0) (G 0) (G 1) (G 2) (G 3) (G 4) (G 5) (G 6) (G 7) (B 0) (B 1) (B 2) (B 3) (B 4) (B 5) (B 6) (B 7) (B 8) (B 9) → wpY_run post (tw_y G B) x) := by
  rcases ii_n x with h | ⟨j, hj, rfl⟩
  · have h' : ¬ 0 ≤ x := by
      intro z
      rw [Int32.lt_iff_toInt_lt] at h
      rw [Int32.le_iff_toInt_le] at z
      omega
    refine ⟨0, by omega, fun post F A K => ?_, fun post G B n K => ?_⟩
    · unfold wpX_clamp; exact br_f h' K
    · unfold wpY_run; exact br_f h' ⟨n, K⟩
  · have h0 : (0 : Int32) ≤ nI j := nI_le (a := 0) (by omega) (by omega)
    by_cases z : j ≤ 64
    · have z' : nI j ≤ 64 := nI_le (b := 64) z (by omega)
      refine ⟨j, z, fun post F A K => ?_, fun post G B n K => ?_⟩
      · unfold wpX_clamp; exact br_t h0 (br_t z' K)
      · unfold wpY_run; exact br_t h0 (br_t z' ⟨n, K⟩)
    · have z' : ¬ nI j ≤ 64 := nI_ge (a := 64) (by omega) (by omega)
      refine ⟨64, by omega, fun post F A K => ?_, fun post G B n K => ?_⟩
      · unfold wpX_clamp; exact br_t h0 (br_f z' K)
      · unfold wpY_run; exact br_t h0 (br_f z' ⟨n, K⟩)
theorem i_vc_run {k : Nat} {u : SX} {v : SY} (I : i_Rel k u v) (hk : k + 3 ≤ 1538) (v1 : Int32) : wpX_run (fun r u' => wpY_run (fun r' v' => r' = r ∧ i_Rel (k + 3) u' v') v v1) u v1 := by
  obtain ⟨P, m, F, A, G, B, rfl, rfl, R⟩ := I
  have Z := ii_r (k := k + 3) R
  obtain ⟨hX, hY, hW, hP, hQ, hQy, hG, hU, hz⟩ := R
  have hs : (F 15) = nI (mm_a m) := hX.2.2.1
  have hsy : (G 5) = nI (mm_a m) := hY.2.2.1
  have w7 : mm_a m ≤ 7 := hW.2.2.2.2.2.2
  obtain ⟨f, hf, fx, fy⟩ := ii_fu v1
  unfold wpX_run
  refine pk_eq (mm_a m) 1 (fun ha => ?_) (fun ha => ?_) (hx := hs)
  · have hfr : (F 10) = 1 ∧ (G 7) = 1 ∧ zz_lc P ∧ ∀ p, p < pp_nc P → zz_T P p := by
      rcases hz with h | h
      · exact h
      · exact absurd h.2.2.1 (by omega)
    obtain ⟨z1, z2, hl, ht⟩ := hfr
    have hok := zz_pp hP hl ht
    have hW' : mm_W P (mm_wf m f) := ⟨hW.1, hW.2.1, hW.2.2.1, hW.2.2.2.1, hW.2.2.2.2.1, hf, hW.2.2.2.2.2.2⟩
    have hX' : xx_M (mm_wf m f) (tw_s (tw_s F 17 (nI f)) 20 1) A := ⟨hX.1, hX.2.1, hX.2.2.1, hX.2.2.2.1, rfl, hX.2.2.2.2.2⟩
    have hpot : mm_pot (mm_wf m f) ≤ 4160 := by
      have e : mm_pot (mm_wf m f) = 64 * f + (64 - mm_pc m) := mm_potA (m := mm_wf m f) ha
      omega
    refine fx _ F A ⟨mm_pot (mm_wf m f) + 2, ?_⟩
    refine xx_runL hok (mm_pot (mm_wf m f) + 2) 0 (tw_s (tw_s F 17 (nI f)) 20 1) A (mm_wf m f) (by omega) (by omega) hW' (ii_x hQ z1) hX' hU hG rfl ha (fun F' A' m' ss hst hQ' hM' hU' hG' => ?_)
    obtain ⟨n, sn⟩ := ss
    obtain ⟨hW2, hp2⟩ := mm_WSs hok n hW' sn
    refine fy _ G B (n + 1) ?_
    refine yy_runs hok n hW' (ii_y hQy z2) hY sn hst (by omega) (fun G' B' hQy' hMy' => ⟨rfl, ii_r (P := P) (m := m') ?_⟩)
    obtain ⟨x1, x2⟩ := ii_xr hQ'
    obtain ⟨y1, y2⟩ := ii_yr hQy'
    exact ⟨hM', hMy', hW2, hP, x1, y1, hG', hU', Or.inl ⟨x2, y2, hl, ht⟩⟩
  · refine fy _ G B 1 ?_
    unfold wY_run_23
    refine br_f (by decide) (pk_eq (mm_a m) 1 (fun z => absurd z ha) (fun _ => ⟨hsy.trans hs.symm, Z⟩) (hx := hsy))
def ii_p (m : mm_S) (j : Nat) (x : Int32) : mm_S := (mm_d m, mm_p m, mm_h m, mm_s m, upd (mm_g m) j x, mm_o m, mm_n m, mm_a m, mm_r m, mm_f m)
theorem i_vc_poke {k : Nat} {u : SX} {v : SY} (I : i_Rel k u v) (hk : k + 3 ≤ 1538) (v1 : Int32) (v2 : Int32) : wpX_poke (fun r u' => wpY_poke (fun r' v' => r' = r ∧ i_Rel (k + 3) u' v') v v1 v2) u v1 v2 := by
  obtain ⟨P, m, F, A, G, B, rfl, rfl, R⟩ := I
  have Z := ii_r (k := k + 3) R
  unfold wpX_poke
  rcases ii_n v1 with h | ⟨j, hj, rfl⟩
  · exact br_t h (br_t h ⟨rfl, Z⟩)
  · have hz := ii_nn hj
    refine br_f hz (pk_le j 7 (fun z => ?_) (fun z => br_f hz (pk_le j 7 (fun z2 => absurd z2 (by omega)) (fun _ => ⟨rfl, Z⟩))))
    refine xx_setGlobal (F := F) (A := A) (by omega) (fun A' e hA hK => ?_)
    refine br_f hz (pk_le j 7 (fun _ => And.intro (vp_in_nI (by omega) (by omega)) (nm_r (e' := upd (B 4) j v2) (by rw [nI_clamp hj]) ?_)) (fun z2 => absurd z2 (by omega)))
    refine ⟨rfl, ii_r (P := P) (m := ii_p m j v2) (F := F) (A := A') (G := G) (B := tw_s B 4 (upd (B 4) j v2)) ?_⟩
    obtain ⟨hX, hY, hW, hP, hQ, hQy, hG, hU, hz⟩ := R
    obtain ⟨q1, q2, q3, q4, q5, q6, q7, q8⟩ := hQ
    obtain ⟨a1, a2, a3, a4, a5, a6, a7, a8, a9, a10⟩ := hX
    obtain ⟨b1, b2, b3, b4, b5, b6, b7, b8, b9, b10⟩ := hY
    have h0 : ∀ j, j < 10 → A' j = A j := fun j hj => hA j (by omega) (by omega) (by omega) (by omega)
    refine ⟨⟨a1, a2, a3, a4, a5, ?_, ?_, fun i hi => ?_, fun i hi => ?_, fun i o hi ho => ?_⟩, ⟨b1, b2, b3, b4, ?_, b6, b7, b8, b9, b10⟩, hW, hP, ⟨q1, q2, q3, ?_, ?_, ?_, fun f hf => ?_, fun f hf => ?_⟩, hQy, cc_GXK hG hK, cc_UUK hU hK, ?_⟩
    · rw [e, a6]; rfl
    · rw [hA 11 (by decide) (by decide) (by decide) (by decide)]; exact a7
    · rw [h0 8 (by decide)]; exact a8 i hi
    · rw [h0 9 (by decide)]; exact a9 i hi
    · rw [h0 7 (by decide)]; exact a10 i o hi ho
    · show upd (B 4) j v2 = upd (mm_g m) j v2
      rw [b5]
    · rw [h0 0 (by decide)]; exact q4
    · rw [h0 1 (by decide)]; exact q5
    · rw [h0 2 (by decide)]; exact q6
    · rw [h0 3 (by decide)]; exact q7 f hf
    · rw [h0 4 (by decide)]; exact q8 f hf
    · rcases hz with hz | hz
      · exact Or.inl hz
      · exact Or.inr ⟨hz.1, hz.2.1, hz.2.2.1, hz.2.2.2.1, fun U hU2 e2 => hz.2.2.2.2 U hU2 (hK.2.2 U hU2 e2).1⟩
end
section
/-! function and emit: the program grows -/
def rr_b (N : Nat) (a : Int32) : Prop := ∃ n : Nat, n < N ∧ a = nI n
def rr_ok (o a : Int32) : Prop := ((o = 1 ∨ o = 2) → rr_b 4 a) ∧ ((o = 3 ∨ o = 4 ∨ o = 12) → rr_b 8 a) ∧ ((o = 10 ∨ o = 11) → rr_b 64 a)
theorem rr_neg {N : Nat} {a : Int32} (hN : N < 2 ^ 31) (h : a < 0) : ¬ rr_b N a := by
  rintro ⟨n, hn, rfl⟩
  exact ii_nn (by omega) h
theorem rr_x {X0 X1 : Prop} {N : Nat} {a : Int32} (hN : N < 2 ^ 31) (K1 : rr_b N a → X1) (K0 : ¬ rr_b N a → X0) : (a < 0 → X0) ∧ (¬ a < 0 → ((nI N ≤ a → X0) ∧ (¬ nI N ≤ a → X1))) := by
  rcases ii_n a with h | ⟨j, hj, rfl⟩
  · exact br_t h (K0 (rr_neg hN h))
  · refine br_f (ii_nn hj) (pk_le N j (fun z => K0 ?_) (fun z => K1 ⟨j, z, rfl⟩))
    rintro ⟨n, hn, e⟩
    have := (nI_eq hj (by omega)).mp e
    omega
theorem rr_y {X0 X1 : Prop} {N : Nat} {a : Int32} (hN : N + 1 < 2 ^ 31) (K1 : rr_b (N + 1) a → X1) (K0 : ¬ rr_b (N + 1) a → X0) : (a < 0 → X0) ∧ (¬ a < 0 → ((a ≤ nI N → X1) ∧ (¬ a ≤ nI N → X0))) := by
  rcases ii_n a with h | ⟨j, hj, rfl⟩
  · exact br_t h (K0 (rr_neg hN h))
  · refine br_f (ii_nn hj) (pk_le j N (fun z => K1 ⟨j, by omega, rfl⟩) (fun z => K0 ?_))
    rintro ⟨n, hn, e⟩
    have := (nI_eq hj (by omega)).mp e
    omega
section
variable {P : pp_P} {F : Nat → Int32} {A : Nat → Nat → Int32} {G : Nat → Int32} {B : Nat → Nat → Int32}
theorem xz_range {post : Int32 → Prop} {o a : Int32} (K1 : rr_ok o a → post 1) (K0 : ¬ rr_ok o a → post 0) : wpX_rangeOk post (tw_t F A) o a := by
  have t10 : (o = 1 ∨ o = 2) → wX_rangeOk_10 post a (F 0) (F 1) (F 2) (F 3) (F 4) (F 5) (F 6) (F 7) (F 8) (F 9) (F 10) (F 11) (F 12) (F 13) (F 14) (F 15) (F 16) (F 17) (F 18) (F 19) (F 20) (F 21) (F 22) (F 23) (F 24) (F 25) (F 26) (F 27) (F 28) (F 29) (F 30) (F 31) (F 32) (A 0) (A 1) (A 2) (A 3) (A 4) (A 5) (A 6) (A 7) (A 8) (A 9) (A 10) (A 11) (A 12) (A 13) (A 14) (A 15) (A 16) (A 17) (A 18) (A 19) (A 20) (A 21) (A 22) (A 23) (A 24) (A 25) (A 26) (A 27) (A 28) (A 29) (A 30) (A 31) (A 32) (A 33) (A 34) (A 35) (A 36) (A 37) (A 38) (A 39) (A 40) (A 41) := by
    intro h
    unfold wX_rangeOk_10
    refine rr_x (N := 4) (by decide) (fun z => K1 ⟨fun _ => z, fun h2 => ?_, fun h2 => ?_⟩) (fun z => K0 (fun k => z (k.1 h)))
    · rcases h with rfl | rfl <;> exact absurd h2 (by decide)
    · rcases h with rfl | rfl <;> exact absurd h2 (by decide)
  have t41 : (o = 3 ∨ o = 4 ∨ o = 12) → wX_rangeOk_41 post a (F 0) (F 1) (F 2) (F 3) (F 4) (F 5) (F 6) (F 7) (F 8) (F 9) (F 10) (F 11) (F 12) (F 13) (F 14) (F 15) (F 16) (F 17) (F 18) (F 19) (F 20) (F 21) (F 22) (F 23) (F 24) (F 25) (F 26) (F 27) (F 28) (F 29) (F 30) (F 31) (F 32) (A 0) (A 1) (A 2) (A 3) (A 4) (A 5) (A 6) (A 7) (A 8) (A 9) (A 10) (A 11) (A 12) (A 13) (A 14) (A 15) (A 16) (A 17) (A 18) (A 19) (A 20) (A 21) (A 22) (A 23) (A 24) (A 25) (A 26) (A 27) (A 28) (A 29) (A 30) (A 31) (A 32) (A 33) (A 34) (A 35) (A 36) (A 37) (A 38) (A 39) (A 40) (A 41) := by
    intro h
    unfold wX_rangeOk_41
    refine rr_x (N := 8) (by decide) (fun z => K1 ⟨fun h2 => ?_, fun _ => z, fun h2 => ?_⟩) (fun z => K0 (fun k => z (k.2.1 h)))
    · rcases h with rfl | rfl | rfl <;> exact absurd h2 (by decide)
    · rcases h with rfl | rfl | rfl <;> exact absurd h2 (by decide)
  have t69 : (o = 10 ∨ o = 11) → wX_rangeOk_69 post a (F 0) (F 1) (F 2) (F 3) (F 4) (F 5) (F 6) (F 7) (F 8) (F 9) (F 10) (F 11) (F 12) (F 13) (F 14) (F 15) (F 16) (F 17) (F 18) (F 19) (F 20) (F 21) (F 22) (F 23) (F 24) (F 25) (F 26) (F 27) (F 28) (F 29) (F 30) (F 31) (F 32) (A 0) (A 1) (A 2) (A 3) (A 4) (A 5) (A 6) (A 7) (A 8) (A 9) (A 10) (A 11) (A 12) (A 13) (A 14) (A 15) (A 16) (A 17) (A 18) (A 19) (A 20) (A 21) (A 22) (A 23) (A 24) (A 25) (A 26) (A 27) (A 28) (A 29) (A 30) (A 31) (A 32) (A 33) (A 34) (A 35) (A 36) (A 37) (A 38) (A 39) (A 40) (A 41) := by
    intro h
    unfold wX_rangeOk_69
    refine rr_x (N := 64) (by decide) (fun z => K1 ⟨fun h2 => ?_, fun h2 => ?_, fun _ => z⟩) (fun z => K0 (fun k => z (k.2.2 h)))
    · rcases h with rfl | rfl <;> exact absurd h2 (by decide)
    · rcases h with rfl | rfl <;> exact absurd h2 (by decide)
  unfold wpX_rangeOk
  refine br_c (fun h => t10 (Or.inl h)) (fun n1 => br_c (fun h => t10 (Or.inr h)) (fun n2 => br_c (fun h => t41 (Or.inl h)) (fun n3 => br_c (fun h => t41 (Or.inr (Or.inl h))) (fun n4 => br_c (fun h => t41 (Or.inr (Or.inr h))) (fun n12 => br_c (fun h => t69 (Or.inl h)) (fun n10 => br_c (fun h => t69 (Or.inr h)) (fun n11 => K1 ⟨fun h => ?_, fun h => ?_, fun h => ?_⟩)))))))
  · rcases h with h | h
    · exact absurd h n1
    · exact absurd h n2
  · rcases h with h | h | h
    · exact absurd h n3
    · exact absurd h n4
    · exact absurd h n12
  · rcases h with h | h
    · exact absurd h n10
    · exact absurd h n11
theorem yz_range {post : Int32 → SY → Prop} {o a : Int32} (K1 : rr_ok o a → wY_emit_108 post o a (G 0) (G 1) (G 2) (G 3) (G 4) (G 5) (G 6) (G 7) (B 0) (B 1) (B 2) (B 3) (B 4) (B 5) (B 6) (B 7) (B 8) (B 9)) (K0 : ¬ rr_ok o a → post (-1) (tw_y G B)) :
    (o = 1 → (wY_emit_45 post o a (G 0) (G 1) (G 2) (G 3) (G 4) (G 5) (G 6) (G 7) (B 0) (B 1) (B 2) (B 3) (B 4) (B 5) (B 6) (B 7) (B 8) (B 9))) ∧ (¬ o = 1 → (((o = 2 → (wY_emit_45 post o a (G 0) (G 1) (G 2) (G 3) (G 4) (G 5) (G 6) (G 7) (B 0) (B 1) (B 2) (B 3) (B 4) (B 5) (B 6) (B 7) (B 8) (B 9))) ∧ (¬ o = 2 → (wY_emit_56 post o a (G 0) (G 1) (G 2) (G 3) (G 4) (G 5) (G 6) (G 7) (B 0) (B 1) (B 2) (B 3) (B 4) (B 5) (B 6) (B 7) (B 8) (B 9)))))) := by
  have t84 : ((o = 1 ∨ o = 2) → rr_b 4 a) → ((o = 3 ∨ o = 4 ∨ o = 12) → rr_b 8 a) → wY_emit_84 post o a (G 0) (G 1) (G 2) (G 3) (G 4) (G 5) (G 6) (G 7) (B 0) (B 1) (B 2) (B 3) (B 4) (B 5) (B 6) (B 7) (B 8) (B 9) := by
    intro h1 h2
    have j : (o = 10 ∨ o = 11) → wY_emit_96 post o a (G 0) (G 1) (G 2) (G 3) (G 4) (G 5) (G 6) (G 7) (B 0) (B 1) (B 2) (B 3) (B 4) (B 5) (B 6) (B 7) (B 8) (B 9) := by
      intro h
      unfold wY_emit_96
      exact rr_y (N := 63) (by decide) (fun z => K1 ⟨h1, h2, fun _ => z⟩) (fun z => K0 (fun k => z (k.2.2 h)))
    unfold wY_emit_84
    refine br_c (fun h => j (Or.inl h)) (fun n10 => br_c (fun h => j (Or.inr h)) (fun n11 => K1 ⟨h1, h2, fun h => ?_⟩))
    rcases h with h | h
    · exact absurd h n10
    · exact absurd h n11
  have t56 : ((o = 1 ∨ o = 2) → rr_b 4 a) → wY_emit_56 post o a (G 0) (G 1) (G 2) (G 3) (G 4) (G 5) (G 6) (G 7) (B 0) (B 1) (B 2) (B 3) (B 4) (B 5) (B 6) (B 7) (B 8) (B 9) := by
    intro h1
    have j : (o = 3 ∨ o = 4 ∨ o = 12) → wY_emit_72 post o a (G 0) (G 1) (G 2) (G 3) (G 4) (G 5) (G 6) (G 7) (B 0) (B 1) (B 2) (B 3) (B 4) (B 5) (B 6) (B 7) (B 8) (B 9) := by
      intro h
      unfold wY_emit_72
      exact rr_y (N := 7) (by decide) (fun z => t84 h1 (fun _ => z)) (fun z => K0 (fun k => z (k.2.1 h)))
    unfold wY_emit_56
    refine br_c (fun h => j (Or.inl h)) (fun n3 => br_c (fun h => j (Or.inr (Or.inl h))) (fun n4 => br_c (fun h => j (Or.inr (Or.inr h))) (fun n12 => t84 h1 (fun h => ?_))))
    rcases h with h | h | h
    · exact absurd h n3
    · exact absurd h n4
    · exact absurd h n12
  have t45 : (o = 1 ∨ o = 2) → wY_emit_45 post o a (G 0) (G 1) (G 2) (G 3) (G 4) (G 5) (G 6) (G 7) (B 0) (B 1) (B 2) (B 3) (B 4) (B 5) (B 6) (B 7) (B 8) (B 9) := by
    intro h
    unfold wY_emit_45
    exact rr_y (N := 3) (by decide) (fun z => t56 (fun _ => z)) (fun z => K0 (fun k => z (k.1 h)))
  refine br_c (fun h => t45 (Or.inl h)) (fun n1 => br_c (fun h => t45 (Or.inr h)) (fun n2 => t56 (fun h => ?_)))
  rcases h with h | h
  · exact absurd h n1
  · exact absurd h n2
def em_ok (P : pp_P) (o a : Int32) : Prop := ¬ pp_nf P = 0 ∧ pp_nc P < 64 ∧ rr_b 15 o ∧ rr_ok o a
theorem xz_emit {post : Int32 → SX → Prop} {o a : Int32} (hP : zz_ok P) (hQ : xx_Q P F A) (hz : (F 10) = 0) (K0 : ¬ em_ok P o a → post (-1) (tw_t F A))
    (K1 : em_ok P o a → post ((F 9) + 1 - 1) (tw_t (tw_s F 9 ((F 9) + 1)) (tw_s (tw_s (tw_s A 0 (upd (A 0) (pp_nc P) o)) 1 (upd (A 1) (pp_nc P) a)) 2 (upd (A 2) (pp_nc P) ((F 8) - 1))))) :
    wpX_emit post (tw_t F A) o a := by
  have h1 := hP.1
  have h2 := hP.2.1
  have q1 := hQ.1
  have q2 := hQ.2.1
  unfold wpX_emit
  refine br_t hz (pk_eq (pp_nf P) 0 (fun z => K0 (fun h => h.1 z)) (fun z1 => pk_le 64 (pp_nc P) (fun z => K0 (fun h => absurd h.2.1 (by omega))) (fun z2 => ?_) (hy := q2)) (hx := q1))
  rcases ii_n o with h | ⟨j, hj, rfl⟩
  · exact br_t h (K0 (fun k => rr_neg (by decide) h k.2.2.1))
  · refine br_f (ii_nn hj) (pk_lt 14 j (fun z => K0 (fun k => ?_)) (fun z => ?_))
    · obtain ⟨n, hn, e⟩ := k.2.2.1
      have := (nI_eq hj (by omega)).mp e
      omega
    · refine xz_range (F := F) (A := A) (fun r => br_f (by decide) ?_) (fun r => br_t rfl (K0 (fun k => r k.2.2.2)))
      have v : vp_in (F 9) 64 := tw_in q2 (by omega) (by omega)
      have c : ((F 9)).toNatClampNeg = pp_nc P := tw_cl q2 (by omega)
      rw [c]
      exact And.intro v (nm_e (And.intro v (nm_e (And.intro v (nm_e (nm_e (K1 ⟨z1, z2, ⟨j, by omega, rfl⟩, r⟩)))))))
theorem yz_emit {post : Int32 → SY → Prop} {o a : Int32} (hP : zz_ok P) (hQ : yy_Q P G B) (hz : (G 7) = 0) (K0 : ¬ em_ok P o a → post (-1) (tw_y G B))
    (K1 : em_ok P o a → post ((G 0) + 1 - 1) (tw_y (tw_s G 0 ((G 0) + 1)) (tw_s (tw_s (tw_s B 0 (upd (B 0) (pp_nc P) o)) 1 (upd (B 1) (pp_nc P) a)) 2 (upd (B 2) (pp_nc P) ((G 1) - 1))))) :
    wpY_emit post (tw_y G B) o a := by
  have h1 := hP.1
  have h2 := hP.2.1
  have q1 := hQ.2.1
  have q2 := hQ.1
  unfold wpY_emit
  refine br_t hz (pk_eq (pp_nf P) 0 (fun z => K0 (fun h => h.1 z)) (fun z1 => pk_le 64 (pp_nc P) (fun z => K0 (fun h => absurd h.2.1 (by omega))) (fun z2 => ?_) (hy := q2)) (hx := q1))
  rcases ii_n o with h | ⟨j, hj, rfl⟩
  · exact br_t h (K0 (fun k => rr_neg (by decide) h k.2.2.1))
  · refine br_f (ii_nn hj) (pk_le j 14 (fun z => ?_) (fun z => K0 (fun k => ?_)))
    · refine yz_range (G := G) (B := B) (fun r => ?_) (fun r => K0 (fun k => r k.2.2.2))
      have v : vp_in (G 0) 64 := tw_in q2 (by omega) (by omega)
      have c : ((G 0)).toNatClampNeg = pp_nc P := tw_cl q2 (by omega)
      unfold wY_emit_108
      rw [c]
      exact And.intro v (nm_e (And.intro v (nm_e (And.intro v (nm_e (nm_e (K1 ⟨z1, z2, ⟨j, by omega, rfl⟩, r⟩)))))))
    · obtain ⟨n, hn, e⟩ := k.2.2.1
      have := (nI_eq hj (by omega)).mp e
      omega
def fn_ok (P : pp_P) (a : Int32) : Prop := pp_nf P < 8 ∧ pp_nc P < 64 ∧ rr_b 5 a ∧ (pp_nf P = 0 ∨ zz_lc P)
theorem xz_function {post : Int32 → SX → Prop} {a : Int32} (hP : zz_ok P) (hQ : xx_Q P F A) (hz : (F 10) = 0) (K0 : ¬ fn_ok P a → post (-1) (tw_t F A))
    (K1 : fn_ok P a → post ((F 8) + 1 - 1) (tw_t (tw_s F 8 ((F 8) + 1)) (tw_s (tw_s A 3 (upd (A 3) (pp_nf P) (F 9))) 4 (upd (A 4) (pp_nf P) a)))) :
    wpX_function post (tw_t F A) a := by
  have h1 := hP.1
  have h2 := hP.2.1
  have q1 := hQ.1
  have q2 := hQ.2.1
  unfold wpX_function
  refine br_t hz (pk_le 8 (pp_nf P) (fun z => K0 (fun h => absurd h.1 (by omega))) (fun z1 => pk_le 64 (pp_nc P) (fun z => K0 (fun h => absurd h.2.1 (by omega))) (fun z2 => ?_) (hy := q2)) (hy := q1))
  refine rr_y (N := 4) (by decide) (fun r => ?_) (fun r => K0 (fun k => r k.2.2.1))
  have go : (pp_nf P = 0 ∨ zz_lc P) → wX_function_52 post a (F 0) (F 1) (F 2) (F 3) (F 4) (F 5) (F 6) (F 7) (F 8) (F 9) (F 10) (F 11) (F 12) (F 13) (F 14) (F 15) (F 16) (F 17) (F 18) (F 19) (F 20) (F 21) (F 22) (F 23) (F 24) (F 25) (F 26) (F 27) (F 28) (F 29) (F 30) (F 31) (F 32) (A 0) (A 1) (A 2) (A 3) (A 4) (A 5) (A 6) (A 7) (A 8) (A 9) (A 10) (A 11) (A 12) (A 13) (A 14) (A 15) (A 16) (A 17) (A 18) (A 19) (A 20) (A 21) (A 22) (A 23) (A 24) (A 25) (A 26) (A 27) (A 28) (A 29) (A 30) (A 31) (A 32) (A 33) (A 34) (A 35) (A 36) (A 37) (A 38) (A 39) (A 40) (A 41) := by
    intro h
    have v : vp_in (F 8) 8 := tw_in q1 (by omega) (by omega)
    have c : ((F 8)).toNatClampNeg = pp_nf P := tw_cl q1 (by omega)
    unfold wX_function_52
    rw [c]
    exact And.intro v (nm_e (And.intro v (nm_e (nm_e (K1 ⟨z1, z2, r, h⟩)))))
  refine pk_le (pp_nf P) 0 (fun z => go (Or.inl (by omega))) (fun z => ?_) (hx := q1)
  refine xz_lc (F := F) (A := A) hP hQ (fun hl => br_f (by decide) (go (Or.inr hl))) (fun hl => br_t rfl (K0 (fun k => ?_)))
  rcases k.2.2.2 with h | h
  · omega
  · exact hl h
theorem yz_function {post : Int32 → SY → Prop} {a : Int32} (hP : zz_ok P) (hQ : yy_Q P G B) (hz : (G 7) = 0) (K0 : ¬ fn_ok P a → post (-1) (tw_y G B))
    (K1 : fn_ok P a → post ((G 1) + 1 - 1) (tw_y (tw_s G 1 ((G 1) + 1)) (tw_s B 3 (upd (B 3) (pp_nf P) a)))) :
    wpY_function post (tw_y G B) a := by
  have h1 := hP.1
  have h2 := hP.2.1
  have q1 := hQ.2.1
  have q2 := hQ.1
  unfold wpY_function
  refine br_t hz (pk_le 8 (pp_nf P) (fun z => K0 (fun h => absurd h.1 (by omega))) (fun z1 => pk_le 64 (pp_nc P) (fun z => K0 (fun h => absurd h.2.1 (by omega))) (fun z2 => ?_) (hy := q2)) (hy := q1))
  refine rr_y (N := 4) (by decide) (fun r => ?_) (fun r => K0 (fun k => r k.2.2.1))
  have go : (pp_nf P = 0 ∨ zz_lc P) → wY_function_52 post a (G 0) (G 1) (G 2) (G 3) (G 4) (G 5) (G 6) (G 7) (B 0) (B 1) (B 2) (B 3) (B 4) (B 5) (B 6) (B 7) (B 8) (B 9) := by
    intro h
    have v : vp_in (G 1) 8 := tw_in q1 (by omega) (by omega)
    have c : ((G 1)).toNatClampNeg = pp_nf P := tw_cl q1 (by omega)
    unfold wY_function_52
    rw [c]
    exact And.intro v (nm_e (nm_e (K1 ⟨z1, z2, r, h⟩)))
  refine pk_le (pp_nf P) 0 (fun z => go (Or.inl (by omega))) (fun z => ?_) (hx := q1)
  refine yz_lc (G := G) (B := B) hP hQ (fun hl => br_f (by decide) (go (Or.inr hl))) (fun hl => br_t rfl (K0 (fun k => ?_)))
  rcases k.2.2.2 with h | h
  · omega
  · exact hl h
end
end
section
/-! the program grows: laws; the last owed theorems -/
def pg_f (P : pp_P) (n : Nat) : pp_P := (pp_nc P, pp_nf P + 1, pp_mx P, pp_op P, pp_ar P, pp_ow P, tw_s (pp_fs P) (pp_nf P) (pp_nc P), tw_s (pp_fa P) (pp_nf P) n)
def pg_e (P : pp_P) (o a : Int32) : pp_P := (pp_nc P + 1, pp_nf P, pp_mx P, upd (pp_op P) (pp_nc P) o, upd (pp_ar P) (pp_nc P) a, upd (pp_ow P) (pp_nc P) (nI (pp_nf P - 1)), pp_fs P, pp_fa P)
theorem pg_fok {P : pp_P} {n : Nat} (h : zz_ok P) (hf : pp_nf P < 8) (hn : n ≤ 4) (hl : pp_nf P = 0 ∨ zz_lc P) : zz_ok (pg_f P n) := by
  obtain ⟨h1, h2, h3, h4, h5, h6, h7⟩ := h
  have fse : ∀ f, f < pp_nf P → pp_fs (pg_f P n) f = pp_fs P f := fun f hf => tw_sn (by omega)
  have fsn : pp_fs (pg_f P n) (pp_nf P) = pp_nc P := tw_ss
  have fe : ∀ f, f < pp_nf P → pp_fe (pg_f P n) f = pp_fe P f := by
    intro f hf
    have e1 : pp_fe (pg_f P n) f = if f + 1 < pp_nf P + 1 then pp_fs (pg_f P n) (f + 1) else pp_nc P := rfl
    have e2 : pp_fe P f = if f + 1 < pp_nf P then pp_fs P (f + 1) else pp_nc P := rfl
    rw [e1, e2, if_pos (by omega)]
    by_cases z : f + 1 < pp_nf P
    · rw [if_pos z]; exact fse _ z
    · rw [if_neg z, show f + 1 = pp_nf P by omega]; exact fsn
  refine ⟨h1, by show pp_nf P + 1 ≤ 8; omega, h3, h4, fun p hp => ?_, fun f hf2 => ?_, fun f hf2 => ?_⟩
  · have hp' : p < pp_nc P := hp
    obtain ⟨c1, c2, c3, c4, f, f1, f2, f3, f4, f5⟩ := h5 p hp'
    refine ⟨c1, c2, c3, c4, f, by show f < pp_nf P + 1; omega, f2, by rw [fse f f1]; exact f3, by rw [fe f f1]; exact f4, fun f' g1 g2 g3 => ?_⟩
    have g1' : f' < pp_nf P + 1 := g1
    by_cases z : f' = pp_nf P
    · rw [z, fsn] at g2; omega
    · rw [fse f' (by omega)] at g2
      rw [fe f' (by omega)] at g3
      exact f5 f' (by omega) g2 g3
  · have hf2' : f < pp_nf P + 1 := hf2
    by_cases z : f = pp_nf P
    · rw [z]
      refine ⟨by rw [fsn]; exact Nat.le_refl _, ?_⟩
      have e : pp_fa (pg_f P n) (pp_nf P) = n := tw_ss
      rw [e]; exact hn
    · have e : pp_fa (pg_f P n) f = pp_fa P f := tw_sn z
      rw [fse f (by omega), e]
      exact h6 f (by omega)
  · have hf2' : f + 1 < pp_nf P + 1 := hf2
    by_cases z : f + 1 = pp_nf P
    · rw [z, fsn, fse f (by omega)]
      rcases hl with hl | hl
      · omega
      · obtain ⟨l1, l2, l3, l4⟩ := hl
        rw [← z] at l3
        exact ⟨l3, l4⟩
    · rw [fse f (by omega), fse (f + 1) (by omega)]
      exact h7 f (by omega)
theorem pg_eok {P : pp_P} {o a : Int32} (h : zz_ok P) (he : em_ok P o a) : zz_ok (pg_e P o a) := by
  obtain ⟨h1, h2, h3, h4, h5, h6, h7⟩ := h
  obtain ⟨e1, e2, e3, e4⟩ := he
  have fe : ∀ f, pp_fe (pg_e P o a) f = if f + 1 < pp_nf P then pp_fs P (f + 1) else pp_nc P + 1 := fun _ => rfl
  have fe0 : ∀ f, pp_fe P f = if f + 1 < pp_nf P then pp_fs P (f + 1) else pp_nc P := fun _ => rfl
  have feq : ∀ f p, p < pp_nc P → (p < pp_fe (pg_e P o a) f ↔ p < pp_fe P f) := by
    intro f p hp
    rw [fe, fe0]
    by_cases z : f + 1 < pp_nf P
    · rw [if_pos z, if_pos z]
    · rw [if_neg z, if_neg z]; omega
  have opo : ∀ p, p < pp_nc P → pp_op (pg_e P o a) p = pp_op P p := fun p hp => pk_un (by omega)
  refine ⟨by show pp_nc P + 1 ≤ 64; omega, h2, h3, h4, fun p hp => ?_, fun f hf => ?_, fun f hf => ?_⟩
  · have hp' : p < pp_nc P + 1 := hp
    by_cases z : p = pp_nc P
    · subst z
      have xo : pp_op (pg_e P o a) (pp_nc P) = o := pk_us
      have xa : pp_ar (pg_e P o a) (pp_nc P) = a := pk_us
      have xw : pp_ow (pg_e P o a) (pp_nc P) = nI (pp_nf P - 1) := pk_us
      have bb : ∀ N, N < 2 ^ 31 → rr_b N a → pp_ar (pg_e P o a) (pp_nc P) = nI (pp_an (pg_e P o a) (pp_nc P)) ∧ pp_an (pg_e P o a) (pp_nc P) < N := by
        rintro N hN ⟨n, hn, e⟩
        have en : pp_an (pg_e P o a) (pp_nc P) = n := by unfold pp_an; rw [xa, e]; exact nI_clamp (by omega)
        rw [en, xa]
        exact ⟨e, hn⟩
      unfold zz_cell
      rw [xo, xw]
      refine ⟨?_, fun z => bb 4 (by decide) (e4.1 z), fun z => bb 8 (by decide) (e4.2.1 z), fun z => bb 64 (by decide) (e4.2.2 z), pp_nf P - 1, by show pp_nf P - 1 < pp_nf P; omega, rfl, (h6 (pp_nf P - 1) (by omega)).1, ?_, fun f' g1 g2 g3 => ?_⟩
      · obtain ⟨n, hn, e⟩ := e3
        exact ⟨n, by omega, e⟩
      · rw [fe, if_neg (by omega)]; omega
      · have g1' : f' < pp_nf P := g1
        rw [fe] at g3
        by_cases z : f' + 1 < pp_nf P
        · rw [if_pos z] at g3
          have := (h6 (f' + 1) z).1
          omega
        · omega
    · have hp2 : p < pp_nc P := by omega
      obtain ⟨c1, c2, c3, c4, f, f1, f2, f3, f4, f5⟩ := h5 p hp2
      have xo := opo p hp2
      have xa : pp_ar (pg_e P o a) p = pp_ar P p := pk_un (by omega)
      have xw : pp_ow (pg_e P o a) p = pp_ow P p := pk_un (by omega)
      have xn : pp_an (pg_e P o a) p = pp_an P p := by unfold pp_an; rw [xa]
      unfold zz_cell
      rw [xo, xw, xa, xn]
      exact ⟨c1, c2, c3, c4, f, f1, f2, f3, (feq f p hp2).mpr f4, fun f' g1 g2 g3 => f5 f' g1 g2 ((feq f' p hp2).mp g3)⟩
  · exact ⟨Nat.le_succ_of_le (h6 f hf).1, (h6 f hf).2⟩
  · obtain ⟨x1, x2⟩ := h7 f hf
    have x3 := (h6 (f + 1) hf).1
    refine ⟨x1, ?_⟩
    have e : pp_op (pg_e P o a) (pp_fs P (f + 1) - 1) = pp_op P (pp_fs P (f + 1) - 1) := opo _ (by omega)
    show pp_op (pg_e P o a) (pp_fs P (f + 1) - 1) = 13 ∨ pp_op (pg_e P o a) (pp_fs P (f + 1) - 1) = 10
    rw [e]
    exact x2
theorem i_vc_function {k : Nat} {u : SX} {v : SY} (I : i_Rel k u v) (hk : k + 3 ≤ 1538) (v1 : Int32) : wpX_function (fun r u' => wpY_function (fun r' v' => r' = r ∧ i_Rel (k + 3) u' v') v v1) u v1 := by
  obtain ⟨P, m, F, A, G, B, rfl, rfl, R⟩ := I
  have Z := ii_r (k := k + 3) R
  obtain ⟨hX, hY, hW, hP, hQ, hQy, hG, hU, hz⟩ := R
  rcases hz with ⟨z1, z2, -⟩ | ⟨z1, z2, z3, z4, z5⟩
  · unfold wpX_function
    exact br_f (by rw [z1]; decide) (br_f (by rw [z2]; decide) ⟨rfl, Z⟩)
  · refine xz_function hP hQ z1 (fun hn => yz_function hP hQy z2 (fun _ => ⟨rfl, Z⟩) (fun h => absurd h hn)) (fun h => yz_function hP hQy z2 (fun hn => absurd h hn) (fun _ => ?_))
    obtain ⟨q1, q2, q3, q4, q5, q6, q7, q8⟩ := hQ
    obtain ⟨y1, y2, y3, y4, y5, y6, y7⟩ := hQy
    obtain ⟨k1, k2, ⟨n, hn, e⟩, k4⟩ := h
    refine ⟨by rw [q1, y2], ii_r (P := pg_f P n) (m := m) (F := tw_s F 8 ((F 8) + 1)) (A := tw_s (tw_s A 3 (upd (A 3) (pp_nf P) (F 9))) 4 (upd (A 4) (pp_nf P) v1)) (G := tw_s G 1 ((G 1) + 1)) (B := tw_s B 3 (upd (B 3) (pp_nf P) v1)) ?_⟩
    refine ⟨hX, hY, ⟨by rw [z4]; exact Nat.zero_le _, hW.2.1, fun i hi => absurd hi (by rw [z4]; omega), hW.2.2.2.1, hW.2.2.2.2⟩, pg_fok hP k1 (by omega) k4, ⟨?_, q2, q3, q4, q5, q6, fun f hf => ?_, fun f hf => ?_⟩, ⟨y1, ?_, y3, y4, y5, y6, fun f hf => ?_⟩, hG, fun V hV e2 => absurd e2 (z5 V hV), Or.inr ⟨z1, z2, z3, z4, z5⟩⟩
    · show (F 8) + 1 = nI (pp_nf P + 1)
      rw [q1]; exact nI_1 _
    · have hf' : f < pp_nf P + 1 := hf
      show upd (A 3) (pp_nf P) (F 9) f = nI (tw_s (pp_fs P) (pp_nf P) (pp_nc P) f)
      by_cases z : f = pp_nf P
      · rw [tw_ue z, tw_se z]; exact q2
      · rw [pk_un z, tw_sn z]; exact q7 f (by omega)
    · have hf' : f < pp_nf P + 1 := hf
      show upd (A 4) (pp_nf P) v1 f = nI (tw_s (pp_fa P) (pp_nf P) n f)
      by_cases z : f = pp_nf P
      · rw [tw_ue z, tw_se z]; exact e
      · rw [pk_un z, tw_sn z]; exact q8 f (by omega)
    · show (G 1) + 1 = nI (pp_nf P + 1)
      rw [y2]; exact nI_1 _
    · have hf' : f < pp_nf P + 1 := hf
      show upd (B 3) (pp_nf P) v1 f = nI (tw_s (pp_fa P) (pp_nf P) n f)
      by_cases z : f = pp_nf P
      · rw [tw_ue z, tw_se z]; exact e
      · rw [pk_un z, tw_sn z]; exact y7 f (by omega)
theorem i_vc_emit {k : Nat} {u : SX} {v : SY} (I : i_Rel k u v) (hk : k + 3 ≤ 1538) (v1 : Int32) (v2 : Int32) : wpX_emit (fun r u' => wpY_emit (fun r' v' => r' = r ∧ i_Rel (k + 3) u' v') v v1 v2) u v1 v2 := by
  obtain ⟨P, m, F, A, G, B, rfl, rfl, R⟩ := I
  have Z := ii_r (k := k + 3) R
  obtain ⟨hX, hY, hW, hP, hQ, hQy, hG, hU, hz⟩ := R
  rcases hz with ⟨z1, z2, -⟩ | ⟨z1, z2, z3, z4, z5⟩
  · unfold wpX_emit
    exact br_f (by rw [z1]; decide) (br_f (by rw [z2]; decide) ⟨rfl, Z⟩)
  · refine xz_emit hP hQ z1 (fun hn => yz_emit hP hQy z2 (fun _ => ⟨rfl, Z⟩) (fun h => absurd h hn)) (fun h => yz_emit hP hQy z2 (fun hn => absurd h hn) (fun _ => ?_))
    obtain ⟨q1, q2, q3, q4, q5, q6, q7, q8⟩ := hQ
    obtain ⟨y1, y2, y3, y4, y5, y6, y7⟩ := hQy
    have hd := hP.2.1
    have ex : (F 8) - 1 = nI (pp_nf P - 1) := by rw [q1]; exact tw_d1 (by have := h.1; omega)
    have ey : (G 1) - 1 = nI (pp_nf P - 1) := by rw [y2]; exact tw_d1 (by have := h.1; omega)
    refine ⟨by rw [q2, y1], ii_r (P := pg_e P v1 v2) (m := m) (F := tw_s F 9 ((F 9) + 1)) (A := tw_s (tw_s (tw_s A 0 (upd (A 0) (pp_nc P) v1)) 1 (upd (A 1) (pp_nc P) v2)) 2 (upd (A 2) (pp_nc P) ((F 8) - 1)))
      (G := tw_s G 0 ((G 0) + 1)) (B := tw_s (tw_s (tw_s B 0 (upd (B 0) (pp_nc P) v1)) 1 (upd (B 1) (pp_nc P) v2)) 2 (upd (B 2) (pp_nc P) ((G 1) - 1))) ?_⟩
    refine ⟨hX, hY, ⟨by rw [z4]; exact Nat.zero_le _, hW.2.1, fun i hi => absurd hi (by rw [z4]; omega), hW.2.2.2.1, hW.2.2.2.2⟩, pg_eok hP h, ⟨q1, ?_, q3, ?_, ?_, ?_, q7, q8⟩, ⟨?_, y2, y3, ?_, ?_, ?_, y7⟩, hG, fun V hV e2 => absurd e2 (z5 V hV), Or.inr ⟨z1, z2, z3, z4, z5⟩⟩
    · show (F 9) + 1 = nI (pp_nc P + 1)
      rw [q2]; exact nI_1 _
    · show upd (A 0) (pp_nc P) v1 = upd (pp_op P) (pp_nc P) v1
      rw [q4]
    · show upd (A 1) (pp_nc P) v2 = upd (pp_ar P) (pp_nc P) v2
      rw [q5]
    · show upd (A 2) (pp_nc P) ((F 8) - 1) = upd (pp_ow P) (pp_nc P) (nI (pp_nf P - 1))
      rw [q6, ex]
    · show (G 0) + 1 = nI (pp_nc P + 1)
      rw [y1]; exact nI_1 _
    · show upd (B 0) (pp_nc P) v1 = upd (pp_op P) (pp_nc P) v1
      rw [y4]
    · show upd (B 1) (pp_nc P) v2 = upd (pp_ar P) (pp_nc P) v2
      rw [y5]
    · show upd (B 2) (pp_nc P) ((G 1) - 1) = upd (pp_ow P) (pp_nc P) (nI (pp_nf P - 1))
      rw [y6, ey]
def io_F (h x : Int32) : Nat → Int32 := tw_s (tw_s (tw_s (tw_s (tw_s (tw_s (tw_s (tw_s (tw_s (fun _ => 0) 0 15) 1 16) 2 17) 3 18) 4 19) 6 1) 7 2) 11 h) 12 x
def io_P (x : Nat) : pp_P := (0, 0, x, (fun _ => 0), (fun _ => 0), (fun _ => 0), (fun _ => 0), (fun _ => 0))
def io_m : mm_S := (0, (fun _ => 0), (fun _ => 0), (fun _ => 0), (fun _ => 0), (fun _ => 0), 0, 0, 0, 0)
theorem io_R {x : Nat} {h : Int32} (h1 : 1 ≤ x) (h8 : x ≤ 8) : ii_R (io_P x) io_m (io_F h (nI x)) (fun _ _ => 0) (tw_s (fun _ => 0) 2 (nI x)) (fun _ _ => 0) := by
  have n0 : ∀ i : Nat, ¬ i < 0 := fun i => Nat.not_lt_zero i
  refine ⟨⟨rfl, rfl, rfl, rfl, rfl, rfl, rfl, fun i hi => absurd hi (n0 i), fun i hi => absurd hi (n0 i), fun i o hi => absurd hi (n0 i)⟩, ⟨rfl, rfl, rfl, rfl, rfl, rfl, fun i hi => absurd hi (n0 i), fun i hi => absurd hi (n0 i), fun i o hi => absurd hi (n0 i), fun i o hi => absurd hi (n0 i)⟩,
    ⟨Nat.zero_le _, fun e => absurd e (by decide), fun i hi => absurd hi (n0 i), fun i hi => absurd hi (n0 _), by decide, by decide, by decide⟩,
    ⟨by show 0 ≤ 64; omega, by show 0 ≤ 8; omega, h1, h8, fun p hp => absurd hp (n0 p), fun f hf => absurd hf (n0 f), fun f hf => absurd hf (n0 _)⟩,
    ⟨rfl, rfl, rfl, rfl, rfl, rfl, fun f hf => absurd hf (n0 f), fun f hf => absurd hf (n0 f)⟩, ⟨rfl, rfl, rfl, rfl, rfl, rfl, fun f hf => absurd hf (n0 f)⟩,
    fun _ _ => rfl, fun V hV e => absurd (show (0 : Int32) = 1 from e) (by decide), Or.inr ⟨rfl, rfl, rfl, rfl, fun U hU e => absurd (show (0 : Int32) = 1 from e) (by decide)⟩⟩
theorem io_c {post : Int32 → Prop} {u : SX} {p a b : Int32} (K : ∀ r, post r) : wpX_clamp post u p a b := by
  obtain ⟨f0, f1, f2, f3, f4, f5, f6, f7, f8, f9, f10, f11, f12, f13, f14, f15, f16, f17, f18, f19, f20, f21, f22, f23, f24, f25, f26, f27, f28, f29, f30, f31, f32, rest⟩ := u
  unfold wpX_clamp
  exact br_c (fun _ => br_c (fun _ => K _) (fun _ => K _)) (fun _ => K _)
theorem i_vc0 (k0 : Int32) (k1 : Int32) : wpX_init (fun u => wpY_init (fun v => i_Rel 2 u v) k0 k1) k0 k1 := by
  unfold wpX_init
  refine io_c (fun h => ?_)
  rcases ii_n k1 with hn | ⟨j, hj, rfl⟩
  · have h' : ¬ 1 ≤ k1 := by
      intro z
      rw [Int32.lt_iff_toInt_lt] at hn
      rw [Int32.le_iff_toInt_le] at z
      have e0 : (0 : Int32).toInt = 0 := by decide
      have e1 : (1 : Int32).toInt = 1 := by decide
      omega
    exact br_f h' (br_f h' (ii_r (io_R (x := 1) (h := h) (by decide) (by decide))))
  · by_cases z : j = 0
    · subst z
      have h' : ¬ (1 : Int32) ≤ nI 0 := by decide
      exact br_f h' (br_f h' (ii_r (io_R (x := 1) (h := h) (by decide) (by decide))))
    · have h0 : (1 : Int32) ≤ nI j := nI_le (a := 1) (by omega) (by omega)
      by_cases z2 : j ≤ 8
      · have z' : nI j ≤ 8 := nI_le (b := 8) z2 (by omega)
        exact br_t h0 (br_t z' (br_t h0 (br_t z' (ii_r (io_R (x := j) (h := h) (by omega) z2)))))
      · have z' : ¬ nI j ≤ 8 := nI_ge (a := 8) (by omega) (by omega)
        exact br_t h0 (br_f z' (br_t h0 (br_f z' (ii_r (io_R (x := 8) (h := h) (by decide) (by decide))))))
end
